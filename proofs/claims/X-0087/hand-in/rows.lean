section
/-! pure rows to paste: stores, nI and lN arithmetic, masks, shifts, narrowing, branches by naturals (pk_le, pk_lt, pk_eq), loops (lp1 .. lp16: the measure of the state; rp1 ..: recursion), negatives. Take what you need -/
theorem pk_us {f : Nat → Int32} {k : Nat} {x : Int32} : upd f k x k = x := if_pos rfl
theorem pk_un {f : Nat → Int32} {k j : Nat} {x : Int32} (h : j ≠ k) : upd f k x j = f j := if_neg h
theorem pk_uLs {f : Nat → Int64} {k : Nat} {x : Int64} : vp_updL f k x k = x := if_pos rfl
theorem pk_uLn {f : Nat → Int64} {k j : Nat} {x : Int64} (h : j ≠ k) : vp_updL f k x j = f j := if_neg h
theorem pk_sub {a b : Nat} (h : b ≤ a) : nI a - nI b = nI (a - b) := by
  obtain ⟨c, rfl⟩ : ∃ c, a = c + b := ⟨a - b, by omega⟩
  rw [← nI_add, Int32.add_sub_cancel, Nat.add_sub_cancel]
theorem pk_m1 (n : Nat) : nI (n + 1) + (-1) = nI n := by
  rw [← nI_1, Int32.add_assoc, show (1 : Int32) + (-1) = 0 from rfl, Int32.add_zero]
theorem pk_mul (a b : Nat) : nI a * nI b = nI (a * b) := (Int32.ofNat_mul a b).symm
theorem pk_div {a d : Nat} (ha : a < 2 ^ 31) (h0 : 0 < d) (hd : d < 2 ^ 31) : nI a / nI d = nI (a / d) := by
  apply Int32.toInt_inj.mp
  rw [lg_idiv_nonneg (by rw [nI_toInt ha]; omega) (by rw [nI_toInt hd]; omega), nI_toInt ha, nI_toInt hd, nI_toInt (Nat.lt_of_le_of_lt (Nat.div_le_self a d) ha)]
  first | rfl | exact (Int.natCast_ediv _ _).symm
theorem pk_rem {a d : Nat} (ha : a < 2 ^ 31) (h0 : 0 < d) (hd : d < 2 ^ 31) : nI a - nI a / nI d * nI d = nI (a % d) := by
  rw [pk_div ha h0 hd, pk_mul, pk_sub (Nat.div_mul_le_self a d)]
  exact congrArg nI (by have := Nat.div_add_mod' a d; omega)
theorem pk_sub_toInt {a b : Nat} (ha : a < 2 ^ 30) (hb : b < 2 ^ 30) : (nI a - nI b).toInt = (a : Int) - b := by
  rw [Int32.toInt_sub, nI_toInt (by omega), nI_toInt (by omega)]
  exact Int.bmod_eq_of_le (by omega) (by omega)
theorem pk_sneg {a b : Nat} (hb : b < 2 ^ 30) (h : a < b) : nI a - nI b < 0 := by
  rw [Int32.lt_iff_toInt_lt, pk_sub_toInt (by omega) hb, show (0 : Int32).toInt = 0 from by decide]
  omega
theorem pk_ix (x : Int32) {n : Nat} (hn : n < 2 ^ 31) : x < 0 ∨ nI n ≤ x ∨ ∃ j : Nat, j < n ∧ x = nI j := by
  by_cases h : x < 0
  · exact Or.inl h
  · obtain ⟨j, hj, rfl⟩ := nI_of h
    by_cases h2 : j < n
    · exact Or.inr (Or.inr ⟨j, h2, rfl⟩)
    · exact Or.inr (Or.inl (nI_le (by omega) hj))
theorem pk_le {x y : Int32} {A B : Prop} (a b : Nat) (f : a ≤ b → A) (g : b < a → B) (hx : x = nI a := by rfl) (hy : y = nI b := by rfl) (ha : a < 2 ^ 31 := by omega) (hb : b < 2 ^ 31 := by omega) : (x ≤ y → A) ∧ (¬ x ≤ y → B) := by
  subst hx hy
  rw [nI_leI ha hb]
  exact ⟨f, fun z => g (by omega)⟩
theorem pk_lt {x y : Int32} {A B : Prop} (a b : Nat) (f : a < b → A) (g : b ≤ a → B) (hx : x = nI a := by rfl) (hy : y = nI b := by rfl) (ha : a < 2 ^ 31 := by omega) (hb : b < 2 ^ 31 := by omega) : (x < y → A) ∧ (¬ x < y → B) := by
  subst hx hy
  rw [nI_ltI ha hb]
  exact ⟨f, fun z => g (by omega)⟩
theorem pk_eq {x y : Int32} {A B : Prop} (a b : Nat) (f : a = b → A) (g : a ≠ b → B) (hx : x = nI a := by rfl) (hy : y = nI b := by rfl) (ha : a < 2 ^ 31 := by omega) (hb : b < 2 ^ 31 := by omega) : (x = y → A) ∧ (¬ x = y → B) := by
  subst hx hy
  rw [nI_eq ha hb]
  exact ⟨f, g⟩
theorem pk_in {x : Int32} (n N : Nat) (h : n < N) (hx : x = nI n := by rfl) (hN : N < 2 ^ 31 := by omega) : vp_in x N := by
  subst hx
  exact vp_in_nI h hN
theorem pk_cl {x : Int32} (n : Nat) (hx : x = nI n := by rfl) (h : n < 2 ^ 31 := by omega) : x.toNatClampNeg = n := by
  subst hx
  exact nI_clamp h
theorem pk_tn {n : Nat} (h : n < 2 ^ 32) : (nI n).toBitVec.toNat = n := Nat.mod_eq_of_lt h
theorem pk_and (x : Int32) {m : Int32} (k : Nat) (hm : m.toBitVec.toNat = 2 ^ k - 1) : x &&& m = nI (x.toBitVec.toNat % 2 ^ k) := by
  apply Int32.toBitVec_inj.mp
  apply BitVec.eq_of_toNat_eq
  rw [Int32.toBitVec_and, BitVec.toNat_and, hm, Nat.and_two_pow_sub_one_eq_mod]
  show _ = (BitVec.ofNat 32 _).toNat
  rw [BitVec.toNat_ofNat]
  exact (Nat.mod_eq_of_lt (Nat.lt_of_le_of_lt (Nat.mod_le _ _) x.toBitVec.isLt)).symm
theorem pk_andN {n : Nat} (h : n < 2 ^ 32) {m : Int32} (k : Nat) (hm : m.toBitVec.toNat = 2 ^ k - 1) : nI n &&& m = nI (n % 2 ^ k) := by
  rw [pk_and _ k hm, pk_tn h]
theorem pk_andE (x : Int32) {m : Int32} (k : Nat) (hm : m.toBitVec.toNat = 2 ^ k - 1) : ∃ j : Nat, j < 2 ^ k ∧ x &&& m = nI j := ⟨_, Nat.mod_lt _ (Nat.two_pow_pos k), pk_and x k hm⟩
theorem pk_andIn (x : Int32) {m : Int32} (k : Nat) (hm : m.toBitVec.toNat = 2 ^ k - 1) (hk : k ≤ 30) : vp_in (x &&& m) (2 ^ k) := by
  obtain ⟨j, hj, e⟩ := pk_andE x k hm
  rw [e]
  exact vp_in_nI hj (Nat.lt_of_le_of_lt (Nat.pow_le_pow_right (by decide) hk) (by decide))
theorem pk_shl (a s : Int32) (k : Nat) (hs : (s.toBitVec.smod 32).toNat = k) : (a <<< s).toBitVec.toNat = a.toBitVec.toNat * 2 ^ k % 2 ^ 32 := by
  show (a.toBitVec <<< (s.toBitVec.smod 32).toNat).toNat = _
  rw [hs, BitVec.toNat_shiftLeft, Nat.shiftLeft_eq]
theorem pk_shlN {n : Nat} (s : Int32) (k : Nat) (hs : (s.toBitVec.smod 32).toNat = k) (h : n * 2 ^ k < 2 ^ 32) : nI n <<< s = nI (n * 2 ^ k) := by
  apply Int32.toBitVec_inj.mp
  apply BitVec.eq_of_toNat_eq
  have hn : n < 2 ^ 32 := Nat.lt_of_le_of_lt (Nat.le_mul_of_pos_right n (Nat.two_pow_pos k)) h
  rw [pk_shl _ _ k hs, pk_tn hn, pk_tn h, Nat.mod_eq_of_lt h]
theorem pk_shr (a s : Int32) (k : Nat) (hs : (s.toBitVec.smod 32).toNat = k) : (a >>> s).toInt = a.toInt >>> k := by
  show (a.toBitVec.sshiftRight (s.toBitVec.smod 32).toNat).toInt = _
  rw [hs, BitVec.toInt_sshiftRight]
  rfl
theorem pk_shrN {n : Nat} (h : n < 2 ^ 31) (s : Int32) (k : Nat) (hs : (s.toBitVec.smod 32).toNat = k) : nI n >>> s = nI (n / 2 ^ k) := by
  apply Int32.toInt_inj.mp
  have h2 : n / 2 ^ k ≤ n := Nat.div_le_self _ _
  rw [pk_shr _ _ k hs, nI_toInt h, nI_toInt (by omega), Int.shiftRight_eq_div_pow]
  rfl
theorem pk_ushr (x s : Int32) (k : Nat) (hs : ((s.toUInt32 &&& Int32.toUInt32 31).toBitVec % 32).toNat = k) : (x.toUInt32 >>> (s.toUInt32 &&& Int32.toUInt32 31)).toInt32.toBitVec.toNat = x.toBitVec.toNat / 2 ^ k := by
  have e : (x.toUInt32 >>> (s.toUInt32 &&& Int32.toUInt32 31)).toInt32.toBitVec = x.toBitVec >>> k := by
    rw [← hs]
    exact UInt32.toBitVec_shiftRight _ _
  rw [e, BitVec.toNat_ushiftRight, Nat.shiftRight_eq_div_pow]
theorem pk_ushrN {n : Nat} (hn : n < 2 ^ 32) (s : Int32) (k : Nat) (hs : ((s.toUInt32 &&& Int32.toUInt32 31).toBitVec % 32).toNat = k) : ((nI n).toUInt32 >>> (s.toUInt32 &&& Int32.toUInt32 31)).toInt32 = nI (n / 2 ^ k) := by
  apply Int32.toBitVec_inj.mp
  apply BitVec.eq_of_toNat_eq
  rw [pk_ushr _ s k hs, pk_tn hn, pk_tn (Nat.lt_of_le_of_lt (Nat.div_le_self _ _) hn)]
theorem pk_nb (z : Int32) : narrow .byte (.int z.toInt8.toInt32) = .int z.toInt8.toInt32 := congrArg Value.int (by simp)
theorem pk_ns (z : Int32) : narrow .short (.int z.toInt16.toInt32) = .int z.toInt16.toInt32 := congrArg Value.int (by simp)
theorem pk_fb (r : Int32) : fits .byte (.int r.toInt8.toInt32) = true := by
  have ⟨a, b⟩ := lg_i2b_range r
  have h1 : (-128 : Int32).toInt = -128 := by decide
  have h2 : (127 : Int32).toInt = 127 := by decide
  simp only [fits, Bool.and_eq_true, decide_eq_true_eq, Int32.le_iff_toInt_le, h1, h2]
  omega
theorem pk_fs (r : Int32) : fits .short (.int r.toInt16.toInt32) = true := by
  have ⟨a, b⟩ := lg_i2s_range r
  have h1 : (-32768 : Int32).toInt = -32768 := by decide
  have h2 : (32767 : Int32).toInt = 32767 := by decide
  simp only [fits, Bool.and_eq_true, decide_eq_true_eq, Int32.le_iff_toInt_le, h1, h2]
  omega
theorem pk_charN {q : Nat} (hq : q < 65536) : narrow .char (.int (nI q)) = .int (nI q) ∧ fits .char (.int (nI q)) = true := by
  constructor
  · have e : (nI q).toUInt32.toUInt16.toUInt32.toInt32 = nI q := by
      apply Int32.toBitVec_inj.mp
      apply BitVec.eq_of_toNat_eq
      show (nI q).toUInt32.toUInt16.toUInt32.toNat = q % 2 ^ 32
      rw [UInt16.toNat_toUInt32, UInt32.toNat_toUInt16, show (nI q).toUInt32.toNat = q % 2 ^ 32 from rfl]
      omega
    exact congrArg Value.int e
  · have a : (0 : Int32) ≤ nI q := nI_pos' (by omega)
    have b : nI q ≤ 65535 := nI_le (b := 65535) (by omega) (by decide)
    show (decide ((0 : Int32) ≤ nI q) && decide (nI q ≤ 65535)) = true
    rw [decide_eq_true a, decide_eq_true b]
    rfl
theorem pk_char (x : Int32) : (x.toUInt32 % 65536).toInt32 = nI (x.toBitVec.toNat % 65536) := by
  apply Int32.toBitVec_inj.mp
  apply BitVec.eq_of_toNat_eq
  rw [pk_tn (by omega)]
  show (x.toUInt32 % 65536).toNat = _
  rw [UInt32.toNat_mod]
  rfl
theorem pk_nc (x : Int32) : narrow .char (.int (x.toUInt32 % 65536).toInt32) = .int (x.toUInt32 % 65536).toInt32 := by
  rw [pk_char]
  exact (pk_charN (Nat.mod_lt _ (by decide))).1
theorem pk_fc (x : Int32) : fits .char (.int (x.toUInt32 % 65536).toInt32) = true := by
  rw [pk_char]
  exact (pk_charN (Nat.mod_lt _ (by decide))).2
theorem pk_vb (z : Int32) : vp_nar .byte z.toInt8.toInt32 = z.toInt8.toInt32 := by rw [vp_nar_byte]; simp
theorem pk_vs (z : Int32) : vp_nar .short z.toInt16.toInt32 = z.toInt16.toInt32 := by rw [vp_nar_short]; simp
theorem pk_vc (z : Int32) : vp_nar .char (z.toUInt32 % 65536).toInt32 = (z.toUInt32 % 65536).toInt32 := Value.int.inj (pk_nc z)
theorem pk_lT {n : Nat} (h : n < 2 ^ 63) : (lN n).toInt = (n : Int) := lg_ofNat_toInt h
theorem pk_lLT {a b : Nat} (ha : a < 2 ^ 63) (hb : b < 2 ^ 63) : lN a < lN b ↔ a < b := by
  rw [Int64.lt_iff_toInt_lt, pk_lT ha, pk_lT hb]; omega
theorem pk_lLE {a b : Nat} (ha : a < 2 ^ 63) (hb : b < 2 ^ 63) : lN a ≤ lN b ↔ a ≤ b := by
  rw [Int64.le_iff_toInt_le, pk_lT ha, pk_lT hb]; omega
theorem pk_lEQ {a b : Nat} (ha : a < 2 ^ 63) (hb : b < 2 ^ 63) : lN a = lN b ↔ a = b := by
  rw [← Int64.toInt_inj, pk_lT ha, pk_lT hb]; omega
theorem pk_lOf {x : Int64} (h : ¬ x < 0) : ∃ k : Nat, k < 2 ^ 63 ∧ x = lN k := by
  rw [Int64.lt_iff_toInt_lt] at h
  have h0 : (0 : Int64).toInt = 0 := by decide
  have hx := Int64.toInt_lt x
  refine ⟨x.toInt.toNat, by omega, Int64.toInt_inj.mp ?_⟩
  rw [pk_lT (by omega)]
  omega
theorem pk_lDiv {a b : Nat} (ha : a < 2 ^ 63) (h0 : 0 < b) (hb : b < 2 ^ 63) : lN a / lN b = lN (a / b) := by
  apply Int64.toInt_inj.mp
  rw [lg_ldiv_nonneg (by rw [pk_lT ha]; omega) (by rw [pk_lT hb]; omega), pk_lT ha, pk_lT hb, pk_lT (Nat.lt_of_le_of_lt (Nat.div_le_self a b) ha)]
  rfl
theorem pk_lRem {a b : Nat} (ha : a < 2 ^ 63) (h0 : 0 < b) (hb : b < 2 ^ 63) : lN a - lN a / lN b * lN b = lN (a % b) := by
  rw [pk_lDiv ha h0 hb, lN_mul, lN_sub (Nat.div_mul_le_self a b)]
  exact congrArg lN (by have := Nat.div_add_mod' a b; omega)
theorem pk_loop {σ : Type} (W : Nat → Nat → σ → Prop) (I : Nat → σ → Prop) (e i0 : Nat) (s : σ) (hi : i0 ≤ e) (h0 : I i0 s) (hx : ∀ n s, I e s → W (n + 1) e s)
    (hs : ∀ n i s, i < e → I i s → (∀ s', I (i + 1) s' → W n (i + 1) s') → W (n + 1) i s) : ∃ n, W n i0 s :=
  ⟨e + 1, loop_i W I e hx hs (e + 1) i0 s hi (by omega) h0⟩
theorem pk_loopD {σ : Type} (W : Nat → Nat → σ → Prop) (I : Nat → σ → Prop) (hx : ∀ n s, I 0 s → W (n + 1) 0 s)
    (hs : ∀ n i s, I (i + 1) s → (∀ s', I i s' → W n i s') → W (n + 1) (i + 1) s) : ∀ (e : Nat) (s : σ), I e s → W (e + 1) e s := by
  intro e
  induction e with
  | zero => exact fun s h => hx 0 s h
  | succ e ih => exact fun s h => hs (e + 1) e s h (fun s' h' => ih s' h')
theorem lp1 {A1 : Type} (W : Nat → A1 → Prop) (I : A1 → Prop) (μ : A1 → Nat) (hs : ∀ (n : Nat) (a1 : A1), I a1 → (∀ (b1 : A1), I b1 → μ b1 < μ a1 → W n b1) → W (n + 1) a1) (a1 : A1) (h : I a1) : ∃ n, W n a1 :=
  loop_m (σ := A1) (fun n s => W n s) (fun s => I s) (fun s => μ s) (fun n s hI hk => hs n s hI (fun b1 h9 hm => hk b1 h9 hm)) a1 h
theorem lp2 {A1 A2 : Type} (W : Nat → A1 → A2 → Prop) (I : A1 → A2 → Prop) (μ : A1 → A2 → Nat) (hs : ∀ (n : Nat) (a1 : A1) (a2 : A2), I a1 a2 → (∀ (b1 : A1) (b2 : A2), I b1 b2 → μ b1 b2 < μ a1 a2 → W n b1 b2) → W (n + 1) a1 a2) (a1 : A1) (a2 : A2) (h : I a1 a2) : ∃ n, W n a1 a2 :=
  loop_m (σ := A1 × A2) (fun n s => W n s.1 s.2) (fun s => I s.1 s.2) (fun s => μ s.1 s.2) (fun n s hI hk => hs n s.1 s.2 hI (fun b1 b2 h9 hm => hk (b1, b2) h9 hm)) (a1, a2) h
theorem lp3 {A1 A2 A3 : Type} (W : Nat → A1 → A2 → A3 → Prop) (I : A1 → A2 → A3 → Prop) (μ : A1 → A2 → A3 → Nat) (hs : ∀ (n : Nat) (a1 : A1) (a2 : A2) (a3 : A3), I a1 a2 a3 → (∀ (b1 : A1) (b2 : A2) (b3 : A3), I b1 b2 b3 → μ b1 b2 b3 < μ a1 a2 a3 → W n b1 b2 b3) → W (n + 1) a1 a2 a3) (a1 : A1) (a2 : A2) (a3 : A3) (h : I a1 a2 a3) : ∃ n, W n a1 a2 a3 :=
  loop_m (σ := A1 × A2 × A3) (fun n s => W n s.1 s.2.1 s.2.2) (fun s => I s.1 s.2.1 s.2.2) (fun s => μ s.1 s.2.1 s.2.2) (fun n s hI hk => hs n s.1 s.2.1 s.2.2 hI (fun b1 b2 b3 h9 hm => hk (b1, b2, b3) h9 hm)) (a1, a2, a3) h
theorem lp4 {A1 A2 A3 A4 : Type} (W : Nat → A1 → A2 → A3 → A4 → Prop) (I : A1 → A2 → A3 → A4 → Prop) (μ : A1 → A2 → A3 → A4 → Nat) (hs : ∀ (n : Nat) (a1 : A1) (a2 : A2) (a3 : A3) (a4 : A4), I a1 a2 a3 a4 → (∀ (b1 : A1) (b2 : A2) (b3 : A3) (b4 : A4), I b1 b2 b3 b4 → μ b1 b2 b3 b4 < μ a1 a2 a3 a4 → W n b1 b2 b3 b4) → W (n + 1) a1 a2 a3 a4) (a1 : A1) (a2 : A2) (a3 : A3) (a4 : A4) (h : I a1 a2 a3 a4) : ∃ n, W n a1 a2 a3 a4 :=
  loop_m (σ := A1 × A2 × A3 × A4) (fun n s => W n s.1 s.2.1 s.2.2.1 s.2.2.2) (fun s => I s.1 s.2.1 s.2.2.1 s.2.2.2) (fun s => μ s.1 s.2.1 s.2.2.1 s.2.2.2) (fun n s hI hk => hs n s.1 s.2.1 s.2.2.1 s.2.2.2 hI (fun b1 b2 b3 b4 h9 hm => hk (b1, b2, b3, b4) h9 hm)) (a1, a2, a3, a4) h
theorem lp5 {A1 A2 A3 A4 A5 : Type} (W : Nat → A1 → A2 → A3 → A4 → A5 → Prop) (I : A1 → A2 → A3 → A4 → A5 → Prop) (μ : A1 → A2 → A3 → A4 → A5 → Nat) (hs : ∀ (n : Nat) (a1 : A1) (a2 : A2) (a3 : A3) (a4 : A4) (a5 : A5), I a1 a2 a3 a4 a5 → (∀ (b1 : A1) (b2 : A2) (b3 : A3) (b4 : A4) (b5 : A5), I b1 b2 b3 b4 b5 → μ b1 b2 b3 b4 b5 < μ a1 a2 a3 a4 a5 → W n b1 b2 b3 b4 b5) → W (n + 1) a1 a2 a3 a4 a5) (a1 : A1) (a2 : A2) (a3 : A3) (a4 : A4) (a5 : A5) (h : I a1 a2 a3 a4 a5) : ∃ n, W n a1 a2 a3 a4 a5 :=
  loop_m (σ := A1 × A2 × A3 × A4 × A5) (fun n s => W n s.1 s.2.1 s.2.2.1 s.2.2.2.1 s.2.2.2.2) (fun s => I s.1 s.2.1 s.2.2.1 s.2.2.2.1 s.2.2.2.2) (fun s => μ s.1 s.2.1 s.2.2.1 s.2.2.2.1 s.2.2.2.2) (fun n s hI hk => hs n s.1 s.2.1 s.2.2.1 s.2.2.2.1 s.2.2.2.2 hI (fun b1 b2 b3 b4 b5 h9 hm => hk (b1, b2, b3, b4, b5) h9 hm)) (a1, a2, a3, a4, a5) h
theorem lp6 {A1 A2 A3 A4 A5 A6 : Type} (W : Nat → A1 → A2 → A3 → A4 → A5 → A6 → Prop) (I : A1 → A2 → A3 → A4 → A5 → A6 → Prop) (μ : A1 → A2 → A3 → A4 → A5 → A6 → Nat) (hs : ∀ (n : Nat) (a1 : A1) (a2 : A2) (a3 : A3) (a4 : A4) (a5 : A5) (a6 : A6), I a1 a2 a3 a4 a5 a6 → (∀ (b1 : A1) (b2 : A2) (b3 : A3) (b4 : A4) (b5 : A5) (b6 : A6), I b1 b2 b3 b4 b5 b6 → μ b1 b2 b3 b4 b5 b6 < μ a1 a2 a3 a4 a5 a6 → W n b1 b2 b3 b4 b5 b6) → W (n + 1) a1 a2 a3 a4 a5 a6) (a1 : A1) (a2 : A2) (a3 : A3) (a4 : A4) (a5 : A5) (a6 : A6) (h : I a1 a2 a3 a4 a5 a6) : ∃ n, W n a1 a2 a3 a4 a5 a6 :=
  loop_m (σ := A1 × A2 × A3 × A4 × A5 × A6) (fun n s => W n s.1 s.2.1 s.2.2.1 s.2.2.2.1 s.2.2.2.2.1 s.2.2.2.2.2) (fun s => I s.1 s.2.1 s.2.2.1 s.2.2.2.1 s.2.2.2.2.1 s.2.2.2.2.2) (fun s => μ s.1 s.2.1 s.2.2.1 s.2.2.2.1 s.2.2.2.2.1 s.2.2.2.2.2) (fun n s hI hk => hs n s.1 s.2.1 s.2.2.1 s.2.2.2.1 s.2.2.2.2.1 s.2.2.2.2.2 hI (fun b1 b2 b3 b4 b5 b6 h9 hm => hk (b1, b2, b3, b4, b5, b6) h9 hm)) (a1, a2, a3, a4, a5, a6) h
theorem lp7 {A1 A2 A3 A4 A5 A6 A7 : Type} (W : Nat → A1 → A2 → A3 → A4 → A5 → A6 → A7 → Prop) (I : A1 → A2 → A3 → A4 → A5 → A6 → A7 → Prop) (μ : A1 → A2 → A3 → A4 → A5 → A6 → A7 → Nat) (hs : ∀ (n : Nat) (a1 : A1) (a2 : A2) (a3 : A3) (a4 : A4) (a5 : A5) (a6 : A6) (a7 : A7), I a1 a2 a3 a4 a5 a6 a7 → (∀ (b1 : A1) (b2 : A2) (b3 : A3) (b4 : A4) (b5 : A5) (b6 : A6) (b7 : A7), I b1 b2 b3 b4 b5 b6 b7 → μ b1 b2 b3 b4 b5 b6 b7 < μ a1 a2 a3 a4 a5 a6 a7 → W n b1 b2 b3 b4 b5 b6 b7) → W (n + 1) a1 a2 a3 a4 a5 a6 a7) (a1 : A1) (a2 : A2) (a3 : A3) (a4 : A4) (a5 : A5) (a6 : A6) (a7 : A7) (h : I a1 a2 a3 a4 a5 a6 a7) : ∃ n, W n a1 a2 a3 a4 a5 a6 a7 :=
  loop_m (σ := A1 × A2 × A3 × A4 × A5 × A6 × A7) (fun n s => W n s.1 s.2.1 s.2.2.1 s.2.2.2.1 s.2.2.2.2.1 s.2.2.2.2.2.1 s.2.2.2.2.2.2) (fun s => I s.1 s.2.1 s.2.2.1 s.2.2.2.1 s.2.2.2.2.1 s.2.2.2.2.2.1 s.2.2.2.2.2.2) (fun s => μ s.1 s.2.1 s.2.2.1 s.2.2.2.1 s.2.2.2.2.1 s.2.2.2.2.2.1 s.2.2.2.2.2.2) (fun n s hI hk => hs n s.1 s.2.1 s.2.2.1 s.2.2.2.1 s.2.2.2.2.1 s.2.2.2.2.2.1 s.2.2.2.2.2.2 hI (fun b1 b2 b3 b4 b5 b6 b7 h9 hm => hk (b1, b2, b3, b4, b5, b6, b7) h9 hm)) (a1, a2, a3, a4, a5, a6, a7) h
theorem lp8 {A1 A2 A3 A4 A5 A6 A7 A8 : Type} (W : Nat → A1 → A2 → A3 → A4 → A5 → A6 → A7 → A8 → Prop) (I : A1 → A2 → A3 → A4 → A5 → A6 → A7 → A8 → Prop) (μ : A1 → A2 → A3 → A4 → A5 → A6 → A7 → A8 → Nat) (hs : ∀ (n : Nat) (a1 : A1) (a2 : A2) (a3 : A3) (a4 : A4) (a5 : A5) (a6 : A6) (a7 : A7) (a8 : A8), I a1 a2 a3 a4 a5 a6 a7 a8 → (∀ (b1 : A1) (b2 : A2) (b3 : A3) (b4 : A4) (b5 : A5) (b6 : A6) (b7 : A7) (b8 : A8), I b1 b2 b3 b4 b5 b6 b7 b8 → μ b1 b2 b3 b4 b5 b6 b7 b8 < μ a1 a2 a3 a4 a5 a6 a7 a8 → W n b1 b2 b3 b4 b5 b6 b7 b8) → W (n + 1) a1 a2 a3 a4 a5 a6 a7 a8) (a1 : A1) (a2 : A2) (a3 : A3) (a4 : A4) (a5 : A5) (a6 : A6) (a7 : A7) (a8 : A8) (h : I a1 a2 a3 a4 a5 a6 a7 a8) : ∃ n, W n a1 a2 a3 a4 a5 a6 a7 a8 :=
  loop_m (σ := A1 × A2 × A3 × A4 × A5 × A6 × A7 × A8) (fun n s => W n s.1 s.2.1 s.2.2.1 s.2.2.2.1 s.2.2.2.2.1 s.2.2.2.2.2.1 s.2.2.2.2.2.2.1 s.2.2.2.2.2.2.2) (fun s => I s.1 s.2.1 s.2.2.1 s.2.2.2.1 s.2.2.2.2.1 s.2.2.2.2.2.1 s.2.2.2.2.2.2.1 s.2.2.2.2.2.2.2) (fun s => μ s.1 s.2.1 s.2.2.1 s.2.2.2.1 s.2.2.2.2.1 s.2.2.2.2.2.1 s.2.2.2.2.2.2.1 s.2.2.2.2.2.2.2) (fun n s hI hk => hs n s.1 s.2.1 s.2.2.1 s.2.2.2.1 s.2.2.2.2.1 s.2.2.2.2.2.1 s.2.2.2.2.2.2.1 s.2.2.2.2.2.2.2 hI (fun b1 b2 b3 b4 b5 b6 b7 b8 h9 hm => hk (b1, b2, b3, b4, b5, b6, b7, b8) h9 hm)) (a1, a2, a3, a4, a5, a6, a7, a8) h
theorem lp9 {A1 A2 A3 A4 A5 A6 A7 A8 A9 : Type} (W : Nat → A1 → A2 → A3 → A4 → A5 → A6 → A7 → A8 → A9 → Prop) (I : A1 → A2 → A3 → A4 → A5 → A6 → A7 → A8 → A9 → Prop) (μ : A1 → A2 → A3 → A4 → A5 → A6 → A7 → A8 → A9 → Nat) (hs : ∀ (n : Nat) (a1 : A1) (a2 : A2) (a3 : A3) (a4 : A4) (a5 : A5) (a6 : A6) (a7 : A7) (a8 : A8) (a9 : A9), I a1 a2 a3 a4 a5 a6 a7 a8 a9 → (∀ (b1 : A1) (b2 : A2) (b3 : A3) (b4 : A4) (b5 : A5) (b6 : A6) (b7 : A7) (b8 : A8) (b9 : A9), I b1 b2 b3 b4 b5 b6 b7 b8 b9 → μ b1 b2 b3 b4 b5 b6 b7 b8 b9 < μ a1 a2 a3 a4 a5 a6 a7 a8 a9 → W n b1 b2 b3 b4 b5 b6 b7 b8 b9) → W (n + 1) a1 a2 a3 a4 a5 a6 a7 a8 a9) (a1 : A1) (a2 : A2) (a3 : A3) (a4 : A4) (a5 : A5) (a6 : A6) (a7 : A7) (a8 : A8) (a9 : A9) (h : I a1 a2 a3 a4 a5 a6 a7 a8 a9) : ∃ n, W n a1 a2 a3 a4 a5 a6 a7 a8 a9 :=
  loop_m (σ := A1 × A2 × A3 × A4 × A5 × A6 × A7 × A8 × A9) (fun n s => W n s.1 s.2.1 s.2.2.1 s.2.2.2.1 s.2.2.2.2.1 s.2.2.2.2.2.1 s.2.2.2.2.2.2.1 s.2.2.2.2.2.2.2.1 s.2.2.2.2.2.2.2.2) (fun s => I s.1 s.2.1 s.2.2.1 s.2.2.2.1 s.2.2.2.2.1 s.2.2.2.2.2.1 s.2.2.2.2.2.2.1 s.2.2.2.2.2.2.2.1 s.2.2.2.2.2.2.2.2) (fun s => μ s.1 s.2.1 s.2.2.1 s.2.2.2.1 s.2.2.2.2.1 s.2.2.2.2.2.1 s.2.2.2.2.2.2.1 s.2.2.2.2.2.2.2.1 s.2.2.2.2.2.2.2.2) (fun n s hI hk => hs n s.1 s.2.1 s.2.2.1 s.2.2.2.1 s.2.2.2.2.1 s.2.2.2.2.2.1 s.2.2.2.2.2.2.1 s.2.2.2.2.2.2.2.1 s.2.2.2.2.2.2.2.2 hI (fun b1 b2 b3 b4 b5 b6 b7 b8 b9 h9 hm => hk (b1, b2, b3, b4, b5, b6, b7, b8, b9) h9 hm)) (a1, a2, a3, a4, a5, a6, a7, a8, a9) h
theorem lp10 {A1 A2 A3 A4 A5 A6 A7 A8 A9 A10 : Type} (W : Nat → A1 → A2 → A3 → A4 → A5 → A6 → A7 → A8 → A9 → A10 → Prop) (I : A1 → A2 → A3 → A4 → A5 → A6 → A7 → A8 → A9 → A10 → Prop) (μ : A1 → A2 → A3 → A4 → A5 → A6 → A7 → A8 → A9 → A10 → Nat) (hs : ∀ (n : Nat) (a1 : A1) (a2 : A2) (a3 : A3) (a4 : A4) (a5 : A5) (a6 : A6) (a7 : A7) (a8 : A8) (a9 : A9) (a10 : A10), I a1 a2 a3 a4 a5 a6 a7 a8 a9 a10 → (∀ (b1 : A1) (b2 : A2) (b3 : A3) (b4 : A4) (b5 : A5) (b6 : A6) (b7 : A7) (b8 : A8) (b9 : A9) (b10 : A10), I b1 b2 b3 b4 b5 b6 b7 b8 b9 b10 → μ b1 b2 b3 b4 b5 b6 b7 b8 b9 b10 < μ a1 a2 a3 a4 a5 a6 a7 a8 a9 a10 → W n b1 b2 b3 b4 b5 b6 b7 b8 b9 b10) → W (n + 1) a1 a2 a3 a4 a5 a6 a7 a8 a9 a10) (a1 : A1) (a2 : A2) (a3 : A3) (a4 : A4) (a5 : A5) (a6 : A6) (a7 : A7) (a8 : A8) (a9 : A9) (a10 : A10) (h : I a1 a2 a3 a4 a5 a6 a7 a8 a9 a10) : ∃ n, W n a1 a2 a3 a4 a5 a6 a7 a8 a9 a10 :=
  loop_m (σ := A1 × A2 × A3 × A4 × A5 × A6 × A7 × A8 × A9 × A10) (fun n s => W n s.1 s.2.1 s.2.2.1 s.2.2.2.1 s.2.2.2.2.1 s.2.2.2.2.2.1 s.2.2.2.2.2.2.1 s.2.2.2.2.2.2.2.1 s.2.2.2.2.2.2.2.2.1 s.2.2.2.2.2.2.2.2.2) (fun s => I s.1 s.2.1 s.2.2.1 s.2.2.2.1 s.2.2.2.2.1 s.2.2.2.2.2.1 s.2.2.2.2.2.2.1 s.2.2.2.2.2.2.2.1 s.2.2.2.2.2.2.2.2.1 s.2.2.2.2.2.2.2.2.2) (fun s => μ s.1 s.2.1 s.2.2.1 s.2.2.2.1 s.2.2.2.2.1 s.2.2.2.2.2.1 s.2.2.2.2.2.2.1 s.2.2.2.2.2.2.2.1 s.2.2.2.2.2.2.2.2.1 s.2.2.2.2.2.2.2.2.2) (fun n s hI hk => hs n s.1 s.2.1 s.2.2.1 s.2.2.2.1 s.2.2.2.2.1 s.2.2.2.2.2.1 s.2.2.2.2.2.2.1 s.2.2.2.2.2.2.2.1 s.2.2.2.2.2.2.2.2.1 s.2.2.2.2.2.2.2.2.2 hI (fun b1 b2 b3 b4 b5 b6 b7 b8 b9 b10 h9 hm => hk (b1, b2, b3, b4, b5, b6, b7, b8, b9, b10) h9 hm)) (a1, a2, a3, a4, a5, a6, a7, a8, a9, a10) h
theorem lp11 {A1 A2 A3 A4 A5 A6 A7 A8 A9 A10 A11 : Type} (W : Nat → A1 → A2 → A3 → A4 → A5 → A6 → A7 → A8 → A9 → A10 → A11 → Prop) (I : A1 → A2 → A3 → A4 → A5 → A6 → A7 → A8 → A9 → A10 → A11 → Prop) (μ : A1 → A2 → A3 → A4 → A5 → A6 → A7 → A8 → A9 → A10 → A11 → Nat) (hs : ∀ (n : Nat) (a1 : A1) (a2 : A2) (a3 : A3) (a4 : A4) (a5 : A5) (a6 : A6) (a7 : A7) (a8 : A8) (a9 : A9) (a10 : A10) (a11 : A11), I a1 a2 a3 a4 a5 a6 a7 a8 a9 a10 a11 → (∀ (b1 : A1) (b2 : A2) (b3 : A3) (b4 : A4) (b5 : A5) (b6 : A6) (b7 : A7) (b8 : A8) (b9 : A9) (b10 : A10) (b11 : A11), I b1 b2 b3 b4 b5 b6 b7 b8 b9 b10 b11 → μ b1 b2 b3 b4 b5 b6 b7 b8 b9 b10 b11 < μ a1 a2 a3 a4 a5 a6 a7 a8 a9 a10 a11 → W n b1 b2 b3 b4 b5 b6 b7 b8 b9 b10 b11) → W (n + 1) a1 a2 a3 a4 a5 a6 a7 a8 a9 a10 a11) (a1 : A1) (a2 : A2) (a3 : A3) (a4 : A4) (a5 : A5) (a6 : A6) (a7 : A7) (a8 : A8) (a9 : A9) (a10 : A10) (a11 : A11) (h : I a1 a2 a3 a4 a5 a6 a7 a8 a9 a10 a11) : ∃ n, W n a1 a2 a3 a4 a5 a6 a7 a8 a9 a10 a11 :=
  loop_m (σ := A1 × A2 × A3 × A4 × A5 × A6 × A7 × A8 × A9 × A10 × A11) (fun n s => W n s.1 s.2.1 s.2.2.1 s.2.2.2.1 s.2.2.2.2.1 s.2.2.2.2.2.1 s.2.2.2.2.2.2.1 s.2.2.2.2.2.2.2.1 s.2.2.2.2.2.2.2.2.1 s.2.2.2.2.2.2.2.2.2.1 s.2.2.2.2.2.2.2.2.2.2) (fun s => I s.1 s.2.1 s.2.2.1 s.2.2.2.1 s.2.2.2.2.1 s.2.2.2.2.2.1 s.2.2.2.2.2.2.1 s.2.2.2.2.2.2.2.1 s.2.2.2.2.2.2.2.2.1 s.2.2.2.2.2.2.2.2.2.1 s.2.2.2.2.2.2.2.2.2.2) (fun s => μ s.1 s.2.1 s.2.2.1 s.2.2.2.1 s.2.2.2.2.1 s.2.2.2.2.2.1 s.2.2.2.2.2.2.1 s.2.2.2.2.2.2.2.1 s.2.2.2.2.2.2.2.2.1 s.2.2.2.2.2.2.2.2.2.1 s.2.2.2.2.2.2.2.2.2.2) (fun n s hI hk => hs n s.1 s.2.1 s.2.2.1 s.2.2.2.1 s.2.2.2.2.1 s.2.2.2.2.2.1 s.2.2.2.2.2.2.1 s.2.2.2.2.2.2.2.1 s.2.2.2.2.2.2.2.2.1 s.2.2.2.2.2.2.2.2.2.1 s.2.2.2.2.2.2.2.2.2.2 hI (fun b1 b2 b3 b4 b5 b6 b7 b8 b9 b10 b11 h9 hm => hk (b1, b2, b3, b4, b5, b6, b7, b8, b9, b10, b11) h9 hm)) (a1, a2, a3, a4, a5, a6, a7, a8, a9, a10, a11) h
theorem lp12 {A1 A2 A3 A4 A5 A6 A7 A8 A9 A10 A11 A12 : Type} (W : Nat → A1 → A2 → A3 → A4 → A5 → A6 → A7 → A8 → A9 → A10 → A11 → A12 → Prop) (I : A1 → A2 → A3 → A4 → A5 → A6 → A7 → A8 → A9 → A10 → A11 → A12 → Prop) (μ : A1 → A2 → A3 → A4 → A5 → A6 → A7 → A8 → A9 → A10 → A11 → A12 → Nat) (hs : ∀ (n : Nat) (a1 : A1) (a2 : A2) (a3 : A3) (a4 : A4) (a5 : A5) (a6 : A6) (a7 : A7) (a8 : A8) (a9 : A9) (a10 : A10) (a11 : A11) (a12 : A12), I a1 a2 a3 a4 a5 a6 a7 a8 a9 a10 a11 a12 → (∀ (b1 : A1) (b2 : A2) (b3 : A3) (b4 : A4) (b5 : A5) (b6 : A6) (b7 : A7) (b8 : A8) (b9 : A9) (b10 : A10) (b11 : A11) (b12 : A12), I b1 b2 b3 b4 b5 b6 b7 b8 b9 b10 b11 b12 → μ b1 b2 b3 b4 b5 b6 b7 b8 b9 b10 b11 b12 < μ a1 a2 a3 a4 a5 a6 a7 a8 a9 a10 a11 a12 → W n b1 b2 b3 b4 b5 b6 b7 b8 b9 b10 b11 b12) → W (n + 1) a1 a2 a3 a4 a5 a6 a7 a8 a9 a10 a11 a12) (a1 : A1) (a2 : A2) (a3 : A3) (a4 : A4) (a5 : A5) (a6 : A6) (a7 : A7) (a8 : A8) (a9 : A9) (a10 : A10) (a11 : A11) (a12 : A12) (h : I a1 a2 a3 a4 a5 a6 a7 a8 a9 a10 a11 a12) : ∃ n, W n a1 a2 a3 a4 a5 a6 a7 a8 a9 a10 a11 a12 :=
  loop_m (σ := A1 × A2 × A3 × A4 × A5 × A6 × A7 × A8 × A9 × A10 × A11 × A12) (fun n s => W n s.1 s.2.1 s.2.2.1 s.2.2.2.1 s.2.2.2.2.1 s.2.2.2.2.2.1 s.2.2.2.2.2.2.1 s.2.2.2.2.2.2.2.1 s.2.2.2.2.2.2.2.2.1 s.2.2.2.2.2.2.2.2.2.1 s.2.2.2.2.2.2.2.2.2.2.1 s.2.2.2.2.2.2.2.2.2.2.2) (fun s => I s.1 s.2.1 s.2.2.1 s.2.2.2.1 s.2.2.2.2.1 s.2.2.2.2.2.1 s.2.2.2.2.2.2.1 s.2.2.2.2.2.2.2.1 s.2.2.2.2.2.2.2.2.1 s.2.2.2.2.2.2.2.2.2.1 s.2.2.2.2.2.2.2.2.2.2.1 s.2.2.2.2.2.2.2.2.2.2.2) (fun s => μ s.1 s.2.1 s.2.2.1 s.2.2.2.1 s.2.2.2.2.1 s.2.2.2.2.2.1 s.2.2.2.2.2.2.1 s.2.2.2.2.2.2.2.1 s.2.2.2.2.2.2.2.2.1 s.2.2.2.2.2.2.2.2.2.1 s.2.2.2.2.2.2.2.2.2.2.1 s.2.2.2.2.2.2.2.2.2.2.2) (fun n s hI hk => hs n s.1 s.2.1 s.2.2.1 s.2.2.2.1 s.2.2.2.2.1 s.2.2.2.2.2.1 s.2.2.2.2.2.2.1 s.2.2.2.2.2.2.2.1 s.2.2.2.2.2.2.2.2.1 s.2.2.2.2.2.2.2.2.2.1 s.2.2.2.2.2.2.2.2.2.2.1 s.2.2.2.2.2.2.2.2.2.2.2 hI (fun b1 b2 b3 b4 b5 b6 b7 b8 b9 b10 b11 b12 h9 hm => hk (b1, b2, b3, b4, b5, b6, b7, b8, b9, b10, b11, b12) h9 hm)) (a1, a2, a3, a4, a5, a6, a7, a8, a9, a10, a11, a12) h
theorem lp13 {A1 A2 A3 A4 A5 A6 A7 A8 A9 A10 A11 A12 A13 : Type} (W : Nat → A1 → A2 → A3 → A4 → A5 → A6 → A7 → A8 → A9 → A10 → A11 → A12 → A13 → Prop) (I : A1 → A2 → A3 → A4 → A5 → A6 → A7 → A8 → A9 → A10 → A11 → A12 → A13 → Prop) (μ : A1 → A2 → A3 → A4 → A5 → A6 → A7 → A8 → A9 → A10 → A11 → A12 → A13 → Nat) (hs : ∀ (n : Nat) (a1 : A1) (a2 : A2) (a3 : A3) (a4 : A4) (a5 : A5) (a6 : A6) (a7 : A7) (a8 : A8) (a9 : A9) (a10 : A10) (a11 : A11) (a12 : A12) (a13 : A13), I a1 a2 a3 a4 a5 a6 a7 a8 a9 a10 a11 a12 a13 → (∀ (b1 : A1) (b2 : A2) (b3 : A3) (b4 : A4) (b5 : A5) (b6 : A6) (b7 : A7) (b8 : A8) (b9 : A9) (b10 : A10) (b11 : A11) (b12 : A12) (b13 : A13), I b1 b2 b3 b4 b5 b6 b7 b8 b9 b10 b11 b12 b13 → μ b1 b2 b3 b4 b5 b6 b7 b8 b9 b10 b11 b12 b13 < μ a1 a2 a3 a4 a5 a6 a7 a8 a9 a10 a11 a12 a13 → W n b1 b2 b3 b4 b5 b6 b7 b8 b9 b10 b11 b12 b13) → W (n + 1) a1 a2 a3 a4 a5 a6 a7 a8 a9 a10 a11 a12 a13) (a1 : A1) (a2 : A2) (a3 : A3) (a4 : A4) (a5 : A5) (a6 : A6) (a7 : A7) (a8 : A8) (a9 : A9) (a10 : A10) (a11 : A11) (a12 : A12) (a13 : A13) (h : I a1 a2 a3 a4 a5 a6 a7 a8 a9 a10 a11 a12 a13) : ∃ n, W n a1 a2 a3 a4 a5 a6 a7 a8 a9 a10 a11 a12 a13 :=
  loop_m (σ := A1 × A2 × A3 × A4 × A5 × A6 × A7 × A8 × A9 × A10 × A11 × A12 × A13) (fun n s => W n s.1 s.2.1 s.2.2.1 s.2.2.2.1 s.2.2.2.2.1 s.2.2.2.2.2.1 s.2.2.2.2.2.2.1 s.2.2.2.2.2.2.2.1 s.2.2.2.2.2.2.2.2.1 s.2.2.2.2.2.2.2.2.2.1 s.2.2.2.2.2.2.2.2.2.2.1 s.2.2.2.2.2.2.2.2.2.2.2.1 s.2.2.2.2.2.2.2.2.2.2.2.2) (fun s => I s.1 s.2.1 s.2.2.1 s.2.2.2.1 s.2.2.2.2.1 s.2.2.2.2.2.1 s.2.2.2.2.2.2.1 s.2.2.2.2.2.2.2.1 s.2.2.2.2.2.2.2.2.1 s.2.2.2.2.2.2.2.2.2.1 s.2.2.2.2.2.2.2.2.2.2.1 s.2.2.2.2.2.2.2.2.2.2.2.1 s.2.2.2.2.2.2.2.2.2.2.2.2) (fun s => μ s.1 s.2.1 s.2.2.1 s.2.2.2.1 s.2.2.2.2.1 s.2.2.2.2.2.1 s.2.2.2.2.2.2.1 s.2.2.2.2.2.2.2.1 s.2.2.2.2.2.2.2.2.1 s.2.2.2.2.2.2.2.2.2.1 s.2.2.2.2.2.2.2.2.2.2.1 s.2.2.2.2.2.2.2.2.2.2.2.1 s.2.2.2.2.2.2.2.2.2.2.2.2) (fun n s hI hk => hs n s.1 s.2.1 s.2.2.1 s.2.2.2.1 s.2.2.2.2.1 s.2.2.2.2.2.1 s.2.2.2.2.2.2.1 s.2.2.2.2.2.2.2.1 s.2.2.2.2.2.2.2.2.1 s.2.2.2.2.2.2.2.2.2.1 s.2.2.2.2.2.2.2.2.2.2.1 s.2.2.2.2.2.2.2.2.2.2.2.1 s.2.2.2.2.2.2.2.2.2.2.2.2 hI (fun b1 b2 b3 b4 b5 b6 b7 b8 b9 b10 b11 b12 b13 h9 hm => hk (b1, b2, b3, b4, b5, b6, b7, b8, b9, b10, b11, b12, b13) h9 hm)) (a1, a2, a3, a4, a5, a6, a7, a8, a9, a10, a11, a12, a13) h
theorem lp14 {A1 A2 A3 A4 A5 A6 A7 A8 A9 A10 A11 A12 A13 A14 : Type} (W : Nat → A1 → A2 → A3 → A4 → A5 → A6 → A7 → A8 → A9 → A10 → A11 → A12 → A13 → A14 → Prop) (I : A1 → A2 → A3 → A4 → A5 → A6 → A7 → A8 → A9 → A10 → A11 → A12 → A13 → A14 → Prop) (μ : A1 → A2 → A3 → A4 → A5 → A6 → A7 → A8 → A9 → A10 → A11 → A12 → A13 → A14 → Nat) (hs : ∀ (n : Nat) (a1 : A1) (a2 : A2) (a3 : A3) (a4 : A4) (a5 : A5) (a6 : A6) (a7 : A7) (a8 : A8) (a9 : A9) (a10 : A10) (a11 : A11) (a12 : A12) (a13 : A13) (a14 : A14), I a1 a2 a3 a4 a5 a6 a7 a8 a9 a10 a11 a12 a13 a14 → (∀ (b1 : A1) (b2 : A2) (b3 : A3) (b4 : A4) (b5 : A5) (b6 : A6) (b7 : A7) (b8 : A8) (b9 : A9) (b10 : A10) (b11 : A11) (b12 : A12) (b13 : A13) (b14 : A14), I b1 b2 b3 b4 b5 b6 b7 b8 b9 b10 b11 b12 b13 b14 → μ b1 b2 b3 b4 b5 b6 b7 b8 b9 b10 b11 b12 b13 b14 < μ a1 a2 a3 a4 a5 a6 a7 a8 a9 a10 a11 a12 a13 a14 → W n b1 b2 b3 b4 b5 b6 b7 b8 b9 b10 b11 b12 b13 b14) → W (n + 1) a1 a2 a3 a4 a5 a6 a7 a8 a9 a10 a11 a12 a13 a14) (a1 : A1) (a2 : A2) (a3 : A3) (a4 : A4) (a5 : A5) (a6 : A6) (a7 : A7) (a8 : A8) (a9 : A9) (a10 : A10) (a11 : A11) (a12 : A12) (a13 : A13) (a14 : A14) (h : I a1 a2 a3 a4 a5 a6 a7 a8 a9 a10 a11 a12 a13 a14) : ∃ n, W n a1 a2 a3 a4 a5 a6 a7 a8 a9 a10 a11 a12 a13 a14 :=
  loop_m (σ := A1 × A2 × A3 × A4 × A5 × A6 × A7 × A8 × A9 × A10 × A11 × A12 × A13 × A14) (fun n s => W n s.1 s.2.1 s.2.2.1 s.2.2.2.1 s.2.2.2.2.1 s.2.2.2.2.2.1 s.2.2.2.2.2.2.1 s.2.2.2.2.2.2.2.1 s.2.2.2.2.2.2.2.2.1 s.2.2.2.2.2.2.2.2.2.1 s.2.2.2.2.2.2.2.2.2.2.1 s.2.2.2.2.2.2.2.2.2.2.2.1 s.2.2.2.2.2.2.2.2.2.2.2.2.1 s.2.2.2.2.2.2.2.2.2.2.2.2.2) (fun s => I s.1 s.2.1 s.2.2.1 s.2.2.2.1 s.2.2.2.2.1 s.2.2.2.2.2.1 s.2.2.2.2.2.2.1 s.2.2.2.2.2.2.2.1 s.2.2.2.2.2.2.2.2.1 s.2.2.2.2.2.2.2.2.2.1 s.2.2.2.2.2.2.2.2.2.2.1 s.2.2.2.2.2.2.2.2.2.2.2.1 s.2.2.2.2.2.2.2.2.2.2.2.2.1 s.2.2.2.2.2.2.2.2.2.2.2.2.2) (fun s => μ s.1 s.2.1 s.2.2.1 s.2.2.2.1 s.2.2.2.2.1 s.2.2.2.2.2.1 s.2.2.2.2.2.2.1 s.2.2.2.2.2.2.2.1 s.2.2.2.2.2.2.2.2.1 s.2.2.2.2.2.2.2.2.2.1 s.2.2.2.2.2.2.2.2.2.2.1 s.2.2.2.2.2.2.2.2.2.2.2.1 s.2.2.2.2.2.2.2.2.2.2.2.2.1 s.2.2.2.2.2.2.2.2.2.2.2.2.2) (fun n s hI hk => hs n s.1 s.2.1 s.2.2.1 s.2.2.2.1 s.2.2.2.2.1 s.2.2.2.2.2.1 s.2.2.2.2.2.2.1 s.2.2.2.2.2.2.2.1 s.2.2.2.2.2.2.2.2.1 s.2.2.2.2.2.2.2.2.2.1 s.2.2.2.2.2.2.2.2.2.2.1 s.2.2.2.2.2.2.2.2.2.2.2.1 s.2.2.2.2.2.2.2.2.2.2.2.2.1 s.2.2.2.2.2.2.2.2.2.2.2.2.2 hI (fun b1 b2 b3 b4 b5 b6 b7 b8 b9 b10 b11 b12 b13 b14 h9 hm => hk (b1, b2, b3, b4, b5, b6, b7, b8, b9, b10, b11, b12, b13, b14) h9 hm)) (a1, a2, a3, a4, a5, a6, a7, a8, a9, a10, a11, a12, a13, a14) h
theorem lp15 {A1 A2 A3 A4 A5 A6 A7 A8 A9 A10 A11 A12 A13 A14 A15 : Type} (W : Nat → A1 → A2 → A3 → A4 → A5 → A6 → A7 → A8 → A9 → A10 → A11 → A12 → A13 → A14 → A15 → Prop) (I : A1 → A2 → A3 → A4 → A5 → A6 → A7 → A8 → A9 → A10 → A11 → A12 → A13 → A14 → A15 → Prop) (μ : A1 → A2 → A3 → A4 → A5 → A6 → A7 → A8 → A9 → A10 → A11 → A12 → A13 → A14 → A15 → Nat) (hs : ∀ (n : Nat) (a1 : A1) (a2 : A2) (a3 : A3) (a4 : A4) (a5 : A5) (a6 : A6) (a7 : A7) (a8 : A8) (a9 : A9) (a10 : A10) (a11 : A11) (a12 : A12) (a13 : A13) (a14 : A14) (a15 : A15), I a1 a2 a3 a4 a5 a6 a7 a8 a9 a10 a11 a12 a13 a14 a15 → (∀ (b1 : A1) (b2 : A2) (b3 : A3) (b4 : A4) (b5 : A5) (b6 : A6) (b7 : A7) (b8 : A8) (b9 : A9) (b10 : A10) (b11 : A11) (b12 : A12) (b13 : A13) (b14 : A14) (b15 : A15), I b1 b2 b3 b4 b5 b6 b7 b8 b9 b10 b11 b12 b13 b14 b15 → μ b1 b2 b3 b4 b5 b6 b7 b8 b9 b10 b11 b12 b13 b14 b15 < μ a1 a2 a3 a4 a5 a6 a7 a8 a9 a10 a11 a12 a13 a14 a15 → W n b1 b2 b3 b4 b5 b6 b7 b8 b9 b10 b11 b12 b13 b14 b15) → W (n + 1) a1 a2 a3 a4 a5 a6 a7 a8 a9 a10 a11 a12 a13 a14 a15) (a1 : A1) (a2 : A2) (a3 : A3) (a4 : A4) (a5 : A5) (a6 : A6) (a7 : A7) (a8 : A8) (a9 : A9) (a10 : A10) (a11 : A11) (a12 : A12) (a13 : A13) (a14 : A14) (a15 : A15) (h : I a1 a2 a3 a4 a5 a6 a7 a8 a9 a10 a11 a12 a13 a14 a15) : ∃ n, W n a1 a2 a3 a4 a5 a6 a7 a8 a9 a10 a11 a12 a13 a14 a15 :=
  loop_m (σ := A1 × A2 × A3 × A4 × A5 × A6 × A7 × A8 × A9 × A10 × A11 × A12 × A13 × A14 × A15) (fun n s => W n s.1 s.2.1 s.2.2.1 s.2.2.2.1 s.2.2.2.2.1 s.2.2.2.2.2.1 s.2.2.2.2.2.2.1 s.2.2.2.2.2.2.2.1 s.2.2.2.2.2.2.2.2.1 s.2.2.2.2.2.2.2.2.2.1 s.2.2.2.2.2.2.2.2.2.2.1 s.2.2.2.2.2.2.2.2.2.2.2.1 s.2.2.2.2.2.2.2.2.2.2.2.2.1 s.2.2.2.2.2.2.2.2.2.2.2.2.2.1 s.2.2.2.2.2.2.2.2.2.2.2.2.2.2) (fun s => I s.1 s.2.1 s.2.2.1 s.2.2.2.1 s.2.2.2.2.1 s.2.2.2.2.2.1 s.2.2.2.2.2.2.1 s.2.2.2.2.2.2.2.1 s.2.2.2.2.2.2.2.2.1 s.2.2.2.2.2.2.2.2.2.1 s.2.2.2.2.2.2.2.2.2.2.1 s.2.2.2.2.2.2.2.2.2.2.2.1 s.2.2.2.2.2.2.2.2.2.2.2.2.1 s.2.2.2.2.2.2.2.2.2.2.2.2.2.1 s.2.2.2.2.2.2.2.2.2.2.2.2.2.2) (fun s => μ s.1 s.2.1 s.2.2.1 s.2.2.2.1 s.2.2.2.2.1 s.2.2.2.2.2.1 s.2.2.2.2.2.2.1 s.2.2.2.2.2.2.2.1 s.2.2.2.2.2.2.2.2.1 s.2.2.2.2.2.2.2.2.2.1 s.2.2.2.2.2.2.2.2.2.2.1 s.2.2.2.2.2.2.2.2.2.2.2.1 s.2.2.2.2.2.2.2.2.2.2.2.2.1 s.2.2.2.2.2.2.2.2.2.2.2.2.2.1 s.2.2.2.2.2.2.2.2.2.2.2.2.2.2) (fun n s hI hk => hs n s.1 s.2.1 s.2.2.1 s.2.2.2.1 s.2.2.2.2.1 s.2.2.2.2.2.1 s.2.2.2.2.2.2.1 s.2.2.2.2.2.2.2.1 s.2.2.2.2.2.2.2.2.1 s.2.2.2.2.2.2.2.2.2.1 s.2.2.2.2.2.2.2.2.2.2.1 s.2.2.2.2.2.2.2.2.2.2.2.1 s.2.2.2.2.2.2.2.2.2.2.2.2.1 s.2.2.2.2.2.2.2.2.2.2.2.2.2.1 s.2.2.2.2.2.2.2.2.2.2.2.2.2.2 hI (fun b1 b2 b3 b4 b5 b6 b7 b8 b9 b10 b11 b12 b13 b14 b15 h9 hm => hk (b1, b2, b3, b4, b5, b6, b7, b8, b9, b10, b11, b12, b13, b14, b15) h9 hm)) (a1, a2, a3, a4, a5, a6, a7, a8, a9, a10, a11, a12, a13, a14, a15) h
theorem lp16 {A1 A2 A3 A4 A5 A6 A7 A8 A9 A10 A11 A12 A13 A14 A15 A16 : Type} (W : Nat → A1 → A2 → A3 → A4 → A5 → A6 → A7 → A8 → A9 → A10 → A11 → A12 → A13 → A14 → A15 → A16 → Prop) (I : A1 → A2 → A3 → A4 → A5 → A6 → A7 → A8 → A9 → A10 → A11 → A12 → A13 → A14 → A15 → A16 → Prop) (μ : A1 → A2 → A3 → A4 → A5 → A6 → A7 → A8 → A9 → A10 → A11 → A12 → A13 → A14 → A15 → A16 → Nat) (hs : ∀ (n : Nat) (a1 : A1) (a2 : A2) (a3 : A3) (a4 : A4) (a5 : A5) (a6 : A6) (a7 : A7) (a8 : A8) (a9 : A9) (a10 : A10) (a11 : A11) (a12 : A12) (a13 : A13) (a14 : A14) (a15 : A15) (a16 : A16), I a1 a2 a3 a4 a5 a6 a7 a8 a9 a10 a11 a12 a13 a14 a15 a16 → (∀ (b1 : A1) (b2 : A2) (b3 : A3) (b4 : A4) (b5 : A5) (b6 : A6) (b7 : A7) (b8 : A8) (b9 : A9) (b10 : A10) (b11 : A11) (b12 : A12) (b13 : A13) (b14 : A14) (b15 : A15) (b16 : A16), I b1 b2 b3 b4 b5 b6 b7 b8 b9 b10 b11 b12 b13 b14 b15 b16 → μ b1 b2 b3 b4 b5 b6 b7 b8 b9 b10 b11 b12 b13 b14 b15 b16 < μ a1 a2 a3 a4 a5 a6 a7 a8 a9 a10 a11 a12 a13 a14 a15 a16 → W n b1 b2 b3 b4 b5 b6 b7 b8 b9 b10 b11 b12 b13 b14 b15 b16) → W (n + 1) a1 a2 a3 a4 a5 a6 a7 a8 a9 a10 a11 a12 a13 a14 a15 a16) (a1 : A1) (a2 : A2) (a3 : A3) (a4 : A4) (a5 : A5) (a6 : A6) (a7 : A7) (a8 : A8) (a9 : A9) (a10 : A10) (a11 : A11) (a12 : A12) (a13 : A13) (a14 : A14) (a15 : A15) (a16 : A16) (h : I a1 a2 a3 a4 a5 a6 a7 a8 a9 a10 a11 a12 a13 a14 a15 a16) : ∃ n, W n a1 a2 a3 a4 a5 a6 a7 a8 a9 a10 a11 a12 a13 a14 a15 a16 :=
  loop_m (σ := A1 × A2 × A3 × A4 × A5 × A6 × A7 × A8 × A9 × A10 × A11 × A12 × A13 × A14 × A15 × A16) (fun n s => W n s.1 s.2.1 s.2.2.1 s.2.2.2.1 s.2.2.2.2.1 s.2.2.2.2.2.1 s.2.2.2.2.2.2.1 s.2.2.2.2.2.2.2.1 s.2.2.2.2.2.2.2.2.1 s.2.2.2.2.2.2.2.2.2.1 s.2.2.2.2.2.2.2.2.2.2.1 s.2.2.2.2.2.2.2.2.2.2.2.1 s.2.2.2.2.2.2.2.2.2.2.2.2.1 s.2.2.2.2.2.2.2.2.2.2.2.2.2.1 s.2.2.2.2.2.2.2.2.2.2.2.2.2.2.1 s.2.2.2.2.2.2.2.2.2.2.2.2.2.2.2) (fun s => I s.1 s.2.1 s.2.2.1 s.2.2.2.1 s.2.2.2.2.1 s.2.2.2.2.2.1 s.2.2.2.2.2.2.1 s.2.2.2.2.2.2.2.1 s.2.2.2.2.2.2.2.2.1 s.2.2.2.2.2.2.2.2.2.1 s.2.2.2.2.2.2.2.2.2.2.1 s.2.2.2.2.2.2.2.2.2.2.2.1 s.2.2.2.2.2.2.2.2.2.2.2.2.1 s.2.2.2.2.2.2.2.2.2.2.2.2.2.1 s.2.2.2.2.2.2.2.2.2.2.2.2.2.2.1 s.2.2.2.2.2.2.2.2.2.2.2.2.2.2.2) (fun s => μ s.1 s.2.1 s.2.2.1 s.2.2.2.1 s.2.2.2.2.1 s.2.2.2.2.2.1 s.2.2.2.2.2.2.1 s.2.2.2.2.2.2.2.1 s.2.2.2.2.2.2.2.2.1 s.2.2.2.2.2.2.2.2.2.1 s.2.2.2.2.2.2.2.2.2.2.1 s.2.2.2.2.2.2.2.2.2.2.2.1 s.2.2.2.2.2.2.2.2.2.2.2.2.1 s.2.2.2.2.2.2.2.2.2.2.2.2.2.1 s.2.2.2.2.2.2.2.2.2.2.2.2.2.2.1 s.2.2.2.2.2.2.2.2.2.2.2.2.2.2.2) (fun n s hI hk => hs n s.1 s.2.1 s.2.2.1 s.2.2.2.1 s.2.2.2.2.1 s.2.2.2.2.2.1 s.2.2.2.2.2.2.1 s.2.2.2.2.2.2.2.1 s.2.2.2.2.2.2.2.2.1 s.2.2.2.2.2.2.2.2.2.1 s.2.2.2.2.2.2.2.2.2.2.1 s.2.2.2.2.2.2.2.2.2.2.2.1 s.2.2.2.2.2.2.2.2.2.2.2.2.1 s.2.2.2.2.2.2.2.2.2.2.2.2.2.1 s.2.2.2.2.2.2.2.2.2.2.2.2.2.2.1 s.2.2.2.2.2.2.2.2.2.2.2.2.2.2.2 hI (fun b1 b2 b3 b4 b5 b6 b7 b8 b9 b10 b11 b12 b13 b14 b15 b16 h9 hm => hk (b1, b2, b3, b4, b5, b6, b7, b8, b9, b10, b11, b12, b13, b14, b15, b16) h9 hm)) (a1, a2, a3, a4, a5, a6, a7, a8, a9, a10, a11, a12, a13, a14, a15, a16) h
theorem pk_least (P : Nat → Prop) (h : ∃ k, P k) : ∃ k, P k ∧ ∀ j, j < k → ¬ P j := by
  obtain ⟨k, hk⟩ := h
  induction k using Nat.strongRecOn with
  | ind k ih =>
    by_cases e : ∃ j, j < k ∧ P j
    · obtain ⟨j, hj, pj⟩ := e
      exact ih j hj pj
    · exact ⟨k, hk, fun j hj pj => e ⟨j, hj, pj⟩⟩
theorem rp1 {ρ A1 : Type} (W : Nat → (ρ → Prop) → A1 → Prop) (ok : A1 → Prop) (μ : A1 → Nat) (val : A1 → ρ)
    (hs : ∀ (d : Nat) (post : ρ → Prop) (a1 : A1), ok a1 → post (val a1) → (∀ (post' : ρ → Prop) (b1 : A1), ok b1 → μ b1 < μ a1 → post' (val b1) → W d post' b1) → W (d + 1) post a1) :
    ∀ (d : Nat) (post : ρ → Prop) (a1 : A1), ok a1 → μ a1 < d → post (val a1) → W d post a1 := by
  intro d
  induction d with
  | zero => intro post a1 _ h; omega
  | succ d ih =>
    intro post a1 ho hm hp
    exact hs d post a1 ho hp (fun post' b1 ho' hm' hp' => ih post' b1 ho' (by omega) hp')
theorem rp2 {ρ A1 A2 : Type} (W : Nat → (ρ → Prop) → A1 → A2 → Prop) (ok : A1 → A2 → Prop) (μ : A1 → A2 → Nat) (val : A1 → A2 → ρ)
    (hs : ∀ (d : Nat) (post : ρ → Prop) (a1 : A1) (a2 : A2), ok a1 a2 → post (val a1 a2) → (∀ (post' : ρ → Prop) (b1 : A1) (b2 : A2), ok b1 b2 → μ b1 b2 < μ a1 a2 → post' (val b1 b2) → W d post' b1 b2) → W (d + 1) post a1 a2) :
    ∀ (d : Nat) (post : ρ → Prop) (a1 : A1) (a2 : A2), ok a1 a2 → μ a1 a2 < d → post (val a1 a2) → W d post a1 a2 := by
  intro d
  induction d with
  | zero => intro post a1 a2 _ h; omega
  | succ d ih =>
    intro post a1 a2 ho hm hp
    exact hs d post a1 a2 ho hp (fun post' b1 b2 ho' hm' hp' => ih post' b1 b2 ho' (by omega) hp')
theorem rp3 {ρ A1 A2 A3 : Type} (W : Nat → (ρ → Prop) → A1 → A2 → A3 → Prop) (ok : A1 → A2 → A3 → Prop) (μ : A1 → A2 → A3 → Nat) (val : A1 → A2 → A3 → ρ)
    (hs : ∀ (d : Nat) (post : ρ → Prop) (a1 : A1) (a2 : A2) (a3 : A3), ok a1 a2 a3 → post (val a1 a2 a3) → (∀ (post' : ρ → Prop) (b1 : A1) (b2 : A2) (b3 : A3), ok b1 b2 b3 → μ b1 b2 b3 < μ a1 a2 a3 → post' (val b1 b2 b3) → W d post' b1 b2 b3) → W (d + 1) post a1 a2 a3) :
    ∀ (d : Nat) (post : ρ → Prop) (a1 : A1) (a2 : A2) (a3 : A3), ok a1 a2 a3 → μ a1 a2 a3 < d → post (val a1 a2 a3) → W d post a1 a2 a3 := by
  intro d
  induction d with
  | zero => intro post a1 a2 a3 _ h; omega
  | succ d ih =>
    intro post a1 a2 a3 ho hm hp
    exact hs d post a1 a2 a3 ho hp (fun post' b1 b2 b3 ho' hm' hp' => ih post' b1 b2 b3 ho' (by omega) hp')
theorem rp4 {ρ A1 A2 A3 A4 : Type} (W : Nat → (ρ → Prop) → A1 → A2 → A3 → A4 → Prop) (ok : A1 → A2 → A3 → A4 → Prop) (μ : A1 → A2 → A3 → A4 → Nat) (val : A1 → A2 → A3 → A4 → ρ)
    (hs : ∀ (d : Nat) (post : ρ → Prop) (a1 : A1) (a2 : A2) (a3 : A3) (a4 : A4), ok a1 a2 a3 a4 → post (val a1 a2 a3 a4) → (∀ (post' : ρ → Prop) (b1 : A1) (b2 : A2) (b3 : A3) (b4 : A4), ok b1 b2 b3 b4 → μ b1 b2 b3 b4 < μ a1 a2 a3 a4 → post' (val b1 b2 b3 b4) → W d post' b1 b2 b3 b4) → W (d + 1) post a1 a2 a3 a4) :
    ∀ (d : Nat) (post : ρ → Prop) (a1 : A1) (a2 : A2) (a3 : A3) (a4 : A4), ok a1 a2 a3 a4 → μ a1 a2 a3 a4 < d → post (val a1 a2 a3 a4) → W d post a1 a2 a3 a4 := by
  intro d
  induction d with
  | zero => intro post a1 a2 a3 a4 _ h; omega
  | succ d ih =>
    intro post a1 a2 a3 a4 ho hm hp
    exact hs d post a1 a2 a3 a4 ho hp (fun post' b1 b2 b3 b4 ho' hm' hp' => ih post' b1 b2 b3 b4 ho' (by omega) hp')
theorem rp5 {ρ A1 A2 A3 A4 A5 : Type} (W : Nat → (ρ → Prop) → A1 → A2 → A3 → A4 → A5 → Prop) (ok : A1 → A2 → A3 → A4 → A5 → Prop) (μ : A1 → A2 → A3 → A4 → A5 → Nat) (val : A1 → A2 → A3 → A4 → A5 → ρ)
    (hs : ∀ (d : Nat) (post : ρ → Prop) (a1 : A1) (a2 : A2) (a3 : A3) (a4 : A4) (a5 : A5), ok a1 a2 a3 a4 a5 → post (val a1 a2 a3 a4 a5) → (∀ (post' : ρ → Prop) (b1 : A1) (b2 : A2) (b3 : A3) (b4 : A4) (b5 : A5), ok b1 b2 b3 b4 b5 → μ b1 b2 b3 b4 b5 < μ a1 a2 a3 a4 a5 → post' (val b1 b2 b3 b4 b5) → W d post' b1 b2 b3 b4 b5) → W (d + 1) post a1 a2 a3 a4 a5) :
    ∀ (d : Nat) (post : ρ → Prop) (a1 : A1) (a2 : A2) (a3 : A3) (a4 : A4) (a5 : A5), ok a1 a2 a3 a4 a5 → μ a1 a2 a3 a4 a5 < d → post (val a1 a2 a3 a4 a5) → W d post a1 a2 a3 a4 a5 := by
  intro d
  induction d with
  | zero => intro post a1 a2 a3 a4 a5 _ h; omega
  | succ d ih =>
    intro post a1 a2 a3 a4 a5 ho hm hp
    exact hs d post a1 a2 a3 a4 a5 ho hp (fun post' b1 b2 b3 b4 b5 ho' hm' hp' => ih post' b1 b2 b3 b4 b5 ho' (by omega) hp')
theorem rp6 {ρ A1 A2 A3 A4 A5 A6 : Type} (W : Nat → (ρ → Prop) → A1 → A2 → A3 → A4 → A5 → A6 → Prop) (ok : A1 → A2 → A3 → A4 → A5 → A6 → Prop) (μ : A1 → A2 → A3 → A4 → A5 → A6 → Nat) (val : A1 → A2 → A3 → A4 → A5 → A6 → ρ)
    (hs : ∀ (d : Nat) (post : ρ → Prop) (a1 : A1) (a2 : A2) (a3 : A3) (a4 : A4) (a5 : A5) (a6 : A6), ok a1 a2 a3 a4 a5 a6 → post (val a1 a2 a3 a4 a5 a6) → (∀ (post' : ρ → Prop) (b1 : A1) (b2 : A2) (b3 : A3) (b4 : A4) (b5 : A5) (b6 : A6), ok b1 b2 b3 b4 b5 b6 → μ b1 b2 b3 b4 b5 b6 < μ a1 a2 a3 a4 a5 a6 → post' (val b1 b2 b3 b4 b5 b6) → W d post' b1 b2 b3 b4 b5 b6) → W (d + 1) post a1 a2 a3 a4 a5 a6) :
    ∀ (d : Nat) (post : ρ → Prop) (a1 : A1) (a2 : A2) (a3 : A3) (a4 : A4) (a5 : A5) (a6 : A6), ok a1 a2 a3 a4 a5 a6 → μ a1 a2 a3 a4 a5 a6 < d → post (val a1 a2 a3 a4 a5 a6) → W d post a1 a2 a3 a4 a5 a6 := by
  intro d
  induction d with
  | zero => intro post a1 a2 a3 a4 a5 a6 _ h; omega
  | succ d ih =>
    intro post a1 a2 a3 a4 a5 a6 ho hm hp
    exact hs d post a1 a2 a3 a4 a5 a6 ho hp (fun post' b1 b2 b3 b4 b5 b6 ho' hm' hp' => ih post' b1 b2 b3 b4 b5 b6 ho' (by omega) hp')
theorem rec_p {σ ρ : Type} (W : Nat → (ρ → Prop) → σ → Prop) (ok : σ → Prop) (μ : σ → Nat) (val : σ → ρ)
    (hs : ∀ d s post, ok s → post (val s) → (∀ s' post', ok s' → μ s' < μ s → post' (val s') → W d post' s') → W (d + 1) post s) :
    ∀ d s post, ok s → μ s < d → post (val s) → W d post s := by
  intro d
  induction d with
  | zero => intro s post _ h; omega
  | succ d ih =>
    intro s post ho hm hp
    exact hs d s post ho hp (fun s' post' ho' hm' hp' => ih s' post' ho' (by omega) hp')
theorem rec_q {σ ρ : Type} (W : Nat → (ρ → Prop) → σ → Prop) (ok : σ → Prop) (μ : σ → Nat) (Q : σ → ρ → Prop)
    (hs : ∀ d s post, ok s → (∀ r, Q s r → post r) → (∀ s' post', ok s' → μ s' < μ s → (∀ r, Q s' r → post' r) → W d post' s') → W (d + 1) post s) :
    ∀ d s post, ok s → μ s < d → (∀ r, Q s r → post r) → W d post s := by
  intro d
  induction d with
  | zero => intro s post _ h; omega
  | succ d ih =>
    intro s post ho hm hp
    exact hs d s post ho hp (fun s' post' ho' hm' hp' => ih s' post' ho' (by omega) hp')
def bx_sum (f : Nat → Int32) : Nat → Int32
  | 0 => 0
  | n + 1 => bx_sum f n + f n
theorem ek_u {A : Prop} {B : Nat → Prop} {k N : Nat} (hk : k < N) (h : B k) : (some k = none → A) ∧ (∀ y : Nat, some k = some y → (y < N ∧ B y)) :=
  ⟨fun z => absurd z (Option.some_ne_none k), fun _ e => (by cases e; exact ⟨hk, h⟩)⟩
theorem ek_nu {A : Prop} {B : Nat → Prop} (h : A) : ((none : Option Nat) = none → A) ∧ (∀ y : Nat, (none : Option Nat) = some y → B y) :=
  ⟨fun _ => h, fun _ e => (by cases e)⟩
theorem ek_if {c d A B : Prop} (e : c ↔ d) (f : d → A) (g : ¬ d → B) : (c → A) ∧ (¬ c → B) :=
  ⟨fun z => f (e.mp z), fun z => g (fun y => z (e.mpr y))⟩
theorem ek_v {α : Sort _} {P : α → Prop} {a b : α} (e : a = b) (h : P b) : P a := e ▸ h
theorem co_some {x : Option Nat} {A : Prop} {B : Nat → Prop} (i : Nat) (h : B i) (hx : x = some i := by rfl) : (x = none → A) ∧ (∀ y : Nat, x = some y → B y) := by
  subst hx
  exact ⟨fun e => (nomatch e), fun y e => Option.some.inj e ▸ h⟩
theorem co_none {x : Option Nat} {A : Prop} {B : Nat → Prop} (h : A) (hx : x = none := by rfl) : (x = none → A) ∧ (∀ y : Nat, x = some y → B y) := by
  subst hx
  exact ⟨fun _ => h, fun y e => (nomatch e)⟩
theorem co_any {x : Option Nat} {A : Prop} {B : Nat → Prop} (hn : x = none → A) (hs : ∀ i : Nat, x = some i → B i) : (x = none → A) ∧ (∀ y : Nat, x = some y → B y) := ⟨hn, hs⟩
theorem co_2 {P : Nat → Prop} (h0 : P 0) (h1 : P 1) {i : Nat} (hi : i < 2) : P i :=
  match i, hi with
  | 0, _ => h0
  | 1, _ => h1
theorem co_3 {P : Nat → Prop} (h0 : P 0) (h1 : P 1) (h2 : P 2) {i : Nat} (hi : i < 3) : P i :=
  match i, hi with
  | 0, _ => h0
  | 1, _ => h1
  | 2, _ => h2
theorem co_4 {P : Nat → Prop} (h0 : P 0) (h1 : P 1) (h2 : P 2) (h3 : P 3) {i : Nat} (hi : i < 4) : P i :=
  match i, hi with
  | 0, _ => h0
  | 1, _ => h1
  | 2, _ => h2
  | 3, _ => h3
theorem co_dec {N : Nat} {P : Nat → Prop} [DecidablePred P] (h : (List.range N).all (fun i => decide (P i)) = true) {i : Nat} (hi : i < N) : P i := by
  have := List.all_eq_true.mp h i (List.mem_range.mpr hi)
  exact of_decide_eq_true this
theorem co_tab {α : Type} {l : List α} {d : α} {P : α → Prop} (h : ∀ a, a ∈ l → P a) {i : Nat} (hi : i < l.length) : P (l.getD i d) := by
  rw [List.getD_eq_getElem?_getD, List.getElem?_eq_getElem hi]
  exact h _ (List.getElem_mem hi)
theorem pk_mu {x : Int32} {L : Nat} (h0 : ¬ x < 0) (h : ¬ nI L ≤ x) (hL : L < 2 ^ 31) : ∃ j : Nat, j < L ∧ x = nI j ∧ x + 1 = nI (j + 1) ∧ x.toNatClampNeg = j ∧ L - (x + 1).toNatClampNeg < L - x.toNatClampNeg := by
  obtain ⟨j, hj, rfl⟩ := nI_of h0
  have hl : j < L := Nat.not_le.mp fun q => h (nI_le q hj)
  refine ⟨j, hl, rfl, nI_1 j, nI_clamp hj, ?_⟩
  rw [nI_1, nI_clamp (by omega), nI_clamp hj]
  omega
theorem op_s {α : Type} {r : Option α} {A : Prop} {B : α → Prop} {y : α} (h : r = some y) (b : B y) : (r = none → A) ∧ ∀ z, r = some z → B z :=
  ⟨fun e => (by rw [h] at e; cases e), fun z e => (by rw [h] at e; cases e; exact b)⟩
def l_holds {α : Type} (a : Nat → Option Nat) (LP : List Nat) (p : Nat → α) (c : Nat) (b : Nat → α) : Prop :=
  ∀ j, j < c → ∃ y, a j = some y ∧ y ∈ LP ∧ p y = b j
theorem l_holds_0 {α : Type} {a : Nat → Option Nat} {LP : List Nat} {p b : Nat → α} : l_holds a LP p 0 b := fun j h => absurd h (Nat.not_lt_zero j)
theorem l_in_new (LP : List Nat) (q : Nat) : q ∈ LP ++ [q] := List.mem_append.mpr (Or.inr (List.mem_singleton.mpr rfl))
def l_sum (b : Nat → Int32) : Nat → Int32
  | 0 => 0
  | k + 1 => l_sum b k + b k
theorem sb_shr0 (x : Int32) : x >>> ((0 : Int32) &&& 31) = x := by
  rw [show ((0 : Int32) &&& 31) = 0 by decide]
  simp
theorem sb_shl0 (x : Int32) : x <<< ((0 : Int32) &&& 31) = x := by
  rw [show ((0 : Int32) &&& 31) = 0 by decide]
  simp
theorem sb_cl0 : (0 : Int32).toNatClampNeg = 0 := by decide
theorem sb_m1 {p : Nat} (h : 0 < p) : nI p + (-1) = nI (p - 1) := by
  obtain ⟨q, rfl⟩ : ∃ q, p = q + 1 := ⟨p - 1, by omega⟩
  exact pk_m1 q
def sb_b (c : Nat) : Int32 := (nI c).toInt8.toInt32
theorem sb_byte : ∀ c, c < 256 → sb_b c &&& 255 = nI c ∧ ((nI c).toUInt32 % 65536).toInt32 = nI c ∧ nI c ≤ 255 := by decide +kernel
def sb_Fit (a : Nat → Int32) : Prop := ∀ j, fits .byte (.int (a j)) = true
def sb_Lat (t : Nat → Nat) (n : Nat) (a : Nat → Int32) : Prop := ∀ j, j < n → t j < 256 ∧ a j = sb_b (t j)
theorem sb_fitB (c : Nat) : fits .byte (.int (sb_b c)) = true := pk_fb _
theorem sb_fit0 : sb_Fit (fun _ => 0) := fun _ => by
  show fits .byte (.int 0) = true
  decide
theorem sb_fitU {a : Nat → Int32} {k : Nat} {x : Int32} (h : sb_Fit a) (hx : fits .byte (.int x) = true) : sb_Fit (upd a k x) := by
  intro j
  by_cases e : j = k
  · subst e
    rw [pk_us]
    exact hx
  · rw [pk_un e]
    exact h j
def sb_cat (t : Nat → Nat) (n : Nat) (s : Nat → Nat) : Nat → Nat := fun j => if j < n then t j else s (j - n)
theorem sb_cat_lo {t s : Nat → Nat} {n j : Nat} (h : j < n) : sb_cat t n s j = t j := if_pos h
theorem sb_cat_hi {t s : Nat → Nat} {n j : Nat} : sb_cat t n s (n + j) = s j := by
  show (if n + j < n then t (n + j) else s (n + j - n)) = s j
  rw [if_neg (by omega), Nat.add_sub_cancel_left]
theorem sb_latPut {t s : Nat → Nat} {n w : Nat} {a a' : Nat → Int32} (h : sb_Lat t n a) (hk : ∀ j, j < n → a' j = a j) (hs : ∀ i, i < w → s i < 256 ∧ a' (n + i) = sb_b (s i)) : sb_Lat (sb_cat t n s) (n + w) a' := by
  intro j hj
  by_cases e : j < n
  · rw [sb_cat_lo e, hk j e]
    exact h j e
  · obtain ⟨i, rfl⟩ : ∃ i, j = n + i := ⟨j - n, by omega⟩
    rw [sb_cat_hi]
    exact hs i (by omega)
theorem sb_latKeep {t : Nat → Nat} {n : Nat} {a a' : Nat → Int32} (h : sb_Lat t n a) (hk : ∀ j, j < n → a' j = a j) : sb_Lat t n a' := fun j hj => by
  rw [hk j hj]
  exact h j hj
def sb_cap (q m : Nat) : Nat := if q ≤ m then m else if 2 * m + 2 < q then q else 2 * m + 2
def sb_Room (q m mc ms : Nat) : Prop := q ≤ m ∨ (1 ≤ mc ∧ sb_cap q m ≤ ms ∧ sb_cap q m ≤ 65536)
theorem sb_cap_ge (q m : Nat) : q ≤ sb_cap q m := by
  unfold sb_cap
  split
  · omega
  · split <;> omega
theorem sb_cap_gem (q m : Nat) : m ≤ sb_cap q m := by
  unfold sb_cap
  split
  · omega
  · split <;> omega
theorem sb_cap_le {q m mc ms : Nat} (hm : m ≤ 65536) (hr : sb_Room q m mc ms) : sb_cap q m ≤ 65536 := by
  rcases hr with h | h
  · rw [sb_cap, if_pos h]
    exact hm
  · exact h.2.2
theorem sb_at {P : Int32 → Prop} {x y : Int32} (e : x = y) (h : P y) : P x := e ▸ h
def sb_dg (w : Nat) : Nat := if w < 10 then 1 else if w < 100 then 2 else if w < 1000 then 3 else if w < 10000 then 4 else if w < 100000 then 5 else if w < 1000000 then 6 else if w < 10000000 then 7 else if w < 100000000 then 8 else if w < 1000000000 then 9 else 10
def sb_dec (v : Nat) : Nat → Nat := fun i => 48 + v / 10 ^ (sb_dg v - 1 - i) % 10
theorem sb_dg_in (w : Nat) : 1 ≤ sb_dg w ∧ sb_dg w ≤ 10 := by
  unfold sb_dg
  constructor <;> (repeat' split) <;> omega
theorem sb_dg100 {w : Nat} (h : 100 ≤ w) (hw : w < 2 ^ 31) : sb_dg w = sb_dg (w / 100) + 2 := by
  rw [sb_dg, sb_dg, if_neg (show ¬ w < 10 by omega), if_neg (show ¬ w < 100 by omega)]
  by_cases h3 : w < 1000
  · rw [if_pos h3, if_pos (show w / 100 < 10 by omega)]
  rw [if_neg h3, if_neg (show ¬ w / 100 < 10 by omega)]
  by_cases h4 : w < 10000
  · rw [if_pos h4, if_pos (show w / 100 < 100 by omega)]
  rw [if_neg h4, if_neg (show ¬ w / 100 < 100 by omega)]
  by_cases h5 : w < 100000
  · rw [if_pos h5, if_pos (show w / 100 < 1000 by omega)]
  rw [if_neg h5, if_neg (show ¬ w / 100 < 1000 by omega)]
  by_cases h6 : w < 1000000
  · rw [if_pos h6, if_pos (show w / 100 < 10000 by omega)]
  rw [if_neg h6, if_neg (show ¬ w / 100 < 10000 by omega)]
  by_cases h7 : w < 10000000
  · rw [if_pos h7, if_pos (show w / 100 < 100000 by omega)]
  rw [if_neg h7, if_neg (show ¬ w / 100 < 100000 by omega)]
  by_cases h8 : w < 100000000
  · rw [if_pos h8, if_pos (show w / 100 < 1000000 by omega)]
  rw [if_neg h8, if_neg (show ¬ w / 100 < 1000000 by omega)]
  by_cases h9 : w < 1000000000
  · rw [if_pos h9, if_pos (show w / 100 < 10000000 by omega)]
  rw [if_neg h9, if_neg (show ¬ w / 100 < 10000000 by omega)]
  rw [if_pos (show w / 100 < 100000000 by omega)]
theorem sb_negT {w : Nat} (h : w < 2 ^ 31) : (-nI w).toInt = -(w : Int) := by
  rw [Int32.toInt_neg, nI_toInt h]
  exact Int.bmod_eq_of_le (by omega) (by omega)
theorem sb_nle {a b : Nat} (ha : a < 2 ^ 31) (hb : b < 2 ^ 31) : -nI a ≤ -nI b ↔ b ≤ a := by
  rw [Int32.le_iff_toInt_le, sb_negT ha, sb_negT hb]
  omega
theorem sb_nlt {a b : Nat} (ha : a < 2 ^ 31) (hb : b < 2 ^ 31) : -nI a < -nI b ↔ b < a := by
  rw [Int32.lt_iff_toInt_lt, sb_negT ha, sb_negT hb]
  omega
theorem sb_cmp {A B : Prop} {x : Int32} (v c : Nat) (f : c ≤ v → A) (g : v < c → B) (hv : v < 2 ^ 31) (hx : x = -nI c := by rfl) (hc : c < 2 ^ 31 := by omega) : (-nI v ≤ x → A) ∧ (¬ -nI v ≤ x → B) := by
  subst hx
  rw [sb_nle hv hc]
  exact ⟨f, fun z => g (by omega)⟩
theorem sb_ndiv {w : Nat} (hw : w < 2 ^ 31) : (-nI w) / 100 = -nI (w / 100) := by
  apply Int32.toInt_inj.mp
  have h100 : (100 : Int32).toInt = 100 := by decide
  rw [Int32.toInt_div, sb_negT hw, h100, sb_negT (by omega), Int.neg_tdiv, Int.tdiv_eq_ediv_of_nonneg (by omega), Int.bmod_eq_of_le (by omega) (by omega)]
  omega
theorem sb_nrem {w : Nat} (hw : w < 2 ^ 31) : (-nI (w / 100)) * 100 - (-nI w) = nI (w % 100) := by
  have h := pk_rem (a := w) (d := 100) hw (by decide) (by decide)
  rw [pk_div hw (by decide) (by decide)] at h
  rw [← h]
  show (-nI (w / 100)) * nI 100 - (-nI w) = nI w - nI (w / 100) * nI 100
  rw [Int32.neg_mul, Int32.sub_neg, Int32.add_comm, ← Int32.sub_eq_add_neg]
end
section
/-! rows on bits, shifts and unsigned numbers, to paste: each family out of a closed proof of our own, whole with what it rests on; each by itself clean at Lean in its own claim (generation 39, form 5). Take a family whole -/
/-! ===== Int32 by its bits: bt x i ===== -/
def bt (x : Int32) (i : Nat) : Bool := x.toBitVec.getLsbD i
theorem b_ext {x y : Int32} (h : ∀ i, i < 32 → bt x i = bt y i) : x = y := Int32.toBitVec_inj.mp (BitVec.eq_of_getLsbD_eq (fun i hi => h i hi))
theorem b_or (x y : Int32) (i : Nat) : bt (x ||| y) i = (bt x i || bt y i) := by unfold bt; rw [Int32.toBitVec_or, BitVec.getLsbD_or]
theorem b_and (x y : Int32) (i : Nat) : bt (x &&& y) i = (bt x i && bt y i) := by unfold bt; rw [Int32.toBitVec_and, BitVec.getLsbD_and]
theorem b_xor (x y : Int32) (i : Nat) : bt (x ^^^ y) i = (bt x i ^^ bt y i) := by unfold bt; rw [Int32.toBitVec_xor, BitVec.getLsbD_xor]
theorem b_big {x : Int32} {i : Nat} (h : 32 ≤ i) : bt x i = false := BitVec.getLsbD_of_ge _ _ h
theorem b_255 (i : Nat) : bt 255 i = decide (i < 8) := by
  rcases Nat.lt_or_ge i 32 with h | h
  · exact (by decide +kernel : ∀ i, i < 32 → bt 255 i = decide (i < 8)) i h
  · rw [b_big h, decide_eq_false (by omega)]
theorem b_65535 (i : Nat) : bt 65535 i = decide (i < 16) := by
  rcases Nat.lt_or_ge i 32 with h | h
  · exact (by decide +kernel : ∀ i, i < 32 → bt 65535 i = decide (i < 16)) i h
  · rw [b_big h, decide_eq_false (by omega)]
theorem b_m1 : ∀ i, i < 32 → bt (-1) i = true := by decide +kernel
theorem b_0 (i : Nat) : bt 0 i = false := BitVec.getLsbD_zero
theorem s_l : ∀ n, n < 32 → ((nI n &&& 31).toBitVec.smod 32).toNat = n := by decide +kernel
theorem s_u : ∀ n, n < 32 → (((nI n).toUInt32 &&& Int32.toUInt32 31).toBitVec % 32).toNat = n := by decide +kernel
theorem b_shl (n : Nat) (hn : n < 32) (x : Int32) {i : Nat} (hi : i < 32) : bt (x <<< (nI n &&& 31)) i = (decide (n ≤ i) && bt x (i - n)) := by
  unfold bt
  rw [Int32.toBitVec_shiftLeft]
  show (x.toBitVec <<< ((nI n &&& 31).toBitVec.smod 32).toNat).getLsbD i = _
  rw [s_l n hn, BitVec.getLsbD_shiftLeft]
  rcases Nat.lt_or_ge i n with h | h
  · simp [h, Nat.not_le.mpr h]
  · simp [hi, h, Nat.not_lt.mpr h]
theorem b_ushr (n : Nat) (hn : n < 32) (x : Int32) (i : Nat) : bt ((x.toUInt32 >>> ((nI n).toUInt32 &&& Int32.toUInt32 31)).toInt32) i = bt x (n + i) := by
  show (x.toUInt32 >>> ((nI n).toUInt32 &&& Int32.toUInt32 31)).toBitVec.getLsbD i = x.toUInt32.toBitVec.getLsbD (n + i)
  rw [UInt32.toBitVec_shiftRight]
  show (x.toUInt32.toBitVec >>> (((nI n).toUInt32 &&& Int32.toUInt32 31).toBitVec % 32).toNat).getLsbD i = _
  rw [s_u n hn, BitVec.getLsbD_ushiftRight]
theorem b_sshr (n : Nat) (hn : n < 32) (x : Int32) {i : Nat} (hi : i < 32) : bt (x >>> (nI n &&& 31)) i = if n + i < 32 then bt x (n + i) else bt x 31 := by
  unfold bt
  rw [Int32.toBitVec_shiftRight]
  show (x.toBitVec.sshiftRight ((nI n &&& 31).toBitVec.smod 32).toNat).getLsbD i = _
  rw [s_l n hn, BitVec.getLsbD_sshiftRight, BitVec.msb_eq_getLsbD_last]
  simp [hi]
theorem b_shl8 (x : Int32) {i : Nat} (hi : i < 32) : bt (x <<< ((8 : Int32) &&& 31)) i = (decide (8 ≤ i) && bt x (i - 8)) := b_shl 8 (by omega) x hi
theorem b_shl16 (x : Int32) {i : Nat} (hi : i < 32) : bt (x <<< ((16 : Int32) &&& 31)) i = (decide (16 ≤ i) && bt x (i - 16)) := b_shl 16 (by omega) x hi
theorem b_shl24 (x : Int32) {i : Nat} (hi : i < 32) : bt (x <<< ((24 : Int32) &&& 31)) i = (decide (24 ≤ i) && bt x (i - 24)) := b_shl 24 (by omega) x hi
theorem b_sshr8 (x : Int32) {i : Nat} (hi : i < 32) : bt (x >>> ((8 : Int32) &&& 31)) i = if 8 + i < 32 then bt x (8 + i) else bt x 31 := b_sshr 8 (by omega) x hi
/-! ===== nI under and, xor, >>>, one bit, 65535 ===== -/
theorem nx_and (a b : Nat) : nI a &&& nI b = nI (a &&& b) := by
  apply Int32.toBitVec_inj.1
  show BitVec.ofNat 32 a &&& BitVec.ofNat 32 b = BitVec.ofNat 32 (a &&& b)
  apply BitVec.eq_of_getLsbD_eq
  intro i hi
  simp [hi]
theorem nx_xor (a b : Nat) : nI a ^^^ nI b = nI (a ^^^ b) := by
  apply Int32.toBitVec_inj.1
  show BitVec.ofNat 32 a ^^^ BitVec.ofNat 32 b = BitVec.ofNat 32 (a ^^^ b)
  apply BitVec.eq_of_getLsbD_eq
  intro i hi
  simp [hi]
theorem nx_cnt : ∀ j : Fin 32, (UInt32.ofNat j.val &&& Int32.toUInt32 31).toNat % 32 = j.val := by decide +kernel
theorem nx_ush {k j : Nat} (hk : k < 65536) (hj : j < 32) : ((nI k).toUInt32 >>> ((nI j).toUInt32 &&& Int32.toUInt32 31)).toInt32 = nI (k >>> j) := by
  have hs : k >>> j ≤ k := by
    rw [Nat.shiftRight_eq_div_pow]
    exact Nat.div_le_self _ _
  have e2 : UInt32.ofNat k >>> (UInt32.ofNat j &&& Int32.toUInt32 31) = UInt32.ofNat (k >>> j) := by
    apply UInt32.toNat_inj.1
    have h1 : (UInt32.ofNat k).toNat = k := Nat.mod_eq_of_lt (by omega)
    have h2 : (UInt32.ofNat (k >>> j)).toNat = k >>> j := Nat.mod_eq_of_lt (by omega)
    rw [UInt32.toNat_shiftRight, nx_cnt ⟨j, hj⟩, h1, h2]
  show (UInt32.ofNat k >>> (UInt32.ofNat j &&& Int32.toUInt32 31)).toInt32 = _
  rw [e2]
  rfl
theorem nx_bit {k j : Nat} (hk : k < 65536) (hj : j < 16) : (((nI k).toUInt32 >>> ((nI j).toUInt32 &&& Int32.toUInt32 31)).toInt32 &&& 1) = 0 ↔ k.testBit j = false := by
  rw [nx_ush hk (by omega)]
  show nI (k >>> j) &&& nI 1 = 0 ↔ _
  rw [nx_and, Nat.and_one_is_mod, ← nI_0, nI_eq (by omega) (by omega), Nat.testBit_eq_decide_div_mod_eq, Nat.shiftRight_eq_div_pow, decide_eq_false_iff_not]
  generalize k / 2 ^ j = z
  omega
theorem nx_mod (k : Nat) : nI k &&& 65535 = nI (k % 65536) := by
  show nI k &&& nI 65535 = _
  rw [nx_and, show (65535 : Nat) = 2 ^ 16 - 1 from rfl, Nat.and_two_pow_sub_one_eq_mod]
theorem nx_m16 {k : Nat} (h : k < 65536) : nI k &&& 65535 = nI k := by rw [nx_mod, Nat.mod_eq_of_lt h]
theorem nx_mask (x : Int32) : ∃ k, k < 65536 ∧ x &&& 65535 = nI k := by
  have e : x = nI x.toBitVec.toNat := by
    apply Int32.toBitVec_inj.1
    show x.toBitVec = BitVec.ofNat 32 x.toBitVec.toNat
    simp
  refine ⟨x.toBitVec.toNat % 65536, Nat.mod_lt _ (by omega), ?_⟩
  rw [← nx_mod, ← e]
/-! ===== Int32 as a set of bits: test, set ===== -/
def nf_M (m : Int32) : Nat := 4294967296 - m.toBitVec.toNat
theorem nf_sh : ∀ l, l < 32 → ((1 : Int32) <<< (nI l &&& 31)).toBitVec = BitVec.twoPow 32 l := by decide +kernel
theorem nf_sl : ∀ l, l < 32 → (((nI l).toUInt32 &&& Int32.toUInt32 31).toBitVec % 32).toNat = l := by decide +kernel
theorem nf_tp : ∀ l, l < 32 → BitVec.twoPow 32 l ≠ 0#32 := by decide +kernel
theorem nf_bit (m : Int32) (l : Nat) (hl : l < 32) : ((m.toUInt32 >>> ((nI l).toUInt32 &&& Int32.toUInt32 31)).toInt32 &&& 1) = 0 ↔ (m &&& ((1 : Int32) <<< (nI l &&& 31))) = 0 := by
  have e : ((m.toUInt32 >>> ((nI l).toUInt32 &&& Int32.toUInt32 31)).toInt32).toBitVec = m.toBitVec >>> l := by
    show m.toBitVec >>> (((nI l).toUInt32 &&& Int32.toUInt32 31).toBitVec % 32) = m.toBitVec >>> l
    rw [BitVec.ushiftRight_eq', nf_sl l hl]
  rw [← Int32.toBitVec_inj, ← Int32.toBitVec_inj, Int32.toBitVec_and, Int32.toBitVec_and, nf_sh l hl, e, BitVec.and_twoPow]
  show (m.toBitVec >>> l &&& 1#32) = 0#32 ↔ _ = 0#32
  rw [BitVec.and_one_eq_setWidth_ofBool_getLsbD, BitVec.getLsbD_ushiftRight, Nat.add_zero]
  cases hb : m.toBitVec.getLsbD l
  · exact ⟨fun _ => by simp, fun _ => by decide⟩
  · exact ⟨fun z => absurd z (by decide), fun z => absurd ((if_pos rfl).symm.trans z) (nf_tp l hl)⟩
theorem nf_gr (m k : Int32) (h : m &&& k = 0) (hk : k ≠ 0) : nf_M (m ||| k) < nf_M m := by
  have hm := m.toBitVec.isLt
  have hm' := (m ||| k).toBitVec.isLt
  have h1 : m.toBitVec.toNat ≤ (m ||| k).toBitVec.toNat := by
    rw [Int32.toBitVec_or, BitVec.toNat_or]
    exact Nat.left_le_or
  have h2 : m.toBitVec.toNat ≠ (m ||| k).toBitVec.toNat := by
    intro e
    have e2 : m = m ||| k := Int32.toBitVec_inj.mp (BitVec.eq_of_toNat_eq e)
    apply hk
    apply Int32.toBitVec_inj.mp
    show k.toBitVec = 0#32
    apply BitVec.eq_of_getLsbD_eq
    intro i hi
    have a : m.toBitVec.getLsbD i = (m.toBitVec.getLsbD i || k.toBitVec.getLsbD i) := by rw [← BitVec.getLsbD_or, ← Int32.toBitVec_or, ← e2]
    have b : (m.toBitVec.getLsbD i && k.toBitVec.getLsbD i) = false := by
      rw [← BitVec.getLsbD_and, ← Int32.toBitVec_and, h]
      exact BitVec.getLsbD_zero
    rw [BitVec.getLsbD_zero]
    revert a b
    cases m.toBitVec.getLsbD i <;> cases k.toBitVec.getLsbD i <;> simp
  unfold nf_M
  omega
/-! ===== a byte read unsigned ===== -/
theorem bp_b (x : Int32) : x.toInt8.toInt32 &&& 255 = x &&& 255 := by
  apply Int32.toBitVec_inj.mp
  rw [Int32.toBitVec_and, Int32.toBitVec_and, Int8.toBitVec_toInt32, Int32.toBitVec_toInt8]
  apply BitVec.eq_of_getLsbD_eq
  intro i hi
  rw [BitVec.getLsbD_and, BitVec.getLsbD_and]
  have hm : ∀ i < 32, 8 ≤ i → (255 : Int32).toBitVec.getLsbD i = false := by decide
  rcases Nat.lt_or_ge i 8 with z | z
  · rw [BitVec.getLsbD_signExtend, BitVec.getLsbD_signExtend, if_pos z, if_pos hi]
    simp only [z, hi, decide_true, Bool.true_and]
  · rw [hm i hi z]; simp
/-! ===== the char cast and 65535 ===== -/
theorem em_w (v : Int32) : ∃ w : Nat, w < 65536 ∧ (v.toUInt32 % 65536).toInt32 = nI w ∧ v &&& 65535 = nI w := by
  have hr := lw_u16_r v
  have h0 : (0 : Int32).toInt = 0 := by decide
  obtain ⟨w, h1, h2⟩ := nI_of (x := lw_u16 v) (by rw [Int32.lt_iff_toInt_lt]; omega)
  have h3 : (v.toUInt32 % 65536).toInt32 = nI w := h2
  rw [h2, nI_toInt h1] at hr
  exact ⟨w, by omega, h3, by rw [← lg_i2c_mask, ← lg_i2c_nf, h3]⟩
/-! ===== Int64 as a set of bits: test, set, clear ===== -/
theorem ts_nf {x : Bool} (h : ¬ x = false) : x = true := by cases x <;> first | rfl | exact absurd rfl h
theorem ts_nt {x : Bool} (h : ¬ x = true) : x = false := by cases x <;> first | rfl | exact absurd rfl h
theorem ts_bit {w : Int64} {s : UInt64} {j : Nat} (hj : j < 64) (hs : s.toNat = j) : ((w.toUInt64 >>> s).toInt64 &&& 1) = 0 ↔ w.toBitVec.getLsbD j = false := by
  have e : (w.toUInt64 >>> s).toInt64.toBitVec = w.toBitVec >>> j := by
    apply BitVec.eq_of_toNat_eq
    show (w.toUInt64 >>> s).toNat = _
    rw [UInt64.toNat_shiftRight, hs, Nat.mod_eq_of_lt hj, BitVec.toNat_ushiftRight]
    rfl
  rw [← Int64.toBitVec_inj, Int64.toBitVec_and, e]
  show w.toBitVec >>> j &&& 1#64 = 0#64 ↔ _
  constructor
  · intro h
    have t := congrArg (fun x => x.getLsbD 0) h
    simpa using t
  · intro h
    apply BitVec.eq_of_getLsbD_eq
    intro i hi
    cases i with
    | zero => simp [h]
    | succ i => simp
theorem ts_or {w m : Int64} {j : Nat} (hj : j < 64) (hm : m.toBitVec = BitVec.twoPow 64 j) : (w ||| m) = w ↔ w.toBitVec.getLsbD j = true := by
  rw [← Int64.toBitVec_inj, Int64.toBitVec_or, hm]
  constructor
  · intro h
    have t := congrArg (fun x => x.getLsbD j) h
    simp only [BitVec.getLsbD_or, BitVec.getLsbD_twoPow] at t
    simpa [hj] using t.symm
  · intro h
    apply BitVec.eq_of_getLsbD_eq
    intro i hi
    rw [BitVec.getLsbD_or, BitVec.getLsbD_twoPow]
    by_cases e : j = i
    · subst e; rw [h, Bool.true_or]
    · simp [e]
theorem ts_and {w m : Int64} {j : Nat} (hj : j < 64) (hm : m.toBitVec = BitVec.twoPow 64 j) : (w &&& (m ^^^ (-1))) = w ↔ w.toBitVec.getLsbD j = false := by
  have ha : (-1 : Int64).toBitVec = BitVec.allOnes 64 := by decide
  rw [← Int64.toBitVec_inj, Int64.toBitVec_and, Int64.toBitVec_xor, hm, ha]
  constructor
  · intro h
    have t := congrArg (fun x => x.getLsbD j) h
    simp only [BitVec.getLsbD_and, BitVec.getLsbD_xor, BitVec.getLsbD_twoPow, BitVec.getLsbD_allOnes] at t
    simpa [hj] using t.symm
  · intro h
    apply BitVec.eq_of_getLsbD_eq
    intro i hi
    rw [BitVec.getLsbD_and, BitVec.getLsbD_xor, BitVec.getLsbD_twoPow, BitVec.getLsbD_allOnes]
    by_cases e : j = i
    · subst e; rw [h, Bool.false_and]
    · simp [e, hi]
/-! ===== lN n to 2^64: shifts, and, or, masks, one bit ===== -/
theorem wb_tb (n : Nat) : (lN n).toBitVec = BitVec.ofNat 64 n := rfl
theorem wb_inj {a b : Int64} (h : a.toBitVec = b.toBitVec) : a = b := Int64.toBitVec_inj.mp h
theorem wb_tn {n : Nat} (h : n < 2 ^ 64) : (lN n).toBitVec.toNat = n := by rw [wb_tb, BitVec.toNat_ofNat, Nat.mod_eq_of_lt h]
theorem wb_of (x : Int64) : ∃ n, n < 2 ^ 64 ∧ x = lN n := ⟨x.toBitVec.toNat, x.toBitVec.isLt, wb_inj (by rw [wb_tb]; simp)⟩
theorem wb_of32 (x : Int32) : ∃ n, n < 2 ^ 32 ∧ x = nI n := ⟨x.toBitVec.toNat, x.toBitVec.isLt, Int32.toBitVec_inj.mp (by show _ = BitVec.ofNat 32 _; simp)⟩
theorem wb_c : ∀ k, k < 64 → ((nI k).toInt64 &&& 63) = lN k := by decide +kernel
theorem wb_cu : ∀ k, k < 64 → ((nI k).toInt64.toUInt64 &&& Int64.toUInt64 63) = UInt64.ofNat k := by decide +kernel
theorem wb_sm : ∀ k, k < 64 → (BitVec.ofNat 64 k).smod 64 = BitVec.ofNat 64 k := by decide +kernel
theorem wb_pw {a b : Nat} (h : a ≤ b) : 2 ^ b = 2 ^ a * 2 ^ (b - a) := by rw [← Nat.pow_add]; congr 1; omega
theorem wb_lt2 {a b : Nat} (h : a < b) : 2 ^ a < 2 ^ b := Nat.pow_lt_pow_right (by decide) h
theorem wb_mod (n : Nat) : lN n = lN (n % 2 ^ 64) := wb_inj (by rw [wb_tb, wb_tb]; apply BitVec.eq_of_toNat_eq; rw [BitVec.toNat_ofNat, BitVec.toNat_ofNat, Nat.mod_mod])
theorem wb_shr {n k : Nat} (hn : n < 2 ^ 64) (hk : k < 64) : ((lN n).toUInt64 >>> ((nI k).toInt64.toUInt64 &&& Int64.toUInt64 63)).toInt64 = lN (n / 2 ^ k) := by
  rw [wb_cu k hk]
  apply wb_inj
  apply BitVec.eq_of_toNat_eq
  show ((lN n).toUInt64 >>> UInt64.ofNat k).toNat = (BitVec.ofNat 64 _).toNat
  have h1 : (UInt64.ofNat k).toNat = k := by
    show (BitVec.ofNat 64 k).toNat = k
    rw [BitVec.toNat_ofNat, Nat.mod_eq_of_lt (by omega)]
  have h2 : (lN n).toUInt64.toNat = n := wb_tn hn
  rw [UInt64.toNat_shiftRight, h1, h2, Nat.mod_eq_of_lt hk, Nat.shiftRight_eq_div_pow, BitVec.toNat_ofNat, Nat.mod_eq_of_lt (Nat.lt_of_le_of_lt (Nat.div_le_self _ _) hn)]
theorem wb_shl (n : Nat) {k : Nat} (hk : k < 64) : lN n <<< ((nI k).toInt64 &&& 63) = lN (n * 2 ^ k) := by
  rw [wb_c k hk]
  apply wb_inj
  rw [Int64.toBitVec_shiftLeft, wb_tb, wb_tb, wb_tb, wb_sm k hk]
  apply BitVec.eq_of_toNat_eq
  rw [BitVec.shiftLeft_eq', BitVec.toNat_shiftLeft, BitVec.toNat_ofNat, BitVec.toNat_ofNat, BitVec.toNat_ofNat, Nat.mod_eq_of_lt (show k < 2 ^ 64 by omega), Nat.shiftLeft_eq, Nat.mul_mod, Nat.mod_mod, ← Nat.mul_mod]
theorem wb_and {a b : Nat} (ha : a < 2 ^ 64) (hb : b < 2 ^ 64) : lN a &&& lN b = lN (a &&& b) := by
  apply wb_inj
  rw [Int64.toBitVec_and, wb_tb, wb_tb, wb_tb]
  apply BitVec.eq_of_toNat_eq
  rw [BitVec.toNat_and, BitVec.toNat_ofNat, BitVec.toNat_ofNat, BitVec.toNat_ofNat, Nat.mod_eq_of_lt ha, Nat.mod_eq_of_lt hb, Nat.mod_eq_of_lt (Nat.and_lt_two_pow _ hb)]
theorem wb_or {a b : Nat} (ha : a < 2 ^ 64) (hb : b < 2 ^ 64) : lN a ||| lN b = lN (a ||| b) := by
  apply wb_inj
  rw [Int64.toBitVec_or, wb_tb, wb_tb, wb_tb]
  apply BitVec.eq_of_toNat_eq
  rw [BitVec.toNat_or, BitVec.toNat_ofNat, BitVec.toNat_ofNat, BitVec.toNat_ofNat, Nat.mod_eq_of_lt ha, Nat.mod_eq_of_lt hb, Nat.mod_eq_of_lt (Nat.or_lt_two_pow ha hb)]
theorem wb_mask {n k : Nat} (hn : n < 2 ^ 64) (hk : k < 64) : lN n &&& lN (2 ^ k - 1) = lN (n % 2 ^ k) := by
  rw [wb_and hn (by have := wb_lt2 hk; omega), Nat.and_two_pow_sub_one_eq_mod]
theorem wb_a1 {n : Nat} (hn : n < 2 ^ 64) : lN n &&& 1 = lN (n % 2) := wb_mask (k := 1) hn (by decide)
theorem wb_bit {n k : Nat} (hn : n < 2 ^ 64) (hk : k < 64) : ((lN n).toUInt64 >>> ((nI k).toInt64.toUInt64 &&& Int64.toUInt64 63)).toInt64 &&& 1 = lN (n / 2 ^ k % 2) := by
  rw [wb_shr hn hk, wb_a1 (Nat.lt_of_le_of_lt (Nat.div_le_self _ _) hn)]
theorem wb_xor {q k : Nat} (hk : k < 63) (h : 2 ^ k ≤ q) (h2 : q < 2 ^ (k + 1)) : lN q ^^^ lN (2 ^ k) = lN (q - 2 ^ k) := by
  obtain ⟨r, rfl⟩ : ∃ r, q = 2 ^ k + r := ⟨q - 2 ^ k, by omega⟩
  have hr : r < 2 ^ k := by rw [Nat.pow_succ] at h2; omega
  have hx : (2 ^ k + r) ^^^ 2 ^ k = r := by
    apply Nat.eq_of_testBit_eq
    intro i
    rw [Nat.testBit_xor, Nat.testBit_two_pow]
    rcases Nat.lt_trichotomy i k with h | h | h
    · rw [Nat.testBit_two_pow_add_gt h]
      simp [show ¬ k = i by omega]
    · subst h
      rw [Nat.testBit_two_pow_add_eq]
      simp
    · have a1 : 2 ^ (k + 1) ≤ 2 ^ i := Nat.pow_le_pow_right (by decide) h
      rw [Nat.testBit_lt_two_pow (show 2 ^ k + r < 2 ^ i by omega), Nat.testBit_lt_two_pow (show r < 2 ^ i by omega)]
      simp [show ¬ k = i by omega]
  have b1 := wb_lt2 (show k + 1 < 64 by omega)
  have b2 := wb_lt2 (show k < 64 by omega)
  apply wb_inj
  rw [Int64.toBitVec_xor, wb_tb, wb_tb, wb_tb]
  apply BitVec.eq_of_toNat_eq
  rw [BitVec.toNat_xor, BitVec.toNat_ofNat, BitVec.toNat_ofNat, BitVec.toNat_ofNat, Nat.mod_eq_of_lt (by omega : 2 ^ k + r < 2 ^ 64), Nat.mod_eq_of_lt b2, hx, Nat.add_sub_cancel_left, Nat.mod_eq_of_lt (by omega)]
/-! ===== lN: masks, 'or' of parts that don't overlap is a sum ===== -/
theorem u_tn {n : Nat} (h : n < 2 ^ 64) : (UInt64.ofNat n).toNat = n := Nat.mod_eq_of_lt h
theorem g_and {a b c : Nat} (ha : a < 2 ^ 64) (hb : b < 2 ^ 64) (hc : a &&& b = c) : lN a &&& lN b = lN c := by
  subst hc
  have h : UInt64.ofNat a &&& UInt64.ofNat b = UInt64.ofNat (a &&& b) := UInt64.toNat_inj.mp (by rw [UInt64.toNat_and, u_tn ha, u_tn hb, u_tn (Nat.and_lt_two_pow a hb)])
  have h2 := congrArg UInt64.toInt64 h
  exact h2
theorem g_and1 {a : Nat} (ha : a < 2 ^ 64) : lN a &&& 1 = lN (a % 2) := g_and (b := 1) ha (by decide) (Nat.and_two_pow_sub_one_eq_mod a 1)
theorem g_mask {a s p : Nat} (hp : 2 ^ s = p) (hs : s < 64) (ha : a < 2 ^ 64) : lN a &&& lN (p - 1) = lN (a % p) := by
  subst hp
  have := Nat.pow_lt_pow_right (show 1 < 2 by decide) hs
  exact g_and ha (by omega) (Nat.and_two_pow_sub_one_eq_mod a s)
theorem g_or {k p a b : Nat} (hp : 2 ^ k = p) (ha : a < p) (h : b * p + a < 2 ^ 64) : lN (b * p) ||| lN a = lN (b * p + a) := by
  subst hp
  have h1 : b * 2 ^ k ||| a = b * 2 ^ k + a := by rw [← Nat.shiftLeft_eq, Nat.shiftLeft_add_eq_or_of_lt ha]
  have h3 : UInt64.ofNat (b * 2 ^ k) ||| UInt64.ofNat a = UInt64.ofNat (b * 2 ^ k + a) := UInt64.toNat_inj.mp (by rw [UInt64.toNat_or, u_tn (by omega), u_tn (by omega), u_tn h, h1])
  have h2 := congrArg UInt64.toInt64 h3
  exact h2
theorem g_or' {k p a b : Nat} (hp : 2 ^ k = p) (ha : a < p) (h : a + b * p < 2 ^ 64) : lN a ||| lN (b * p) = lN (a + b * p) := by
  rw [Int64.or_comm, g_or hp ha (by omega), Nat.add_comm]
theorem g_ushr {a k p : Nat} {y : UInt64} (hy : y = UInt64.ofNat k) (hk : k < 64) (hp : 2 ^ k = p) (ha : a < 2 ^ 64) : ((lN a).toUInt64 >>> y).toInt64 = lN (a / p) := by
  subst hy hp
  have h : UInt64.ofNat a >>> UInt64.ofNat k = UInt64.ofNat (a / 2 ^ k) := UInt64.toNat_inj.mp (by rw [UInt64.toNat_shiftRight, u_tn ha, u_tn (by omega), u_tn (Nat.lt_of_le_of_lt (Nat.div_le_self _ _) ha), Nat.mod_eq_of_lt hk, Nat.shiftRight_eq_div_pow])
  have h2 := congrArg UInt64.toInt64 h
  exact h2
theorem g_shl {a k p : Nat} {y : Int64} (hy : y.toBitVec.smod 64 = BitVec.ofNat 64 k) (hk : k < 64) (hp : 2 ^ k = p) (ha : a < 2 ^ 64) : lN a <<< y = lN (a * p) := by
  subst hp
  apply Int64.toBitVec_inj.mp
  rw [Int64.toBitVec_shiftLeft, hy]
  apply BitVec.eq_of_toNat_eq
  have hb : (lN a).toBitVec.toNat = a := Nat.mod_eq_of_lt ha
  have hk' : (BitVec.ofNat 64 k).toNat = k := Nat.mod_eq_of_lt (by omega)
  have h : ((lN a).toBitVec <<< BitVec.ofNat 64 k).toNat = (a * 2 ^ k) % 2 ^ 64 := by simp only [BitVec.shiftLeft_eq', BitVec.toNat_shiftLeft, hb, hk', Nat.shiftLeft_eq]
  exact h
/-! ===== lN to 2^62 under >> and >>> ===== -/
theorem pf_lI {a : Nat} (h : a < 2 ^ 63) : (lN a).toInt = (a : Int) := lg_ofNat_toInt h
theorem pf_shr {a d : Nat} {D : Int64} (hD : (D.toBitVec.smod 64).toNat = d) (h : a < 2 ^ 62) : lN a >>> D = lN (a / 2 ^ d) := by
  have hd : a / 2 ^ d ≤ a := Nat.div_le_self _ _
  apply Int64.toInt_inj.mp
  have e : (lN a >>> D).toInt = (lN a).toInt >>> d := by
    rw [← hD]
    exact BitVec.toInt_sshiftRight ..
  rw [e, Int.shiftRight_eq_div_pow, pf_lI (by omega), pf_lI (by omega)]
  rfl
theorem pf_ushr {a d : Nat} {D : UInt64} (hD : D.toNat % 64 = d) (h : a < 2 ^ 62) : ((lN a).toUInt64 >>> D).toInt64 = lN (a / 2 ^ d) := by
  have hd : a / 2 ^ d ≤ a := Nat.div_le_self _ _
  have e : (lN a).toUInt64 >>> D = UInt64.ofNat (a / 2 ^ d) := UInt64.toNat_inj.mp (by
    rw [UInt64.toNat_shiftRight, hD, Nat.shiftRight_eq_div_pow, UInt64.toNat_ofNat']
    show (UInt64.ofNat a).toNat / 2 ^ d = _
    rw [UInt64.toNat_ofNat', Nat.mod_eq_of_lt (by omega), Nat.mod_eq_of_lt (by omega)])
  rw [e]
  rfl
theorem pf_andw (x : Int64) : ∃ m, m < 2 ^ 32 ∧ x &&& 4294967295 = lN m := ⟨x.toBitVec.toNat % 2 ^ 32, Nat.mod_lt _ (by decide), Int64.toBitVec_inj.mp (BitVec.eq_of_toNat_eq (by
  show (x.toBitVec &&& 4294967295#64).toNat = (BitVec.ofNat 64 (x.toBitVec.toNat % 2 ^ 32)).toNat
  rw [BitVec.toNat_and, show (4294967295#64).toNat = 2 ^ 32 - 1 from by decide, Nat.and_two_pow_sub_one_eq_mod, BitVec.toNat_ofNat]
  omega))⟩
/-! ===== Int64 as an unsigned number: uN x ===== -/
def uN (x : Int64) : Nat := x.toUInt64.toNat
theorem uN_lt (x : Int64) : uN x < 18446744073709551616 := x.toUInt64.toNat_lt
theorem uN_inj {x y : Int64} (h : uN x = uN y) : x = y := congrArg UInt64.toInt64 (UInt64.toNat_inj.mp h)
theorem uN_add (x y : Int64) : uN (x + y) = (uN x + uN y) % 18446744073709551616 := by
  show (x.toUInt64 + y.toUInt64).toNat = _
  exact UInt64.toNat_add _ _
theorem uN_mul (x y : Int64) : uN (x * y) = (uN x * uN y) % 18446744073709551616 := by
  show (x.toUInt64 * y.toUInt64).toNat = _
  exact UInt64.toNat_mul _ _
theorem uN_shl (x : Int64) : uN (x <<< ((1 : Int32).toInt64 &&& 63)) = (2 * uN x) % 18446744073709551616 := by
  have h : (((1 : Int32).toInt64 &&& 63).toBitVec.smod 64).toNat = 1 := by decide
  show (x.toBitVec <<< (((1 : Int32).toInt64 &&& 63).toBitVec.smod 64).toNat).toNat = _
  rw [h, BitVec.toNat_shiftLeft, Nat.shiftLeft_eq, Nat.mul_comm]
  rfl
theorem uN_shr (x : Int64) (s : UInt64) : uN (x.toUInt64 >>> s).toInt64 = uN x / 2 ^ (s.toNat % 64) := by
  show (x.toUInt64 >>> s).toNat = _
  rw [UInt64.toNat_shiftRight, Nat.shiftRight_eq_div_pow]
  rfl
theorem uN_s32 (x : Int64) : uN (x.toUInt64 >>> ((32 : Int32).toInt64.toUInt64 &&& Int64.toUInt64 63)).toInt64 = uN x / 4294967296 := by
  have h : ((32 : Int32).toInt64.toUInt64 &&& Int64.toUInt64 63).toNat % 64 = 32 := by decide
  rw [uN_shr, h]
theorem uN_s63 (x : Int64) : uN (x.toUInt64 >>> ((63 : Int32).toInt64.toUInt64 &&& Int64.toUInt64 63)).toInt64 = uN x / 9223372036854775808 := by
  have h : ((63 : Int32).toInt64.toUInt64 &&& Int64.toUInt64 63).toNat % 64 = 63 := by decide
  rw [uN_shr, h]
theorem uN_lo (x : Int64) : uN (x &&& 4294967295) = uN x % 4294967296 := by
  show (x.toUInt64 &&& Int64.toUInt64 4294967295).toNat = _
  rw [UInt64.toNat_and]
  exact Nat.and_two_pow_sub_one_eq_mod _ 32
theorem uN_bit (x : Int64) : (x &&& 1) = 0 ↔ uN x % 2 = 0 := by
  have h : uN (x &&& 1) = uN x % 2 := by
    show (x.toUInt64 &&& Int64.toUInt64 1).toNat = _
    rw [UInt64.toNat_and]
    exact Nat.and_two_pow_sub_one_eq_mod _ 1
  rw [← h]
  exact ⟨fun z => by rw [z]; rfl, fun z => uN_inj (z.trans rfl)⟩
theorem uN_or {x y : Int64} (hy : uN y < 2) : uN ((x <<< ((1 : Int32).toInt64 &&& 63)) ||| y) = (2 * uN x) % 18446744073709551616 + uN y := by
  have h1 : uN ((x <<< ((1 : Int32).toInt64 &&& 63)) ||| y) = uN (x <<< ((1 : Int32).toInt64 &&& 63)) ||| uN y := UInt64.toNat_or _ _
  have h2 : (2 * uN x) % 18446744073709551616 = 2 ^ 1 * (uN x % 9223372036854775808) := by omega
  rw [h1, uN_shl, h2]
  exact (Nat.two_pow_add_eq_or_of_lt (i := 1) hy _).symm
theorem nat_xor {a : Nat} (h : a < 18446744073709551616) : a ^^^ 2 ^ 63 = (a + 9223372036854775808) % 18446744073709551616 := by
  have h1 : (a ^^^ 2 ^ 63) % 2 ^ 63 = a % 2 ^ 63 := by rw [Nat.xor_mod_two_pow, Nat.mod_self, Nat.xor_zero]
  have h2 : (a ^^^ 2 ^ 63) / 2 ^ 63 = (a / 2 ^ 63) ^^^ 1 := by rw [Nat.xor_div_two_pow, Nat.div_self (Nat.two_pow_pos 63)]
  have h3 : a / 2 ^ 63 = 0 ∨ a / 2 ^ 63 = 1 := by omega
  generalize a ^^^ 2 ^ 63 = t at h1 h2
  rcases h3 with h3 | h3
  · rw [h3] at h2
    have h2 : t / 2 ^ 63 = 1 := h2
    omega
  · rw [h3] at h2
    have h2 : t / 2 ^ 63 = 0 := h2
    omega
theorem uN_xor (x : Int64) : uN (x ^^^ (-9223372036854775808)) = (uN x + 9223372036854775808) % 18446744073709551616 := by
  rw [← nat_xor (uN_lt x)]
  exact UInt64.toNat_xor _ _
theorem uN_int (x : Int64) : x.toInt = if 2 * uN x < 18446744073709551616 then (uN x : Int) else (uN x : Int) - 18446744073709551616 := BitVec.toInt_eq_toNat_cond _
theorem uN_le (x y : Int64) : (x ^^^ (-9223372036854775808)) ≤ (y ^^^ (-9223372036854775808)) ↔ uN x ≤ uN y := by
  have hx := uN_lt x
  have hy := uN_lt y
  rw [Int64.le_iff_toInt_le, uN_int, uN_int, uN_xor, uN_xor]
  omega
theorem uN_sk (x : Int64) {k : Nat} (hk : k < 64) : uN (x.toUInt64 >>> ((nI k).toInt64.toUInt64 &&& Int64.toUInt64 63)).toInt64 = uN x / 2 ^ k := by
  have h : ((nI k).toInt64.toUInt64 &&& Int64.toUInt64 63).toNat % 64 = k := by
    rw [nI_l (by omega), UInt64.toNat_and]
    have e : (lN k).toUInt64.toNat = k % 2 ^ 64 := rfl
    have e2 : (Int64.toUInt64 63).toNat = 2 ^ 6 - 1 := by decide
    rw [e, e2, Nat.and_two_pow_sub_one_eq_mod]
    omega
  rw [uN_shr, h]
/-! ===== unsigned comparison by xor with the least ===== -/
theorem lN_bv (n : Nat) : (lN n).toBitVec = BitVec.ofNat 64 n := rfl
theorem lN_nat {n : Nat} (h : n < 2 ^ 64) : (lN n).toBitVec.toNat = n := by rw [lN_bv, BitVec.toNat_ofNat]; exact Nat.mod_eq_of_lt h
theorem lN_xor (a b : Nat) : lN a ^^^ lN b = lN (a ^^^ b) := by
  apply Int64.toBitVec_inj.mp; rw [Int64.toBitVec_xor, lN_bv, lN_bv, lN_bv]; apply BitVec.eq_of_getLsbD_eq; intro i hi; simp [BitVec.getLsbD_ofNat, Nat.testBit_xor, hi]
theorem lN_ti {m : Nat} (h : m < 2 ^ 64) : (lN m).toInt = if m < 2 ^ 63 then (m : Int) else (m : Int) - 2 ^ 64 := by
  have c := BitVec.toInt_eq_toNat_cond (lN m).toBitVec
  rw [lN_nat h] at c
  show (lN m).toBitVec.toInt = _
  rw [c]
  split <;> split <;> omega
theorem xor63 {x : Nat} (h : x < 2 ^ 63) : x ^^^ 2 ^ 63 = 2 ^ 63 + x := by
  apply Nat.eq_of_testBit_eq
  intro i
  rw [Nat.testBit_xor, Nat.testBit_two_pow]
  rcases Nat.lt_trichotomy i 63 with z | z | z
  · rw [Nat.testBit_two_pow_add_gt z, decide_eq_false (by omega)]; simp
  · subst z; rw [Nat.testBit_two_pow_add_eq]; simp
  · have hp : 2 ^ 64 ≤ 2 ^ i := Nat.pow_le_pow_right (by decide) z
    rw [Nat.testBit_lt_two_pow (show x < 2 ^ i by omega), Nat.testBit_lt_two_pow (show 2 ^ 63 + x < 2 ^ i by omega), decide_eq_false (by omega)]; rfl
theorem xorS {a : Nat} (h : a < 2 ^ 64) : (lN a ^^^ (-9223372036854775808)).toInt = (a : Int) - 2 ^ 63 := by
  rw [show (-9223372036854775808 : Int64) = lN (2 ^ 63) from by decide +kernel, lN_xor]
  rcases Nat.lt_or_ge a (2 ^ 63) with z | z
  · rw [xor63 z, lN_ti (by omega), if_neg (by omega)]; omega
  · obtain ⟨x, rfl⟩ : ∃ x, a = 2 ^ 63 + x := ⟨a - 2 ^ 63, by omega⟩
    rw [← xor63 (by omega), Nat.xor_assoc, Nat.xor_self, Nat.xor_zero, lN_ti (by omega), if_pos (by omega), xor63 (by omega)]; omega
theorem ultL {a b : Nat} (ha : a < 2 ^ 64) (hb : b < 2 ^ 64) : ((lN b ^^^ (-9223372036854775808)) ≤ (lN a ^^^ (-9223372036854775808))) ↔ b ≤ a := by
  rw [Int64.le_iff_toInt_le, xorS ha, xorS hb]; omega
/-! ===== Int64 masks of n low bits ===== -/
theorem cr_bits (W U M : BitVec 64) : ((W &&& U) &&& (U &&& (M ^^^ BitVec.allOnes 64))) = 0#64 ↔ (W &&& U) &&& M = W &&& U := by
  constructor
  · intro h
    apply BitVec.eq_of_getLsbD_eq
    intro i hi
    have e := congrArg (fun x => BitVec.getLsbD x i) h
    simp only [BitVec.getLsbD_and, BitVec.getLsbD_xor, BitVec.getLsbD_allOnes, BitVec.getLsbD_zero, hi, decide_true] at e ⊢
    revert e
    cases W.getLsbD i <;> cases U.getLsbD i <;> cases M.getLsbD i <;> decide
  · intro h
    apply BitVec.eq_of_getLsbD_eq
    intro i hi
    have e := congrArg (fun x => BitVec.getLsbD x i) h
    simp only [BitVec.getLsbD_and, BitVec.getLsbD_xor, BitVec.getLsbD_allOnes, BitVec.getLsbD_zero, hi, decide_true] at e ⊢
    revert e
    cases W.getLsbD i <;> cases U.getLsbD i <;> cases M.getLsbD i <;> decide
theorem cr_mask (w U m : Int64) (n : Nat) (hm : m.toBitVec.toNat = 2 ^ n - 1) : ((w &&& U) &&& (U &&& (m ^^^ (-1)))) = 0 ↔ (w &&& U).toBitVec.toNat < 2 ^ n := by
  have e0 : (-1 : Int64).toBitVec = BitVec.allOnes 64 := by decide
  have z0 : (0 : Int64).toBitVec = 0#64 := by decide
  rw [← Int64.toBitVec_inj, z0, Int64.toBitVec_and, Int64.toBitVec_and, Int64.toBitVec_and, Int64.toBitVec_xor, e0, cr_bits]
  generalize w.toBitVec &&& U.toBitVec = T
  rw [← BitVec.toNat_inj, BitVec.toNat_and, hm, Nat.and_two_pow_sub_one_eq_mod]
  constructor
  · intro h
    have t := Nat.mod_lt T.toNat (Nat.two_pow_pos n)
    rw [h] at t
    exact t
  · exact Nat.mod_eq_of_lt
theorem cr_shr (t : Int64) (x : UInt64) (n : Nat) (hx : x.toNat % 64 = n) : (t.toUInt64 >>> x).toInt64 = 0 ↔ t.toBitVec.toNat < 2 ^ n := by
  rw [← Int64.toBitVec_inj, ← BitVec.toNat_inj]
  show (t.toUInt64 >>> x).toNat = 0 ↔ t.toUInt64.toNat < 2 ^ n
  rw [UInt64.toNat_shiftRight, hx, Nat.shiftRight_eq_div_pow]
  constructor
  · intro h
    have d : t.toUInt64.toNat / 2 ^ n < 1 := by
      rw [h]
      decide
    have e := (Nat.div_lt_iff_lt_mul (Nat.two_pow_pos n)).mp d
    rw [Nat.one_mul] at e
    exact e
  · exact Nat.div_eq_of_lt
theorem cr_amt (s : Int64) : ∃ n, n < 64 ∧ s &&& 63 = lN n ∧ (s.toUInt64 &&& Int64.toUInt64 63).toNat % 64 = n := by
  have e : (s.toUInt64 &&& Int64.toUInt64 63).toNat = s.toUInt64.toNat % 2 ^ 6 := by
    rw [UInt64.toNat_and, show (Int64.toUInt64 63).toNat = 2 ^ 6 - 1 from by decide, Nat.and_two_pow_sub_one_eq_mod]
  refine ⟨s.toUInt64.toNat % 2 ^ 6, by omega, ?_, by omega⟩
  rw [← Int64.toBitVec_inj, ← BitVec.toNat_inj]
  show (s.toUInt64 &&& Int64.toUInt64 63).toNat = (BitVec.ofNat 64 (s.toUInt64.toNat % 2 ^ 6)).toNat
  rw [e, BitVec.toNat_ofNat]
  omega
end
section
/-! numbers -/
theorem ic_m3 (a : Nat) : nI a * 3 = nI (a * 3) := pk_mul a 3
theorem ic_m4 (a : Nat) : nI a * 4 = nI (a * 4) := pk_mul a 4
theorem ic_m5 (a : Nat) : nI a * 5 = nI (a * 5) := pk_mul a 5
theorem ic_m6 (a : Nat) : nI a * 6 = nI (a * 6) := pk_mul a 6
theorem ic_m8 (a : Nat) : nI a * 8 = nI (a * 8) := pk_mul a 8
theorem ic_m11 (a : Nat) : nI a * 11 = nI (a * 11) := pk_mul a 11
theorem ic_m12 (a : Nat) : nI a * 12 = nI (a * 12) := pk_mul a 12
theorem ic_m24 (a : Nat) : nI a * 24 = nI (a * 24) := pk_mul a 24
theorem ic_m33 (a : Nat) : nI a * 33 = nI (a * 33) := pk_mul a 33
theorem ic_m64 (a : Nat) : nI a * 64 = nI (a * 64) := pk_mul a 64
theorem ic_p1 (a : Nat) : nI a + 1 = nI (a + 1) := nI_add a 1
theorem ic_p2 (a : Nat) : nI a + 2 = nI (a + 2) := nI_add a 2
theorem ic_p3 (a : Nat) : nI a + 3 = nI (a + 3) := nI_add a 3
theorem ic_p4 (a : Nat) : nI a + 4 = nI (a + 4) := nI_add a 4
theorem ic_p5 (a : Nat) : nI a + 5 = nI (a + 5) := nI_add a 5
theorem ic_p6 (a : Nat) : nI a + 6 = nI (a + 6) := nI_add a 6
theorem ic_p7 (a : Nat) : nI a + 7 = nI (a + 7) := nI_add a 7
theorem ic_p8 (a : Nat) : nI a + 8 = nI (a + 8) := nI_add a 8
theorem ic_p63 (a : Nat) : nI a + 63 = nI (a + 63) := nI_add a 63
theorem ic_q3 (a : Nat) : 3 + nI a = nI (3 + a) := nI_add 3 a
theorem ic_d11 {a : Nat} (h : a < 2 ^ 31) : nI a / 11 = nI (a / 11) := pk_div (d := 11) h (by omega) (by omega)
theorem ic_d22 {a : Nat} (h : a < 2 ^ 31) : nI a / 22 = nI (a / 22) := pk_div (d := 22) h (by omega) (by omega)
theorem ic_d3 {a : Nat} (h : a < 2 ^ 31) : nI a / 3 = nI (a / 3) := pk_div (d := 3) h (by omega) (by omega)
theorem ic_d2 {a : Nat} (h : a < 2 ^ 31) : nI a / 2 = nI (a / 2) := pk_div (d := 2) h (by omega) (by omega)
theorem ic_r11 (a : Nat) : nI a - nI (a / 11 * 11) = nI (a % 11) := by
  rw [pk_sub (by omega)]
  have e : a - a / 11 * 11 = a % 11 := by omega
  rw [e]
theorem ic_n11 : ((11 : Int32) = 0) = False := eq_false (by decide)
theorem ic_n22 : ((22 : Int32) = 0) = False := eq_false (by decide)
theorem ic_n3 : ((3 : Int32) = 0) = False := eq_false (by decide)
theorem ic_n2 : ((2 : Int32) = 0) = False := eq_false (by decide)
theorem ic_n10 : ((1 : Int32) = 0) = False := eq_false (by decide)
theorem ic_oneI {a : Nat} (h : a ≤ 1) : 1 - nI a = nI (1 - a) := pk_sub (a := 1) h
theorem ic_eqI {a b : Nat} (ha : a < 2 ^ 31) (hb : b < 2 ^ 31) : (nI a = nI b) = (a = b) := propext (nI_eq ha hb)
theorem ic_ne1 (n : Nat) (h : n < 2 ^ 31) : ¬ nI n = -1 := by
  intro e
  have h1 := congrArg Int32.toInt e
  rw [nI_toInt h] at h1
  have h2 : (-1 : Int32).toInt = -1 := by decide
  omega
theorem ic_10 : ¬ (1 : Int32) = 0 := by decide
theorem ic_m11' : ¬ (-1 : Int32) < 2 → False := by decide
/-- a value between 0 and n -/
def ic_vN (x : Int32) (n : Nat) : Prop := ∃ m : Nat, m ≤ n ∧ x = nI m
def ic_R (f : Nat → Int32) (n : Nat) : Prop := ∀ j, ic_vN (f j) n
theorem ic_Ru {f : Nat → Int32} {n : Nat} (h : ic_R f n) (i m : Nat) (hm : m ≤ n) : ic_R (upd f i (nI m)) n := by
  intro j
  by_cases e : j = i
  · rw [e, pk_us]; exact ⟨m, hm, rfl⟩
  · rw [pk_un e]; exact h j
theorem ic_Rv {f : Nat → Int32} {n : Nat} (h : ic_R f n) (i : Nat) {x : Int32} (hm : ic_vN x n) : ic_R (upd f i x) n := by
  obtain ⟨m, h1, rfl⟩ := hm
  exact ic_Ru h i m h1
theorem ic_R0 (n : Nat) : ic_R (fun _ => 0) n := fun _ => ⟨0, Nat.zero_le _, rfl⟩
theorem ic_nz {x : Int32} {n : Nat} (h : ic_vN x n) (hx : x ≠ 0) : ∃ m : Nat, 1 ≤ m ∧ m ≤ n ∧ x = nI m := by
  obtain ⟨m, h1, rfl⟩ := h
  refine ⟨m, ?_, h1, rfl⟩
  rcases Nat.eq_zero_or_pos m with rfl | h
  · exact absurd rfl hx
  · exact h
theorem ic_usame {f : Nat → Int32} {i : Nat} {x : Int32} (h : f i = x) : upd f i x = f := by
  funext j
  by_cases e : j = i
  · rw [e, pk_us, h]
  · rw [pk_un e]
theorem ic_eqn {a b : Nat} (ha : a < 2 ^ 31) (hb : b < 2 ^ 31) (h : nI a = nI b) : a = b := (nI_eq ha hb).mp h
/-- outside -/
def ic_out (x y : Int32) : Prop := x < 0 ∨ ¬ x ≤ y
theorem ic_in {x y : Int32} {n : Nat} (hM : y.toInt = n) (h : ¬ ic_out x y) : ∃ j : Nat, j ≤ n ∧ x = nI j := by
  apply nI_of2 hM
  · exact fun z => h (Or.inl z)
  · exact Decidable.byContradiction fun z => h (Or.inr z)
/-- the group of a place -/
def ic_gr (d : Nat) : Nat := if d < 2 then 0 else if d = 2 then 1 else if d < 11 then 2 else 3
theorem ic_gr_lt (d : Nat) : ic_gr d < 4 := by unfold ic_gr; split <;> (try split) <;> (try split) <;> omega
/-- the key of a binding, by the kind of translator -/
def ic_ky (x : Int32) (d : Nat) : Nat := if (x - 1) / 3 = 1 then ic_gr d else if (x - 1) / 3 = 2 then d else 0
theorem ic_ky_lt (x : Int32) {d : Nat} (h : d < 12) : ic_ky x d < 12 := by
  unfold ic_ky
  have := ic_gr_lt d
  split
  · omega
  · split <;> omega
/-- priority, in naturals -/
def ic_prn (r b t z : Nat) : Nat :=
  if r = 1 then
    (if (if b = 2 then 0 else 6 + (if b = 0 then 1 else 0)) ≤ 2 * (t - 1) + z then 16 * (if b = 2 then 0 else 6 + (if b = 0 then 1 else 0)) + 2 * (2 * (t - 1) + z)
     else 16 * (2 * (t - 1) + z) + 2 * (if b = 2 then 0 else 6 + (if b = 0 then 1 else 0)) + 1)
  else
    (if 2 * (t - 1) + z ≤ (if b = 2 then 0 else 6 + (if b = 0 then 1 else 0)) then 16 * (2 * (t - 1) + z) + 2 * (if b = 2 then 0 else 6 + (if b = 0 then 1 else 0))
     else 16 * (if b = 2 then 0 else 6 + (if b = 0 then 1 else 0)) + 2 * (2 * (t - 1) + z) + 1)
theorem ic_prn_lt : ∀ r, r < 2 → ∀ b, b < 3 → ∀ t, t < 5 → ∀ z, z < 2 → ic_prn r b t z < 1000 := by decide +kernel
/-- 1 if the far end is base 0 -/
def ic_zf (bd : Nat → Int32) (a p : Nat) : Nat := if p = 0 ∨ (2 < p ∧ bd ((1 - a) * 11 + p) = 1) then 1 else 0
theorem ic_zf_lt (bd : Nat → Int32) (a p : Nat) : ic_zf bd a p < 2 := by unfold ic_zf; split <;> omega
def ic_pr (ro se bd : Nat → Int32) (a c : Nat) : Nat := ic_prn (ro a).toNatClampNeg (c / 11) (se (a * 11 + c % 11)).toNatClampNeg (ic_zf bd a (c % 11))
theorem ic_vcl {x : Int32} {n : Nat} (h : ic_vN x n) (hn : n < 2 ^ 31) : x.toNatClampNeg ≤ n ∧ x = nI x.toNatClampNeg := by
  obtain ⟨m, h1, rfl⟩ := h
  rw [nI_clamp (by omega)]
  exact ⟨h1, rfl⟩
theorem ic_pr_lt {ro se bd : Nat → Int32} {a c : Nat} (hro : ic_R ro 1) (hse : ic_R se 4) (hc : c < 33) : ic_pr ro se bd a c < 1000 := by
  have h1 := (ic_vcl (hro a) (by omega)).1
  have h2 := (ic_vcl (hse (a * 11 + c % 11)) (by omega)).1
  exact ic_prn_lt _ (by omega) _ (by omega) _ (by omega) _ (ic_zf_lt _ _ _)
end
section
/-! bits of longs -/
def ic_B (x : Int64) (i : Nat) : Bool := x.toBitVec.getLsbD i
theorem ic_Bor (x y : Int64) (i : Nat) : ic_B (x ||| y) i = (ic_B x i || ic_B y i) := by unfold ic_B; rw [Int64.toBitVec_or, BitVec.getLsbD_or]
theorem ic_Band (x y : Int64) (i : Nat) : ic_B (x &&& y) i = (ic_B x i && ic_B y i) := by unfold ic_B; rw [Int64.toBitVec_and, BitVec.getLsbD_and]
theorem ic_Bxor (x y : Int64) (i : Nat) : ic_B (x ^^^ y) i = (ic_B x i ^^ ic_B y i) := by unfold ic_B; rw [Int64.toBitVec_xor, BitVec.getLsbD_xor]
theorem ic_Bm1 : ∀ i, i < 64 → ic_B (-1) i = true := by decide +kernel
theorem ic_B0 (i : Nat) : ic_B 0 i = false := BitVec.getLsbD_zero
theorem ic_B1 : ∀ i, i < 64 → ic_B 1 i = decide (i = 0) := by decide +kernel
theorem ic_Bnot (x : Int64) {i : Nat} (hi : i < 64) : ic_B (x ^^^ (-1)) i = !(ic_B x i) := by
  rw [ic_Bxor, ic_Bm1 i hi]; simp
theorem ic_Bshl (x : Int64) {k i : Nat} (hk : k < 64) (hi : i < 64) : ic_B (x <<< ((nI k).toInt64 &&& 63)) i = (decide (k ≤ i) && ic_B x (i - k)) := by
  unfold ic_B
  rw [wb_c k hk, Int64.toBitVec_shiftLeft]
  show (x.toBitVec <<< ((lN k).toBitVec.smod 64).toNat).getLsbD i = _
  rw [wb_tb, wb_sm k hk, BitVec.toNat_ofNat, Nat.mod_eq_of_lt (by omega), BitVec.getLsbD_shiftLeft]
  rcases Nat.lt_or_ge i k with h | h
  · simp [h, Nat.not_le.mpr h]
  · simp [hi, h, Nat.not_lt.mpr h]
theorem ic_Bone {k i : Nat} (hk : k < 64) (hi : i < 64) : ic_B ((1 : Int64) <<< ((nI k).toInt64 &&& 63)) i = decide (i = k) := by
  rw [ic_Bshl 1 hk hi, ic_B1 _ (by omega)]
  by_cases h : i = k
  · subst h; simp
  · rw [decide_eq_false h]
    by_cases h2 : k ≤ i
    · rw [decide_eq_false (show ¬ i - k = 0 by omega)]; simp
    · rw [decide_eq_false h2]; simp
theorem ic_Btest (x : Int64) {k : Nat} (hk : k < 64) : (((x.toUInt64 >>> ((nI k).toInt64.toUInt64 &&& Int64.toUInt64 63)).toInt64) &&& 1) = 0 ↔ ic_B x k = false := by
  rw [wb_cu k hk]
  exact ts_bit hk (u_tn (by omega))
theorem ic_Bz (x : Int64) : x = 0 ↔ ∀ i, i < 64 → ic_B x i = false := by
  constructor
  · intro h i _
    rw [h]; exact ic_B0 i
  · intro h
    apply Int64.toBitVec_inj.mp
    apply BitVec.eq_of_getLsbD_eq
    intro i hi
    exact (h i hi).trans BitVec.getLsbD_zero.symm
theorem ic_Bx (x : Int32) {i : Nat} (hi : i < 64) : ic_B x.toInt64 i = if i < 32 then bt x i else bt x 31 := by
  unfold ic_B bt
  show (x.toBitVec.signExtend 64).getLsbD i = _
  rw [BitVec.getLsbD_signExtend, BitVec.msb_eq_getLsbD_last]
  simp [hi]
/-- bits of ints: one bit, and its removal -/
theorem ic_bnot (x : Int32) {i : Nat} (hi : i < 32) : bt (x ^^^ (-1)) i = !(bt x i) := by
  rw [b_xor, b_m1 i hi]; simp
theorem ic_b1 : ∀ i, i < 32 → bt 1 i = decide (i = 0) := by decide +kernel
theorem ic_bone {k i : Nat} (hk : k < 32) (hi : i < 32) : bt ((1 : Int32) <<< (nI k &&& 31)) i = decide (i = k) := by
  rw [b_shl k hk 1 hi, ic_b1 _ (by omega)]
  by_cases h : i = k
  · subst h; simp
  · rw [decide_eq_false h]
    by_cases h2 : k ≤ i
    · rw [decide_eq_false (show ¬ i - k = 0 by omega)]; simp
    · rw [decide_eq_false h2]; simp
theorem ic_btest (x : Int32) {k : Nat} (hk : k < 31) : ((x >>> (nI k &&& 31)) &&& 1) = 1 ↔ bt x k = true := by
  have e : ∀ i, i < 32 → bt ((x >>> (nI k &&& 31)) &&& 1) i = (decide (i = 0) && bt x k) := by
    intro i hi
    rw [b_and, ic_b1 i hi, b_sshr k (by omega) x hi]
    by_cases h : i = 0
    · subst h
      simp [show k < 32 by omega]
    · simp [h]
  constructor
  · intro h
    have h1 := e 0 (by omega)
    rw [h, ic_b1 0 (by omega)] at h1
    simpa using h1.symm
  · intro h
    apply b_ext
    intro i hi
    rw [e i hi, h, ic_b1 i hi]; simp
/-- a mask of pairs, one of them moved from one state to another -/
theorem ic_updL (f : Nat → Int64) (k j : Nat) (x : Int64) : vp_updL f k x j = if j = k then x else f j := rfl
theorem ic_upd (f : Nat → Int32) (k j : Nat) (x : Int32) : upd f k x j = if j = k then x else f j := rfl
end
section
/-! the groups of facts -/
def ic_PN (ph ns : Nat → Int32) : Prop := ∀ j, ph j = 0 → ns j = 0
def ic_CH (ph ch st : Nat → Int32) : Prop := ∀ a, a < 2 → ph a ≠ 0 → ∃ c : Nat, c < 33 ∧ ch a = nI c ∧ st (a * 33 + c) ≠ 0
def ic_OB (ba ow : Nat → Int32) : Prop := ∀ a, a < 2 → ∀ p, p < 3 → ba (a * 3 + p) = 0 → ow (a * 11 + p) = 0
def ic_OP (ow bd : Nat → Int32) : Prop := ∀ a, a < 2 → ∀ p, 3 ≤ p → p < 11 → ow (a * 11 + p) ≠ 0 → bd (a * 11 + p) ≠ 0
def ic_SP (se bd : Nat → Int32) : Prop := ∀ a, a < 2 → ∀ p, 3 ≤ p → p < 11 → se (a * 11 + p) ≠ 0 → bd ((1 - a) * 11 + p) ≠ 0
def ic_SB (st ba se : Nat → Int32) : Prop := ∀ a, a < 2 → ∀ c, c < 33 → st (a * 33 + c) ≠ 0 → ba (a * 3 + c / 11) ≠ 0 ∧ se (a * 11 + c % 11) ≠ 0
/-- ports of one side, n of them bound -/
def ic_P1 (nt ba po pb bd bo : Nat → Int32) (a n : Nat) : Prop :=
  (∀ p, 3 ≤ p → p < 3 + n → ∃ b d : Nat, b < 2 ∧ d < 12 ∧ pb (a * 11 + p) = nI b ∧ bd (a * 11 + p) = nI (b + 1) ∧ ba (a * 3 + b) ≠ 0 ∧ bo (a * 11 + p) = nI d ∧ po (a * 24 + b * 12 + ic_ky (nt a) d) = nI p) ∧
  (∀ p, 3 + n ≤ p → p < 11 → bd (a * 11 + p) = 0) ∧
  (∀ b, b < 2 → ∀ k, k < 12 → po (a * 24 + b * 12 + k) = 0 ∨ ∃ p d : Nat, 3 ≤ p ∧ p < 3 + n ∧ d < 12 ∧ po (a * 24 + b * 12 + k) = nI p ∧ pb (a * 11 + p) = nI b ∧ bo (a * 11 + p) = nI d ∧ k = ic_ky (nt a) d)
def ic_P (nt ba po pc pb bd bo : Nat → Int32) : Prop := ∀ a, a < 2 → ∃ n : Nat, n ≤ 8 ∧ pc a = nI n ∧ ic_P1 nt ba po pb bd bo a n
def ic_S (sp sg sn : Nat → Int32) : Prop := ∀ e, e < 22 → (∀ d, d < 12 → (bt (sp e) d = true ↔ sn (e * 12 + d) ≠ 0)) ∧ (∀ g, g < 4 → (bt (sg e) g = true ↔ ∃ d : Nat, d < 12 ∧ ic_gr d = g ∧ sn (e * 12 + d) ≠ 0))
def ic_T (se tp : Nat → Int32) : Prop := ∀ a, a < 2 → ∀ t, 1 ≤ t → t ≤ 4 → ∀ i, i < 32 → (bt (tp (a * 5 + t)) i = true ↔ i < 11 ∧ se (a * 11 + i) = nI t)
def ic_M (st : Nat → Int32) (mb : Nat → Int64) : Prop := ∀ a, a < 2 → ∀ s, 1 ≤ s → s ≤ 5 → ∀ c, c < 33 → (ic_B (mb (a * 6 + s)) c = true ↔ st (a * 33 + c) = nI s)
def ic_FM (st : Nat → Int32) (fm : Nat → Int64) : Prop := ∀ a, a < 2 → ∀ c, c < 33 → (ic_B (fm a) c = true ↔ st (a * 33 + c) ≠ 0)
/-- the numbers of a list stand in an array from o on -/
def ic_L (f : Nat → Int32) (o : Nat) (L : List Nat) : Prop := ∀ i c, L[i]? = some c → f (o + i) = nI c
def ic_srt (rk : Nat → Int32) (a : Nat) (L : List Nat) : Prop := L.Pairwise (fun x y => rk (a * 33 + y) ≤ rk (a * 33 + x))
def ic_O1 (st rk od os : Nat → Int32) (a : Nat) (L : List Nat) : Prop :=
  L.Nodup ∧ (∀ c, c ∈ L ↔ c < 33 ∧ st (a * 33 + c) ≠ 0) ∧ os a = nI L.length ∧ ic_L od (a * 33) L ∧ ic_srt rk a L
def ic_O (st rk od os : Nat → Int32) : Prop := ∀ a, a < 2 → ∃ L : List Nat, ic_O1 st rk od os a L
def ic_K (E : Nat → Nat → Prop) (ro se bd st rk : Nat → Int32) : Prop := ∀ a, a < 2 → ∀ c, c < 33 → ¬ E a c → st (a * 33 + c) ≠ 0 → rk (a * 33 + c) = nI (ic_pr ro se bd a c * 64 + 63 - c)
def ic_Q1 (st qu qs : Nat → Int32) (qd : Nat → Int64) (sk : Nat → Int32) (a : Nat) (Q : List Nat) : Prop :=
  Q.Nodup ∧ (∀ c, c ∈ Q → c < 33 ∧ st (a * 33 + c) = 2) ∧ qs a = nI Q.length ∧ ic_L qu (a * 33) Q ∧
  (∀ i c, Q[i]? = some c → sk (a * 33 + c) = nI (i + 1)) ∧ (∀ c, c < 33 → c ∉ Q → sk (a * 33 + c) = 0) ∧ (∀ c, c < 33 → (ic_B (qd a) c = true ↔ c ∈ Q))
def ic_Q (st qu qs : Nat → Int32) (qd : Nat → Int64) (sk : Nat → Int32) : Prop := ∀ a, a < 2 → ∃ Q : List Nat, ic_Q1 st qu qs qd sk a Q
def ic_C1 (st ca rg : Nat → Int32) (a t : Nat) : Prop :=
  ∀ c, c < 33 → st (a * 33 + c) = 3 → ∃ t0 : Nat, ca (a * 33 + c) = nI t0 ∧ t0 ≤ t ∧ t ≤ t0 + 3 ∧ rg (a * 4 + t0 % 4) = nI (c + 1)
def ic_C (k : Nat) (st ck ca rg : Nat → Int32) : Prop := ∀ a, a < 2 → ∃ t : Nat, t ≤ k ∧ ck a = nI t ∧ ic_C1 st ca rg a t
/-- a packet's eight nibbles as one number -/
def ic_pk (k s p d r m b q : Nat) : Nat := k + 16 * s + 256 * p + 4096 * d + 65536 * (r + 16 * m + 256 * b + 4096 * q)
def ic_F1 (st bd ft pa : Nat → Int32) (i : Nat) : Prop :=
  ∃ k s p d r m b q : Nat, (k ≤ 2 ∧ s ≤ 1 ∧ p ≤ 10 ∧ d ≤ 10 ∧ r ≤ 1 ∧ m ≤ 1 ∧ b ≤ 2 ∧ q ≤ 10) ∧ ft i = nI (ic_pk k s p d r m b q) ∧
    (pa (i * 8) = nI k ∧ pa (i * 8 + 1) = nI s ∧ pa (i * 8 + 2) = nI p ∧ pa (i * 8 + 3) = nI d ∧ pa (i * 8 + 4) = nI r ∧ pa (i * 8 + 5) = nI m ∧ pa (i * 8 + 6) = nI b ∧ pa (i * 8 + 7) = nI q) ∧
    (3 ≤ p → bd (s * 11 + p) ≠ 0) ∧ (k = 0 → st (s * 33 + (b * 11 + q)) ≠ 0) ∧ (k ≠ 0 → st ((1 - s) * 33 + (b * 11 + q)) ≠ 0)
def ic_F (fl : Int32) (st bd ft pa : Nat → Int32) : Prop := ∃ f : Nat, f ≤ 8 ∧ fl = nI f ∧ ∀ i, i < f → ic_F1 st bd ft pa i
/-- all of them -/
def ic_I (k : Nat) (E : Nat → Nat → Prop) (wn fl : Int32) (nt ro ph ck ch na ns ba ow se tp po pc pb sp sg st rk cx ca mr : Nat → Int32) (fm mb : Nat → Int64) (od os qu qs : Nat → Int32) (qd : Nat → Int64) (rg ft pa bd bo sk sn : Nat → Int32) : Prop :=
  ic_R nt 9 ∧ ic_R ro 1 ∧ ic_R ph 2 ∧ ic_R ns 1 ∧ ic_R ow 4 ∧ ic_R se 4 ∧ ic_R st 5 ∧ ic_R mr 1 ∧ ic_R rg 33 ∧
  ic_PN ph ns ∧ ic_CH ph ch st ∧ ic_OB ba ow ∧ ic_OP ow bd ∧ ic_SP se bd ∧ ic_SB st ba se ∧
  ic_P nt ba po pc pb bd bo ∧ ic_S sp sg sn ∧ ic_T se tp ∧ ic_M st mb ∧ ic_FM st fm ∧ ic_O st rk od os ∧
  ic_K E ro se bd st rk ∧ ic_Q st qu qs qd sk ∧ ic_C k st ck ca rg ∧ ic_F fl st bd ft pa
def ic_E0 : Nat → Nat → Prop := fun _ _ => False
end
section
/-! lists in arrays -/
theorem ic_len : ∀ (n : Nat) (L : List Nat), L.Nodup → (∀ c, c ∈ L → c < n) → L.length ≤ n := by
  intro n
  induction n with
  | zero =>
    intro L _ h
    cases L with
    | nil => exact Nat.le_refl _
    | cons x r => exact absurd (h x List.mem_cons_self) (by omega)
  | succ n ih =>
    intro L hd h
    by_cases hn : n ∈ L
    · have h1 := ih (L.erase n) (hd.erase n) (by
        intro c hc
        have h2 := (hd.mem_erase_iff).mp hc
        have h3 := h c h2.2
        have h4 := h2.1
        omega)
      rw [List.length_erase_of_mem hn] at h1
      omega
    · have h1 := ih L hd (by
        intro c hc
        have h3 := h c hc
        have h4 : c ≠ n := fun e => hn (e ▸ hc)
        omega)
      omega
theorem ic_L_nil (f : Nat → Int32) (o : Nat) : ic_L f o [] := by
  intro i c h
  simp at h
theorem ic_L_app {f : Nat → Int32} {o : Nat} {A B : List Nat} : ic_L f o (A ++ B) ↔ ic_L f o A ∧ ic_L f (o + A.length) B := by
  constructor
  · intro h
    refine ⟨fun i c hc => h i c ?_, fun i c hc => ?_⟩
    · have hi : i < A.length := (List.getElem?_eq_some_iff.mp hc).1
      rw [List.getElem?_append_left hi]; exact hc
    · rw [Nat.add_assoc]
      apply h
      rw [List.getElem?_append_right (by omega), Nat.add_sub_cancel_left]
      exact hc
  · rintro ⟨h1, h2⟩ i c hc
    by_cases hi : i < A.length
    · rw [List.getElem?_append_left hi] at hc
      exact h1 i c hc
    · rw [List.getElem?_append_right (by omega)] at hc
      have h3 := h2 _ c hc
      rw [Nat.add_assoc, Nat.add_sub_cancel' (by omega)] at h3
      exact h3
theorem ic_L_cons {f : Nat → Int32} {o c : Nat} {B : List Nat} : ic_L f o (c :: B) ↔ f o = nI c ∧ ic_L f (o + 1) B := by
  constructor
  · intro h
    refine ⟨h 0 c rfl, fun i x hx => ?_⟩
    have h2 := h (i + 1) x (by simpa using hx)
    rw [show o + 1 + i = o + (i + 1) by omega]; exact h2
  · rintro ⟨h1, h2⟩ i x hx
    cases i with
    | zero =>
      have e : c = x := by simpa using hx
      subst e; exact h1
    | succ i =>
      have h3 := h2 i x (by simpa using hx)
      rw [show o + (i + 1) = o + 1 + i by omega]; exact h3
theorem ic_L_fr {f f' : Nat → Int32} {o : Nat} {L : List Nat} (h : ic_L f o L) (e : ∀ j, o ≤ j → j < o + L.length → f' j = f j) : ic_L f' o L := by
  intro i c hc
  have hi : i < L.length := (List.getElem?_eq_some_iff.mp hc).1
  rw [e _ (by omega) (by omega)]
  exact h i c hc
theorem ic_L_get {f : Nat → Int32} {o i : Nat} {L : List Nat} (h : ic_L f o L) (hi : i < L.length) : f (o + i) = nI L[i] := h i _ (List.getElem?_eq_some_iff.mpr ⟨hi, rfl⟩)
theorem ic_L_up {f : Nat → Int32} {o k : Nat} {x : Int32} {L : List Nat} (h : ic_L f o L) (hk : k < o ∨ o + L.length ≤ k) : ic_L (upd f k x) o L :=
  ic_L_fr h (fun j h1 h2 => pk_un (by omega))
/-- without c -/
def ic_rm (c : Nat) (L : List Nat) : List Nat := L.filter (fun x => x != c)
theorem ic_rm_nil (c : Nat) : ic_rm c [] = [] := rfl
theorem ic_rm_eq (c : Nat) (L : List Nat) : ic_rm c (c :: L) = ic_rm c L := by unfold ic_rm; rw [List.filter_cons]; simp
theorem ic_rm_ne {c x : Nat} (h : x ≠ c) (L : List Nat) : ic_rm c (x :: L) = x :: ic_rm c L := by unfold ic_rm; rw [List.filter_cons]; simp [h]
theorem ic_rm_mem {c x : Nat} {L : List Nat} : x ∈ ic_rm c L ↔ x ∈ L ∧ x ≠ c := by unfold ic_rm; rw [List.mem_filter]; simp
theorem ic_rm_nd {c : Nat} {L : List Nat} (h : L.Nodup) : (ic_rm c L).Nodup := List.Pairwise.filter _ h
theorem ic_rm_app (c : Nat) (A B : List Nat) : ic_rm c (A ++ B) = ic_rm c A ++ ic_rm c B := List.filter_append _ _
theorem ic_rm_id {c : Nat} {L : List Nat} (h : c ∉ L) : ic_rm c L = L := by
  unfold ic_rm
  rw [List.filter_eq_self]
  intro x hx
  have : x ≠ c := fun e => h (e ▸ hx)
  simp [this]
theorem ic_split {c : Nat} {L : List Nat} (hd : L.Nodup) (h : c ∈ L) : ∃ A B : List Nat, L = A ++ c :: B ∧ c ∉ A ∧ c ∉ B := by
  obtain ⟨A, B, e⟩ := List.append_of_mem h
  refine ⟨A, B, e, ?_, ?_⟩
  · intro hA
    rw [e, List.nodup_append] at hd
    exact hd.2.2 c hA c List.mem_cons_self rfl
  · rw [e, List.nodup_append] at hd
    exact (List.nodup_cons.mp hd.2.1).1
theorem ic_cat (L : List Nat) : L = [] ∨ ∃ (A : List Nat) (b : Nat), L = A ++ [b] := by
  rcases List.eq_nil_or_concat L with h | ⟨A, b, h⟩
  · exact Or.inl h
  · exact Or.inr ⟨A, b, by rw [h, List.concat_eq_append]⟩
/-- the sorted list with one more -/
theorem ic_srt_ins {rk : Nat → Int32} {a c : Nat} {x : Int32} {A B : List Nat} (hA : ∀ y, y ∈ A ++ B → y ≠ c) (hs : ic_srt rk a (A ++ B))
    (hB : ∀ y, y ∈ B → rk (a * 33 + y) ≤ x) (hl : ∀ (A' : List Nat) (y : Nat), A = A' ++ [y] → x ≤ rk (a * 33 + y)) : ic_srt (upd rk (a * 33 + c) x) a (A ++ c :: B) := by
  have hne : ∀ y, y ∈ A ++ B → a * 33 + y ≠ a * 33 + c := fun y hy e => hA y hy (by omega)
  unfold ic_srt at hs ⊢
  have hs' : List.Pairwise (fun x_1 y => upd rk (a * 33 + c) x (a * 33 + y) ≤ upd rk (a * 33 + c) x (a * 33 + x_1)) (A ++ B) := by
    refine List.Pairwise.imp_of_mem ?_ hs
    intro p q hp hq h
    rw [pk_un (hne p hp), pk_un (hne q hq)]; exact h
  rw [List.pairwise_append] at hs' ⊢
  obtain ⟨h1, h2, h3⟩ := hs'
  refine ⟨h1, List.pairwise_cons.mpr ⟨fun y hy => ?_, h2⟩, fun p hp q hq => ?_⟩
  · rw [pk_us, pk_un (hne y (List.mem_append_right _ hy))]; exact hB y hy
  · rcases List.mem_cons.mp hq with rfl | hq
    · rw [pk_us, pk_un (hne p (List.mem_append_left _ hp))]
      rcases ic_cat A with rfl | ⟨A', b, rfl⟩
      · cases hp
      · have hb := hl A' b rfl
        rcases List.mem_append.mp hp with hp' | hp'
        · have hs2 := (List.pairwise_append.mp (List.pairwise_append.mp hs).1).2.2 p hp' b (List.mem_singleton.mpr rfl)
          exact Int32.le_trans hb hs2
        · rw [List.mem_singleton.mp hp']; exact hb
    · exact h3 p hp q hq
end
section
/-! X's small walks -/
section
variable {wn fl : Int32} {nt ro ph ck ch na ns ba ow se tp po pc pb sp sg st rk cx ca mr : Nat → Int32} {fm mb : Nat → Int64} {od os qu qs : Nat → Int32} {qd : Nat → Int64} {rg ft pa bd bo sk sn : Nat → Int32}
theorem xw_out1 {post : Int32 → Prop} {x y : Int32} (h : ic_out x y) (hp : post 1) : wpX_isOutside post (wn, fl, nt, ro, ph, ck, ch, na, ns, ba, ow, se, tp, po, pc, pb, sp, sg, st, rk, cx, ca, mr, fm, mb, od, os, qu, qs, qd, rg, ft) x y := by
  by_cases h0 : x < 0
  · exact br_t h0 hp
  · by_cases h1 : x ≤ y
    · exact absurd h (fun z => z.elim h0 (fun z => z h1))
    · exact br_f h0 (br_f h1 hp)
theorem xw_out0 {post : Int32 → Prop} {x y : Int32} (h : ¬ ic_out x y) (hp : post 0) : wpX_isOutside post (wn, fl, nt, ro, ph, ck, ch, na, ns, ba, ow, se, tp, po, pc, pb, sp, sg, st, rk, cx, ca, mr, fm, mb, od, os, qu, qs, qd, rg, ft) x y := by
  have h0 : ¬ x < 0 := fun z => h (Or.inl z)
  have h1 : x ≤ y := Decidable.byContradiction fun z => h (Or.inr z)
  exact br_f h0 (br_t h1 hp)
theorem yw_out1 {post : Int32 → Prop} {x y : Int32} (h : ic_out x y) (hp : post 1) : wpY_off post (fl, wn, nt, ro, ph, ck, ch, ns, na, pa, ow, se, bd, bo, st, cx, ca, mr, sk, ba, sn) x y := by
  by_cases h0 : x < 0
  · exact br_t h0 hp
  · by_cases h1 : x ≤ y
    · exact absurd h (fun z => z.elim h0 (fun z => z h1))
    · exact br_f h0 (br_f h1 hp)
theorem yw_out0 {post : Int32 → Prop} {x y : Int32} (h : ¬ ic_out x y) (hp : post 0) : wpY_off post (fl, wn, nt, ro, ph, ck, ch, ns, na, pa, ow, se, bd, bo, st, cx, ca, mr, sk, ba, sn) x y := by
  have h0 : ¬ x < 0 := fun z => h (Or.inl z)
  have h1 : x ≤ y := Decidable.byContradiction fun z => h (Or.inr z)
  exact br_f h0 (br_t h1 hp)
def ic_last (x : Int32) : Int32 := if x = 0 then 0 else if x = 3 then 0 else 1
theorem ic_last0 {x : Int32} (h : x = 0 ∨ x = 3) : ic_last x = 0 := by
  unfold ic_last
  rcases h with h | h
  · rw [if_pos h]
  · rw [h]; decide
theorem ic_last1 {x : Int32} (h0 : x ≠ 0) (h : x ≠ 3) : ic_last x = 1 := by
  unfold ic_last
  rw [if_neg h0, if_neg h]
theorem xw_last {post : Int32 → Prop} {x : Int32} (hp : post (ic_last x)) : wpX_isLasting post (wn, fl, nt, ro, ph, ck, ch, na, ns, ba, ow, se, tp, po, pc, pb, sp, sg, st, rk, cx, ca, mr, fm, mb, od, os, qu, qs, qd, rg, ft) x := by
  unfold ic_last at hp
  by_cases h0 : x = 0
  · rw [if_pos h0] at hp; exact br_t h0 hp
  · rw [if_neg h0] at hp
    by_cases h3 : x = 3
    · rw [if_pos h3] at hp; exact br_f h0 (br_t h3 hp)
    · rw [if_neg h3] at hp; exact br_f h0 (br_f h3 hp)
theorem yw_last {post : Int32 → Prop} {x : Int32} (hp : post (ic_last x)) : wpY_settled post (fl, wn, nt, ro, ph, ck, ch, ns, na, pa, ow, se, bd, bo, st, cx, ca, mr, sk, ba, sn) x := by
  unfold ic_last at hp
  by_cases h0 : x = 0
  · rw [if_pos h0] at hp; exact br_t h0 hp
  · rw [if_neg h0] at hp
    by_cases h3 : x = 3
    · rw [if_pos h3] at hp; exact br_f h0 (br_t h3 hp)
    · rw [if_neg h3] at hp; exact br_f h0 (br_f h3 hp)
theorem xw_group {post : Int32 → Prop} {d : Nat} (hd : d < 100) (hp : post (nI (ic_gr d))) : wpX_group post (wn, fl, nt, ro, ph, ck, ch, na, ns, ba, ow, se, tp, po, pc, pb, sp, sg, st, rk, cx, ca, mr, fm, mb, od, os, qu, qs, qd, rg, ft) (nI d) := by
  unfold ic_gr at hp
  refine pk_le 2 d (fun h => pk_eq d 2 (fun h2 => ?_) (fun h2 => pk_le 11 d (fun h3 => ?_) (fun h3 => ?_))) (fun h => ?_)
  · rw [if_neg (by omega), if_pos h2] at hp; exact hp
  · rw [if_neg (by omega), if_neg h2, if_neg (by omega)] at hp; exact hp
  · rw [if_neg (by omega), if_neg h2, if_pos h3] at hp; exact hp
  · rw [if_pos h] at hp; exact hp
theorem yw_group {post : Int32 → Prop} {d : Nat} (hd : d < 100) (hp : post (nI (ic_gr d))) : wpY_group post (fl, wn, nt, ro, ph, ck, ch, ns, na, pa, ow, se, bd, bo, st, cx, ca, mr, sk, ba, sn) (nI d) := by
  unfold ic_gr at hp
  refine pk_le 2 d (fun h => pk_eq d 2 (fun h2 => ?_) (fun h2 => pk_le 11 d (fun h3 => ?_) (fun h3 => ?_))) (fun h => ?_)
  · rw [if_neg (by omega), if_pos h2] at hp; exact hp
  · rw [if_neg (by omega), if_neg h2, if_neg (by omega)] at hp; exact hp
  · rw [if_neg (by omega), if_neg h2, if_pos h3] at hp; exact hp
  · rw [if_pos h] at hp; exact hp
/-! nibbles -/
theorem ic_sh4 : ∀ j, j < 8 → (((4 * nI j).toUInt32 &&& Int32.toUInt32 31).toBitVec % 32).toNat = 4 * j := by decide +kernel
theorem ic_nib {V : Nat} (hV : V < 2 ^ 32) (j : Nat) (hj : j < 8) : (((nI V).toUInt32 >>> ((4 * nI j).toUInt32 &&& Int32.toUInt32 31)).toInt32) &&& 15 = nI (V / 2 ^ (4 * j) % 16) := by
  rw [pk_ushrN hV (4 * nI j) (4 * j) (ic_sh4 j hj)]
  exact pk_andN (Nat.lt_of_le_of_lt (Nat.div_le_self _ _) hV) 4 (by decide)
theorem xw_part {post : Int32 → Prop} {V : Nat} (hV : V < 2 ^ 32) (j : Nat) (hj : j < 8) (hp : post (nI (V / 2 ^ (4 * j) % 16))) : wpX_part post (wn, fl, nt, ro, ph, ck, ch, na, ns, ba, ow, se, tp, po, pc, pb, sp, sg, st, rk, cx, ca, mr, fm, mb, od, os, qu, qs, qd, rg, ft) (nI V) (nI j) := by
  show post _
  rw [ic_nib hV j hj]; exact hp
theorem ic_pk_lt {k s p d r m b q : Nat} (h : k ≤ 2 ∧ s ≤ 1 ∧ p ≤ 10 ∧ d ≤ 10 ∧ r ≤ 1 ∧ m ≤ 1 ∧ b ≤ 2 ∧ q ≤ 10) : ic_pk k s p d r m b q < 2 ^ 32 := by unfold ic_pk; omega
theorem ic_pk0 {k s p d r m b q : Nat} (h : k ≤ 2 ∧ s ≤ 1 ∧ p ≤ 10 ∧ d ≤ 10 ∧ r ≤ 1 ∧ m ≤ 1 ∧ b ≤ 2 ∧ q ≤ 10) : ic_pk k s p d r m b q / 2 ^ (4 * 0) % 16 = k := by unfold ic_pk; show _ / 1 % 16 = _; omega
theorem ic_pk1 {k s p d r m b q : Nat} (h : k ≤ 2 ∧ s ≤ 1 ∧ p ≤ 10 ∧ d ≤ 10 ∧ r ≤ 1 ∧ m ≤ 1 ∧ b ≤ 2 ∧ q ≤ 10) : ic_pk k s p d r m b q / 2 ^ (4 * 1) % 16 = s := by unfold ic_pk; show _ / 16 % 16 = _; omega
theorem ic_pk2 {k s p d r m b q : Nat} (h : k ≤ 2 ∧ s ≤ 1 ∧ p ≤ 10 ∧ d ≤ 10 ∧ r ≤ 1 ∧ m ≤ 1 ∧ b ≤ 2 ∧ q ≤ 10) : ic_pk k s p d r m b q / 2 ^ (4 * 2) % 16 = p := by unfold ic_pk; show _ / 256 % 16 = _; omega
theorem ic_pk3 {k s p d r m b q : Nat} (h : k ≤ 2 ∧ s ≤ 1 ∧ p ≤ 10 ∧ d ≤ 10 ∧ r ≤ 1 ∧ m ≤ 1 ∧ b ≤ 2 ∧ q ≤ 10) : ic_pk k s p d r m b q / 2 ^ (4 * 3) % 16 = d := by unfold ic_pk; show _ / 4096 % 16 = _; omega
theorem ic_pk4 {k s p d r m b q : Nat} (h : k ≤ 2 ∧ s ≤ 1 ∧ p ≤ 10 ∧ d ≤ 10 ∧ r ≤ 1 ∧ m ≤ 1 ∧ b ≤ 2 ∧ q ≤ 10) : ic_pk k s p d r m b q / 2 ^ (4 * 4) % 16 = r := by unfold ic_pk; show _ / 65536 % 16 = _; omega
theorem ic_pk5 {k s p d r m b q : Nat} (h : k ≤ 2 ∧ s ≤ 1 ∧ p ≤ 10 ∧ d ≤ 10 ∧ r ≤ 1 ∧ m ≤ 1 ∧ b ≤ 2 ∧ q ≤ 10) : ic_pk k s p d r m b q / 2 ^ (4 * 5) % 16 = m := by unfold ic_pk; show _ / 1048576 % 16 = _; omega
theorem ic_pk6 {k s p d r m b q : Nat} (h : k ≤ 2 ∧ s ≤ 1 ∧ p ≤ 10 ∧ d ≤ 10 ∧ r ≤ 1 ∧ m ≤ 1 ∧ b ≤ 2 ∧ q ≤ 10) : ic_pk k s p d r m b q / 2 ^ (4 * 6) % 16 = b := by unfold ic_pk; show _ / 16777216 % 16 = _; omega
theorem ic_pk7 {k s p d r m b q : Nat} (h : k ≤ 2 ∧ s ≤ 1 ∧ p ≤ 10 ∧ d ≤ 10 ∧ r ≤ 1 ∧ m ≤ 1 ∧ b ≤ 2 ∧ q ≤ 10) : ic_pk k s p d r m b q / 2 ^ (4 * 7) % 16 = q := by unfold ic_pk; show _ / 268435456 % 16 = _; omega
/-! priority -/
theorem xw_126 {post : Int32 → Prop} {g d : Nat} (hg : g < 100) (hd : d < 100) (hp : post (nI (if g ≤ d then 16 * g + 2 * d else 16 * d + 2 * g + 1))) : wX_priority_126 post (nI g) (nI d) wn fl nt ro ph ck ch na ns ba ow se tp po pc pb sp sg st rk cx ca mr fm mb od os qu qs qd rg ft := by
  refine pk_le g d (fun h => ?_) (fun h => ?_)
  · rw [if_pos h, ← nI_add, ← pk_mul, ← pk_mul] at hp; exact hp
  · rw [if_neg (by omega), ← nI_add, ← nI_add, ← pk_mul, ← pk_mul] at hp; exact hp
theorem xw_87 {post : Int32 → Prop} {a r l t z : Nat} (ha : a < 2) (hr : ro a = nI r) (hr1 : r ≤ 1) (hl : l < 10) (ht : t < 5) (hz : z < 2)
    (hp : post (nI (if r = 1 then (if l ≤ 2 * (t - 1) + z then 16 * l + 2 * (2 * (t - 1) + z) else 16 * (2 * (t - 1) + z) + 2 * l + 1)
      else (if 2 * (t - 1) + z ≤ l then 16 * (2 * (t - 1) + z) + 2 * l else 16 * l + 2 * (2 * (t - 1) + z) + 1)))) :
    wX_priority_87 post (nI a) (nI l) (nI z) (nI (2 * (t - 1))) wn fl nt ro ph ck ch na ns ba ow se tp po pc pb sp sg st rk cx ca mr fm mb od os qu qs qd rg ft := by
  unfold wX_priority_87 wX_priority_107
  simp (disch := omega) only [forall_eq, true_and, and_true, true_implies, false_implies, implies_true, not_true_eq_false, not_false_eq_true, nI_clamp, vp_in_nI, nI_add, ic_m3, ic_m4, ic_m5, ic_m6, ic_m8, ic_m11, ic_m12, ic_m24, ic_m33, ic_p1, ic_p2, ic_p3, ic_p4, ic_p5, ic_p6, ic_p7, ic_p8, ic_q3, ic_d11, ic_r11, ic_d22, ic_n11, ic_n22, ic_n3, ic_n2, ic_oneI, hr]
  refine ⟨fun h => ⟨fun _ => ?_, fun h' => absurd h h'⟩, fun h => ⟨fun h' => absurd h' h, fun _ => ?_⟩⟩
  · have h1 : r = 1 := ic_eqn (by omega) (by omega) (h : nI r = nI 1)
    rw [if_pos h1] at hp
    exact xw_126 (by omega) (by omega) hp
  · have h1 : ¬ r = 1 := fun e => h (by rw [e]; rfl)
    rw [if_neg h1] at hp
    exact xw_126 (by omega) (by omega) hp
theorem xw_59 {post : Int32 → Prop} {a p f r l t : Nat} (ha : a < 2) (hpp : p < 11) (hf : f < 11) (hr : ro a = nI r) (hr1 : r ≤ 1) (hl : l < 10) (ht1 : 1 ≤ t) (ht : t < 5) (hse : se (a * 11 + p) = nI t)
    (hp : post (nI (if r = 1 then (if l ≤ 2 * (t - 1) + (if f = 0 then 1 else 0) then 16 * l + 2 * (2 * (t - 1) + (if f = 0 then 1 else 0)) else 16 * (2 * (t - 1) + (if f = 0 then 1 else 0)) + 2 * l + 1)
      else (if 2 * (t - 1) + (if f = 0 then 1 else 0) ≤ l then 16 * (2 * (t - 1) + (if f = 0 then 1 else 0)) + 2 * l else 16 * l + 2 * (2 * (t - 1) + (if f = 0 then 1 else 0)) + 1)))) :
    wX_priority_59 post (nI a) (nI p) (nI f) (nI l) wn fl nt ro ph ck ch na ns ba ow se tp po pc pb sp sg st rk cx ca mr fm mb od os qu qs qd rg ft := by
  have e : (2 : Int32) * (nI t - 1) = nI (2 * (t - 1)) := by
    rw [show nI t - 1 = nI (t - 1) from pk_sub (b := 1) ht1]
    exact pk_mul 2 (t - 1)
  unfold wX_priority_59
  simp (disch := omega) only [forall_eq, true_and, and_true, true_implies, false_implies, implies_true, not_true_eq_false, not_false_eq_true, nI_clamp, vp_in_nI, nI_add, ic_m3, ic_m4, ic_m5, ic_m6, ic_m8, ic_m11, ic_m12, ic_m24, ic_m33, ic_p1, ic_p2, ic_p3, ic_p4, ic_p5, ic_p6, ic_p7, ic_p8, ic_q3, ic_d11, ic_r11, ic_d22, ic_n11, ic_n22, ic_n3, ic_n2, ic_oneI, hse, e]
  refine pk_eq f 0 (fun h => ?_) (fun h => ?_)
  · rw [if_pos h] at hp
    exact xw_87 (z := 1) ha hr hr1 hl ht (by omega) hp
  · rw [if_neg h] at hp
    exact xw_87 (z := 0) ha hr hr1 hl ht (by omega) hp
theorem xw_36 {post : Int32 → Prop} {a b p f r t : Nat} (ha : a < 2) (hb : b < 3) (hpp : p < 11) (hf : f < 11) (hr : ro a = nI r) (hr1 : r ≤ 1) (ht1 : 1 ≤ t) (ht : t < 5) (hse : se (a * 11 + p) = nI t)
    (hp : post (nI (ic_prn r b t (if f = 0 then 1 else 0)))) : wX_priority_36 post (nI a) (nI b) (nI p) (nI f) wn fl nt ro ph ck ch na ns ba ow se tp po pc pb sp sg st rk cx ca mr fm mb od os qu qs qd rg ft := by
  unfold ic_prn at hp
  refine pk_eq b 2 (fun h => ?_) (fun h => pk_eq b 0 (fun h0 => ?_) (fun h0 => ?_))
  · simp only [if_pos h] at hp
    exact xw_59 (l := 0) ha hpp hf hr hr1 (by omega) ht1 ht hse hp
  · simp only [if_neg h, if_pos h0] at hp
    exact xw_59 (l := 7) ha hpp hf hr hr1 (by omega) ht1 ht hse hp
  · simp only [if_neg h, if_neg h0] at hp
    exact xw_59 (l := 6) ha hpp hf hr hr1 (by omega) ht1 ht hse hp
theorem xw_prio {post : Int32 → Prop} {a c t : Nat} (ha : a < 2) (hc : c < 33) (hro : ic_R ro 1) (ht1 : 1 ≤ t) (ht : t ≤ 4) (hse : se (a * 11 + c % 11) = nI t)
    (hfar : 3 ≤ c % 11 → ∃ b : Nat, b < 2 ∧ pb ((1 - a) * 11 + c % 11) = nI b ∧ bd ((1 - a) * 11 + c % 11) = nI (b + 1))
    (hp : post (nI (ic_pr ro se bd a c))) : wpX_priority post (wn, fl, nt, ro, ph, ck, ch, na, ns, ba, ow, se, tp, po, pc, pb, sp, sg, st, rk, cx, ca, mr, fm, mb, od, os, qu, qs, qd, rg, ft) (nI a) (nI c) := by
  obtain ⟨r, hr1, hr⟩ := hro a
  have e1 : ic_pr ro se bd a c = ic_prn r (c / 11) t (ic_zf bd a (c % 11)) := by
    unfold ic_pr; rw [hr, hse, nI_clamp (by omega), nI_clamp (by omega)]
  rw [e1] at hp
  unfold wpX_priority
  simp (disch := omega) only [forall_eq, true_and, and_true, true_implies, false_implies, implies_true, not_true_eq_false, not_false_eq_true, nI_clamp, vp_in_nI, nI_add, ic_m3, ic_m4, ic_m5, ic_m6, ic_m8, ic_m11, ic_m12, ic_m24, ic_m33, ic_p1, ic_p2, ic_p3, ic_p4, ic_p5, ic_p6, ic_p7, ic_p8, ic_q3, ic_d11, ic_r11, ic_d22, ic_n11, ic_n22, ic_n3, ic_n2, ic_oneI]
  refine pk_le 3 (c % 11) (fun h => ?_) (fun h => ?_)
  · obtain ⟨b, hb, h1, h2⟩ := hfar h
    rw [h1]
    apply xw_36 ha (by omega) (by omega) (by omega) hr hr1 ht1 (by omega) hse
    have e2 : ic_zf bd a (c % 11) = if b = 0 then 1 else 0 := by
      unfold ic_zf
      rw [h2]
      by_cases hb0 : b = 0
      · rw [if_pos hb0, if_pos (Or.inr ⟨by omega, by rw [hb0]; rfl⟩)]
      · rw [if_neg hb0, if_neg]
        rintro (h3 | ⟨_, h3⟩)
        · omega
        · have := ic_eqn (a := b + 1) (b := 1) (by omega) (by omega) h3
          omega
    rw [← e2]; exact hp
  · apply xw_36 ha (by omega) (by omega) (by omega) hr hr1 ht1 (by omega) hse
    have e2 : ic_zf bd a (c % 11) = if c % 11 = 0 then 1 else 0 := by
      unfold ic_zf
      by_cases h0 : c % 11 = 0
      · rw [if_pos h0, if_pos (Or.inl h0)]
      · rw [if_neg h0, if_neg (by rintro (h3 | h3) <;> omega)]
    rw [← e2]; exact hp
end
end
section
/-! foundations, states, kin -/
def ic_Tm (se : Nat → Int32) (a c p : Nat) : Prop := c % 11 = p ∨ (se (a * 11 + c % 11) = se (a * 11 + p) ∧ se (a * 11 + c % 11) ≠ 3)
def ic_Sm (se : Nat → Int32) (a c x : Nat) : Prop := c / 22 = x / 22 ∧ ic_Tm se a c (x % 11)
theorem ic_Pl {se tp : Nat → Int32} {a c t : Nat} (ha : a < 2) (hT : ic_T se tp) (h1 : 1 ≤ t) (h4 : t ≤ 4) (h3 : t ≠ 3) (hse : se (a * 11 + c % 11) = nI t) :
    ∀ i, i < 64 → (ic_B (tp (a * 5 + t)).toInt64 i = true ↔ i < 11 ∧ ic_Tm se a c i) := by
  intro i hi
  have hn3 : nI t ≠ 3 := fun e => h3 (ic_eqn (b := 3) (by omega) (by omega) e)
  rw [ic_Bx _ hi]
  by_cases h : i < 32
  · rw [if_pos h, hT a ha t h1 h4 i h]
    unfold ic_Tm
    rw [hse]
    constructor
    · rintro ⟨h5, h6⟩
      exact ⟨h5, Or.inr ⟨h6.symm, hn3⟩⟩
    · rintro ⟨h5, h6 | h6⟩
      · exact ⟨h5, by rw [← h6]; exact hse⟩
      · exact ⟨h5, h6.1.symm⟩
  · rw [if_neg h, hT a ha t h1 h4 31 (by omega)]
    constructor
    · rintro ⟨h5, _⟩; omega
    · rintro ⟨h5, _⟩; omega
theorem ic_Pl3 {se : Nat → Int32} {a c : Nat} (hse : se (a * 11 + c % 11) = 3) :
    ∀ i, i < 64 → (ic_B ((1 : Int64) <<< ((nI (c % 11)).toInt64 &&& 63)) i = true ↔ i < 11 ∧ ic_Tm se a c i) := by
  intro i hi
  rw [ic_Bone (by omega) hi, decide_eq_true_iff]
  unfold ic_Tm
  rw [hse]
  constructor
  · intro h
    exact ⟨by omega, Or.inl h.symm⟩
  · rintro ⟨h5, h6 | h6⟩
    · exact h6.symm
    · exact absurd rfl h6.2
theorem ic_Fn {se : Nat → Int32} {a c : Nat} {P : Int64} (hc : c < 22) (hP : ∀ i, i < 64 → (ic_B P i = true ↔ i < 11 ∧ ic_Tm se a c i)) :
    ∀ i, i < 64 → (ic_B (P ||| (P <<< ((11 : Int32).toInt64 &&& 63))) i = true ↔ i < 33 ∧ ic_Sm se a c i) := by
  intro i hi
  rw [ic_Bor, show ic_B (P <<< ((11 : Int32).toInt64 &&& 63)) i = _ from ic_Bshl P (k := 11) (by omega) hi, Bool.or_eq_true, Bool.and_eq_true, decide_eq_true_iff, hP i hi, hP (i - 11) (by omega)]
  unfold ic_Sm
  constructor
  · rintro (⟨h1, h2⟩ | ⟨h1, h2, h3⟩)
    · refine ⟨by omega, by omega, ?_⟩
      rw [Nat.mod_eq_of_lt h1]; exact h2
    · refine ⟨by omega, by omega, ?_⟩
      rw [show i % 11 = i - 11 by omega]; exact h3
  · rintro ⟨h1, h2, h3⟩
    by_cases h : i < 11
    · rw [Nat.mod_eq_of_lt h] at h3
      exact Or.inl ⟨h, h3⟩
    · rw [show i % 11 = i - 11 by omega] at h3
      exact Or.inr ⟨by omega, by omega, h3⟩
theorem ic_Fn2 {se : Nat → Int32} {a c : Nat} {P : Int64} (hc : 22 ≤ c) (hc3 : c < 33) (hP : ∀ i, i < 64 → (ic_B P i = true ↔ i < 11 ∧ ic_Tm se a c i)) :
    ∀ i, i < 64 → (ic_B (P <<< ((22 : Int32).toInt64 &&& 63)) i = true ↔ i < 33 ∧ ic_Sm se a c i) := by
  intro i hi
  rw [show ic_B (P <<< ((22 : Int32).toInt64 &&& 63)) i = _ from ic_Bshl P (k := 22) (by omega) hi, Bool.and_eq_true, decide_eq_true_iff, hP (i - 22) (by omega)]
  unfold ic_Sm
  constructor
  · rintro ⟨h1, h2, h3⟩
    refine ⟨by omega, by omega, ?_⟩
    rw [show i % 11 = i - 22 by omega]; exact h3
  · rintro ⟨h1, h2, h3⟩
    rw [show i % 11 = i - 22 by omega] at h3
    exact ⟨by omega, by omega, h3⟩
/-- one pair's bit from one state's mask to another's -/
def ic_ms (mb : Nat → Int64) (a c s0 s : Nat) : Nat → Int64 :=
  vp_updL (vp_updL mb (a * 6 + s0) (mb (a * 6 + s0) &&& (((1 : Int64) <<< ((nI c).toInt64 &&& 63)) ^^^ (-1)))) (a * 6 + s)
    (vp_updL mb (a * 6 + s0) (mb (a * 6 + s0) &&& (((1 : Int64) <<< ((nI c).toInt64 &&& 63)) ^^^ (-1))) (a * 6 + s) ||| ((1 : Int64) <<< ((nI c).toInt64 &&& 63)))
theorem ic_Mset {st : Nat → Int32} {mb : Nat → Int64} {a c s s0 : Nat} (hM : ic_M st mb) (ha : a < 2) (hc : c < 33) (hs : s < 6) (hs0 : s0 < 6) (h0 : st (a * 33 + c) = nI s0) :
    ic_M (upd st (a * 33 + c) (nI s)) (ic_ms mb a c s0 s) := by
  intro a' ha' s' h1 h5 c' hc'
  unfold ic_ms
  by_cases e1 : a' * 6 + s' = a * 6 + s
  · have ea : a' = a := by omega
    have es : s' = s := by omega
    subst ea; subst es
    rw [pk_uLs, ic_Bor, ic_Bone (by omega) (by omega)]
    by_cases ec : c' = c
    · subst ec
      rw [pk_us]; simp
    · rw [pk_un (by omega), decide_eq_false ec, Bool.or_false]
      by_cases e2 : a' * 6 + s' = a' * 6 + s0
      · have e3 : s' = s0 := by omega
        subst e3
        rw [pk_uLs, ic_Band, ic_Bnot _ (by omega), ic_Bone (by omega) (by omega), decide_eq_false ec, Bool.not_false, Bool.and_true]
        exact hM a' ha' s' h1 h5 c' hc'
      · rw [pk_uLn e2]
        exact hM a' ha' s' h1 h5 c' hc'
  · rw [pk_uLn e1]
    by_cases e2 : a' * 6 + s' = a * 6 + s0
    · have ea : a' = a := by omega
      have es : s' = s0 := by omega
      subst ea; subst es
      rw [pk_uLs, ic_Band, ic_Bnot _ (by omega), ic_Bone (by omega) (by omega)]
      by_cases ec : c' = c
      · subst ec
        rw [pk_us, decide_eq_true rfl, Bool.not_true, Bool.and_false]
        constructor
        · intro h; cases h
        · intro h
          have := ic_eqn (by omega) (by omega) h
          omega
      · rw [pk_un (by omega), decide_eq_false ec, Bool.not_false, Bool.and_true]
        exact hM a' ha' s' h1 h5 c' hc'
    · rw [pk_uLn e2]
      by_cases e3 : a' * 33 + c' = a * 33 + c
      · have ea : a' = a := by omega
        have ec : c' = c := by omega
        subst ea; subst ec
        rw [pk_us, hM a' ha' s' h1 h5 c' hc', h0]
        constructor
        · intro h
          have := ic_eqn (by omega) (by omega) h
          omega
        · intro h
          have := ic_eqn (by omega) (by omega) h
          omega
      · rw [pk_un e3]
        exact hM a' ha' s' h1 h5 c' hc'
/-- is there another of the foundation of c, in state w (0: in any) -/
def ic_KC (se st : Nat → Int32) (a c w y : Nat) : Prop := y ≠ c ∧ st (a * 33 + y) ≠ 0 ∧ (w = 0 ∨ st (a * 33 + y) = nI w) ∧ ic_Sm se a c y
section
variable {wn fl : Int32} {nt ro ph ck ch na ns ba ow se tp po pc pb sp sg st rk cx ca mr : Nat → Int32} {fm mb : Nat → Int64} {od os qu qs : Nat → Int32} {qd : Nat → Int64} {rg ft pa bd bo sk sn : Nat → Int32}
theorem xw_found {a c t : Nat} (ha : a < 2) (hc : c < 33) (hT : ic_T se tp) (h1 : 1 ≤ t) (h4 : t ≤ 4) (hse : se (a * 11 + c % 11) = nI t) :
    ∃ F : Int64, (∀ i, i < 64 → (ic_B F i = true ↔ i < 33 ∧ ic_Sm se a c i)) ∧ ∀ post : Int64 → Prop, post F → wpX_foundation post (wn, fl, nt, ro, ph, ck, ch, na, ns, ba, ow, se, tp, po, pc, pb, sp, sg, st, rk, cx, ca, mr, fm, mb, od, os, qu, qs, qd, rg, ft) (nI a) (nI c) := by
  have key : ∃ P : Int64, (∀ i, i < 64 → (ic_B P i = true ↔ i < 11 ∧ ic_Tm se a c i)) ∧ ∀ post : Int64 → Prop, wX_foundation_43 post (nI c) P wn fl nt ro ph ck ch na ns ba ow se tp po pc pb sp sg st rk cx ca mr fm mb od os qu qs qd rg ft → wpX_foundation post (wn, fl, nt, ro, ph, ck, ch, na, ns, ba, ow, se, tp, po, pc, pb, sp, sg, st, rk, cx, ca, mr, fm, mb, od, os, qu, qs, qd, rg, ft) (nI a) (nI c) := by
    by_cases h3 : t = 3
    · subst h3
      refine ⟨_, ic_Pl3 hse, fun post hp => ?_⟩
      unfold wpX_foundation
      simp (disch := omega) only [forall_eq, true_and, and_true, true_implies, false_implies, implies_true, not_true_eq_false, not_false_eq_true, nI_clamp, vp_in_nI, nI_add, ic_m3, ic_m4, ic_m5, ic_m6, ic_m8, ic_m11, ic_m12, ic_m24, ic_m33, ic_p1, ic_p2, ic_p3, ic_p4, ic_p5, ic_p6, ic_p7, ic_p8, ic_q3, ic_d11, ic_r11, ic_d22, ic_n11, ic_n22, ic_n3, ic_n2, ic_oneI, hse]
      exact br_t rfl hp
    · refine ⟨_, ic_Pl ha hT h1 h4 h3 hse, fun post hp => ?_⟩
      unfold wpX_foundation
      simp (disch := omega) only [forall_eq, true_and, and_true, true_implies, false_implies, implies_true, not_true_eq_false, not_false_eq_true, nI_clamp, vp_in_nI, nI_add, ic_m3, ic_m4, ic_m5, ic_m6, ic_m8, ic_m11, ic_m12, ic_m24, ic_m33, ic_p1, ic_p2, ic_p3, ic_p4, ic_p5, ic_p6, ic_p7, ic_p8, ic_q3, ic_d11, ic_r11, ic_d22, ic_n11, ic_n22, ic_n3, ic_n2, ic_oneI, hse]
      exact br_f (fun e => h3 (ic_eqn (b := 3) (by omega) (by omega) e)) hp
  obtain ⟨P, hP, hw⟩ := key
  by_cases h : c < 22
  · exact ⟨_, ic_Fn h hP, fun post hp => hw post (br_t (nI_lt (b := 22) h (by omega)) hp)⟩
  · exact ⟨_, ic_Fn2 (by omega) hc hP, fun post hp => hw post (br_f (nI_nlt (b := 22) (by omega) (by omega)) hp)⟩
theorem xw_set {post : SX → Prop} {a c s s0 : Nat} (ha : a < 2) (hc : c < 33) (hs : s < 6) (hs0 : s0 < 6) (h0 : st (a * 33 + c) = nI s0)
    (hp : post (wn, fl, nt, ro, ph, ck, ch, na, ns, ba, ow, se, tp, po, pc, pb, sp, sg, upd st (a * 33 + c) (nI s), rk, cx, ca, mr, fm, ic_ms mb a c s0 s, od, os, qu, qs, qd, rg, ft)) : wpX_setState post (wn, fl, nt, ro, ph, ck, ch, na, ns, ba, ow, se, tp, po, pc, pb, sp, sg, st, rk, cx, ca, mr, fm, mb, od, os, qu, qs, qd, rg, ft) (nI a) (nI c) (nI s) := by
  unfold wpX_setState
  simp (disch := omega) only [forall_eq, true_and, and_true, true_implies, false_implies, implies_true, not_true_eq_false, not_false_eq_true, nI_clamp, vp_in_nI, nI_add, ic_m3, ic_m4, ic_m5, ic_m6, ic_m8, ic_m11, ic_m12, ic_m24, ic_m33, ic_p1, ic_p2, ic_p3, ic_p4, ic_p5, ic_p6, ic_p7, ic_p8, ic_q3, ic_d11, ic_r11, ic_d22, ic_n11, ic_n22, ic_n3, ic_n2, ic_oneI, h0]
  exact hp
theorem yw_same {post : Int32 → Prop} {a c x : Nat} (ha : a < 2) (hc : c < 33) (hx : x < 33) (h1 : ic_Sm se a c x → post 1) (h0 : ¬ ic_Sm se a c x → post 0) : wpY_same post (fl, wn, nt, ro, ph, ck, ch, ns, na, pa, ow, se, bd, bo, st, cx, ca, mr, sk, ba, sn) (nI a) (nI c) (nI x) := by
  unfold wpY_same
  simp (disch := omega) only [forall_eq, true_and, and_true, true_implies, false_implies, implies_true, not_true_eq_false, not_false_eq_true, nI_clamp, vp_in_nI, nI_add, ic_m3, ic_m4, ic_m5, ic_m6, ic_m8, ic_m11, ic_m12, ic_m24, ic_m33, ic_p1, ic_p2, ic_p3, ic_p4, ic_p5, ic_p6, ic_p7, ic_p8, ic_q3, ic_d11, ic_r11, ic_d22, ic_n11, ic_n22, ic_n3, ic_n2, ic_oneI, ic_eqI]
  unfold ic_Sm ic_Tm at h1 h0
  refine ⟨fun h => ⟨fun h2 => h1 ⟨h, Or.inl h2⟩, fun h2 => ⟨fun h3 => ⟨fun h4 => h0 ?_, fun h4 => h1 ⟨h, Or.inr ⟨h3, h4⟩⟩⟩, fun h3 => h0 ?_⟩⟩, fun h => h0 fun z => h z.1⟩
  · rintro ⟨_, z | z⟩
    · exact h2 z
    · exact z.2 h4
  · rintro ⟨_, z | z⟩
    · exact h2 z
    · exact h3 z.1
theorem yw_kinL {post : Int32 → Prop} {a c w : Nat} (ha : a < 2) (hc : c < 33) (hw : w < 6) : ∀ n x : Nat, 33 < n + x → x ≤ 33 →
    ((∃ y, x ≤ y ∧ y < 33 ∧ ic_KC se st a c w y) → post 1) → ((¬ ∃ y, x ≤ y ∧ y < 33 ∧ ic_KC se st a c w y) → post 0) →
    wY_kin_9 post (nI a) (nI c) (nI w) fl wn nt ro ph ck ch ns na pa ow se bd bo st cx ca mr sk ba sn n (nI x) (nI (a * 33 + x)) := by
  intro n
  induction n with
  | zero => intro x h1 h2; omega
  | succ n ih =>
    intro x h1 h2 k1 k0
    have nx : ¬ ic_KC se st a c w x → x < 33 → wY_kin_9 post (nI a) (nI c) (nI w) fl wn nt ro ph ck ch ns na pa ow se bd bo st cx ca mr sk ba sn n (nI (x + 1)) (nI (a * 33 + x + 1)) := by
      intro hx hl
      have h3 := ih (x + 1) (by omega) (by omega) (fun z => k1 ?_) (fun z => k0 ?_)
      · rw [show a * 33 + (x + 1) = a * 33 + x + 1 by omega] at h3; exact h3
      · obtain ⟨y, h4, h5⟩ := z
        exact ⟨y, by omega, h5⟩
      · rintro ⟨y, h4, h5, h6⟩
        by_cases e : y = x
        · rw [e] at h6; exact hx h6
        · exact z ⟨y, by omega, h5, h6⟩
    have nx' : ¬ ic_KC se st a c w x → x < 33 → ∀ x4 : Int32, x4 = nI x + 1 → ∀ x5 : Int32, x5 = nI (a * 33 + x) + 1 → wY_kin_9 post (nI a) (nI c) (nI w) fl wn nt ro ph ck ch ns na pa ow se bd bo st cx ca mr sk ba sn n x4 x5 := fun hx hl => nm_r (nI_1 x) (nm_r (nI_1 (a * 33 + x)) (nx hx hl))
    rw [wY_kin_9]
    refine pk_le 33 x (fun h => k0 ?_) (fun h => pk_eq x c (fun e => nx' (fun z => z.1 e) h) (fun e => ⟨vp_in_nI (by omega) (by omega), ?_⟩))
    · rintro ⟨y, h4, h5, _⟩; omega
    · rw [nI_clamp (by omega)]
      have sm : st (a * 33 + x) ≠ 0 → (w = 0 ∨ st (a * 33 + x) = nI w) → wY_kin_47 post (wY_kin_9 post (nI a) (nI c) (nI w) fl wn nt ro ph ck ch ns na pa ow se bd bo st cx ca mr sk ba sn n) (nI a) (nI c) (nI w) (nI x) (nI (a * 33 + x)) fl wn nt ro ph ck ch ns na pa ow se bd bo st cx ca mr sk ba sn := by
        intro z1 z2
        unfold wY_kin_47
        exact yw_same ha hc h (fun z => br_f (by decide) (k1 ⟨x, Nat.le_refl _, h, e, z1, z2, z⟩)) (fun z => br_t rfl (nx' (fun z3 => z z3.2.2.2) h))
      refine br_c (fun z => nx' (fun z2 => z2.2.1 z) h) (fun z => pk_eq w 0 (fun w0 => sm z (Or.inl w0)) (fun w0 => ⟨vp_in_nI (by omega) (by omega), br_c (fun z2 => sm z (Or.inr z2)) (fun z2 => nx' (fun z3 => z3.2.2.1.elim w0 z2) h)⟩))
theorem yw_kin {post : Int32 → Prop} {a c : Nat} (w : Nat) (ha : a < 2) (hc : c < 33) (hw : w < 6)
    (k1 : (∃ y, y < 33 ∧ ic_KC se st a c w y) → post 1) (k0 : (¬ ∃ y, y < 33 ∧ ic_KC se st a c w y) → post 0) : wpY_kin post (fl, wn, nt, ro, ph, ck, ch, ns, na, pa, ow, se, bd, bo, st, cx, ca, mr, sk, ba, sn) (nI a) (nI c) (nI w) := by
  refine nm_r (ic_m33 a) ⟨34, yw_kinL ha hc hw 34 0 (by omega) (by omega) (fun z => k1 ?_) (fun z => k0 ?_)⟩
  · obtain ⟨y, _, h⟩ := z
    exact ⟨y, h⟩
  · rintro ⟨y, h⟩
    exact z ⟨y, Nat.zero_le _, h⟩
/-! Y's priority -/
theorem yw_119 {post : Int32 → Prop} {g d : Nat} (hg : g < 100) (hd : d < 100) (hp : post (nI (if g ≤ d then 16 * g + 2 * d else 16 * d + 2 * g + 1))) : wY_priority_119 post (nI g) (nI d) fl wn nt ro ph ck ch ns na pa ow se bd bo st cx ca mr sk ba sn := by
  have e : ∀ x y z : Nat, (nI 16 * nI x + nI 2 * nI y) + nI z = nI (16 * x + 2 * y + z) := by
    intro x y z
    rw [pk_mul, pk_mul, nI_add, nI_add]
  refine pk_le d g (fun h => pk_le g d (fun h2 => pk_le g d (fun h3 => ?_) (fun h3 => absurd h2 (by omega))) (fun h2 => pk_le g d (fun h3 => absurd h3 (by omega)) (fun h3 => ?_))) (fun h => pk_le g d (fun h2 => pk_le g d (fun h3 => ?_) (fun h3 => absurd h2 (by omega))) (fun h2 => absurd h2 (by omega)))
  · rw [if_pos h2] at hp
    show post ((nI 16 * nI d + nI 2 * nI d) + nI 0)
    rw [e]
    have e2 : g = d := by omega
    rw [e2] at hp; exact hp
  · rw [if_neg (by omega)] at hp
    show post ((nI 16 * nI d + nI 2 * nI g) + nI 1)
    rw [e]; exact hp
  · rw [if_pos h2] at hp
    show post ((nI 16 * nI g + nI 2 * nI d) + nI 0)
    rw [e]; exact hp
theorem yw_80 {post : Int32 → Prop} {a r l t z : Nat} (ha : a < 2) (hr : ro a = nI r) (hr1 : r ≤ 1) (hl : l < 10) (ht : t < 5) (hz : z < 2)
    (hp : post (nI (if r = 1 then (if l ≤ 2 * (t - 1) + z then 16 * l + 2 * (2 * (t - 1) + z) else 16 * (2 * (t - 1) + z) + 2 * l + 1)
      else (if 2 * (t - 1) + z ≤ l then 16 * (2 * (t - 1) + z) + 2 * l else 16 * l + 2 * (2 * (t - 1) + z) + 1)))) :
    wY_priority_80 post (nI a) (nI l) (nI z) (nI (2 * (t - 1))) fl wn nt ro ph ck ch ns na pa ow se bd bo st cx ca mr sk ba sn := by
  unfold wY_priority_80 wY_priority_100
  simp (disch := omega) only [forall_eq, true_and, and_true, true_implies, false_implies, implies_true, not_true_eq_false, not_false_eq_true, nI_clamp, vp_in_nI, nI_add, ic_m3, ic_m4, ic_m5, ic_m6, ic_m8, ic_m11, ic_m12, ic_m24, ic_m33, ic_p1, ic_p2, ic_p3, ic_p4, ic_p5, ic_p6, ic_p7, ic_p8, ic_q3, ic_d11, ic_r11, ic_d22, ic_n11, ic_n22, ic_n3, ic_n2, ic_oneI, hr]
  refine ⟨fun h => ⟨fun _ => ?_, fun h' => absurd h h'⟩, fun h => ⟨fun h' => absurd h' h, fun _ => ?_⟩⟩
  · have h1 : r = 1 := ic_eqn (by omega) (by omega) (h : nI r = nI 1)
    rw [if_pos h1] at hp
    exact yw_119 (by omega) (by omega) hp
  · have h1 : ¬ r = 1 := fun e => h (by rw [e]; rfl)
    rw [if_neg h1] at hp
    exact yw_119 (by omega) (by omega) hp
theorem yw_31 {post : Int32 → Prop} {a p r l t : Nat} {z0 z1 : Int32} (ez : z1 + z0 = nI l) (ha : a < 2) (hpp : p < 11) (hr : ro a = nI r) (hr1 : r ≤ 1) (hl : l < 10) (ht1 : 1 ≤ t) (ht : t < 5) (hse : se (a * 11 + p) = nI t)
    (hp : post (nI (if r = 1 then (if l ≤ 2 * (t - 1) + ic_zf bd a p then 16 * l + 2 * (2 * (t - 1) + ic_zf bd a p) else 16 * (2 * (t - 1) + ic_zf bd a p) + 2 * l + 1)
      else (if 2 * (t - 1) + ic_zf bd a p ≤ l then 16 * (2 * (t - 1) + ic_zf bd a p) + 2 * l else 16 * l + 2 * (2 * (t - 1) + ic_zf bd a p) + 1)))) :
    wY_priority_31 post (nI a) (nI p) z0 z1 fl wn nt ro ph ck ch ns na pa ow se bd bo st cx ca mr sk ba sn := by
  have e : (2 : Int32) * (nI t - 1) = nI (2 * (t - 1)) := by
    rw [show nI t - 1 = nI (t - 1) from pk_sub (b := 1) ht1]
    exact pk_mul 2 (t - 1)
  unfold wY_priority_31
  simp (disch := omega) only [forall_eq, true_and, and_true, true_implies, false_implies, implies_true, not_true_eq_false, not_false_eq_true, nI_clamp, vp_in_nI, nI_add, ic_m3, ic_m4, ic_m5, ic_m6, ic_m8, ic_m11, ic_m12, ic_m24, ic_m33, ic_p1, ic_p2, ic_p3, ic_p4, ic_p5, ic_p6, ic_p7, ic_p8, ic_q3, ic_d11, ic_r11, ic_d22, ic_n11, ic_n22, ic_n3, ic_n2, ic_oneI, hse, e, ez]
  refine pk_eq p 0 (fun h => ?_) (fun h => pk_le p 2 (fun h2 => ?_) (fun h2 => br_c (fun h3 => ?_) (fun h3 => ?_)))
  · have ez2 : ic_zf bd a p = 1 := by unfold ic_zf; rw [if_pos (Or.inl h)]
    rw [ez2] at hp
    exact yw_80 (z := 1) ha hr hr1 hl ht (by omega) hp
  · have ez2 : ic_zf bd a p = 0 := by unfold ic_zf; rw [if_neg (by rintro (z | z) <;> omega)]
    rw [ez2] at hp
    exact yw_80 (z := 0) ha hr hr1 hl ht (by omega) hp
  · have ez2 : ic_zf bd a p = 1 := by unfold ic_zf; rw [if_pos (Or.inr ⟨h2, h3⟩)]
    rw [ez2] at hp
    exact yw_80 (z := 1) ha hr hr1 hl ht (by omega) hp
  · have ez2 : ic_zf bd a p = 0 := by
      unfold ic_zf
      rw [if_neg]
      rintro (z | z)
      · exact h z
      · exact h3 z.2
    rw [ez2] at hp
    exact yw_80 (z := 0) ha hr hr1 hl ht (by omega) hp
theorem yw_prio {post : Int32 → Prop} {a c t : Nat} (ha : a < 2) (hc : c < 33) (hro : ic_R ro 1) (ht1 : 1 ≤ t) (ht : t ≤ 4) (hse : se (a * 11 + c % 11) = nI t)
    (hp : post (nI (ic_pr ro se bd a c))) : wpY_priority post (fl, wn, nt, ro, ph, ck, ch, ns, na, pa, ow, se, bd, bo, st, cx, ca, mr, sk, ba, sn) (nI a) (nI c) := by
  obtain ⟨r, hr1, hr⟩ := hro a
  have e1 : ic_pr ro se bd a c = ic_prn r (c / 11) t (ic_zf bd a (c % 11)) := by
    unfold ic_pr; rw [hr, hse, nI_clamp (by omega), nI_clamp (by omega)]
  rw [e1] at hp
  unfold ic_prn at hp
  unfold wpY_priority
  simp (disch := omega) only [forall_eq, true_and, and_true, true_implies, false_implies, implies_true, not_true_eq_false, not_false_eq_true, nI_clamp, vp_in_nI, nI_add, ic_m3, ic_m4, ic_m5, ic_m6, ic_m8, ic_m11, ic_m12, ic_m24, ic_m33, ic_p1, ic_p2, ic_p3, ic_p4, ic_p5, ic_p6, ic_p7, ic_p8, ic_q3, ic_d11, ic_r11, ic_d22, ic_n11, ic_n22, ic_n3, ic_n2, ic_oneI]
  refine pk_le 22 c (fun h => pk_le 11 c (fun h2 => ?_) (fun h2 => absurd h (by omega))) (fun h => pk_le 11 c (fun h2 => ?_) (fun h2 => ?_))
  · simp only [if_pos (show c / 11 = 2 by omega)] at hp
    exact yw_31 (l := 0) (by decide) ha (by omega) hr hr1 (by omega) ht1 (by omega) hse hp
  · simp only [if_neg (show ¬ c / 11 = 2 by omega), if_neg (show ¬ c / 11 = 0 by omega)] at hp
    exact yw_31 (l := 6) (by decide) ha (by omega) hr hr1 (by omega) ht1 (by omega) hse hp
  · simp only [if_neg (show ¬ c / 11 = 2 by omega), if_pos (show c / 11 = 0 by omega)] at hp
    exact yw_31 (l := 7) (by decide) ha (by omega) hr hr1 (by omega) ht1 (by omega) hse hp
end
end
section
/-! the ordered checklist -/
section
variable {wn fl : Int32} {nt ro ph ck ch na ns ba ow se tp po pc pb sp sg st rk cx ca mr : Nat → Int32} {fm mb : Nat → Int64} {od os qu qs : Nat → Int32} {qd : Nat → Int64} {rg ft pa bd bo sk sn : Nat → Int32}
theorem xw_insL {a c M : Nat} (ha : a < 2) (hc : c < 33) (hM : M < 2 ^ 31) : ∀ (n : Nat) (A B : List Nat) (g : Nat → Int32), A.length < n → A.length + B.length < 33 →
    (∀ x, x ∈ A → x < 33) → ic_L g (a * 33) A → ic_L g (a * 33 + A.length + 1) B →
    ∃ (g' : Nat → Int32) (A' B' : List Nat), A = A' ++ B' ∧ (∀ y, y ∈ B' → rk (a * 33 + y) ≤ nI M) ∧ (∀ (A2 : List Nat) (y : Nat), A' = A2 ++ [y] → nI M ≤ rk (a * 33 + y)) ∧
      ic_L g' (a * 33) (A' ++ c :: (B' ++ B)) ∧ (∀ j, j < a * 33 ∨ a * 33 + A.length + B.length < j → g' j = g j) ∧
      ∀ post : SX → Prop, post (wn, fl, nt, ro, ph, ck, ch, na, ns, ba, ow, se, tp, po, pc, pb, sp, sg, st, upd rk (a * 33 + c) (nI M), cx, ca, mr, fm, mb, g', upd os a (os a + 1), qu, qs, qd, rg, ft) →
        wX_insert_31 post (nI a) (nI c) (nI (a * 33)) (nI M) wn fl n (nI (a * 33 + A.length)) nt ro ph ck ch na ns ba ow se tp po pc pb sp sg st rk cx ca mr fm mb g os qu qs qd rg ft := by
  intro n
  induction n with
  | zero => intro A B g h; omega
  | succ n ih =>
    intro A B g hn hl hA hg hgB
    have fin : ∀ post : SX → Prop, post (wn, fl, nt, ro, ph, ck, ch, na, ns, ba, ow, se, tp, po, pc, pb, sp, sg, st, upd rk (a * 33 + c) (nI M), cx, ca, mr, fm, mb, upd g (a * 33 + A.length) (nI c), upd os a (os a + 1), qu, qs, qd, rg, ft) → wX_insert_80 post (nI a) (nI c) (nI (a * 33)) (nI M) (nI (a * 33 + A.length)) wn fl nt ro ph ck ch na ns ba ow se tp po pc pb sp sg st rk cx ca mr fm mb g os qu qs qd rg ft := by
      intro post hp
      unfold wX_insert_80
      simp (disch := omega) only [forall_eq, true_and, and_true, true_implies, false_implies, implies_true, not_true_eq_false, not_false_eq_true, nI_clamp, vp_in_nI, nI_add, ic_m3, ic_m4, ic_m5, ic_m6, ic_m8, ic_m11, ic_m12, ic_m24, ic_m33, ic_p1, ic_p2, ic_p3, ic_p4, ic_p5, ic_p6, ic_p7, ic_p8, ic_q3, ic_d11, ic_r11, ic_d22, ic_n11, ic_n22, ic_n3, ic_n2, ic_oneI]
      exact hp
    have finL : ic_L (upd g (a * 33 + A.length) (nI c)) (a * 33) (A ++ c :: ([] ++ B)) := by
      rw [List.nil_append, ic_L_app, ic_L_cons]
      exact ⟨ic_L_up hg (by omega), pk_us, ic_L_up hgB (by omega)⟩
    rcases ic_cat A with e | ⟨A1, b, e⟩
    · refine ⟨_, A, [], by simp, by simp, ?_, finL, fun j hj => pk_un (by omega), fun post hp => ?_⟩
      · intro A2 y e2
        rw [e] at e2; simp at e2
      · rw [wX_insert_31]
        refine br_t ?_ (fin post hp)
        exact nI_le (by rw [e]; simp) (by omega)
    · have el : A.length = A1.length + 1 := by rw [e]; simp
      have hb : b < 33 := hA b (by rw [e]; simp)
      have hgb : g (a * 33 + A1.length) = nI b := by
        rw [e, ic_L_app, ic_L_cons] at hg
        exact hg.2.1
      have ei : nI (a * 33 + A.length) - 1 = nI (a * 33 + A1.length) := by
        rw [el, show a * 33 + (A1.length + 1) = a * 33 + A1.length + 1 by omega]; exact nI_pred _
      have ei2 : nI (a * 33 + A.length) + -1 = nI (a * 33 + A1.length) := by
        rw [el, show a * 33 + (A1.length + 1) = a * 33 + A1.length + 1 by omega]; exact pk_m1 _
      have hgt : ¬ nI (a * 33 + A.length) ≤ nI (a * 33) := nI_ge (by omega) (by omega)
      by_cases z : nI M ≤ rk (a * 33 + b)
      · refine ⟨_, A, [], by simp, by simp, ?_, finL, fun j hj => pk_un (by omega), fun post hp => ?_⟩
        · intro A2 y e2
          rw [e] at e2
          have e3 := List.append_inj e2 (by
            have := congrArg List.length e2
            simp at this; exact this)
          have e4 : b = y := by simpa using e3.2
          rw [← e4]; exact z
        · rw [wX_insert_31]
          refine br_f hgt ?_
          simp (disch := omega) only [forall_eq, true_and, and_true, true_implies, false_implies, implies_true, not_true_eq_false, not_false_eq_true, nI_clamp, vp_in_nI, nI_add, ic_m3, ic_m4, ic_m5, ic_m6, ic_m8, ic_m11, ic_m12, ic_m24, ic_m33, ic_p1, ic_p2, ic_p3, ic_p4, ic_p5, ic_p6, ic_p7, ic_p8, ic_q3, ic_d11, ic_r11, ic_d22, ic_n11, ic_n22, ic_n3, ic_n2, ic_oneI, ei, hgb]
          exact br_t z (fin post hp)
      · obtain ⟨g', A', B', e1, h1, h2, h3, h4, h5⟩ := ih A1 (b :: B) (upd g (a * 33 + A.length) (nI b)) (by omega) (by simp; omega) (fun x hx => hA x (by rw [e]; exact List.mem_append_left _ hx))
          (by
            rw [e, ic_L_app] at hg
            exact ic_L_up hg.1 (by omega))
          (by
            rw [ic_L_cons]
            refine ⟨?_, ?_⟩
            · rw [show a * 33 + A1.length + 1 = a * 33 + A.length by omega]; exact pk_us
            · have := ic_L_up (k := a * 33 + A.length) (x := nI b) hgB (by omega)
              rw [show a * 33 + A1.length + 1 + 1 = a * 33 + A.length + 1 by omega]; exact this)
        refine ⟨g', A', B' ++ [b], by rw [e, e1]; simp, ?_, h2, ?_, ?_, fun post hp => ?_⟩
        · intro y hy
          rcases List.mem_append.mp hy with hy | hy
          · exact h1 y hy
          · rw [List.mem_singleton.mp hy]
            rcases Int32.le_total (rk (a * 33 + b)) (nI M) with h6 | h6
            · exact h6
            · exact absurd h6 z
        · have e5 : B' ++ [b] ++ B = B' ++ b :: B := by simp
          rw [e5]; exact h3
        · intro j hj
          rw [h4 j (by simp only [List.length_cons]; omega), pk_un (by omega)]
        · rw [wX_insert_31]
          refine br_f hgt ?_
          simp (disch := omega) only [forall_eq, true_and, and_true, true_implies, false_implies, implies_true, not_true_eq_false, not_false_eq_true, nI_clamp, vp_in_nI, nI_add, ic_m3, ic_m4, ic_m5, ic_m6, ic_m8, ic_m11, ic_m12, ic_m24, ic_m33, ic_p1, ic_p2, ic_p3, ic_p4, ic_p5, ic_p6, ic_p7, ic_p8, ic_q3, ic_d11, ic_r11, ic_d22, ic_n11, ic_n22, ic_n3, ic_n2, ic_oneI, ei, ei2, hgb]
          exact br_f z (h5 post hp)
/-- insert: the list, with c put in its place -/
theorem xw_ins {a c m : Nat} {P : List Nat} (ha : a < 2) (hc : c < 33) (hm : m < 1000) (hP : ∀ x, x ∈ P → x < 33) (hl : P.length < 33) (ho : os a = nI P.length) (hg : ic_L od (a * 33) P) (hcP : c ∉ P) (hs : ic_srt rk a P)
    (hpr : ∀ post : Int32 → Prop, post (nI m) → wpX_priority post (wn, fl, nt, ro, ph, ck, ch, na, ns, ba, ow, se, tp, po, pc, pb, sp, sg, st, rk, cx, ca, mr, fm, mb, od, os, qu, qs, qd, rg, ft) (nI a) (nI c)) :
    ∃ (od' : Nat → Int32) (P' : List Nat), (∀ post : SX → Prop, post (wn, fl, nt, ro, ph, ck, ch, na, ns, ba, ow, se, tp, po, pc, pb, sp, sg, st, upd rk (a * 33 + c) (nI (m * 64 + 63 - c)), cx, ca, mr, fm, mb, od', upd os a (nI P'.length), qu, qs, qd, rg, ft) → wpX_insert post (wn, fl, nt, ro, ph, ck, ch, na, ns, ba, ow, se, tp, po, pc, pb, sp, sg, st, rk, cx, ca, mr, fm, mb, od, os, qu, qs, qd, rg, ft) (nI a) (nI c)) ∧
      P'.Perm (c :: P) ∧ ic_L od' (a * 33) P' ∧ (∀ j, j < a * 33 ∨ a * 33 + P.length < j → od' j = od j) ∧ ic_srt (upd rk (a * 33 + c) (nI (m * 64 + 63 - c))) a P' := by
  obtain ⟨g', A', B', e1, h1, h2, h3, h4, h5⟩ := xw_insL (wn := wn) (fl := fl) (nt := nt) (ro := ro) (ph := ph) (ck := ck) (ch := ch) (na := na) (ns := ns) (ba := ba) (ow := ow) (se := se) (tp := tp) (po := po) (pc := pc) (pb := pb) (sp := sp) (sg := sg) (st := st) (rk := rk) (cx := cx) (ca := ca) (mr := mr) (fm := fm) (mb := mb) (os := os) (qu := qu) (qs := qs) (qd := qd) (rg := rg) (ft := ft) ha hc (M := m * 64 + 63 - c) (by omega) 34 P [] od (by omega) (by simp; omega) hP hg (ic_L_nil _ _)
  rw [List.append_nil] at h3
  have hp : (A' ++ c :: B').Perm (c :: P) := by
    rw [e1]; exact List.perm_middle
  have hlen : (A' ++ c :: B').length = P.length + 1 := by
    rw [hp.length_eq]; rfl
  refine ⟨g', A' ++ c :: B', fun post hpo => ?_, hp, h3, fun j hj => h4 j (by simp; omega), ?_⟩
  · have e6 : nI (m * 64) + 63 = nI (m * 64 + 63) := ic_p63 _
    have e7 : nI (m * 64 + 63) - nI c = nI (m * 64 + 63 - c) := pk_sub (by omega)
    unfold wpX_insert
    simp (disch := omega) only [forall_eq, true_and, and_true, true_implies, false_implies, implies_true, not_true_eq_false, not_false_eq_true, nI_clamp, vp_in_nI, nI_add, ic_m3, ic_m4, ic_m5, ic_m6, ic_m8, ic_m11, ic_m12, ic_m24, ic_m33, ic_p1, ic_p2, ic_p3, ic_p4, ic_p5, ic_p6, ic_p7, ic_p8, ic_q3, ic_d11, ic_r11, ic_d22, ic_n11, ic_n22, ic_n3, ic_n2, ic_oneI]
    refine hpr _ ?_
    simp (disch := omega) only [forall_eq, true_and, and_true, true_implies, false_implies, implies_true, not_true_eq_false, not_false_eq_true, nI_clamp, vp_in_nI, nI_add, ic_m3, ic_m4, ic_m5, ic_m6, ic_m8, ic_m11, ic_m12, ic_m24, ic_m33, ic_p1, ic_p2, ic_p3, ic_p4, ic_p5, ic_p6, ic_p7, ic_p8, ic_q3, ic_d11, ic_r11, ic_d22, ic_n11, ic_n22, ic_n3, ic_n2, ic_oneI, ho, ic_m64, e6, e7]
    refine ⟨34, h5 post ?_⟩
    rw [ho, nI_1, ← hlen]
    exact hpo
  · refine ic_srt_ins ?_ ?_ h1 h2
    · intro y hy e
      rw [← e1, e] at hy
      exact hcP hy
    · rw [← e1]; exact hs
/-- withdraw -/
theorem xw_wdL {a c : Nat} (ha : a < 2) (hc : c < 33) : ∀ (n : Nat) (A B : List Nat) (m : Nat) (g : Nat → Int32), B.length < n → A.length ≤ m → m + B.length ≤ 33 → os a = nI (m + B.length) →
    (∀ x, x ∈ B → x < 33) → ic_L g (a * 33) A → ic_L g (a * 33 + m) B →
    ∃ g' : Nat → Int32, ic_L g' (a * 33) (A ++ ic_rm c B) ∧ (∀ j, j < a * 33 ∨ a * 33 + 33 ≤ j → g' j = g j) ∧
      ∀ post : SX → Prop, post (wn, fl, nt, ro, ph, ck, ch, na, ns, ba, ow, se, tp, po, pc, pb, sp, sg, st, rk, cx, ca, mr, fm, mb, g', upd os a (nI (A ++ ic_rm c B).length), qu, qs, qd, rg, ft) →
        wX_withdraw_11 post (nI a) (nI c) wn fl n (nI (a * 33 + A.length)) (nI (a * 33 + m)) nt ro ph ck ch na ns ba ow se tp po pc pb sp sg st rk cx ca mr fm mb g os qu qs qd rg ft := by
  intro n
  induction n with
  | zero => intro A B m g h; omega
  | succ n ih =>
    intro A B m g hn hAm hl ho hB hA hBg
    cases B with
    | nil =>
      refine ⟨g, ?_, fun j _ => rfl, fun post hp => ?_⟩
      · rw [ic_rm_nil, List.append_nil]; exact hA
      · have e1 : nI (a * 33 + A.length) - nI (a * 33) = nI A.length := by
          rw [pk_sub (by omega), Nat.add_sub_cancel_left]
        rw [ic_rm_nil, List.append_nil] at hp
        rw [wX_withdraw_11]
        simp (disch := omega) only [forall_eq, true_and, and_true, true_implies, false_implies, implies_true, not_true_eq_false, not_false_eq_true, nI_clamp, vp_in_nI, nI_add, ic_m3, ic_m4, ic_m5, ic_m6, ic_m8, ic_m11, ic_m12, ic_m24, ic_m33, ic_p1, ic_p2, ic_p3, ic_p4, ic_p5, ic_p6, ic_p7, ic_p8, ic_q3, ic_d11, ic_r11, ic_d22, ic_n11, ic_n22, ic_n3, ic_n2, ic_oneI, ho, e1, List.length_nil, Nat.add_zero]
        exact br_t (Int32.le_refl _) hp
    | cons x B =>
      rw [ic_L_cons] at hBg
      obtain ⟨hx, hBg⟩ := hBg
      have hx33 : x < 33 := hB x List.mem_cons_self
      rw [List.length_cons] at hn hl ho
      have hng : ¬ nI (a * 33 + (m + (B.length + 1))) ≤ nI (a * 33 + m) := nI_ge (by omega) (by omega)
      have hrd : upd g (a * 33 + A.length) (nI x) (a * 33 + m) = nI x := by
        by_cases e : a * 33 + m = a * 33 + A.length
        · rw [e]; exact pk_us
        · rw [pk_un e]; exact hx
      have hB' : ic_L (upd g (a * 33 + A.length) (nI x)) (a * 33 + (m + 1)) B := by
        have := ic_L_up (k := a * 33 + A.length) (x := nI x) hBg (by omega)
        rw [show a * 33 + (m + 1) = a * 33 + m + 1 by omega]; exact this
      by_cases e : x = c
      · subst e
        obtain ⟨g', h1, h2, h3⟩ := ih A B (m + 1) (upd g (a * 33 + A.length) (nI x)) (by omega) (by omega) (by omega) (by rw [ho]; congr 1; omega) (fun y hy => hB y (List.mem_cons_of_mem _ hy)) (ic_L_up hA (by omega)) hB'
        rw [ic_rm_eq]
        refine ⟨g', h1, fun j hj => by rw [h2 j hj, pk_un (by omega)], fun post hp => ?_⟩
        rw [wX_withdraw_11]
        simp (disch := omega) only [forall_eq, true_and, and_true, true_implies, false_implies, implies_true, not_true_eq_false, not_false_eq_true, nI_clamp, vp_in_nI, nI_add, ic_m3, ic_m4, ic_m5, ic_m6, ic_m8, ic_m11, ic_m12, ic_m24, ic_m33, ic_p1, ic_p2, ic_p3, ic_p4, ic_p5, ic_p6, ic_p7, ic_p8, ic_q3, ic_d11, ic_r11, ic_d22, ic_n11, ic_n22, ic_n3, ic_n2, ic_oneI, ho, hx, hrd]
        exact br_f hng (h3 post hp)
      · obtain ⟨g', h1, h2, h3⟩ := ih (A ++ [x]) B (m + 1) (upd g (a * 33 + A.length) (nI x)) (by omega) (by simp; omega) (by omega) (by rw [ho]; congr 1; omega) (fun y hy => hB y (List.mem_cons_of_mem _ hy))
          (by
            rw [ic_L_app, ic_L_cons]
            exact ⟨ic_L_up hA (by omega), pk_us, ic_L_nil _ _⟩) hB'
        rw [ic_rm_ne e]
        have e5 : A ++ [x] ++ ic_rm c B = A ++ x :: ic_rm c B := by simp
        rw [e5] at h1 h3
        refine ⟨g', h1, fun j hj => by rw [h2 j hj, pk_un (by omega)], fun post hp => ?_⟩
        have e6 : (A ++ [x]).length = A.length + 1 := by simp
        rw [e6] at h3
        rw [wX_withdraw_11]
        simp (disch := omega) only [forall_eq, true_and, and_true, true_implies, false_implies, implies_true, not_true_eq_false, not_false_eq_true, nI_clamp, vp_in_nI, nI_add, ic_m3, ic_m4, ic_m5, ic_m6, ic_m8, ic_m11, ic_m12, ic_m24, ic_m33, ic_p1, ic_p2, ic_p3, ic_p4, ic_p5, ic_p6, ic_p7, ic_p8, ic_q3, ic_d11, ic_r11, ic_d22, ic_n11, ic_n22, ic_n3, ic_n2, ic_oneI, ho, hx, hrd]
        exact br_f hng (br_f (fun z => e (ic_eqn (by omega) (by omega) z)) (h3 post hp))
theorem xw_wd {a c : Nat} {L : List Nat} (ha : a < 2) (hc : c < 33) (hl : L.length ≤ 33) (hL : ∀ x, x ∈ L → x < 33) (ho : os a = nI L.length) (hg : ic_L od (a * 33) L) :
    ∃ od' : Nat → Int32, ic_L od' (a * 33) (ic_rm c L) ∧ (∀ j, j < a * 33 ∨ a * 33 + 33 ≤ j → od' j = od j) ∧
      ∀ post : SX → Prop, post (wn, fl, nt, ro, ph, ck, ch, na, ns, ba, ow, se, tp, po, pc, pb, sp, sg, st, rk, cx, ca, mr, fm, mb, od', upd os a (nI (ic_rm c L).length), qu, qs, qd, rg, ft) → wpX_withdraw post (wn, fl, nt, ro, ph, ck, ch, na, ns, ba, ow, se, tp, po, pc, pb, sp, sg, st, rk, cx, ca, mr, fm, mb, od, os, qu, qs, qd, rg, ft) (nI a) (nI c) := by
  obtain ⟨g', h1, h2, h3⟩ := xw_wdL (wn := wn) (fl := fl) (nt := nt) (ro := ro) (ph := ph) (ck := ck) (ch := ch) (na := na) (ns := ns) (ba := ba) (ow := ow) (se := se) (tp := tp) (po := po) (pc := pc) (pb := pb) (sp := sp) (sg := sg) (st := st) (rk := rk) (cx := cx) (ca := ca) (mr := mr) (fm := fm) (mb := mb) (os := os) (qu := qu) (qs := qs) (qd := qd) (rg := rg) (ft := ft) ha hc 34 [] L 0 od (by omega) (by simp) (by omega) (by rw [ho, Nat.zero_add]) hL (ic_L_nil _ _) hg
  rw [List.nil_append] at h1
  refine ⟨g', h1, h2, fun post hp => ?_⟩
  refine nm_r (ic_m33 a) (nm_r (ic_m33 a) ⟨34, h3 post hp⟩)
/-- unqueue -/
theorem xw_uqL {a c : Nat} (ha : a < 2) (hc : c < 33) : ∀ (n : Nat) (A B : List Nat) (m : Nat) (g : Nat → Int32), B.length < n → A.length ≤ m → m + B.length ≤ 33 → qs a = nI (m + B.length) →
    (∀ x, x ∈ B → x < 33) → ic_L g (a * 33) A → ic_L g (a * 33 + m) B →
    ∃ g' : Nat → Int32, ic_L g' (a * 33) (A ++ ic_rm c B) ∧ (∀ j, j < a * 33 ∨ a * 33 + 33 ≤ j → g' j = g j) ∧
      ∀ post : SX → Prop, post (wn, fl, nt, ro, ph, ck, ch, na, ns, ba, ow, se, tp, po, pc, pb, sp, sg, st, rk, cx, ca, mr, fm, mb, od, os, g', upd qs a (nI (A ++ ic_rm c B).length), vp_updL qd a (qd a &&& (((1 : Int64) <<< ((nI c).toInt64 &&& 63)) ^^^ (-1))), rg, ft) →
        wX_unqueue_11 post (nI a) (nI c) wn fl n (nI (a * 33 + A.length)) (nI (a * 33 + m)) nt ro ph ck ch na ns ba ow se tp po pc pb sp sg st rk cx ca mr fm mb od os g qs qd rg ft := by
  intro n
  induction n with
  | zero => intro A B m g h; omega
  | succ n ih =>
    intro A B m g hn hAm hl ho hB hA hBg
    cases B with
    | nil =>
      refine ⟨g, ?_, fun j _ => rfl, fun post hp => ?_⟩
      · rw [ic_rm_nil, List.append_nil]; exact hA
      · have e1 : nI (a * 33 + A.length) - nI (a * 33) = nI A.length := by
          rw [pk_sub (by omega), Nat.add_sub_cancel_left]
        rw [ic_rm_nil, List.append_nil] at hp
        rw [wX_unqueue_11]
        simp (disch := omega) only [forall_eq, true_and, and_true, true_implies, false_implies, implies_true, not_true_eq_false, not_false_eq_true, nI_clamp, vp_in_nI, nI_add, ic_m3, ic_m4, ic_m5, ic_m6, ic_m8, ic_m11, ic_m12, ic_m24, ic_m33, ic_p1, ic_p2, ic_p3, ic_p4, ic_p5, ic_p6, ic_p7, ic_p8, ic_q3, ic_d11, ic_r11, ic_d22, ic_n11, ic_n22, ic_n3, ic_n2, ic_oneI, ho, e1, List.length_nil, Nat.add_zero]
        exact br_t (Int32.le_refl _) hp
    | cons x B =>
      rw [ic_L_cons] at hBg
      obtain ⟨hx, hBg⟩ := hBg
      have hx33 : x < 33 := hB x List.mem_cons_self
      rw [List.length_cons] at hn hl ho
      have hng : ¬ nI (a * 33 + (m + (B.length + 1))) ≤ nI (a * 33 + m) := nI_ge (by omega) (by omega)
      have hrd : upd g (a * 33 + A.length) (nI x) (a * 33 + m) = nI x := by
        by_cases e : a * 33 + m = a * 33 + A.length
        · rw [e]; exact pk_us
        · rw [pk_un e]; exact hx
      have hB' : ic_L (upd g (a * 33 + A.length) (nI x)) (a * 33 + (m + 1)) B := by
        have := ic_L_up (k := a * 33 + A.length) (x := nI x) hBg (by omega)
        rw [show a * 33 + (m + 1) = a * 33 + m + 1 by omega]; exact this
      by_cases e : x = c
      · subst e
        obtain ⟨g', h1, h2, h3⟩ := ih A B (m + 1) (upd g (a * 33 + A.length) (nI x)) (by omega) (by omega) (by omega) (by rw [ho]; congr 1; omega) (fun y hy => hB y (List.mem_cons_of_mem _ hy)) (ic_L_up hA (by omega)) hB'
        rw [ic_rm_eq]
        refine ⟨g', h1, fun j hj => by rw [h2 j hj, pk_un (by omega)], fun post hp => ?_⟩
        rw [wX_unqueue_11]
        simp (disch := omega) only [forall_eq, true_and, and_true, true_implies, false_implies, implies_true, not_true_eq_false, not_false_eq_true, nI_clamp, vp_in_nI, nI_add, ic_m3, ic_m4, ic_m5, ic_m6, ic_m8, ic_m11, ic_m12, ic_m24, ic_m33, ic_p1, ic_p2, ic_p3, ic_p4, ic_p5, ic_p6, ic_p7, ic_p8, ic_q3, ic_d11, ic_r11, ic_d22, ic_n11, ic_n22, ic_n3, ic_n2, ic_oneI, ho, hx, hrd]
        exact br_f hng (h3 post hp)
      · obtain ⟨g', h1, h2, h3⟩ := ih (A ++ [x]) B (m + 1) (upd g (a * 33 + A.length) (nI x)) (by omega) (by simp; omega) (by omega) (by rw [ho]; congr 1; omega) (fun y hy => hB y (List.mem_cons_of_mem _ hy))
          (by
            rw [ic_L_app, ic_L_cons]
            exact ⟨ic_L_up hA (by omega), pk_us, ic_L_nil _ _⟩) hB'
        rw [ic_rm_ne e]
        have e5 : A ++ [x] ++ ic_rm c B = A ++ x :: ic_rm c B := by simp
        rw [e5] at h1 h3
        refine ⟨g', h1, fun j hj => by rw [h2 j hj, pk_un (by omega)], fun post hp => ?_⟩
        have e6 : (A ++ [x]).length = A.length + 1 := by simp
        rw [e6] at h3
        rw [wX_unqueue_11]
        simp (disch := omega) only [forall_eq, true_and, and_true, true_implies, false_implies, implies_true, not_true_eq_false, not_false_eq_true, nI_clamp, vp_in_nI, nI_add, ic_m3, ic_m4, ic_m5, ic_m6, ic_m8, ic_m11, ic_m12, ic_m24, ic_m33, ic_p1, ic_p2, ic_p3, ic_p4, ic_p5, ic_p6, ic_p7, ic_p8, ic_q3, ic_d11, ic_r11, ic_d22, ic_n11, ic_n22, ic_n3, ic_n2, ic_oneI, ho, hx, hrd]
        exact br_f hng (br_f (fun z => e (ic_eqn (by omega) (by omega) z)) (h3 post hp))
theorem xw_uq {a c : Nat} {L : List Nat} (ha : a < 2) (hc : c < 33) (hl : L.length ≤ 33) (hL : ∀ x, x ∈ L → x < 33) (ho : qs a = nI L.length) (hg : ic_L qu (a * 33) L) :
    ∃ qu' : Nat → Int32, ic_L qu' (a * 33) (ic_rm c L) ∧ (∀ j, j < a * 33 ∨ a * 33 + 33 ≤ j → qu' j = qu j) ∧
      ∀ post : SX → Prop, post (wn, fl, nt, ro, ph, ck, ch, na, ns, ba, ow, se, tp, po, pc, pb, sp, sg, st, rk, cx, ca, mr, fm, mb, od, os, qu', upd qs a (nI (ic_rm c L).length), vp_updL qd a (qd a &&& (((1 : Int64) <<< ((nI c).toInt64 &&& 63)) ^^^ (-1))), rg, ft) → wpX_unqueue post (wn, fl, nt, ro, ph, ck, ch, na, ns, ba, ow, se, tp, po, pc, pb, sp, sg, st, rk, cx, ca, mr, fm, mb, od, os, qu, qs, qd, rg, ft) (nI a) (nI c) := by
  obtain ⟨g', h1, h2, h3⟩ := xw_uqL (wn := wn) (fl := fl) (nt := nt) (ro := ro) (ph := ph) (ck := ck) (ch := ch) (na := na) (ns := ns) (ba := ba) (ow := ow) (se := se) (tp := tp) (po := po) (pc := pc) (pb := pb) (sp := sp) (sg := sg) (st := st) (rk := rk) (cx := cx) (ca := ca) (mr := mr) (fm := fm) (mb := mb) (od := od) (os := os) (qs := qs) (qd := qd) (rg := rg) (ft := ft) ha hc 34 [] L 0 qu (by omega) (by simp) (by omega) (by rw [ho, Nat.zero_add]) hL (ic_L_nil _ _) hg
  rw [List.nil_append] at h1
  refine ⟨g', h1, h2, fun post hp => ?_⟩
  refine nm_r (ic_m33 a) (nm_r (ic_m33 a) ⟨34, h3 post hp⟩)
end
end
section
/-! the groups under change -/
theorem ic_CHm {ph ch st st' : Nat → Int32} (h : ∀ j, st j ≠ 0 → st' j ≠ 0) (H : ic_CH ph ch st) : ic_CH ph ch st' := by
  intro a ha hp
  obtain ⟨c, h1, h2, h3⟩ := H a ha hp
  exact ⟨c, h1, h2, h _ h3⟩
theorem ic_Fm {fl : Int32} {st st' bd bd' ft pa : Nat → Int32} (h : ∀ j, st j ≠ 0 → st' j ≠ 0) (hb : ∀ j, bd j ≠ 0 → bd' j ≠ 0) (H : ic_F fl st bd ft pa) : ic_F fl st' bd' ft pa := by
  obtain ⟨f, h1, h2, h3⟩ := H
  refine ⟨f, h1, h2, fun i hi => ?_⟩
  obtain ⟨k, s, p, d, r, m, b, q, g1, g2, g3, g4, g5, g6⟩ := h3 i hi
  exact ⟨k, s, p, d, r, m, b, q, g1, g2, g3, fun z => hb _ (g4 z), fun z => h _ (g5 z), fun z => h _ (g6 z)⟩
theorem ic_Qst {st st' qu qs sk : Nat → Int32} {qd : Nat → Int64} (h : ∀ a c, a < 2 → c < 33 → st (a * 33 + c) = 2 → st' (a * 33 + c) = 2) (H : ic_Q st qu qs qd sk) : ic_Q st' qu qs qd sk := by
  intro a ha
  obtain ⟨Q, h1, h2, h3⟩ := H a ha
  exact ⟨Q, h1, fun c hc => ⟨(h2 c hc).1, h a c ha (h2 c hc).1 (h2 c hc).2⟩, h3⟩
theorem ic_Cst {k : Nat} {st st' ck ca rg : Nat → Int32} (h : ∀ j, st' j = 3 → st j = 3) (H : ic_C k st ck ca rg) : ic_C k st' ck ca rg := by
  intro a ha
  obtain ⟨t, h1, h2, h3⟩ := H a ha
  exact ⟨t, h1, h2, fun c hc z => h3 c hc (h _ z)⟩
theorem ic_SBi {st st' ba se : Nat → Int32} (h : ∀ j, st' j = 0 ↔ st j = 0) (H : ic_SB st ba se) : ic_SB st' ba se := by
  intro a ha c hc z
  exact H a ha c hc (fun z2 => z ((h _).mpr z2))
theorem ic_FMi {st st' : Nat → Int32} {fm : Nat → Int64} (h : ∀ j, st' j = 0 ↔ st j = 0) (H : ic_FM st fm) : ic_FM st' fm := by
  intro a ha c hc
  rw [H a ha c hc]
  exact not_congr (h _).symm
theorem ic_Oi {st st' rk od os : Nat → Int32} (h : ∀ j, st' j = 0 ↔ st j = 0) (H : ic_O st rk od os) : ic_O st' rk od os := by
  intro a ha
  obtain ⟨L, h1, h2, h3⟩ := H a ha
  refine ⟨L, h1, fun c => ?_, h3⟩
  rw [h2 c]
  exact and_congr Iff.rfl (not_congr (h _).symm)
theorem ic_Ki {E : Nat → Nat → Prop} {ro se bd st st' rk : Nat → Int32} (h : ∀ j, st' j = 0 ↔ st j = 0) (H : ic_K E ro se bd st rk) : ic_K E ro se bd st' rk := by
  intro a ha c hc he z
  exact H a ha c hc he (fun z2 => z ((h _).mpr z2))
theorem ic_Km {E E' : Nat → Nat → Prop} {ro se bd st rk : Nat → Int32} (h : ∀ a c, E a c → E' a c) (H : ic_K E ro se bd st rk) : ic_K E' ro se bd st rk := by
  intro a ha c hc he z
  exact H a ha c hc (fun z2 => he (h _ _ z2)) z
def ic_Em (E : Nat → Nat → Prop) (a c : Nat) : Nat → Nat → Prop := fun a' c' => E a' c' ∧ ¬ (a' = a ∧ c' = c)
theorem ic_far {nt ba po pc pb bd bo se : Nat → Int32} (hP : ic_P nt ba po pc pb bd bo) (hsp : ic_SP se bd) {a p : Nat} (ha : a < 2) (hp3 : 3 ≤ p) (hp : p < 11) (hs : se (a * 11 + p) ≠ 0) :
    ∃ b : Nat, b < 2 ∧ pb ((1 - a) * 11 + p) = nI b ∧ bd ((1 - a) * 11 + p) = nI (b + 1) := by
  have h1 := hsp a ha p hp3 hp hs
  obtain ⟨n, h2, h3, h4, h5, h6⟩ := hP (1 - a) (by omega)
  by_cases h : p < 3 + n
  · obtain ⟨b, d, g1, g2, g3, g4, g5, g6, g7⟩ := h4 p hp3 h
    exact ⟨b, g1, g3, g4⟩
  · exact absurd (h5 p (by omega) hp) h1
theorem ic_and0 (F G : Int64) : (F &&& G) = 0 ↔ ∀ i, i < 64 → ic_B F i = true → ic_B G i = true → False := by
  rw [ic_Bz]
  constructor
  · intro h i hi h1 h2
    have h3 := h i hi
    rw [ic_Band, h1, h2] at h3
    cases h3
  · intro h i hi
    rw [ic_Band]
    cases h1 : ic_B F i
    · rfl
    · cases h2 : ic_B G i
      · rfl
      · exact (h i hi h1 h2).elim
theorem ic_kin0 {F : Int64} {fm : Nat → Int64} {se st : Nat → Int32} {a c : Nat} (ha : a < 2) (h0 : st (a * 33 + c) = 0) (hF : ∀ i, i < 64 → (ic_B F i = true ↔ i < 33 ∧ ic_Sm se a c i)) (hfm : ic_FM st fm) :
    (F &&& fm a) = 0 ↔ ¬ ∃ y, y < 33 ∧ ic_KC se st a c 0 y := by
  rw [ic_and0]
  constructor
  · rintro h ⟨y, hy, h1, h2, h3, h4⟩
    exact h y (by omega) ((hF y (by omega)).mpr ⟨hy, h4⟩) ((hfm a ha y hy).mpr h2)
  · intro h i hi h1 h2
    have h3 := (hF i hi).mp h1
    have h4 := (hfm a ha i h3.1).mp h2
    exact h ⟨i, h3.1, fun e => h4 (by rw [e]; exact h0), h4, Or.inl rfl, h3.2⟩
theorem ic_kinS {F : Int64} {mb : Nat → Int64} {se st : Nat → Int32} {a c s : Nat} (ha : a < 2) (hs1 : 1 ≤ s) (hs : s ≤ 5) (h0 : st (a * 33 + c) ≠ nI s) (hF : ∀ i, i < 64 → (ic_B F i = true ↔ i < 33 ∧ ic_Sm se a c i)) (hM : ic_M st mb) :
    (F &&& mb (a * 6 + s)) = 0 ↔ ¬ ∃ y, y < 33 ∧ ic_KC se st a c s y := by
  rw [ic_and0]
  constructor
  · rintro h ⟨y, hy, h1, h2, h3, h4⟩
    refine h y (by omega) ((hF y (by omega)).mpr ⟨hy, h4⟩) ((hM a ha s hs1 hs y hy).mpr ?_)
    rcases h3 with h3 | h3
    · omega
    · exact h3
  · intro h i hi h1 h2
    have h3 := (hF i hi).mp h1
    have h4 := (hM a ha s hs1 hs i h3.1).mp h2
    refine h ⟨i, h3.1, fun e => h0 (by rw [← e]; exact h4), ?_, Or.inr h4, h3.2⟩
    intro z
    rw [z] at h4
    have := ic_eqn (a := 0) (by omega) (by omega) h4
    omega
theorem ic_Of {st rk od os od' os' rk' st' : Nat → Int32} {a : Nat} (ha : a < 2) (H : ic_O st rk od os) (h1 : ∀ a', a' < 2 → a' ≠ a → os' a' = os a') (h2 : ∀ j, j < a * 33 ∨ a * 33 + 33 ≤ j → od' j = od j)
    (h3 : ∀ j, j < a * 33 ∨ a * 33 + 33 ≤ j → rk' j = rk j) (h4 : ∀ j, j < a * 33 ∨ a * 33 + 33 ≤ j → st' j = st j) (hL : ∃ L, ic_O1 st' rk' od' os' a L) : ic_O st' rk' od' os' := by
  intro a' ha'
  by_cases e : a' = a
  · rw [e]; exact hL
  · obtain ⟨L, g1, g2, g3, g4, g5⟩ := H a' ha'
    have hlen : L.length ≤ 33 := ic_len 33 L g1 (fun c hc => ((g2 c).mp hc).1)
    refine ⟨L, g1, fun c => ?_, ?_, ?_, ?_⟩
    · rw [g2 c]
      constructor
      · rintro ⟨x1, x2⟩
        exact ⟨x1, by rw [h4 _ (by omega)]; exact x2⟩
      · rintro ⟨x1, x2⟩
        exact ⟨x1, by rw [h4 _ (by omega)] at x2; exact x2⟩
    · rw [h1 a' ha' e]; exact g3
    · exact ic_L_fr g4 (fun j _ _ => h2 j (by omega))
    · refine List.Pairwise.imp_of_mem ?_ g5
      intro p q hp hq h
      have p1 := ((g2 p).mp hp).1
      have q1 := ((g2 q).mp hq).1
      rw [h3 _ (by omega), h3 _ (by omega)]; exact h
theorem ic_Ku {E : Nat → Nat → Prop} {ro se bd st st' rk : Nat → Int32} {a c m : Nat} (ha : a < 2) (hc : c < 33) (H : ic_K E ro se bd st rk) (hst : ∀ j, j ≠ a * 33 + c → st' j = st j) (hm : m = ic_pr ro se bd a c) :
    ic_K (ic_Em E a c) ro se bd st' (upd rk (a * 33 + c) (nI (m * 64 + 63 - c))) := by
  intro a' ha' c' hc' he z
  by_cases e : a' = a ∧ c' = c
  · rw [e.1, e.2, pk_us, hm]
  · have e2 : a' * 33 + c' ≠ a * 33 + c := by omega
    rw [pk_un e2]
    exact H a' ha' c' hc' (fun z2 => he ⟨z2, e⟩) (by rw [hst _ e2] at z; exact z)
end
section
/-! form, and the move of a pair whose rank has changed -/
section
variable {wn fl : Int32} {nt ro ph ck ch na ns ba ow se tp po pc pb sp sg st rk cx ca mr : Nat → Int32} {fm mb : Nat → Int64} {od os qu qs : Nat → Int32} {qd : Nat → Int64} {rg ft pa bd bo sk sn : Nat → Int32}
theorem lk_form {k a c : Nat} {E : Nat → Nat → Prop} (hI : ic_I k E wn fl nt ro ph ck ch na ns ba ow se tp po pc pb sp sg st rk cx ca mr fm mb od os qu qs qd rg ft pa bd bo sk sn) (ha : a < 2) (hc : c < 33) (h0 : st (a * 33 + c) = 0) (hb : ba (a * 3 + c / 11) ≠ 0) (hs : se (a * 11 + c % 11) ≠ 0) :
    ∃ (s : Nat) (st' rk' od' os' : Nat → Int32) (fm' mb' : Nat → Int64), (s = 1 ∨ s = 2) ∧ st' = upd st (a * 33 + c) (nI s) ∧ ic_I k (ic_Em E a c) wn fl nt ro ph ck ch na ns ba ow se tp po pc pb sp sg st' rk' cx ca mr fm' mb' od' os' qu qs qd rg ft pa bd bo sk sn ∧
      (∀ post : SX → Prop, post (wn, fl, nt, ro, ph, ck, ch, na, ns, ba, ow, se, tp, po, pc, pb, sp, sg, st', rk', cx, ca, mr, fm', mb', od', os', qu, qs, qd, rg, ft) → wpX_form post (wn, fl, nt, ro, ph, ck, ch, na, ns, ba, ow, se, tp, po, pc, pb, sp, sg, st, rk, cx, ca, mr, fm, mb, od, os, qu, qs, qd, rg, ft) (nI a) (nI c)) ∧ (∀ post : SY → Prop, post (fl, wn, nt, ro, ph, ck, ch, ns, na, pa, ow, se, bd, bo, st', cx, ca, mr, sk, ba, sn) → wpY_form post (fl, wn, nt, ro, ph, ck, ch, ns, na, pa, ow, se, bd, bo, st, cx, ca, mr, sk, ba, sn) (nI a) (nI c)) := by
  obtain ⟨hnt, hro, hph, hns, how, hse, hst, hmk, hrg, hpn, hch, hob, hop, hsp, hsb, hP, hS, hT, hM, hfm, hO, hK, hQ, hC, hF⟩ := hI
  obtain ⟨t, ht1, ht4, hset⟩ := ic_nz (hse (a * 11 + c % 11)) hs
  have h0' : st (a * 33 + c) = nI 0 := h0
  obtain ⟨L, l1, l2, l3, l4, l5⟩ := hO a ha
  have lc : c ∉ L := fun z => ((l2 c).mp z).2 h0
  have ll : L.length < 33 := by
    have := ic_len 33 (c :: L) (List.nodup_cons.mpr ⟨lc, l1⟩) (fun x hx => by
      rcases List.mem_cons.mp hx with rfl | hx
      · exact hc
      · exact ((l2 x).mp hx).1)
    simp at this; omega
  have main : ∀ s : Nat, (s = 1 ∨ s = 2) → ∃ (st' rk' od' os' : Nat → Int32) (fm' mb' : Nat → Int64), st' = upd st (a * 33 + c) (nI s) ∧ ic_I k (ic_Em E a c) wn fl nt ro ph ck ch na ns ba ow se tp po pc pb sp sg st' rk' cx ca mr fm' mb' od' os' qu qs qd rg ft pa bd bo sk sn ∧
      (∀ post : SX → Prop, post (wn, fl, nt, ro, ph, ck, ch, na, ns, ba, ow, se, tp, po, pc, pb, sp, sg, st', rk', cx, ca, mr, fm', mb', od', os', qu, qs, qd, rg, ft) → wX_form_70 post (nI a) (nI c) (nI s) (nI c) (nI a) wn fl nt ro ph ck ch na ns ba ow se tp po pc pb sp sg st rk cx ca mr fm mb od os qu qs qd rg ft) := by
    intro s hs12
    have hs0 : ¬ nI s = 0 := nI_ne0 (by omega) (by omega)
    obtain ⟨od', P', x1, x2, x3, x4, x5⟩ := xw_ins (wn := wn) (fl := fl) (nt := nt) (ro := ro) (ph := ph) (ck := ck) (ch := ch) (na := na) (ns := ns) (ba := ba) (ow := ow) (se := se) (tp := tp) (po := po) (pc := pc) (pb := pb) (sp := sp) (sg := sg) (st := upd st (a * 33 + c) (nI s)) (rk := rk) (cx := cx) (ca := ca) (mr := mr) (fm := vp_updL fm a (fm a ||| ((1 : Int64) <<< ((nI c).toInt64 &&& 63)))) (mb := ic_ms mb a c 0 s) (od := od) (os := os) (qu := qu) (qs := qs) (qd := qd) (rg := rg) (ft := ft)
      ha hc (ic_pr_lt (bd := bd) (a := a) hro hse hc) (fun x hx => ((l2 x).mp hx).1) ll l3 l4 lc l5
      (fun post hp => xw_prio ha hc hro ht1 ht4 hset (fun h3 => ic_far hP hsp ha h3 (by omega) hs) hp)
    refine ⟨upd st (a * 33 + c) (nI s), upd rk (a * 33 + c) (nI (ic_pr ro se bd a c * 64 + 63 - c)), od', upd os a (nI P'.length), vp_updL fm a (fm a ||| ((1 : Int64) <<< ((nI c).toInt64 &&& 63))), ic_ms mb a c 0 s, rfl, ?_, fun post hp => ?_⟩
    rotate_left
    · unfold wX_form_70
      refine xw_set ha hc (by omega) (by omega) h0' ?_
      simp (disch := omega) only [forall_eq, true_and, and_true, true_implies, false_implies, implies_true, not_true_eq_false, not_false_eq_true, nI_clamp, vp_in_nI, nI_add, ic_m3, ic_m4, ic_m5, ic_m6, ic_m8, ic_m11, ic_m12, ic_m24, ic_m33, ic_p1, ic_p2, ic_p3, ic_p4, ic_p5, ic_p6, ic_p7, ic_p8, ic_q3, ic_d11, ic_r11, ic_d22, ic_n11, ic_n22, ic_n3, ic_n2, ic_oneI]
      exact x1 _ hp
    · have mono : ∀ j, st j ≠ 0 → upd st (a * 33 + c) (nI s) j ≠ 0 := by
        intro j hj
        by_cases e : j = a * 33 + c
        · rw [e, pk_us]; exact hs0
        · rw [pk_un e]; exact hj
      have hso : ∀ j, j ≠ a * 33 + c → upd st (a * 33 + c) (nI s) j = st j := fun j e => pk_un e
      refine ⟨hnt, hro, hph, hns, how, hse, ic_Ru hst _ s (by omega), hmk, hrg, hpn, ic_CHm mono hch, hob, hop, hsp, ?_, hP, hS, hT, ic_Mset hM ha hc (by omega) (by omega) h0', ?_, ?_, ic_Ku ha hc hK hso rfl, ?_, ?_, ic_Fm mono (fun _ z => z) hF⟩
      · intro a' ha' c' hc' z
        by_cases e : a' * 33 + c' = a * 33 + c
        · have e1 : a' = a := by omega
          have e2 : c' = c := by omega
          rw [e1, e2]; exact ⟨hb, hs⟩
        · rw [pk_un e] at z
          exact hsb a' ha' c' hc' z
      · intro a' ha' c' hc'
        by_cases e1 : a' = a
        · subst e1
          rw [pk_uLs, ic_Bor, ic_Bone (by omega) (by omega), Bool.or_eq_true, decide_eq_true_iff]
          by_cases e : c' = c
          · subst e
            rw [pk_us]
            exact ⟨fun _ => hs0, fun _ => Or.inr rfl⟩
          · rw [pk_un (by omega), hfm a' ha' c' hc']
            exact ⟨fun z => z.elim id (fun z => absurd z e), Or.inl⟩
        · rw [pk_uLn e1, pk_un (by omega)]
          exact hfm a' ha' c' hc'
      · refine ic_Of ha hO (fun a' _ e => pk_un e) (fun j hj => x4 j (by omega)) (fun j hj => pk_un (by omega)) (fun j hj => pk_un (by omega)) ⟨P', ?_, fun x => ?_, pk_us, x3, x5⟩
        · exact (x2.nodup_iff).mpr (List.nodup_cons.mpr ⟨lc, l1⟩)
        · rw [x2.mem_iff, List.mem_cons, l2 x]
          by_cases e : x = c
          · subst e
            rw [pk_us]
            exact ⟨fun _ => ⟨hc, hs0⟩, fun _ => Or.inl rfl⟩
          · rw [pk_un (by omega)]
            exact ⟨fun z => z.elim (fun z => absurd z e) id, Or.inr⟩
      · refine ic_Qst (fun a' c' ha' hc' z => ?_) hQ
        rw [pk_un]
        · exact z
        · intro e
          rw [e, h0] at z
          exact absurd z (by decide)
      · refine ic_Cst (fun j z => ?_) hC
        by_cases e : j = a * 33 + c
        · rw [e, pk_us] at z
          have := ic_eqn (b := 3) (by omega) (by omega) z
          omega
        · rw [pk_un e] at z; exact z
  obtain ⟨F, hF1, hF2⟩ := xw_found (wn := wn) (fl := fl) (nt := nt) (ro := ro) (ph := ph) (ck := ck) (ch := ch) (na := na) (ns := ns) (ba := ba) (ow := ow) (se := se) (tp := tp) (po := po) (pc := pc) (pb := pb) (sp := sp) (sg := sg) (st := st) (rk := rk) (cx := cx) (ca := ca) (mr := mr) (fm := fm) (mb := mb) (od := od) (os := os) (qu := qu) (qs := qs) (qd := qd) (rg := rg) (ft := ft) ha hc hT ht1 ht4 hset
  have k0 := ic_kin0 ha h0 hF1 hfm
  have k4 := ic_kinS (s := 4) ha (by omega) (by omega) (by rw [h0]; decide) hF1 hM
  by_cases c0 : ∃ y, y < 33 ∧ ic_KC se st a c 0 y
  · have n0 : ¬ (F &&& fm a) = 0 := fun z => (k0.mp z) c0
    by_cases c4 : ∃ y, y < 33 ∧ ic_KC se st a c 4 y
    · have n4 : ¬ (F &&& mb (a * 6 + 4)) = 0 := fun z => (k4.mp z) c4
      obtain ⟨st', rk', od', os', fm', mb', e, g1, g2⟩ := main 2 (Or.inr rfl)
      refine ⟨2, st', rk', od', os', fm', mb', Or.inr rfl, e, g1, fun post hp => hF2 _ ?_, fun post hp => ?_⟩
      · simp (disch := omega) only [forall_eq, true_and, and_true, true_implies, false_implies, implies_true, not_true_eq_false, not_false_eq_true, nI_clamp, vp_in_nI, nI_add, ic_m3, ic_m4, ic_m5, ic_m6, ic_m8, ic_m11, ic_m12, ic_m24, ic_m33, ic_p1, ic_p2, ic_p3, ic_p4, ic_p5, ic_p6, ic_p7, ic_p8, ic_q3, ic_d11, ic_r11, ic_d22, ic_n11, ic_n22, ic_n3, ic_n2, ic_oneI]
        refine br_f n0 ?_
        unfold wX_form_25
        simp (disch := omega) only [forall_eq, true_and, and_true, true_implies, false_implies, implies_true, not_true_eq_false, not_false_eq_true, nI_clamp, vp_in_nI, nI_add, ic_m3, ic_m4, ic_m5, ic_m6, ic_m8, ic_m11, ic_m12, ic_m24, ic_m33, ic_p1, ic_p2, ic_p3, ic_p4, ic_p5, ic_p6, ic_p7, ic_p8, ic_q3, ic_d11, ic_r11, ic_d22, ic_n11, ic_n22, ic_n3, ic_n2, ic_oneI]
        exact br_f n4 (br_t rfl (br_f (by decide) (g2 post hp)))
      · refine yw_kin 0 ha hc (by omega) (fun _ => br_f (by decide) (yw_kin 4 ha hc (by omega) (fun _ => br_f (by decide) ?_) (fun z => absurd c4 z))) (fun z => absurd c0 z)
        simp (disch := omega) only [forall_eq, true_and, and_true, true_implies, false_implies, implies_true, not_true_eq_false, not_false_eq_true, nI_clamp, vp_in_nI, nI_add, ic_m3, ic_m4, ic_m5, ic_m6, ic_m8, ic_m11, ic_m12, ic_m24, ic_m33, ic_p1, ic_p2, ic_p3, ic_p4, ic_p5, ic_p6, ic_p7, ic_p8, ic_q3, ic_d11, ic_r11, ic_d22, ic_n11, ic_n22, ic_n3, ic_n2, ic_oneI]
        rw [e] at hp; exact hp
    · have n4 : (F &&& mb (a * 6 + 4)) = 0 := k4.mpr c4
      obtain ⟨st', rk', od', os', fm', mb', e, g1, g2⟩ := main 1 (Or.inl rfl)
      refine ⟨1, st', rk', od', os', fm', mb', Or.inl rfl, e, g1, fun post hp => hF2 _ ?_, fun post hp => ?_⟩
      · simp (disch := omega) only [forall_eq, true_and, and_true, true_implies, false_implies, implies_true, not_true_eq_false, not_false_eq_true, nI_clamp, vp_in_nI, nI_add, ic_m3, ic_m4, ic_m5, ic_m6, ic_m8, ic_m11, ic_m12, ic_m24, ic_m33, ic_p1, ic_p2, ic_p3, ic_p4, ic_p5, ic_p6, ic_p7, ic_p8, ic_q3, ic_d11, ic_r11, ic_d22, ic_n11, ic_n22, ic_n3, ic_n2, ic_oneI]
        refine br_f n0 ?_
        unfold wX_form_25
        simp (disch := omega) only [forall_eq, true_and, and_true, true_implies, false_implies, implies_true, not_true_eq_false, not_false_eq_true, nI_clamp, vp_in_nI, nI_add, ic_m3, ic_m4, ic_m5, ic_m6, ic_m8, ic_m11, ic_m12, ic_m24, ic_m33, ic_p1, ic_p2, ic_p3, ic_p4, ic_p5, ic_p6, ic_p7, ic_p8, ic_q3, ic_d11, ic_r11, ic_d22, ic_n11, ic_n22, ic_n3, ic_n2, ic_oneI]
        exact br_t n4 (br_t rfl (br_t rfl (g2 post hp)))
      · refine yw_kin 0 ha hc (by omega) (fun _ => br_f (by decide) (yw_kin 4 ha hc (by omega) (fun z => absurd z c4) (fun _ => br_t rfl ?_))) (fun z => absurd c0 z)
        simp (disch := omega) only [forall_eq, true_and, and_true, true_implies, false_implies, implies_true, not_true_eq_false, not_false_eq_true, nI_clamp, vp_in_nI, nI_add, ic_m3, ic_m4, ic_m5, ic_m6, ic_m8, ic_m11, ic_m12, ic_m24, ic_m33, ic_p1, ic_p2, ic_p3, ic_p4, ic_p5, ic_p6, ic_p7, ic_p8, ic_q3, ic_d11, ic_r11, ic_d22, ic_n11, ic_n22, ic_n3, ic_n2, ic_oneI]
        rw [e] at hp; exact hp
  · have n0 : (F &&& fm a) = 0 := k0.mpr c0
    obtain ⟨st', rk', od', os', fm', mb', e, g1, g2⟩ := main 2 (Or.inr rfl)
    refine ⟨2, st', rk', od', os', fm', mb', Or.inr rfl, e, g1, fun post hp => hF2 _ ?_, fun post hp => ?_⟩
    · simp (disch := omega) only [forall_eq, true_and, and_true, true_implies, false_implies, implies_true, not_true_eq_false, not_false_eq_true, nI_clamp, vp_in_nI, nI_add, ic_m3, ic_m4, ic_m5, ic_m6, ic_m8, ic_m11, ic_m12, ic_m24, ic_m33, ic_p1, ic_p2, ic_p3, ic_p4, ic_p5, ic_p6, ic_p7, ic_p8, ic_q3, ic_d11, ic_r11, ic_d22, ic_n11, ic_n22, ic_n3, ic_n2, ic_oneI]
      refine br_t n0 ?_
      unfold wX_form_25
      simp (disch := omega) only [forall_eq, true_and, and_true, true_implies, false_implies, implies_true, not_true_eq_false, not_false_eq_true, nI_clamp, vp_in_nI, nI_add, ic_m3, ic_m4, ic_m5, ic_m6, ic_m8, ic_m11, ic_m12, ic_m24, ic_m33, ic_p1, ic_p2, ic_p3, ic_p4, ic_p5, ic_p6, ic_p7, ic_p8, ic_q3, ic_d11, ic_r11, ic_d22, ic_n11, ic_n22, ic_n3, ic_n2, ic_oneI]
      exact br_c (fun _ => br_f (by decide) (g2 post hp)) (fun _ => br_f (by decide) (g2 post hp))
    · refine yw_kin 0 ha hc (by omega) (fun z => absurd z c0) (fun _ => br_t rfl ?_)
      simp (disch := omega) only [forall_eq, true_and, and_true, true_implies, false_implies, implies_true, not_true_eq_false, not_false_eq_true, nI_clamp, vp_in_nI, nI_add, ic_m3, ic_m4, ic_m5, ic_m6, ic_m8, ic_m11, ic_m12, ic_m24, ic_m33, ic_p1, ic_p2, ic_p3, ic_p4, ic_p5, ic_p6, ic_p7, ic_p8, ic_q3, ic_d11, ic_r11, ic_d22, ic_n11, ic_n22, ic_n3, ic_n2, ic_oneI]
      rw [e] at hp; exact hp
/-- X moves a pair whose rank may be stale -/
theorem lk_move {k a c : Nat} {E : Nat → Nat → Prop} (hI : ic_I k E wn fl nt ro ph ck ch na ns ba ow se tp po pc pb sp sg st rk cx ca mr fm mb od os qu qs qd rg ft pa bd bo sk sn) (ha : a < 2) (hc : c < 33) (h0 : st (a * 33 + c) ≠ 0) :
    ∃ (rk' od' os' : Nat → Int32), ic_I k (ic_Em E a c) wn fl nt ro ph ck ch na ns ba ow se tp po pc pb sp sg st rk' cx ca mr fm mb od' os' qu qs qd rg ft pa bd bo sk sn ∧ (∀ post : SX → Prop, post (wn, fl, nt, ro, ph, ck, ch, na, ns, ba, ow, se, tp, po, pc, pb, sp, sg, st, rk', cx, ca, mr, fm, mb, od', os', qu, qs, qd, rg, ft) → wpX_withdraw (fun u => wpX_insert post u (nI a) (nI c)) (wn, fl, nt, ro, ph, ck, ch, na, ns, ba, ow, se, tp, po, pc, pb, sp, sg, st, rk, cx, ca, mr, fm, mb, od, os, qu, qs, qd, rg, ft) (nI a) (nI c)) := by
  obtain ⟨hnt, hro, hph, hns, how, hse, hst, hmk, hrg, hpn, hch, hob, hop, hsp, hsb, hP, hS, hT, hM, hfm, hO, hK, hQ, hC, hF⟩ := hI
  obtain ⟨hb, hs⟩ := hsb a ha c hc h0
  obtain ⟨t, ht1, ht4, hset⟩ := ic_nz (hse (a * 11 + c % 11)) hs
  obtain ⟨L, l1, l2, l3, l4, l5⟩ := hO a ha
  have l33 : ∀ x, x ∈ L → x < 33 := fun x hx => ((l2 x).mp hx).1
  have lc : c ∉ ic_rm c L := fun z => (ic_rm_mem.mp z).2 rfl
  have lr : ∀ x, x ∈ ic_rm c L → x < 33 := fun x hx => l33 x (ic_rm_mem.mp hx).1
  have ll : (ic_rm c L).length < 33 := by
    have := ic_len 33 (c :: ic_rm c L) (List.nodup_cons.mpr ⟨lc, ic_rm_nd l1⟩) (fun x hx => by
      rcases List.mem_cons.mp hx with rfl | hx
      · exact hc
      · exact lr x hx)
    simp at this; omega
  obtain ⟨od1, y1, y2, y3⟩ := xw_wd (wn := wn) (fl := fl) (nt := nt) (ro := ro) (ph := ph) (ck := ck) (ch := ch) (na := na) (ns := ns) (ba := ba) (ow := ow) (se := se) (tp := tp) (po := po) (pc := pc) (pb := pb) (sp := sp) (sg := sg) (st := st) (rk := rk) (cx := cx) (ca := ca) (mr := mr) (fm := fm) (mb := mb) (qu := qu) (qs := qs) (qd := qd) (rg := rg) (ft := ft) ha hc (ic_len 33 L l1 l33) l33 l3 l4
  obtain ⟨od', P', x1, x2, x3, x4, x5⟩ := xw_ins (wn := wn) (fl := fl) (nt := nt) (ro := ro) (ph := ph) (ck := ck) (ch := ch) (na := na) (ns := ns) (ba := ba) (ow := ow) (se := se) (tp := tp) (po := po) (pc := pc) (pb := pb) (sp := sp) (sg := sg) (st := st) (rk := rk) (cx := cx) (ca := ca) (mr := mr) (fm := fm) (mb := mb) (od := od1) (os := upd os a (nI (ic_rm c L).length)) (qu := qu) (qs := qs) (qd := qd) (rg := rg) (ft := ft)
    ha hc (ic_pr_lt (bd := bd) (a := a) hro hse hc) lr ll pk_us y1 lc (List.Pairwise.filter _ l5)
    (fun post hp => xw_prio ha hc hro ht1 ht4 hset (fun h3 => ic_far hP hsp ha h3 (by omega) hs) hp)
  refine ⟨upd rk (a * 33 + c) (nI (ic_pr ro se bd a c * 64 + 63 - c)), od', upd (upd os a (nI (ic_rm c L).length)) a (nI P'.length), ?_, fun post hp => y3 _ (x1 post hp)⟩
  refine ⟨hnt, hro, hph, hns, how, hse, hst, hmk, hrg, hpn, hch, hob, hop, hsp, hsb, hP, hS, hT, hM, hfm, ?_, ic_Ku ha hc hK (fun _ _ => rfl) rfl, hQ, hC, hF⟩
  refine ic_Of ha hO (fun a' _ e => by rw [pk_un e, pk_un e]) (fun j hj => by rw [x4 j (by omega), y2 j (by omega)]) (fun j hj => pk_un (by omega)) (fun j hj => rfl) ⟨P', ?_, fun x => ?_, pk_us, x3, x5⟩
  · exact (x2.nodup_iff).mpr (List.nodup_cons.mpr ⟨lc, ic_rm_nd l1⟩)
  · rw [x2.mem_iff, List.mem_cons, ic_rm_mem, l2 x]
    by_cases e : x = c
    · subst e
      exact ⟨fun _ => ⟨hc, h0⟩, fun _ => Or.inl rfl⟩
    · exact ⟨fun z => z.elim (fun z => absurd z e) (fun z => z.1), fun z => Or.inr ⟨z, e⟩⟩
end
end
section
/-! translators: source and send -/
def ic_kym (m d : Nat) : Nat := if m = 1 then ic_gr d else if m = 2 then d else 0
theorem ic_ky_m {x : Int32} {m : Nat} (hm : m < 3) (h : (x - 1) / 3 = nI m) (d : Nat) : ic_ky x d = ic_kym m d := by
  unfold ic_ky ic_kym
  rw [h]
  by_cases h1 : m = 1
  · rw [if_pos h1, if_pos (by rw [h1]; rfl)]
  · rw [if_neg h1, if_neg (show ¬ nI m = 1 from fun z => h1 (ic_eqn (b := 1) (by omega) (by omega) z))]
    by_cases h2 : m = 2
    · rw [if_pos h2, if_pos (by rw [h2]; rfl)]
    · rw [if_neg h2, if_neg (show ¬ nI m = 2 from fun z => h2 (ic_eqn (b := 2) (by omega) (by omega) z))]
theorem ic_mp {x : Int32} (h : ic_vN x 9) (h0 : x ≠ 0) : ∃ m : Nat, m < 3 ∧ (x - 1) / 3 = nI m := by
  obtain ⟨t, h1, h2, rfl⟩ := ic_nz h h0
  refine ⟨(t - 1) / 3, by omega, ?_⟩
  rw [show nI t - 1 = nI (t - 1) from pk_sub (b := 1) h1]
  exact ic_d3 (by omega)
theorem ic_umono {f : Nat → Int32} {i j : Nat} {x : Int32} (hx : x ≠ 0) (h : f j ≠ 0) : upd f i x j ≠ 0 := by
  by_cases e : j = i
  · rw [e, pk_us]; exact hx
  · rw [pk_un e]; exact h
/-- a port that serves base b to destination d -/
def ic_MT (nt bd bo : Nat → Int32) (a b d p : Nat) : Prop := bd (a * 11 + p) = nI (b + 1) ∧ ∃ d' : Nat, d' < 12 ∧ bo (a * 11 + p) = nI d' ∧ ic_ky (nt a) d' = ic_ky (nt a) d
section
variable {wn fl : Int32} {nt ro ph ck ch na ns ba ow se tp po pc pb sp sg st rk cx ca mr : Nat → Int32} {fm mb : Nat → Int64} {od os qu qs : Nat → Int32} {qd : Nat → Int64} {rg ft pa bd bo sk sn : Nat → Int32}
theorem xw_key {post : Int32 → Prop} {a b d : Nat} (ha : a < 2) (hb : b < 3) (hd : d < 12) (hp : post (nI (a * 24 + b * 12 + ic_ky (nt a) d))) : wpX_bindingKey post (wn, fl, nt, ro, ph, ck, ch, na, ns, ba, ow, se, tp, po, pc, pb, sp, sg, st, rk, cx, ca, mr, fm, mb, od, os, qu, qs, qd, rg, ft) (nI a) (nI b) (nI d) := by
  unfold ic_ky at hp
  unfold wpX_bindingKey wX_bindingKey_39
  simp (disch := omega) only [forall_eq, true_and, and_true, true_implies, false_implies, implies_true, not_true_eq_false, not_false_eq_true, nI_clamp, vp_in_nI, nI_add, ic_m3, ic_m4, ic_m5, ic_m6, ic_m8, ic_m11, ic_m12, ic_m24, ic_m33, ic_p1, ic_p2, ic_p3, ic_p4, ic_p5, ic_p6, ic_p7, ic_p8, ic_q3, ic_d11, ic_r11, ic_d22, ic_n11, ic_n22, ic_n3, ic_n2, ic_oneI]
  refine br_c (fun h => xw_group (by omega) ?_) (fun h => ?_)
  · rw [if_pos h] at hp
    have h2 : ¬ (nt a - 1) / 3 = 2 := by rw [h]; decide
    simp (disch := omega) only [forall_eq, true_and, and_true, true_implies, false_implies, implies_true, not_true_eq_false, not_false_eq_true, nI_clamp, vp_in_nI, nI_add, ic_m3, ic_m4, ic_m5, ic_m6, ic_m8, ic_m11, ic_m12, ic_m24, ic_m33, ic_p1, ic_p2, ic_p3, ic_p4, ic_p5, ic_p6, ic_p7, ic_p8, ic_q3, ic_d11, ic_r11, ic_d22, ic_n11, ic_n22, ic_n3, ic_n2, ic_oneI]
    exact br_f h2 hp
  · rw [if_neg h] at hp
    refine br_c (fun h2 => ?_) (fun h2 => ?_)
    · rw [if_pos h2] at hp; exact hp
    · rw [if_neg h2] at hp; exact hp
theorem yw_srcL {post : Int32 → Prop} {a b d m n : Nat} (ha : a < 2) (hb : b < 2) (hd : d < 12) (hm : m < 3) (hmm : (nt a - 1) / 3 = nI m) (hn : n ≤ 8) (hP : ic_P1 nt ba po pb bd bo a n) : ∀ l x : Nat, 11 < l + x → 3 ≤ x → x ≤ 11 →
    (∀ p, x ≤ p → p < 11 → ic_MT nt bd bo a b d p → (∀ q, x ≤ q → q < p → ¬ ic_MT nt bd bo a b d q) → post (nI p)) → ((∀ p, x ≤ p → p < 11 → ¬ ic_MT nt bd bo a b d p) → post (-1)) →
    wY_source_39 post (nI b) (nI d) (nI m) fl wn nt ro ph ck ch ns na pa ow se bd bo st cx ca mr sk ba sn l (nI x) (nI (a * 11 + x)) := by
  intro l
  induction l with
  | zero => intro x h; omega
  | succ l ih =>
    intro x h1 h2 h3 k1 k0
    have nx : ¬ ic_MT nt bd bo a b d x → x < 11 → wY_source_39 post (nI b) (nI d) (nI m) fl wn nt ro ph ck ch ns na pa ow se bd bo st cx ca mr sk ba sn l (nI (x + 1)) (nI (a * 11 + x + 1)) := by
      intro hx hl
      have h4 := ih (x + 1) (by omega) (by omega) (by omega)
        (fun p g1 g2 g3 g4 => k1 p (by omega) g2 g3 (fun q q1 q2 => by
          by_cases e : q = x
          · rw [e]; exact hx
          · exact g4 q (by omega) q2))
        (fun g => k0 (fun p g1 g2 => by
          by_cases e : p = x
          · rw [e]; exact hx
          · exact g p (by omega) g2))
      rw [show a * 11 + (x + 1) = a * 11 + x + 1 by omega] at h4; exact h4
    rw [wY_source_39]
    refine pk_le 11 x (fun h => k0 (fun p g1 g2 => by omega)) (fun h => ⟨vp_in_nI (by omega) (by omega), ?_⟩)
    simp (disch := omega) only [forall_eq, true_and, and_true, true_implies, false_implies, implies_true, not_true_eq_false, not_false_eq_true, nI_clamp, vp_in_nI, nI_add, ic_m3, ic_m4, ic_m5, ic_m6, ic_m8, ic_m11, ic_m12, ic_m24, ic_m33, ic_p1, ic_p2, ic_p3, ic_p4, ic_p5, ic_p6, ic_p7, ic_p8, ic_q3, ic_d11, ic_r11, ic_d22, ic_n11, ic_n22, ic_n3, ic_n2, ic_oneI]
    have hit : ic_MT nt bd bo a b d x → post (nI x) := fun z => k1 x (Nat.le_refl _) h z (fun q q1 q2 => by omega)
    by_cases hx : x < 3 + n
    · obtain ⟨b', d', g1, g2, g3, g4, g5, g6, g7⟩ := hP.1 x h2 hx
      refine br_c (fun z => ?_) (fun z => nx (fun z2 => z z2.1) h)
      refine pk_eq m 0 (fun z0 => hit ⟨z, d', g2, g6, ?_⟩) (fun z0 => br_c (fun z1 => hit ⟨z, d, hd, z1, rfl⟩) (fun z1 => pk_eq m 1 (fun z2 => ?_) (fun z2 => ?_)))
      · rw [ic_ky_m hm hmm, ic_ky_m hm hmm]
        unfold ic_kym
        rw [if_neg (by omega), if_neg (by omega), if_neg (by omega), if_neg (by omega)]
      · rw [g6]
        refine yw_group (by omega) (yw_group (by omega) (br_c (fun z3 => hit ⟨z, d', g2, g6, ?_⟩) (fun z3 => nx (fun z4 => ?_) h)))
        · rw [ic_ky_m hm hmm, ic_ky_m hm hmm]
          unfold ic_kym
          rw [if_pos z2, if_pos z2]
          have := ic_gr_lt d
          have := ic_gr_lt d'
          exact ic_eqn (by omega) (by omega) z3
        · obtain ⟨_, d2, q1, q2, q3⟩ := z4
          rw [g6] at q2
          have e2 := ic_eqn (by omega) (by omega) q2
          rw [← e2, ic_ky_m hm hmm, ic_ky_m hm hmm] at q3
          unfold ic_kym at q3
          rw [if_pos z2, if_pos z2] at q3
          exact z3 (by rw [q3])
      · refine nx (fun z4 => ?_) h
        obtain ⟨_, d2, q1, q2, q3⟩ := z4
        rw [ic_ky_m hm hmm, ic_ky_m hm hmm] at q3
        unfold ic_kym at q3
        rw [if_neg z2, if_neg z2, if_pos (by omega), if_pos (by omega)] at q3
        rw [q3] at q2
        exact z1 q2
    · have hz := hP.2.1 x (by omega) h
      refine br_f ?_ (nx ?_ h)
      · rw [hz]
        intro e
        have := ic_eqn (a := 0) (b := b + 1) (by omega) (by omega) e
        omega
      · intro z
        have e := z.1
        rw [hz] at e
        have := ic_eqn (a := 0) (b := b + 1) (by omega) (by omega) e
        omega
/-- one source for both sides -/
theorem lk_src {a b d : Nat} (hnt : ic_R nt 9) (hP : ic_P nt ba po pc pb bd bo) (ha : a < 2) (hb : b < 3) (hd : d < 12) :
    ∃ r : Int32, (∀ post : Int32 → Prop, post r → wpX_sourceOf post (wn, fl, nt, ro, ph, ck, ch, na, ns, ba, ow, se, tp, po, pc, pb, sp, sg, st, rk, cx, ca, mr, fm, mb, od, os, qu, qs, qd, rg, ft) (nI a) (nI b) (nI d)) ∧ (∀ post : Int32 → Prop, post r → wpY_source post (fl, wn, nt, ro, ph, ck, ch, ns, na, pa, ow, se, bd, bo, st, cx, ca, mr, sk, ba, sn) (nI a) (nI b) (nI d)) ∧
      (r = nI b ∨ (r = -1 ∧ b < 2 ∧ nt a ≠ 0 ∧ po (a * 24 + b * 12 + ic_ky (nt a) d) = 0) ∨ ∃ p : Nat, 3 ≤ p ∧ p < 11 ∧ r = nI p ∧ bd (a * 11 + p) ≠ 0) := by
  by_cases hb2 : b = 2
  · have e2 : nI b = 2 := by rw [hb2]; rfl
    exact ⟨nI b, fun post hp => br_t e2 hp, fun post hp => br_t e2 hp, Or.inl rfl⟩
  · have e2 : ¬ nI b = 2 := fun z => hb2 (ic_eqn (b := 2) (by omega) (by omega) z)
    by_cases h0 : nt a = 0
    · refine ⟨nI b, fun post hp => ?_, fun post hp => ?_, Or.inl rfl⟩
      · unfold wpX_sourceOf
        simp (disch := omega) only [forall_eq, true_and, and_true, true_implies, false_implies, implies_true, not_true_eq_false, not_false_eq_true, nI_clamp, vp_in_nI, nI_add, ic_m3, ic_m4, ic_m5, ic_m6, ic_m8, ic_m11, ic_m12, ic_m24, ic_m33, ic_p1, ic_p2, ic_p3, ic_p4, ic_p5, ic_p6, ic_p7, ic_p8, ic_q3, ic_d11, ic_r11, ic_d22, ic_n11, ic_n22, ic_n3, ic_n2, ic_oneI]
        exact br_f e2 (br_t h0 hp)
      · unfold wpY_source
        simp (disch := omega) only [forall_eq, true_and, and_true, true_implies, false_implies, implies_true, not_true_eq_false, not_false_eq_true, nI_clamp, vp_in_nI, nI_add, ic_m3, ic_m4, ic_m5, ic_m6, ic_m8, ic_m11, ic_m12, ic_m24, ic_m33, ic_p1, ic_p2, ic_p3, ic_p4, ic_p5, ic_p6, ic_p7, ic_p8, ic_q3, ic_d11, ic_r11, ic_d22, ic_n11, ic_n22, ic_n3, ic_n2, ic_oneI]
        exact br_f e2 (br_t h0 hp)
    · obtain ⟨m, hm, hmm⟩ := ic_mp (hnt a) h0
      obtain ⟨n, hn, hpc, hP1⟩ := hP a ha
      have hk := ic_ky_lt (nt a) hd
      rcases hP1.2.2 b (by omega) _ hk with hz | ⟨p, d', p3, pn, hd', hpo, hpb, hbo, hkk⟩
      · refine ⟨-1, fun post hp => ?_, fun post hp => ?_, Or.inr (Or.inl ⟨rfl, by omega, h0, hz⟩)⟩
        · unfold wpX_sourceOf
          simp (disch := omega) only [forall_eq, true_and, and_true, true_implies, false_implies, implies_true, not_true_eq_false, not_false_eq_true, nI_clamp, vp_in_nI, nI_add, ic_m3, ic_m4, ic_m5, ic_m6, ic_m8, ic_m11, ic_m12, ic_m24, ic_m33, ic_p1, ic_p2, ic_p3, ic_p4, ic_p5, ic_p6, ic_p7, ic_p8, ic_q3, ic_d11, ic_r11, ic_d22, ic_n11, ic_n22, ic_n3, ic_n2, ic_oneI]
          refine br_f e2 (br_f h0 (xw_key ha hb hd ?_))
          simp (disch := omega) only [forall_eq, true_and, and_true, true_implies, false_implies, implies_true, not_true_eq_false, not_false_eq_true, nI_clamp, vp_in_nI, nI_add, ic_m3, ic_m4, ic_m5, ic_m6, ic_m8, ic_m11, ic_m12, ic_m24, ic_m33, ic_p1, ic_p2, ic_p3, ic_p4, ic_p5, ic_p6, ic_p7, ic_p8, ic_q3, ic_d11, ic_r11, ic_d22, ic_n11, ic_n22, ic_n3, ic_n2, ic_oneI]
          exact br_t hz hp
        · unfold wpY_source
          simp (disch := omega) only [forall_eq, true_and, and_true, true_implies, false_implies, implies_true, not_true_eq_false, not_false_eq_true, nI_clamp, vp_in_nI, nI_add, ic_m3, ic_m4, ic_m5, ic_m6, ic_m8, ic_m11, ic_m12, ic_m24, ic_m33, ic_p1, ic_p2, ic_p3, ic_p4, ic_p5, ic_p6, ic_p7, ic_p8, ic_q3, ic_d11, ic_r11, ic_d22, ic_n11, ic_n22, ic_n3, ic_n2, ic_oneI, hmm]
          refine br_f e2 (br_f h0 ⟨12, ?_⟩)
          refine yw_srcL ha (by omega) hd hm hmm hn hP1 12 3 (by omega) (by omega) (by omega) (fun p g1 g2 g3 g4 => ?_) (fun _ => hp)
          exfalso
          obtain ⟨g5, d2, q1, q2, q3⟩ := g3
          by_cases hpn : p < 3 + n
          · obtain ⟨b', d', y1, y2, y3, y4, y5, y6, y7⟩ := hP1.1 p g1 hpn
            rw [y4] at g5
            rw [y6] at q2
            have eb := ic_eqn (by omega) (by omega) g5
            have ed := ic_eqn (by omega) (by omega) q2
            rw [show b' = b by omega, ed, q3, hz] at y7
            have := ic_eqn (a := 0) (by omega) (by omega) y7
            omega
          · rw [hP1.2.1 p (by omega) g2] at g5
            have := ic_eqn (a := 0) (b := b + 1) (by omega) (by omega) g5
            omega
      · have hne : ¬ nI p = 0 := nI_ne0 (by omega) (by omega)
        have hbd : bd (a * 11 + p) = nI (b + 1) := by
          obtain ⟨b', d2, y1, y2, y3, y4, y5, y6, y7⟩ := hP1.1 p p3 pn
          rw [y3] at hpb
          rw [y4, ic_eqn (by omega) (by omega) hpb]
        refine ⟨nI p, fun post hp => ?_, fun post hp => ?_, Or.inr (Or.inr ⟨p, p3, by omega, rfl, ?_⟩)⟩
        · unfold wpX_sourceOf
          simp (disch := omega) only [forall_eq, true_and, and_true, true_implies, false_implies, implies_true, not_true_eq_false, not_false_eq_true, nI_clamp, vp_in_nI, nI_add, ic_m3, ic_m4, ic_m5, ic_m6, ic_m8, ic_m11, ic_m12, ic_m24, ic_m33, ic_p1, ic_p2, ic_p3, ic_p4, ic_p5, ic_p6, ic_p7, ic_p8, ic_q3, ic_d11, ic_r11, ic_d22, ic_n11, ic_n22, ic_n3, ic_n2, ic_oneI]
          refine br_f e2 (br_f h0 (xw_key ha hb hd ?_))
          simp (disch := omega) only [forall_eq, true_and, and_true, true_implies, false_implies, implies_true, not_true_eq_false, not_false_eq_true, nI_clamp, vp_in_nI, nI_add, ic_m3, ic_m4, ic_m5, ic_m6, ic_m8, ic_m11, ic_m12, ic_m24, ic_m33, ic_p1, ic_p2, ic_p3, ic_p4, ic_p5, ic_p6, ic_p7, ic_p8, ic_q3, ic_d11, ic_r11, ic_d22, ic_n11, ic_n22, ic_n3, ic_n2, ic_oneI, hpo]
          exact br_f hne hp
        · unfold wpY_source
          simp (disch := omega) only [forall_eq, true_and, and_true, true_implies, false_implies, implies_true, not_true_eq_false, not_false_eq_true, nI_clamp, vp_in_nI, nI_add, ic_m3, ic_m4, ic_m5, ic_m6, ic_m8, ic_m11, ic_m12, ic_m24, ic_m33, ic_p1, ic_p2, ic_p3, ic_p4, ic_p5, ic_p6, ic_p7, ic_p8, ic_q3, ic_d11, ic_r11, ic_d22, ic_n11, ic_n22, ic_n3, ic_n2, ic_oneI, hmm]
          refine br_f e2 (br_f h0 ⟨12, ?_⟩)
          refine yw_srcL ha (by omega) hd hm hmm hn hP1 12 3 (by omega) (by omega) (by omega) (fun p2 g1 g2 g3 g4 => ?_) (fun g => absurd (show ic_MT nt bd bo a b d p from ⟨hbd, d', hd', hbo, hkk.symm⟩) (g p p3 (by omega)))
          obtain ⟨g5, d2, q1, q2, q3⟩ := g3
          by_cases hpn : p2 < 3 + n
          · obtain ⟨b', d3, y1, y2, y3, y4, y5, y6, y7⟩ := hP1.1 p2 g1 hpn
            rw [y4] at g5
            rw [y6] at q2
            have eb := ic_eqn (by omega) (by omega) g5
            have ed := ic_eqn (by omega) (by omega) q2
            rw [show b' = b by omega, ed, q3, hpo] at y7
            rw [← y7]; exact hp
          · rw [hP1.2.1 p2 (by omega) g2] at g5
            have := ic_eqn (a := 0) (b := b + 1) (by omega) (by omega) g5
            omega
        · rw [hbd]
          exact nI_ne0 (by omega) (by omega)
/-- the record of what was sent -/
theorem lk_rec {k a p d : Nat} {E : Nat → Nat → Prop} (hI : ic_I k E wn fl nt ro ph ck ch na ns ba ow se tp po pc pb sp sg st rk cx ca mr fm mb od os qu qs qd rg ft pa bd bo sk sn) (ha : a < 2) (hp11 : p < 11) (hd : d < 12) :
    ∃ sp' sg' sn' : Nat → Int32, ic_I k E wn fl nt ro ph ck ch na ns ba ow se tp po pc pb sp' sg' st rk cx ca mr fm mb od os qu qs qd rg ft pa bd bo sk sn' ∧ (∀ post : Int32 → SX → Prop, post (nI p) (wn, fl, nt, ro, ph, ck, ch, na, ns, ba, ow, se, tp, po, pc, pb, sp', sg', st, rk, cx, ca, mr, fm, mb, od, os, qu, qs, qd, rg, ft) → wX_send_24 post (nI a) (nI d) (nI p) wn fl nt ro ph ck ch na ns ba ow se tp po pc pb sp sg st rk cx ca mr fm mb od os qu qs qd rg ft) ∧
      (∀ post : Int32 → SY → Prop, post (nI p) (fl, wn, nt, ro, ph, ck, ch, ns, na, pa, ow, se, bd, bo, st, cx, ca, mr, sk, ba, sn') → wY_send_74 post (nI a) (nI d) (nI p) fl wn nt ro ph ck ch ns na pa ow se bd bo st cx ca mr sk ba sn) := by
  by_cases h2 : p < 2
  · have h2' : nI p < 2 := nI_lt (b := 2) h2 (by omega)
    exact ⟨sp, sg, sn, hI, fun post hp => br_t h2' hp, fun post hp => br_t h2' hp⟩
  · have h2' : ¬ nI p < 2 := nI_nlt (b := 2) (by omega) (by omega)
    obtain ⟨hnt, hro, hph, hns, how, hse, hst, hmk, hrg, hpn, hch, hob, hop, hsp, hsb, hP, hS, hT, hM, hfm, hO, hK, hQ, hC, hF⟩ := hI
    have hg := ic_gr_lt d
    refine ⟨upd sp (a * 11 + p) (sp (a * 11 + p) ||| ((1 : Int32) <<< (nI d &&& 31))), upd sg (a * 11 + p) (sg (a * 11 + p) ||| ((1 : Int32) <<< (nI (ic_gr d) &&& 31))), upd sn ((a * 11 + p) * 12 + d) 1, ?_, fun post hp => ?_, fun post hp => ?_⟩
    · refine ⟨hnt, hro, hph, hns, how, hse, hst, hmk, hrg, hpn, hch, hob, hop, hsp, hsb, hP, ?_, hT, hM, hfm, hO, hK, hQ, hC, hF⟩
      intro e he
      obtain ⟨s1, s2⟩ := hS e he
      by_cases ee : e = a * 11 + p
      · subst ee
        rw [pk_us, pk_us]
        refine ⟨fun d' hd' => ?_, fun g hg' => ?_⟩
        · rw [b_or, ic_bone (by omega) (by omega), Bool.or_eq_true, decide_eq_true_iff, s1 d' hd']
          by_cases ed : d' = d
          · subst ed
            rw [pk_us]
            exact ⟨fun _ => ic_10, fun _ => Or.inr rfl⟩
          · rw [pk_un (by omega)]
            exact ⟨fun z => z.elim id (fun z => absurd z ed), Or.inl⟩
        · rw [b_or, ic_bone (by omega) (by omega), Bool.or_eq_true, decide_eq_true_iff, s2 g hg']
          constructor
          · rintro (⟨d', z1, z2, z3⟩ | z)
            · refine ⟨d', z1, z2, ?_⟩
              by_cases ed : d' = d
              · subst ed
                rw [pk_us]; exact ic_10
              · rw [pk_un (by omega)]; exact z3
            · exact ⟨d, hd, z.symm, by rw [pk_us]; exact ic_10⟩
          · rintro ⟨d', z1, z2, z3⟩
            by_cases ed : d' = d
            · subst ed
              exact Or.inr z2.symm
            · rw [pk_un (by omega)] at z3
              exact Or.inl ⟨d', z1, z2, z3⟩
      · rw [pk_un ee, pk_un ee]
        refine ⟨fun d' hd' => ?_, fun g hg' => ?_⟩
        · rw [pk_un (by omega)]; exact s1 d' hd'
        · rw [s2 g hg']
          constructor
          · rintro ⟨d', z1, z2, z3⟩
            exact ⟨d', z1, z2, by rw [pk_un (by omega)]; exact z3⟩
          · rintro ⟨d', z1, z2, z3⟩
            exact ⟨d', z1, z2, by rw [pk_un (by omega)] at z3; exact z3⟩
    · unfold wX_send_24
      refine br_f h2' (xw_group (by omega) ?_)
      simp (disch := omega) only [forall_eq, true_and, and_true, true_implies, false_implies, implies_true, not_true_eq_false, not_false_eq_true, nI_clamp, vp_in_nI, nI_add, ic_m3, ic_m4, ic_m5, ic_m6, ic_m8, ic_m11, ic_m12, ic_m24, ic_m33, ic_p1, ic_p2, ic_p3, ic_p4, ic_p5, ic_p6, ic_p7, ic_p8, ic_q3, ic_d11, ic_r11, ic_d22, ic_n11, ic_n22, ic_n3, ic_n2, ic_oneI]
      exact hp
    · unfold wY_send_74
      refine br_f h2' ?_
      simp (disch := omega) only [forall_eq, true_and, and_true, true_implies, false_implies, implies_true, not_true_eq_false, not_false_eq_true, nI_clamp, vp_in_nI, nI_add, ic_m3, ic_m4, ic_m5, ic_m6, ic_m8, ic_m11, ic_m12, ic_m24, ic_m33, ic_p1, ic_p2, ic_p3, ic_p4, ic_p5, ic_p6, ic_p7, ic_p8, ic_q3, ic_d11, ic_r11, ic_d22, ic_n11, ic_n22, ic_n3, ic_n2, ic_oneI]
      exact hp
/-- the facts once port 3 + n is bound -/
theorem ic_bind {k a b d n : Nat} {E : Nat → Nat → Prop} (hI : ic_I k E wn fl nt ro ph ck ch na ns ba ow se tp po pc pb sp sg st rk cx ca mr fm mb od os qu qs qd rg ft pa bd bo sk sn) (ha : a < 2) (hb : b < 2) (hd : d < 12) (hba : ba (a * 3 + b) ≠ 0) (hn : n < 8) (hpc : pc a = nI n) (hz : po (a * 24 + b * 12 + ic_ky (nt a) d) = 0) :
    ic_I k E wn fl nt ro ph ck ch na ns ba ow se tp (upd po (a * 24 + b * 12 + ic_ky (nt a) d) (nI (3 + n))) (upd pc a (nI (n + 1))) (upd pb (a * 11 + (3 + n)) (nI b)) sp sg st rk cx ca mr fm mb od os qu qs qd rg ft pa (upd bd (a * 11 + (3 + n)) (nI (b + 1))) (upd bo (a * 11 + (3 + n)) (nI d)) sk sn := by
  obtain ⟨hnt, hro, hph, hns, how, hse, hst, hmk, hrg, hpn, hch, hob, hop, hsp, hsb, hP, hS, hT, hM, hfm, hO, hK, hQ, hC, hF⟩ := hI
  have hk := ic_ky_lt (nt a) hd
  obtain ⟨n', hn', hpc', hP1⟩ := hP a ha
  have en : n' = n := by
    rw [hpc] at hpc'
    exact (ic_eqn (by omega) (by omega) hpc').symm
  subst en
  have hb0 : bd (a * 11 + (3 + n')) = 0 := hP1.2.1 (3 + n') (by omega) (by omega)
  have mono : ∀ j, bd j ≠ 0 → upd bd (a * 11 + (3 + n')) (nI (b + 1)) j ≠ 0 := by
    intro j hj
    by_cases e : j = a * 11 + (3 + n')
    · rw [e] at hj; exact absurd hb0 hj
    · rw [pk_un e]; exact hj
  refine ⟨hnt, hro, hph, hns, how, hse, hst, hmk, hrg, hpn, hch, hob, ?_, ?_, hsb, ?_, hS, hT, hM, hfm, hO, ?_, hQ, hC, ic_Fm (fun _ z => z) mono hF⟩
  · intro a' ha' p p3 p11 z
    exact mono _ (hop a' ha' p p3 p11 z)
  · intro a' ha' p p3 p11 z
    exact mono _ (hsp a' ha' p p3 p11 z)
  · intro a' ha'
    by_cases ea : a' = a
    · subst ea
      refine ⟨n' + 1, by omega, pk_us, ?_, ?_, ?_⟩
      · intro p p3 pn
        by_cases ep : p = 3 + n'
        · subst ep
          exact ⟨b, d, hb, hd, pk_us, pk_us, hba, pk_us, pk_us⟩
        · obtain ⟨b', d', y1, y2, y3, y4, y5, y6, y7⟩ := hP1.1 p p3 (by omega)
          refine ⟨b', d', y1, y2, ?_, ?_, y5, ?_, ?_⟩
          · rw [pk_un (by omega)]; exact y3
          · rw [pk_un (by omega)]; exact y4
          · rw [pk_un (by omega)]; exact y6
          · rw [pk_un]
            · exact y7
            · intro e
              rw [e, hz] at y7
              have := ic_eqn (a := 0) (by omega) (by omega) y7
              omega
      · intro p pn p11
        rw [pk_un (by omega)]
        exact hP1.2.1 p (by omega) p11
      · intro b' hb' k' hk'
        by_cases ek : a' * 24 + b' * 12 + k' = a' * 24 + b * 12 + ic_ky (nt a') d
        · have e1 : b' = b := by omega
          have e2 : k' = ic_ky (nt a') d := by omega
          refine Or.inr ⟨3 + n', d, by omega, by omega, hd, ?_, ?_, pk_us, e2⟩
          · rw [ek]; exact pk_us
          · rw [e1]; exact pk_us
        · rw [pk_un ek]
          rcases hP1.2.2 b' hb' k' hk' with h | ⟨p, d', z1, z2, z3, z4, z5, z6, z7⟩
          · exact Or.inl h
          · refine Or.inr ⟨p, d', z1, by omega, z3, z4, ?_, ?_, z7⟩
            · rw [pk_un (by omega)]; exact z5
            · rw [pk_un (by omega)]; exact z6
    · obtain ⟨n2, y1, y2, y3, y4, y5⟩ := hP a' ha'
      refine ⟨n2, y1, by rw [pk_un ea]; exact y2, ?_, ?_, ?_⟩
      · intro p p3 pn
        obtain ⟨b', d', q1, q2, q3, q4, q5, q6, q7⟩ := y3 p p3 pn
        have := ic_ky_lt (nt a') q2
        refine ⟨b', d', q1, q2, ?_, ?_, q5, ?_, ?_⟩
        · rw [pk_un (by omega)]; exact q3
        · rw [pk_un (by omega)]; exact q4
        · rw [pk_un (by omega)]; exact q6
        · rw [pk_un (by omega)]; exact q7
      · intro p pn p11
        rw [pk_un (by omega)]
        exact y4 p pn p11
      · intro b' hb' k' hk'
        rw [pk_un (by omega)]
        rcases y5 b' hb' k' hk' with h | ⟨p, d', z1, z2, z3, z4, z5, z6, z7⟩
        · exact Or.inl h
        · refine Or.inr ⟨p, d', z1, z2, z3, z4, ?_, ?_, z7⟩
          · rw [pk_un (by omega)]; exact z5
          · rw [pk_un (by omega)]; exact z6
  · intro a' ha' c' hc' he z
    rw [hK a' ha' c' hc' he z]
    have hs := (hsb a' ha' c' hc' z).2
    have ez : ic_zf (upd bd (a * 11 + (3 + n')) (nI (b + 1))) a' (c' % 11) = ic_zf bd a' (c' % 11) := by
      unfold ic_zf
      by_cases h3 : 2 < c' % 11
      · have h4 := hsp a' ha' (c' % 11) (by omega) (by omega) hs
        rw [pk_un]
        intro e
        rw [e] at h4
        exact h4 hb0
      · have e1 : ∀ x : Prop, ¬ (2 < c' % 11 ∧ x) := fun x z => h3 z.1
        simp only [e1, or_false]
    unfold ic_pr
    rw [ez]
theorem yw_sendL {a b d n : Nat} (ha : a < 2) (hb : b < 2) (hd : d < 12) (hn : n ≤ 8) (hbz : ∀ p, 3 ≤ p → p < 3 + n → bd (a * 11 + p) ≠ 0) (hbf : n < 8 → bd (a * 11 + (3 + n)) = 0) (post : Int32 → SY → Prop)
    (h8 : n = 8 → post (-1) (fl, wn, nt, ro, ph, ck, ch, ns, na, pa, ow, se, bd, bo, st, cx, ca, mr, sk, ba, sn))
    (h7 : n < 8 → wY_send_74 post (nI a) (nI d) (nI (3 + n)) fl wn nt ro ph ck ch ns na pa ow se (upd bd (a * 11 + (3 + n)) (nI (b + 1))) (upd bo (a * 11 + (3 + n)) (nI d)) st cx ca mr sk ba sn) : ∀ l x : Nat, 11 < l + x → 3 ≤ x → x ≤ 3 + n →
    wY_send_20 post (nI a) (nI b) (nI d) fl wn (l + 1) (-1) (nI x) (nI (a * 11 + x)) nt ro ph ck ch ns na pa ow se bd bo st cx ca mr sk ba sn := by
  intro l
  induction l with
  | zero => intro x h; omega
  | succ l ih =>
    intro x h1 h2 h3
    rw [wY_send_20]
    refine pk_le 11 x (fun h => br_t (by decide) (h8 (by omega))) (fun h => br_t rfl ⟨vp_in_nI (by omega) (by omega), ?_⟩)
    simp (disch := omega) only [forall_eq, true_and, and_true, true_implies, false_implies, implies_true, not_true_eq_false, not_false_eq_true, nI_clamp, vp_in_nI, nI_add, ic_m3, ic_m4, ic_m5, ic_m6, ic_m8, ic_m11, ic_m12, ic_m24, ic_m33, ic_p1, ic_p2, ic_p3, ic_p4, ic_p5, ic_p6, ic_p7, ic_p8, ic_q3, ic_d11, ic_r11, ic_d22, ic_n11, ic_n22, ic_n3, ic_n2, ic_oneI]
    by_cases e : x = 3 + n
    · subst e
      refine br_t (hbf (by omega)) ?_
      rw [wY_send_20]
      refine pk_le 11 (3 + n + 1) (fun _ => h7 (by omega)) (fun _ => br_f (ic_ne1 _ (by omega)) (h7 (by omega)))
    · refine br_f (hbz x h2 (by omega)) ?_
      have := ih (x + 1) (by omega) (by omega) (by omega)
      rw [show a * 11 + (x + 1) = a * 11 + x + 1 by omega] at this
      exact this
theorem lk_send {k a b d : Nat} {E : Nat → Nat → Prop} (hI : ic_I k E wn fl nt ro ph ck ch na ns ba ow se tp po pc pb sp sg st rk cx ca mr fm mb od os qu qs qd rg ft pa bd bo sk sn) (ha : a < 2) (hb : b < 3) (hd : d < 12) (hba : ba (a * 3 + b) ≠ 0) :
    ∃ (r : Int32) (po' pc' pb' sp' sg' bd' bo' sn' : Nat → Int32), ic_I k E wn fl nt ro ph ck ch na ns ba ow se tp po' pc' pb' sp' sg' st rk cx ca mr fm mb od os qu qs qd rg ft pa bd' bo' sk sn' ∧ (∀ j, bd j ≠ 0 → bd' j ≠ 0) ∧ (r = -1 ∨ ∃ p : Nat, p < 11 ∧ r = nI p ∧ (3 ≤ p → bd' (a * 11 + p) ≠ 0) ∧ (p < 3 → p = b)) ∧
      (∀ post : Int32 → SX → Prop, post r (wn, fl, nt, ro, ph, ck, ch, na, ns, ba, ow, se, tp, po', pc', pb', sp', sg', st, rk, cx, ca, mr, fm, mb, od, os, qu, qs, qd, rg, ft) → wpX_send post (wn, fl, nt, ro, ph, ck, ch, na, ns, ba, ow, se, tp, po, pc, pb, sp, sg, st, rk, cx, ca, mr, fm, mb, od, os, qu, qs, qd, rg, ft) (nI a) (nI b) (nI d)) ∧ (∀ post : Int32 → SY → Prop, post r (fl, wn, nt, ro, ph, ck, ch, ns, na, pa, ow, se, bd', bo', st, cx, ca, mr, sk, ba, sn') → wpY_send post (fl, wn, nt, ro, ph, ck, ch, ns, na, pa, ow, se, bd, bo, st, cx, ca, mr, sk, ba, sn) (nI a) (nI b) (nI d)) := by
  have hI0 := hI
  obtain ⟨hnt, hro, hph, hns, how, hse, hst, hmk, hrg, hpn, hch, hob, hop, hsp, hsb, hP, hS, hT, hM, hfm, hO, hK, hQ, hC, hF⟩ := hI
  obtain ⟨r, hX, hY, hr⟩ := lk_src (wn := wn) (fl := fl) (ro := ro) (ph := ph) (ck := ck) (ch := ch) (na := na) (ns := ns) (ow := ow) (se := se) (tp := tp) (sp := sp) (sg := sg) (st := st) (rk := rk) (cx := cx) (ca := ca) (mr := mr) (fm := fm) (mb := mb) (od := od) (os := os) (qu := qu) (qs := qs) (qd := qd) (rg := rg) (ft := ft) (pa := pa) (sk := sk) (sn := sn) hnt hP ha hb hd
  have found : ∀ p : Nat, p < 11 → r = nI p → (3 ≤ p → bd (a * 11 + p) ≠ 0) → (p < 3 → p = b) → ∃ (r : Int32) (po' pc' pb' sp' sg' bd' bo' sn' : Nat → Int32), ic_I k E wn fl nt ro ph ck ch na ns ba ow se tp po' pc' pb' sp' sg' st rk cx ca mr fm mb od os qu qs qd rg ft pa bd' bo' sk sn' ∧ (∀ j, bd j ≠ 0 → bd' j ≠ 0) ∧ (r = -1 ∨ ∃ p : Nat, p < 11 ∧ r = nI p ∧ (3 ≤ p → bd' (a * 11 + p) ≠ 0) ∧ (p < 3 → p = b)) ∧
      (∀ post : Int32 → SX → Prop, post r (wn, fl, nt, ro, ph, ck, ch, na, ns, ba, ow, se, tp, po', pc', pb', sp', sg', st, rk, cx, ca, mr, fm, mb, od, os, qu, qs, qd, rg, ft) → wpX_send post (wn, fl, nt, ro, ph, ck, ch, na, ns, ba, ow, se, tp, po, pc, pb, sp, sg, st, rk, cx, ca, mr, fm, mb, od, os, qu, qs, qd, rg, ft) (nI a) (nI b) (nI d)) ∧ (∀ post : Int32 → SY → Prop, post r (fl, wn, nt, ro, ph, ck, ch, ns, na, pa, ow, se, bd', bo', st, cx, ca, mr, sk, ba, sn') → wpY_send post (fl, wn, nt, ro, ph, ck, ch, ns, na, pa, ow, se, bd, bo, st, cx, ca, mr, sk, ba, sn) (nI a) (nI b) (nI d)) := by
    intro p hp er h3 hlt
    obtain ⟨sp', sg', sn', g1, g2, g3⟩ := lk_rec hI0 ha hp hd
    have hne : ¬ nI p = -1 := ic_ne1 p (by omega)
    rw [er] at hX hY
    refine ⟨nI p, po, pc, pb, sp', sg', bd, bo, sn', g1, fun _ z => z, Or.inr ⟨p, hp, rfl, h3, hlt⟩, fun post hpo => ?_, fun post hpo => ?_⟩
    · unfold wpX_send; refine hX _ ?_
      exact br_f hne (g2 post hpo)
    · unfold wpY_send; refine hY _ ?_
      refine nm_r (e' := nI (a * 11 + 3)) (by rw [ic_m11]; exact nI_add _ _) ⟨1, ?_⟩
      rw [wY_send_20]
      exact br_f (by decide) (br_f hne (g3 post hpo))
  rcases hr with er | ⟨er, hb2, h0, hz⟩ | ⟨p, p3, p11, er, hbd⟩
  · exact found b (by omega) er (fun h => by omega) (fun _ => rfl)
  · obtain ⟨n, hn, hpc, hP1⟩ := hP a ha
    rw [er] at hX hY
    have hbz : ∀ p, 3 ≤ p → p < 3 + n → bd (a * 11 + p) ≠ 0 := by
      intro p p3 pn
      obtain ⟨b', d', y1, y2, y3, y4, y5, y6, y7⟩ := hP1.1 p p3 pn
      rw [y4]
      exact nI_ne0 (by omega) (by omega)
    by_cases h8 : n < 8
    · have hI1 := ic_bind hI0 ha hb2 hd hba h8 hpc hz
      obtain ⟨sp', sg', sn', g1, g2, g3⟩ := lk_rec (p := 3 + n) hI1 ha (by omega) hd
      refine ⟨nI (3 + n), _, _, _, sp', sg', _, _, sn', g1, fun j z => ic_umono (nI_ne0 (by omega) (by omega)) z, Or.inr ⟨3 + n, by omega, rfl, fun _ => ?_, fun h => by omega⟩, fun post hpo => ?_, fun post hpo => ?_⟩
      · rw [pk_us]; exact nI_ne0 (by omega) (by omega)
      · unfold wpX_send; refine hX _ ?_
        refine br_t rfl ?_
        have hk := ic_ky_lt (nt a) hd
        unfold wpX_bind
        simp (disch := omega) only [forall_eq, true_and, and_true, true_implies, false_implies, implies_true, not_true_eq_false, not_false_eq_true, nI_clamp, vp_in_nI, nI_add, ic_m3, ic_m4, ic_m5, ic_m6, ic_m8, ic_m11, ic_m12, ic_m24, ic_m33, ic_p1, ic_p2, ic_p3, ic_p4, ic_p5, ic_p6, ic_p7, ic_p8, ic_q3, ic_d11, ic_r11, ic_d22, ic_n11, ic_n22, ic_n3, ic_n2, ic_oneI, hpc]
        refine br_t (nI_lt (b := 8) h8 (by omega)) (xw_key ha hb hd ?_)
        simp (disch := omega) only [forall_eq, true_and, and_true, true_implies, false_implies, implies_true, not_true_eq_false, not_false_eq_true, nI_clamp, vp_in_nI, nI_add, ic_m3, ic_m4, ic_m5, ic_m6, ic_m8, ic_m11, ic_m12, ic_m24, ic_m33, ic_p1, ic_p2, ic_p3, ic_p4, ic_p5, ic_p6, ic_p7, ic_p8, ic_q3, ic_d11, ic_r11, ic_d22, ic_n11, ic_n22, ic_n3, ic_n2, ic_oneI]
        exact g2 post hpo
      · unfold wpY_send; refine hY _ ?_
        refine nm_r (e' := nI (a * 11 + 3)) (by rw [ic_m11]; exact nI_add _ _) ⟨12 + 1, ?_⟩
        exact yw_sendL ha hb2 hd hn hbz (fun _ => hP1.2.1 (3 + n) (by omega) (by omega)) post (fun h => by omega) (fun _ => g3 post hpo) 12 3 (by omega) (by omega) (by omega)
    · refine ⟨-1, po, pc, pb, sp, sg, bd, bo, sn, hI0, fun _ z => z, Or.inl rfl, fun post hpo => ?_, fun post hpo => ?_⟩
      · unfold wpX_send; refine hX _ ?_
        refine br_t rfl ?_
        unfold wpX_bind
        simp (disch := omega) only [forall_eq, true_and, and_true, true_implies, false_implies, implies_true, not_true_eq_false, not_false_eq_true, nI_clamp, vp_in_nI, nI_add, ic_m3, ic_m4, ic_m5, ic_m6, ic_m8, ic_m11, ic_m12, ic_m24, ic_m33, ic_p1, ic_p2, ic_p3, ic_p4, ic_p5, ic_p6, ic_p7, ic_p8, ic_q3, ic_d11, ic_r11, ic_d22, ic_n11, ic_n22, ic_n3, ic_n2, ic_oneI, hpc]
        exact br_f (nI_nlt (b := 8) (by omega) (by omega)) (br_t (by decide) hpo)
      · unfold wpY_send; refine hY _ ?_
        refine nm_r (e' := nI (a * 11 + 3)) (by rw [ic_m11]; exact nI_add _ _) ⟨12 + 1, ?_⟩
        exact yw_sendL ha hb2 hd hn hbz (fun h => by omega) post (fun _ => hpo) (fun h => by omega) 12 3 (by omega) (by omega) (by omega)
  · exact found p p11 er (fun _ => hbd) (fun h => by omega)
end
end
section
/-! packets -/
theorem ic_or (a b : Nat) : nI a ||| nI b = nI (a ||| b) := by
  apply Int32.toBitVec_inj.1
  show BitVec.ofNat 32 a ||| BitVec.ofNat 32 b = BitVec.ofNat 32 (a ||| b)
  apply BitVec.eq_of_getLsbD_eq
  intro i hi
  simp [hi]
theorem ic_orp {x y i : Nat} (h : x < 2 ^ i) : nI x ||| nI (y * 2 ^ i) = nI (x + y * 2 ^ i) := by
  rw [ic_or, Nat.or_comm, Nat.mul_comm, ← Nat.two_pow_add_eq_or_of_lt h, Nat.add_comm]
theorem ic_sh {x : Nat} (k : Nat) (s : Int32) (hs : (s.toBitVec.smod 32).toNat = k) (h : x * 2 ^ k < 2 ^ 32) : nI x <<< s = nI (x * 2 ^ k) := pk_shlN s k hs h
theorem ic_pack {k s p d C : Nat} (hk : k < 16) (hs : s < 16) (hp : p < 16) (hd : d < 16) (hC : C < 65536) :
    (((nI k ||| (nI s <<< ((4 : Int32) &&& 31))) ||| (nI p <<< ((8 : Int32) &&& 31))) ||| (nI d <<< ((12 : Int32) &&& 31))) ||| (nI C <<< ((16 : Int32) &&& 31)) = nI (k + 16 * s + 256 * p + 4096 * d + 65536 * C) := by
  rw [ic_sh 4 _ (by decide) (by omega), ic_sh 8 _ (by decide) (by omega), ic_sh 12 _ (by decide) (by omega), ic_sh 16 _ (by decide) (by omega)]
  rw [ic_orp (by omega), ic_orp (by omega), ic_orp (by omega), ic_orp (by omega)]
  have e : k + s * 2 ^ 4 + p * 2 ^ 8 + d * 2 ^ 12 + C * 2 ^ 16 = k + 16 * s + 256 * p + 4096 * d + 65536 * C := by omega
  rw [e]
theorem ic_carry {r m b q : Nat} (hr : r < 16) (hm : m < 16) (hb : b < 16) (hq : q < 16) :
    ((nI r ||| (nI m <<< ((4 : Int32) &&& 31))) ||| (nI b <<< ((8 : Int32) &&& 31))) ||| (nI q <<< ((12 : Int32) &&& 31)) = nI (r + 16 * m + 256 * b + 4096 * q) := by
  rw [ic_sh 4 _ (by decide) (by omega), ic_sh 8 _ (by decide) (by omega), ic_sh 12 _ (by decide) (by omega)]
  rw [ic_orp (by omega), ic_orp (by omega), ic_orp (by omega)]
  have e : r + m * 2 ^ 4 + b * 2 ^ 8 + q * 2 ^ 12 = r + 16 * m + 256 * b + 4096 * q := by omega
  rw [e]
theorem ic_hi {k s p d r m b q : Nat} (h : k ≤ 2 ∧ s ≤ 1 ∧ p ≤ 10 ∧ d ≤ 10 ∧ r ≤ 1 ∧ m ≤ 1 ∧ b ≤ 2 ∧ q ≤ 10) :
    ((nI (ic_pk k s p d r m b q)).toUInt32 >>> ((16 : Int32).toUInt32 &&& Int32.toUInt32 31)).toInt32 = nI (r + 16 * m + 256 * b + 4096 * q) := by
  rw [pk_ushrN (ic_pk_lt h) 16 16 (by decide)]
  have e : ic_pk k s p d r m b q / 2 ^ 16 = r + 16 * m + 256 * b + 4096 * q := by unfold ic_pk; omega
  rw [e]
/-- eight cells more -/
def ic_pu (pa : Nat → Int32) (f k s p d r m b q : Nat) : Nat → Int32 :=
  upd (upd (upd (upd (upd (upd (upd (upd pa (f * 8) (nI k)) (f * 8 + 1) (nI s)) (f * 8 + 2) (nI p)) (f * 8 + 3) (nI d)) (f * 8 + 4) (nI r)) (f * 8 + 5) (nI m)) (f * 8 + 6) (nI b)) (f * 8 + 7) (nI q)
theorem ic_pu_o {pa : Nat → Int32} {f k s p d r m b q j : Nat} (h : j < f * 8) : ic_pu pa f k s p d r m b q j = pa j := by
  unfold ic_pu
  rw [pk_un (by omega), pk_un (by omega), pk_un (by omega), pk_un (by omega), pk_un (by omega), pk_un (by omega), pk_un (by omega), pk_un (by omega)]
theorem ic_pu_f {pa : Nat → Int32} {f k s p d r m b q : Nat} :
    ic_pu pa f k s p d r m b q (f * 8) = nI k ∧ ic_pu pa f k s p d r m b q (f * 8 + 1) = nI s ∧ ic_pu pa f k s p d r m b q (f * 8 + 2) = nI p ∧ ic_pu pa f k s p d r m b q (f * 8 + 3) = nI d ∧
    ic_pu pa f k s p d r m b q (f * 8 + 4) = nI r ∧ ic_pu pa f k s p d r m b q (f * 8 + 5) = nI m ∧ ic_pu pa f k s p d r m b q (f * 8 + 6) = nI b ∧ ic_pu pa f k s p d r m b q (f * 8 + 7) = nI q := by
  unfold ic_pu
  refine ⟨?_, ?_, ?_, ?_, ?_, ?_, ?_, ?_⟩
  · rw [pk_un (by omega), pk_un (by omega), pk_un (by omega), pk_un (by omega), pk_un (by omega), pk_un (by omega), pk_un (by omega), pk_us]
  · rw [pk_un (by omega), pk_un (by omega), pk_un (by omega), pk_un (by omega), pk_un (by omega), pk_un (by omega), pk_us]
  · rw [pk_un (by omega), pk_un (by omega), pk_un (by omega), pk_un (by omega), pk_un (by omega), pk_us]
  · rw [pk_un (by omega), pk_un (by omega), pk_un (by omega), pk_un (by omega), pk_us]
  · rw [pk_un (by omega), pk_un (by omega), pk_un (by omega), pk_us]
  · rw [pk_un (by omega), pk_un (by omega), pk_us]
  · rw [pk_un (by omega), pk_us]
  · rw [pk_us]
section
variable {wn fl : Int32} {nt ro ph ck ch na ns ba ow se tp po pc pb sp sg st rk cx ca mr : Nat → Int32} {fm mb : Nat → Int64} {od os qu qs : Nat → Int32} {qd : Nat → Int64} {rg ft pa bd bo sk sn : Nat → Int32}
theorem lk_post {k a b d kd r m b' q : Nat} {E : Nat → Nat → Prop} (hI : ic_I k E wn fl nt ro ph ck ch na ns ba ow se tp po pc pb sp sg st rk cx ca mr fm mb od os qu qs qd rg ft pa bd bo sk sn) (ha : a < 2) (hb : b < 3) (hd : d < 11) (hba : ba (a * 3 + b) ≠ 0) (hkd : kd ≤ 2) (hr : r ≤ 1) (hm : m ≤ 1) (hb' : b' ≤ 2) (hq : q ≤ 10)
    (hs0 : kd = 0 → st (a * 33 + (b' * 11 + q)) ≠ 0) (hs1 : kd ≠ 0 → st ((1 - a) * 33 + (b' * 11 + q)) ≠ 0) :
    ∃ (fl' : Int32) (po' pc' pb' sp' sg' ft' pa' bd' bo' sn' : Nat → Int32), ic_I k E wn fl' nt ro ph ck ch na ns ba ow se tp po' pc' pb' sp' sg' st rk cx ca mr fm mb od os qu qs qd rg ft' pa' bd' bo' sk sn' ∧ (∀ j, bd j ≠ 0 → bd' j ≠ 0) ∧
      (∀ post : SX → Prop, post (wn, fl', nt, ro, ph, ck, ch, na, ns, ba, ow, se, tp, po', pc', pb', sp', sg', st, rk, cx, ca, mr, fm, mb, od, os, qu, qs, qd, rg, ft') → wpX_post post (wn, fl, nt, ro, ph, ck, ch, na, ns, ba, ow, se, tp, po, pc, pb, sp, sg, st, rk, cx, ca, mr, fm, mb, od, os, qu, qs, qd, rg, ft) (nI kd) (nI a) (nI b) (nI d) (nI (r + 16 * m + 256 * b' + 4096 * q))) ∧
      (∀ post : SY → Prop, post (fl', wn, nt, ro, ph, ck, ch, ns, na, pa', ow, se, bd', bo', st, cx, ca, mr, sk, ba, sn') → wpY_post post (fl, wn, nt, ro, ph, ck, ch, ns, na, pa, ow, se, bd, bo, st, cx, ca, mr, sk, ba, sn) (nI kd) (nI a) (nI b) (nI d) (nI r) (nI m) (nI (b' * 11 + q))) := by
  obtain ⟨rr, po', pc', pb', sp', sg', bd', bo', sn', g1, gm, g2, g3, g4⟩ := lk_send hI ha hb (by omega : d < 12) hba
  have hI1 := g1
  obtain ⟨hnt, hro, hph, hns, how, hse, hst, hmk, hrg, hpn, hch, hob, hop, hsp, hsb, hP, hS, hT, hM, hfm, hO, hK, hQ, hC, hF⟩ := g1
  have hF0 := hF
  obtain ⟨f, hf8, hfl, hFF⟩ := hF
  rcases g2 with er | ⟨p, hp, er, hp3, hp4⟩
  · refine ⟨fl, po', pc', pb', sp', sg', ft, pa, bd', bo', sn', hI1, gm, fun post hpo => ?_, fun post hpo => ?_⟩
    · unfold wpX_post; refine g3 _ ?_; exact br_t er hpo
    · unfold wpY_post; refine g4 _ ?_; exact nm_e (br_t er hpo)
  · have hne : ¬ rr = -1 := by rw [er]; exact ic_ne1 p (by omega)
    by_cases h8 : f < 8
    · have h8' : fl < 8 := by rw [hfl]; exact nI_lt (b := 8) h8 (by omega)
      refine ⟨nI (f + 1), po', pc', pb', sp', sg', upd ft f (nI (ic_pk kd a p d r m b' q)), ic_pu pa f kd a p d r m b' q, bd', bo', sn', ?_, gm, fun post hpo => ?_, fun post hpo => ?_⟩
      · refine ⟨hnt, hro, hph, hns, how, hse, hst, hmk, hrg, hpn, hch, hob, hop, hsp, hsb, hP, hS, hT, hM, hfm, hO, hK, hQ, hC, ⟨f + 1, by omega, rfl, fun i hi => ?_⟩⟩
        by_cases ei : i = f
        · subst ei
          refine ⟨kd, a, p, d, r, m, b', q, ⟨hkd, by omega, by omega, by omega, hr, hm, hb', hq⟩, pk_us, ic_pu_f, hp3, hs0, hs1⟩
        · obtain ⟨k2, s2, p2, d2, r2, m2, b2, q2, x1, x2, x3, x4, x5, x6⟩ := hFF i (by omega)
          refine ⟨k2, s2, p2, d2, r2, m2, b2, q2, x1, ?_, ?_, x4, x5, x6⟩
          · rw [pk_un ei]; exact x2
          · rw [ic_pu_o (by omega), ic_pu_o (by omega), ic_pu_o (by omega), ic_pu_o (by omega), ic_pu_o (by omega), ic_pu_o (by omega), ic_pu_o (by omega), ic_pu_o (by omega)]
            exact x3
      · have ep := ic_pack (k := kd) (s := a) (p := p) (d := d) (C := r + 16 * m + 256 * b' + 4096 * q) (by omega) (by omega) (by omega) (by omega) (by omega)
        unfold wpX_post; refine g3 _ ?_
        refine br_f hne (br_t h8' ?_)
        simp (disch := omega) only [forall_eq, true_and, and_true, true_implies, false_implies, implies_true, not_true_eq_false, not_false_eq_true, nI_clamp, vp_in_nI, nI_add, ic_m3, ic_m4, ic_m5, ic_m6, ic_m8, ic_m11, ic_m12, ic_m24, ic_m33, ic_p1, ic_p2, ic_p3, ic_p4, ic_p5, ic_p6, ic_p7, ic_p8, ic_q3, ic_d11, ic_r11, ic_d22, ic_n11, ic_n22, ic_n3, ic_n2, ic_oneI, hfl, er, ep]
        exact hpo
      · have e1 : (b' * 11 + q) / 11 = b' := by omega
        have e2 : (b' * 11 + q) % 11 = q := by omega
        unfold wpY_post; refine g4 _ ?_
        refine nm_r (e' := nI (f * 8)) (by rw [hfl]; exact ic_m8 f) (br_f hne (br_t h8' ?_))
        simp (disch := omega) only [forall_eq, true_and, and_true, true_implies, false_implies, implies_true, not_true_eq_false, not_false_eq_true, nI_clamp, vp_in_nI, nI_add, ic_m3, ic_m4, ic_m5, ic_m6, ic_m8, ic_m11, ic_m12, ic_m24, ic_m33, ic_p1, ic_p2, ic_p3, ic_p4, ic_p5, ic_p6, ic_p7, ic_p8, ic_q3, ic_d11, ic_r11, ic_d22, ic_n11, ic_n22, ic_n3, ic_n2, ic_oneI, hfl, er]
        rw [e1, e2]
        exact hpo
    · have h8' : ¬ fl < 8 := by rw [hfl]; exact nI_nlt (b := 8) (by omega) (by omega)
      refine ⟨fl, po', pc', pb', sp', sg', ft, pa, bd', bo', sn', hI1, gm, fun post hpo => ?_, fun post hpo => ?_⟩
      · unfold wpX_post; refine g3 _ ?_; exact br_f hne (br_f h8' hpo)
      · unfold wpY_post; refine g4 _ ?_; exact nm_e (br_f hne (br_f h8' hpo))
/-- removal of a packet -/
def ic_cut (g : Nat → Int32) (lo x w : Nat) : Nat → Int32 := fun i => if lo ≤ i ∧ i < x then g (i + w) else g i
theorem ic_cut_s {g : Nat → Int32} {lo x w : Nat} (hw : 0 < w) (h : lo ≤ x) : upd (ic_cut g lo x w) x (ic_cut g lo x w (x + w)) = ic_cut g lo (x + 1) w := by
  funext i
  have e : ic_cut g lo x w (x + w) = g (x + w) := by unfold ic_cut; rw [if_neg (by omega)]
  rw [e]
  by_cases h1 : i = x
  · subst h1
    rw [pk_us]; unfold ic_cut; rw [if_pos (by omega)]
  · rw [pk_un h1]; unfold ic_cut
    by_cases h2 : lo ≤ i ∧ i < x
    · rw [if_pos h2, if_pos (by omega)]
    · rw [if_neg h2, if_neg (by omega)]
theorem ic_cut_0 {g : Nat → Int32} {lo w : Nat} : ic_cut g lo lo w = g := by
  funext i; unfold ic_cut; rw [if_neg (by omega)]
theorem xw_remL {f sl : Nat} (hf : f < 8) (post : SX → Prop) (hp : post (wn, nI f, nt, ro, ph, ck, ch, na, ns, ba, ow, se, tp, po, pc, pb, sp, sg, st, rk, cx, ca, mr, fm, mb, od, os, qu, qs, qd, rg, ic_cut ft sl f 1)) : ∀ l x : Nat, f < l + x → sl ≤ x → x ≤ f →
    wX_removePacket_12 post wn (nI f) l (nI x) nt ro ph ck ch na ns ba ow se tp po pc pb sp sg st rk cx ca mr fm mb od os qu qs qd rg (ic_cut ft sl x 1) := by
  intro l
  induction l with
  | zero => intro x h; omega
  | succ l ih =>
    intro x h1 h2 h3
    rw [wX_removePacket_12]
    refine pk_le f x (fun h => ?_) (fun h => ?_)
    · have e : x = f := by omega
      rw [e]; exact hp
    · simp (disch := omega) only [forall_eq, true_and, and_true, true_implies, false_implies, implies_true, not_true_eq_false, not_false_eq_true, nI_clamp, vp_in_nI, nI_add, ic_m3, ic_m4, ic_m5, ic_m6, ic_m8, ic_m11, ic_m12, ic_m24, ic_m33, ic_p1, ic_p2, ic_p3, ic_p4, ic_p5, ic_p6, ic_p7, ic_p8, ic_q3, ic_d11, ic_r11, ic_d22, ic_n11, ic_n22, ic_n3, ic_n2, ic_oneI]
      rw [ic_cut_s (by omega) h2]
      exact ih (x + 1) (by omega) (by omega) (by omega)
theorem yw_remL {f sl : Nat} (hf : f < 8) (post : Int32 → SY → Prop) (hp : post 1 (nI f, wn, nt, ro, ph, ck, ch, ns, na, ic_cut pa (sl * 8) (f * 8) 8, ow, se, bd, bo, st, cx, ca, mr, sk, ba, sn)) : ∀ l x : Nat, f * 8 < l + x → sl * 8 ≤ x → x ≤ f * 8 →
    wY_lose_31 post (nI f) wn l (nI x) nt ro ph ck ch ns na (ic_cut pa (sl * 8) x 8) ow se bd bo st cx ca mr sk ba sn := by
  intro l
  induction l with
  | zero => intro x h; omega
  | succ l ih =>
    intro x h1 h2 h3
    rw [wY_lose_31]
    simp (disch := omega) only [forall_eq, true_and, and_true, true_implies, false_implies, implies_true, not_true_eq_false, not_false_eq_true, nI_clamp, vp_in_nI, nI_add, ic_m3, ic_m4, ic_m5, ic_m6, ic_m8, ic_m11, ic_m12, ic_m24, ic_m33, ic_p1, ic_p2, ic_p3, ic_p4, ic_p5, ic_p6, ic_p7, ic_p8, ic_q3, ic_d11, ic_r11, ic_d22, ic_n11, ic_n22, ic_n3, ic_n2, ic_oneI]
    refine pk_le (f * 8) x (fun h => ?_) (fun h => ?_)
    · have e : x = f * 8 := by omega
      rw [e]; exact hp
    · refine br_f (nI_ge (b := 56) (by omega) (by omega)) ?_
      rw [ic_cut_s (by omega) h2]
      exact ⟨vp_in_nI (by omega) (by omega), ih (x + 1) (by omega) (by omega) (by omega)⟩
theorem lk_rem {k f sl : Nat} {E : Nat → Nat → Prop} (hI : ic_I k E wn fl nt ro ph ck ch na ns ba ow se tp po pc pb sp sg st rk cx ca mr fm mb od os qu qs qd rg ft pa bd bo sk sn) (hfl : fl = nI f) (hsl : sl < f) (hf : f ≤ 8) :
    ∃ ft' pa' : Nat → Int32, ic_I k E wn (nI (f - 1)) nt ro ph ck ch na ns ba ow se tp po pc pb sp sg st rk cx ca mr fm mb od os qu qs qd rg ft' pa' bd bo sk sn ∧ (∀ post : SX → Prop, post (wn, nI (f - 1), nt, ro, ph, ck, ch, na, ns, ba, ow, se, tp, po, pc, pb, sp, sg, st, rk, cx, ca, mr, fm, mb, od, os, qu, qs, qd, rg, ft') → wpX_removePacket post (wn, fl, nt, ro, ph, ck, ch, na, ns, ba, ow, se, tp, po, pc, pb, sp, sg, st, rk, cx, ca, mr, fm, mb, od, os, qu, qs, qd, rg, ft) (nI sl)) ∧
      (∀ post : Int32 → SY → Prop, post 1 (nI (f - 1), wn, nt, ro, ph, ck, ch, ns, na, pa', ow, se, bd, bo, st, cx, ca, mr, sk, ba, sn) → wpY_lose post (fl, wn, nt, ro, ph, ck, ch, ns, na, pa, ow, se, bd, bo, st, cx, ca, mr, sk, ba, sn) (nI sl)) := by
  obtain ⟨hnt, hro, hph, hns, how, hse, hst, hmk, hrg, hpn, hch, hob, hop, hsp, hsb, hP, hS, hT, hM, hfm, hO, hK, hQ, hC, hF⟩ := hI
  obtain ⟨f', hf8, hfl', hFF⟩ := hF
  have ef : f' = f := by
    rw [hfl] at hfl'
    exact (ic_eqn (by omega) (by omega) hfl').symm
  subst ef
  have e1 : nI f' - 1 = nI (f' - 1) := pk_sub (b := 1) (by omega)
  refine ⟨ic_cut ft sl (f' - 1) 1, ic_cut pa (sl * 8) ((f' - 1) * 8) 8, ?_, fun post hp => ?_, fun post hp => ?_⟩
  · refine ⟨hnt, hro, hph, hns, how, hse, hst, hmk, hrg, hpn, hch, hob, hop, hsp, hsb, hP, hS, hT, hM, hfm, hO, hK, hQ, hC, ⟨f' - 1, by omega, rfl, fun i hi => ?_⟩⟩
    by_cases h : sl ≤ i
    · obtain ⟨k2, s2, p2, d2, r2, m2, b2, q2, x1, x2, x3, x4, x5, x6⟩ := hFF (i + 1) (by omega)
      have ec : ∀ j, j < 8 → ic_cut pa (sl * 8) ((f' - 1) * 8) 8 (i * 8 + j) = pa ((i + 1) * 8 + j) := by
        intro j hj
        unfold ic_cut
        rw [if_pos (by omega), show i * 8 + j + 8 = (i + 1) * 8 + j by omega]
      refine ⟨k2, s2, p2, d2, r2, m2, b2, q2, x1, ?_, ?_, x4, x5, x6⟩
      · unfold ic_cut
        rw [if_pos (by omega)]; exact x2
      · have e0 := ec 0 (by omega)
        rw [Nat.add_zero, Nat.add_zero] at e0
        rw [e0, ec 1 (by omega), ec 2 (by omega), ec 3 (by omega), ec 4 (by omega), ec 5 (by omega), ec 6 (by omega), ec 7 (by omega)]
        exact x3
    · obtain ⟨k2, s2, p2, d2, r2, m2, b2, q2, x1, x2, x3, x4, x5, x6⟩ := hFF i (by omega)
      have ec : ∀ j, j < 8 → ic_cut pa (sl * 8) ((f' - 1) * 8) 8 (i * 8 + j) = pa (i * 8 + j) := by
        intro j hj
        unfold ic_cut
        rw [if_neg (by omega)]
      refine ⟨k2, s2, p2, d2, r2, m2, b2, q2, x1, ?_, ?_, x4, x5, x6⟩
      · unfold ic_cut
        rw [if_neg (by omega)]; exact x2
      · have e0 := ec 0 (by omega)
        rw [Nat.add_zero] at e0
        rw [e0, ec 1 (by omega), ec 2 (by omega), ec 3 (by omega), ec 4 (by omega), ec 5 (by omega), ec 6 (by omega), ec 7 (by omega)]
        exact x3
  · unfold wpX_removePacket
    refine nm_r (e' := nI (f' - 1)) (by rw [hfl]; exact e1) ⟨9, ?_⟩
    have := xw_remL (ft := ft) (sl := sl) (by omega) post hp 9 sl (by omega) (Nat.le_refl _) (by omega)
    rw [ic_cut_0] at this
    exact this
  · unfold wpY_lose
    dsimp only
    rw [hfl, e1]
    refine yw_out0 ?_ (br_t rfl (nm_e (nm_r (ic_m8 sl) ⟨65, ?_⟩)))
    · rintro (z | z)
      · exact nI_pos (by omega) z
      · exact z (nI_le (by omega) (by omega))
    · have := yw_remL (pa := pa) (sl := sl) (by omega) post hp 65 (sl * 8) (by omega) (Nat.le_refl _) (by omega)
      rw [ic_cut_0] at this
      exact this
end
end
section
/-! the triggered list -/
def ic_cnt (Q : List Nat) (x : Nat) : Nat := ((List.range x).filter (fun y => decide (y ∈ Q))).length
theorem ic_cnt_in {Q : List Nat} {x : Nat} (h : x ∈ Q) : ic_cnt Q (x + 1) = ic_cnt Q x + 1 := by
  unfold ic_cnt
  rw [List.range_succ, List.filter_append, List.length_append]
  simp [h]
theorem ic_cnt_out {Q : List Nat} {x : Nat} (h : x ∉ Q) : ic_cnt Q (x + 1) = ic_cnt Q x := by
  unfold ic_cnt
  rw [List.range_succ, List.filter_append, List.length_append]
  simp [h]
theorem ic_cnt_le (Q : List Nat) (x : Nat) : ic_cnt Q x ≤ x := by
  unfold ic_cnt
  have := List.length_filter_le (fun y => decide (y ∈ Q)) (List.range x)
  rw [List.length_range] at this
  exact this
theorem ic_cnt_all {Q : List Nat} (hd : Q.Nodup) (h : ∀ c, c ∈ Q → c < 33) : ic_cnt Q 33 = Q.length := by
  unfold ic_cnt
  apply List.Perm.length_eq
  rw [List.perm_ext_iff_of_nodup (List.Pairwise.filter _ List.nodup_range) hd]
  intro x
  rw [List.mem_filter, List.mem_range, decide_eq_true_iff]
  exact ⟨fun z => z.2, fun z => ⟨h x z, z⟩⟩
theorem ic_nle0 {x : Int32} {n : Nat} (h : x = nI (n + 1)) (hn : n < 1000) : ¬ x ≤ 0 := by rw [h]; exact nI_nle (by omega) (by omega)
/-- the spots once c has left -/
def ic_dq (sk : Nat → Int32) (a c : Nat) : Nat → Int32 := fun j => if a * 33 ≤ j ∧ j < a * 33 + 33 ∧ ¬ sk (a * 33 + c) ≤ 0 ∧ ¬ sk j < sk (a * 33 + c) then (if j = a * 33 + c then 0 else sk j - 1) else sk j
def ic_dqx (sk : Nat → Int32) (a c x : Nat) : Nat → Int32 := fun j => if j < a * 33 + x then ic_dq sk a c j else sk j
theorem ic_dqx_0 {sk : Nat → Int32} {a c : Nat} : ic_dqx sk a c 0 = sk := by
  funext j
  unfold ic_dqx ic_dq
  by_cases h : j < a * 33 + 0
  · rw [if_pos h, if_neg (by omega)]
  · rw [if_neg h]
theorem ic_dqx_e {sk : Nat → Int32} {a c : Nat} : ic_dqx sk a c 33 = ic_dq sk a c := by
  funext j
  unfold ic_dqx
  by_cases h : j < a * 33 + 33
  · rw [if_pos h]
  · rw [if_neg h]; unfold ic_dq; rw [if_neg (by omega)]
theorem ic_dqx_k {sk : Nat → Int32} {a c x : Nat} (h : ic_dq sk a c (a * 33 + x) = sk (a * 33 + x)) : ic_dqx sk a c x = ic_dqx sk a c (x + 1) := by
  funext j
  unfold ic_dqx
  by_cases h1 : j < a * 33 + x
  · rw [if_pos h1, if_pos (by omega)]
  · rw [if_neg h1]
    by_cases h2 : j = a * 33 + x
    · rw [if_pos (by omega), h2, h]
    · rw [if_neg (by omega)]
theorem ic_dqx_u {sk : Nat → Int32} {a c x : Nat} {v : Int32} (h : ic_dq sk a c (a * 33 + x) = v) : upd (ic_dqx sk a c x) (a * 33 + x) v = ic_dqx sk a c (x + 1) := by
  funext j
  by_cases h2 : j = a * 33 + x
  · rw [h2, pk_us]; unfold ic_dqx; rw [if_pos (by omega), h]
  · rw [pk_un h2]; unfold ic_dqx
    by_cases h1 : j < a * 33 + x
    · rw [if_pos h1, if_pos (by omega)]
    · rw [if_neg h1, if_neg (by omega)]
theorem ic_dqx_r {sk : Nat → Int32} {a c x : Nat} : ic_dqx sk a c x (a * 33 + x) = sk (a * 33 + x) := by
  unfold ic_dqx; rw [if_neg (by omega)]
theorem ic_dq_0 {sk : Nat → Int32} {a c : Nat} (h : sk (a * 33 + c) = 0) : ic_dq sk a c = sk := by
  funext j
  unfold ic_dq
  rw [if_neg]
  rintro ⟨_, _, z, _⟩
  rw [h] at z
  exact z (by decide)
/-- the list without c, in place -/
theorem ic_Qdeq {st st' qu qs qu' sk : Nat → Int32} {qd : Nat → Int64} {a c : Nat} {Q : List Nat} (ha : a < 2) (hc : c < 33) (H : ic_Q st qu qs qd sk) (hQ : ic_Q1 st qu qs qd sk a Q)
    (hst : ∀ j, j ≠ a * 33 + c → st j = 2 → st' j = 2) (hq : ic_L qu' (a * 33) (ic_rm c Q)) (hf : ∀ j, j < a * 33 ∨ a * 33 + 33 ≤ j → qu' j = qu j) :
    ic_Q st' qu' (upd qs a (nI (ic_rm c Q).length)) (vp_updL qd a (qd a &&& (((1 : Int64) <<< ((nI c).toInt64 &&& 63)) ^^^ (-1)))) (ic_dq sk a c) ∧ ic_dq sk a c (a * 33 + c) = 0 := by
  obtain ⟨q1, q2, q3, q4, q5, q6, q7⟩ := hQ
  have hlen : Q.length ≤ 33 := ic_len 33 Q q1 (fun x hx => (q2 x hx).1)
  have hc0 : ic_dq sk a c (a * 33 + c) = 0 := by
    by_cases hcQ : c ∈ Q
    · obtain ⟨i, hi⟩ := List.mem_iff_getElem?.mp hcQ
      have h5 := q5 i c hi
      have hil : i < Q.length := (List.getElem?_eq_some_iff.mp hi).1
      unfold ic_dq
      rw [if_pos ⟨by omega, by omega, ic_nle0 h5 (by omega), Int32.lt_irrefl⟩, if_pos rfl]
    · have h6 := q6 c hc hcQ
      rw [ic_dq_0 h6]; exact h6
  refine ⟨?_, hc0⟩
  intro a' ha'
  by_cases ea : a' = a
  · subst ea
    refine ⟨ic_rm c Q, ic_rm_nd q1, ?_, pk_us, hq, ?_, ?_, ?_⟩
    · intro x hx
      obtain ⟨x1, x2⟩ := ic_rm_mem.mp hx
      exact ⟨(q2 x x1).1, hst _ (by omega) (q2 x x1).2⟩
    · intro i x hi
      have hxm := ic_rm_mem.mp (List.mem_iff_getElem?.mpr ⟨i, hi⟩)
      have hx33 := (q2 x hxm.1).1
      by_cases hcQ : c ∈ Q
      · obtain ⟨A, B, e, hA, hB⟩ := ic_split q1 hcQ
        have er : ic_rm c Q = A ++ B := by
          rw [e, ic_rm_app, ic_rm_eq, ic_rm_id hA, ic_rm_id hB]
        have hlA : A.length < 33 := by
          have : Q.length = A.length + (B.length + 1) := by rw [e]; simp
          omega
        have hkc : sk (a' * 33 + c) = nI (A.length + 1) := q5 A.length c (by rw [e]; simp)
        rw [er] at hi
        by_cases hi2 : i < A.length
        · rw [List.getElem?_append_left hi2] at hi
          have h5 := q5 i x (by rw [e, List.getElem?_append_left hi2]; exact hi)
          unfold ic_dq
          rw [if_neg]
          · exact h5
          · rintro ⟨_, _, _, z⟩
            rw [h5, hkc] at z
            exact z (nI_lt (by omega) (by omega))
        · rw [List.getElem?_append_right (by omega)] at hi
          have hib : i - A.length < B.length := (List.getElem?_eq_some_iff.mp hi).1
          have hlB : Q.length = A.length + (B.length + 1) := by rw [e]; simp
          have h5 := q5 (i + 1) x (by
            rw [e, List.getElem?_append_right (by omega), show i + 1 - A.length = (i - A.length) + 1 by omega, List.getElem?_cons_succ]
            exact hi)
          unfold ic_dq
          rw [if_pos, if_neg (by omega), h5]
          · exact nI_pred _
          · refine ⟨by omega, by omega, ic_nle0 hkc (by omega), ?_⟩
            rw [h5, hkc]
            exact nI_nlt (by omega) (by omega)
      · rw [ic_rm_id hcQ] at hi
        rw [ic_dq_0 (q6 c hc hcQ)]
        exact q5 i x hi
    · intro x hx hxn
      by_cases e : x = c
      · rw [e]; exact hc0
      · have hxQ : x ∉ Q := fun z => hxn (ic_rm_mem.mpr ⟨z, e⟩)
        have h6 := q6 x hx hxQ
        unfold ic_dq
        by_cases hh : a' * 33 ≤ a' * 33 + x ∧ a' * 33 + x < a' * 33 + 33 ∧ ¬ sk (a' * 33 + c) ≤ 0 ∧ ¬ sk (a' * 33 + x) < sk (a' * 33 + c)
        · exfalso
          obtain ⟨_, _, z1, z2⟩ := hh
          rw [h6] at z2
          rcases Int32.le_total (sk (a' * 33 + c)) 0 with z | z
          · exact z1 z
          · exact z2 (Int32.lt_of_le_of_ne z (fun e => z1 (by rw [← e]; exact Int32.le_refl _)))
        · rw [if_neg hh]; exact h6
    · intro x hx
      rw [pk_uLs, ic_Band, ic_Bnot _ (by omega), ic_Bone (by omega) (by omega), Bool.and_eq_true, q7 x hx, ic_rm_mem]
      constructor
      · rintro ⟨z1, z2⟩
        refine ⟨z1, fun e => ?_⟩
        rw [decide_eq_true e] at z2; cases z2
      · rintro ⟨z1, z2⟩
        exact ⟨z1, by rw [decide_eq_false z2]; rfl⟩
  · obtain ⟨Q2, p1, p2, p3, p4, p5, p6, p7⟩ := H a' ha'
    have hlen2 : Q2.length ≤ 33 := ic_len 33 Q2 p1 (fun x hx => (p2 x hx).1)
    have hdq : ∀ x, x < 33 → ic_dq sk a c (a' * 33 + x) = sk (a' * 33 + x) := by
      intro x hx
      unfold ic_dq
      rw [if_neg (by omega)]
    refine ⟨Q2, p1, fun x hx => ⟨(p2 x hx).1, hst _ (by have := (p2 x hx).1; omega) (p2 x hx).2⟩, by rw [pk_un ea]; exact p3, ic_L_fr p4 (fun j _ _ => hf j (by omega)), ?_, ?_, ?_⟩
    · intro i x hi
      rw [hdq x (p2 x (List.mem_iff_getElem?.mpr ⟨i, hi⟩)).1]; exact p5 i x hi
    · intro x hx hn
      rw [hdq x hx]; exact p6 x hx hn
    · intro x hx
      rw [pk_uLn ea]; exact p7 x hx
section
variable {wn fl : Int32} {nt ro ph ck ch na ns ba ow se tp po pc pb sp sg st rk cx ca mr : Nat → Int32} {fm mb : Nat → Int64} {od os qu qs : Nat → Int32} {qd : Nat → Int64} {rg ft pa bd bo sk sn : Nat → Int32}
theorem yw_deqL {a c : Nat} (ha : a < 2) (hc : c < 33) (post : SY → Prop) (hp : post (fl, wn, nt, ro, ph, ck, ch, ns, na, pa, ow, se, bd, bo, st, cx, ca, mr, ic_dq sk a c, ba, sn)) : ∀ n x : Nat, 33 < n + x → x ≤ 33 →
    wY_dequeue_21 post (nI c) (sk (a * 33 + c)) fl wn n (nI x) (nI (a * 33 + x)) nt ro ph ck ch ns na pa ow se bd bo st cx ca mr (ic_dqx sk a c x) ba sn := by
  intro n
  induction n with
  | zero => intro x h; omega
  | succ n ih =>
    intro x h1 h2
    rw [wY_dequeue_21]
    refine pk_le 33 x (fun h => ?_) (fun h => ?_)
    · have e : x = 33 := by omega
      rw [e, ic_dqx_e]; exact hp
    · have nx := ih (x + 1) (by omega) (by omega)
      rw [show a * 33 + (x + 1) = a * 33 + x + 1 by omega] at nx
      simp (disch := omega) only [forall_eq, true_and, and_true, true_implies, false_implies, implies_true, not_true_eq_false, not_false_eq_true, nI_clamp, vp_in_nI, nI_add, ic_m3, ic_m4, ic_m5, ic_m6, ic_m8, ic_m11, ic_m12, ic_m24, ic_m33, ic_p1, ic_p2, ic_p3, ic_p4, ic_p5, ic_p6, ic_p7, ic_p8, ic_q3, ic_d11, ic_r11, ic_d22, ic_n11, ic_n22, ic_n3, ic_n2, ic_oneI, ic_dqx_r, ic_eqI]
      refine br_c (fun z => ?_) (fun z => br_c (fun z2 => ?_) (fun z2 => ⟨fun z3 => ?_, fun z3 => ?_⟩))
      · rw [ic_dqx_k]
        · exact nx
        · unfold ic_dq
          rw [if_neg (fun y => y.2.2.1 z)]
      · rw [ic_dqx_k]
        · exact nx
        · unfold ic_dq
          rw [if_neg (fun y => y.2.2.2 z2)]
      · rw [ic_dqx_u]
        · exact nx
        · unfold ic_dq
          rw [if_pos ⟨by omega, by omega, z, z2⟩, if_pos (by omega)]
      · rw [ic_dqx_u]
        · exact nx
        · unfold ic_dq
          rw [if_pos ⟨by omega, by omega, z, z2⟩, if_neg (by omega)]
theorem yw_deq {a c : Nat} (ha : a < 2) (hc : c < 33) (post : SY → Prop) (hp : post (fl, wn, nt, ro, ph, ck, ch, ns, na, pa, ow, se, bd, bo, st, cx, ca, mr, ic_dq sk a c, ba, sn)) : wpY_dequeue post (fl, wn, nt, ro, ph, ck, ch, ns, na, pa, ow, se, bd, bo, st, cx, ca, mr, sk, ba, sn) (nI a) (nI c) := by
  unfold wpY_dequeue
  simp (disch := omega) only [forall_eq, true_and, and_true, true_implies, false_implies, implies_true, not_true_eq_false, not_false_eq_true, nI_clamp, vp_in_nI, nI_add, ic_m3, ic_m4, ic_m5, ic_m6, ic_m8, ic_m11, ic_m12, ic_m24, ic_m33, ic_p1, ic_p2, ic_p3, ic_p4, ic_p5, ic_p6, ic_p7, ic_p8, ic_q3, ic_d11, ic_r11, ic_d22, ic_n11, ic_n22, ic_n3, ic_n2, ic_oneI]
  have := yw_deqL ha hc post hp 34 0 (by omega) (by omega)
  rw [ic_dqx_0] at this
  exact ⟨34, this⟩
/-- unqueue and dequeue -/
theorem lk_deq {k a c : Nat} {E : Nat → Nat → Prop} (hI : ic_I k E wn fl nt ro ph ck ch na ns ba ow se tp po pc pb sp sg st rk cx ca mr fm mb od os qu qs qd rg ft pa bd bo sk sn) (ha : a < 2) (hc : c < 33) :
    ∃ (qu' qs' sk' : Nat → Int32) (qd' : Nat → Int64), ic_I k E wn fl nt ro ph ck ch na ns ba ow se tp po pc pb sp sg st rk cx ca mr fm mb od os qu' qs' qd' rg ft pa bd bo sk' sn ∧ sk' (a * 33 + c) = 0 ∧ sk' = ic_dq sk a c ∧ (∀ post : SX → Prop, post (wn, fl, nt, ro, ph, ck, ch, na, ns, ba, ow, se, tp, po, pc, pb, sp, sg, st, rk, cx, ca, mr, fm, mb, od, os, qu', qs', qd', rg, ft) → wpX_unqueue post (wn, fl, nt, ro, ph, ck, ch, na, ns, ba, ow, se, tp, po, pc, pb, sp, sg, st, rk, cx, ca, mr, fm, mb, od, os, qu, qs, qd, rg, ft) (nI a) (nI c)) := by
  obtain ⟨hnt, hro, hph, hns, how, hse, hst, hmk, hrg, hpn, hch, hob, hop, hsp, hsb, hP, hS, hT, hM, hfm, hO, hK, hQ, hC, hF⟩ := hI
  obtain ⟨Q, hQ1⟩ := hQ a ha
  have hQ2 := hQ1
  obtain ⟨q1, q2, q3, q4, q5, q6, q7⟩ := hQ1
  have h33 : ∀ x, x ∈ Q → x < 33 := fun x hx => (q2 x hx).1
  obtain ⟨qu', y1, y2, y3⟩ := xw_uq (wn := wn) (fl := fl) (nt := nt) (ro := ro) (ph := ph) (ck := ck) (ch := ch) (na := na) (ns := ns) (ba := ba) (ow := ow) (se := se) (tp := tp) (po := po) (pc := pc) (pb := pb) (sp := sp) (sg := sg) (st := st) (rk := rk) (cx := cx) (ca := ca) (mr := mr) (fm := fm) (mb := mb) (od := od) (os := os) (qd := qd) (rg := rg) (ft := ft) ha hc (ic_len 33 Q q1 h33) h33 q3 q4
  obtain ⟨z1, z2⟩ := ic_Qdeq ha hc hQ hQ2 (fun _ _ z => z) y1 y2
  exact ⟨qu', _, _, _, ⟨hnt, hro, hph, hns, how, hse, hst, hmk, hrg, hpn, hch, hob, hop, hsp, hsb, hP, hS, hT, hM, hfm, hO, hK, z1, hC, hF⟩, z2, rfl, y3⟩
/-- enqueue -/
theorem yw_enqL {a c : Nat} {Q : List Nat} (ha : a < 2) (hc : c < 33) (hin : ∀ x, x ∈ Q → ¬ sk (a * 33 + x) ≤ 0) (hout : ∀ x, x < 33 → x ∉ Q → sk (a * 33 + x) = 0) (post : SY → Prop)
    (hp : wY_enqueue_13 post (nI a) (nI (a * 33 + c)) fl wn nt ro ph ck ch ns na pa ow se bd bo st cx ca mr sk ba sn 1 (nI (1 + ic_cnt Q 33)) (nI 33)) : ∀ d x : Nat, x + d = 33 →
    wY_enqueue_13 post (nI a) (nI (a * 33 + c)) fl wn nt ro ph ck ch ns na pa ow se bd bo st cx ca mr sk ba sn (d + 1) (nI (1 + ic_cnt Q x)) (nI x) := by
  intro d
  induction d with
  | zero =>
    intro x h
    have e : x = 33 := by omega
    rw [e]; exact hp
  | succ d ih =>
    intro x h
    rw [wY_enqueue_13]
    refine br_f (nI_ge (b := 33) (by omega) (by omega)) ?_
    simp (disch := omega) only [forall_eq, true_and, and_true, true_implies, false_implies, implies_true, not_true_eq_false, not_false_eq_true, nI_clamp, vp_in_nI, nI_add, ic_m3, ic_m4, ic_m5, ic_m6, ic_m8, ic_m11, ic_m12, ic_m24, ic_m33, ic_p1, ic_p2, ic_p3, ic_p4, ic_p5, ic_p6, ic_p7, ic_p8, ic_q3, ic_d11, ic_r11, ic_d22, ic_n11, ic_n22, ic_n3, ic_n2, ic_oneI]
    have nx := ih (x + 1) (by omega)
    by_cases hx : x ∈ Q
    · refine br_f (hin x hx) ?_
      rw [ic_cnt_in hx] at nx
      exact nx
    · refine br_t (by rw [hout x (by omega) hx]; exact Int32.le_refl _) ?_
      rw [ic_cnt_out hx] at nx
      exact nx
theorem lk_enq {k a c : Nat} {E : Nat → Nat → Prop} (hI : ic_I k E wn fl nt ro ph ck ch na ns ba ow se tp po pc pb sp sg st rk cx ca mr fm mb od os qu qs qd rg ft pa bd bo sk sn) (ha : a < 2) (hc : c < 33) (h0 : st (a * 33 + c) ≠ 0) :
    ∃ (st' cx' qu' qs' sk' : Nat → Int32) (mb' qd' : Nat → Int64), st' = upd st (a * 33 + c) 2 ∧ ic_I k E wn fl nt ro ph ck ch na ns ba ow se tp po pc pb sp sg st' rk cx' ca mr fm mb' od os qu' qs' qd' rg ft pa bd bo sk' sn ∧
      (∀ post : SX → Prop, post (wn, fl, nt, ro, ph, ck, ch, na, ns, ba, ow, se, tp, po, pc, pb, sp, sg, st', rk, cx', ca, mr, fm, mb', od, os, qu', qs', qd', rg, ft) → wpX_enqueue post (wn, fl, nt, ro, ph, ck, ch, na, ns, ba, ow, se, tp, po, pc, pb, sp, sg, st, rk, cx, ca, mr, fm, mb, od, os, qu, qs, qd, rg, ft) (nI a) (nI c)) ∧ (∀ post : SY → Prop, post (fl, wn, nt, ro, ph, ck, ch, ns, na, pa, ow, se, bd, bo, st', cx', ca, mr, sk', ba, sn) → wpY_enqueue post (fl, wn, nt, ro, ph, ck, ch, ns, na, pa, ow, se, bd, bo, st, cx, ca, mr, sk, ba, sn) (nI a) (nI c)) := by
  obtain ⟨hnt, hro, hph, hns, how, hse, hst, hmk, hrg, hpn, hch, hob, hop, hsp, hsb, hP, hS, hT, hM, hfm, hO, hK, hQ, hC, hF⟩ := hI
  obtain ⟨s0, hs01, hs05, hs0⟩ := ic_nz (hst (a * 33 + c)) h0
  obtain ⟨Q, hQ1⟩ := hQ a ha
  obtain ⟨q1, q2, q3, q4, q5, q6, q7⟩ := hQ1
  have h33 : ∀ x, x ∈ Q → x < 33 := fun x hx => (q2 x hx).1
  have hlen : Q.length ≤ 33 := ic_len 33 Q q1 h33
  have hin : ∀ x, x ∈ Q → ¬ sk (a * 33 + x) ≤ 0 := by
    intro x hx
    obtain ⟨i, hi⟩ := List.mem_iff_getElem?.mp hx
    have hil : i < Q.length := (List.getElem?_eq_some_iff.mp hi).1
    exact ic_nle0 (q5 i x hi) (by omega)
  have zi : ∀ j, upd st (a * 33 + c) (nI 2) j = 0 ↔ st j = 0 := by
    intro j
    by_cases e : j = a * 33 + c
    · rw [e, pk_us]
      exact ⟨fun z => absurd z (by decide), fun z => absurd z h0⟩
    · rw [pk_un e]
  have mono : ∀ j, st j ≠ 0 → upd st (a * 33 + c) (nI 2) j ≠ 0 := fun j z z2 => z ((zi j).mp z2)
  have z3 : ∀ j, upd st (a * 33 + c) (nI 2) j = 3 → st j = 3 := by
    intro j z
    by_cases e : j = a * 33 + c
    · rw [e, pk_us] at z
      exact absurd z (by decide)
    · rw [pk_un e] at z; exact z
  have z2 : ∀ j, st j = 2 → upd st (a * 33 + c) (nI 2) j = 2 := by
    intro j z
    by_cases e : j = a * 33 + c
    · rw [e, pk_us]; rfl
    · rw [pk_un e]; exact z
  by_cases hcQ : c ∈ Q
  · refine ⟨upd st (a * 33 + c) (nI 2), cx, qu, qs, sk, ic_ms mb a c s0 2, qd, rfl, ?_, fun post hp => ?_, fun post hp => ?_⟩
    · exact ⟨hnt, hro, hph, hns, how, hse, ic_Ru hst _ 2 (by omega), hmk, hrg, hpn, ic_CHm mono hch, hob, hop, hsp, ic_SBi zi hsb, hP, hS, hT, ic_Mset hM ha hc (by omega) (by omega) hs0, ic_FMi zi hfm, ic_Oi zi hO, ic_Ki zi hK, ic_Qst (fun a' c' _ _ z => z2 _ z) hQ, ic_Cst z3 hC, ic_Fm mono (fun _ z => z) hF⟩
    · unfold wpX_enqueue
      refine xw_set (s := 2) ha hc (by omega) (by omega) hs0 ?_
      simp (disch := omega) only [forall_eq, true_and, and_true, true_implies, false_implies, implies_true, not_true_eq_false, not_false_eq_true, nI_clamp, vp_in_nI, nI_add, ic_m3, ic_m4, ic_m5, ic_m6, ic_m8, ic_m11, ic_m12, ic_m24, ic_m33, ic_p1, ic_p2, ic_p3, ic_p4, ic_p5, ic_p6, ic_p7, ic_p8, ic_q3, ic_d11, ic_r11, ic_d22, ic_n11, ic_n22, ic_n3, ic_n2, ic_oneI]
      refine br_f (fun z => ?_) hp
      rw [ic_Btest _ (by omega)] at z
      rw [(q7 c hc).mpr hcQ] at z; cases z
    · refine nm_r (e' := nI (a * 33 + c)) (by rw [ic_m33]; exact nI_add _ _) ⟨34, ?_⟩
      refine yw_enqL (Q := Q) ha hc hin q6 post ?_ 33 0 (by omega)
      rw [wY_enqueue_13]
      refine br_t (Int32.le_refl _) ?_
      simp (disch := omega) only [forall_eq, true_and, and_true, true_implies, false_implies, implies_true, not_true_eq_false, not_false_eq_true, nI_clamp, vp_in_nI, nI_add, ic_m3, ic_m4, ic_m5, ic_m6, ic_m8, ic_m11, ic_m12, ic_m24, ic_m33, ic_p1, ic_p2, ic_p3, ic_p4, ic_p5, ic_p6, ic_p7, ic_p8, ic_q3, ic_d11, ic_r11, ic_d22, ic_n11, ic_n22, ic_n3, ic_n2, ic_oneI]
      refine br_f (fun z => hin c hcQ (by rw [z]; exact Int32.le_refl _)) hp
  · have hlt : Q.length < 33 := by
      have := ic_len 33 (c :: Q) (List.nodup_cons.mpr ⟨hcQ, q1⟩) (fun x hx => by
        rcases List.mem_cons.mp hx with rfl | hx
        · exact hc
        · exact h33 x hx)
      simp at this; omega
    refine ⟨upd st (a * 33 + c) (nI 2), upd cx (a * 33 + c) 0, upd qu (a * 33 + Q.length) (nI c), upd qs a (nI (Q.length + 1)), upd sk (a * 33 + c) (nI (1 + Q.length)), ic_ms mb a c s0 2, vp_updL qd a (qd a ||| ((1 : Int64) <<< ((nI c).toInt64 &&& 63))), rfl, ?_, fun post hp => ?_, fun post hp => ?_⟩
    · refine ⟨hnt, hro, hph, hns, how, hse, ic_Ru hst _ 2 (by omega), hmk, hrg, hpn, ic_CHm mono hch, hob, hop, hsp, ic_SBi zi hsb, hP, hS, hT, ic_Mset hM ha hc (by omega) (by omega) hs0, ic_FMi zi hfm, ic_Oi zi hO, ic_Ki zi hK, ?_, ic_Cst z3 hC, ic_Fm mono (fun _ z => z) hF⟩
      intro a' ha'
      by_cases ea : a' = a
      · subst ea
        refine ⟨Q ++ [c], ?_, ?_, ?_, ?_, ?_, ?_, ?_⟩
        · rw [List.nodup_append]
          refine ⟨q1, by simp, fun x hx y hy => ?_⟩
          rw [List.mem_singleton.mp hy]
          exact fun e => hcQ (e ▸ hx)
        · intro x hx
          rcases List.mem_append.mp hx with hx | hx
          · exact ⟨h33 x hx, z2 _ (q2 x hx).2⟩
          · rw [List.mem_singleton.mp hx]
            exact ⟨hc, by rw [pk_us]; rfl⟩
        · rw [pk_us, List.length_append]; rfl
        · rw [ic_L_app, ic_L_cons]
          exact ⟨ic_L_up q4 (by omega), pk_us, ic_L_nil _ _⟩
        · intro i x hi
          by_cases hi2 : i < Q.length
          · rw [List.getElem?_append_left hi2] at hi
            have hxQ : x ∈ Q := List.mem_iff_getElem?.mpr ⟨i, hi⟩
            rw [pk_un (fun e => hcQ (by rw [show c = x by omega]; exact hxQ))]
            exact q5 i x hi
          · rw [List.getElem?_append_right (by omega)] at hi
            have hb : i - Q.length < [c].length := (List.getElem?_eq_some_iff.mp hi).1
            have e0 : i - Q.length = 0 := by simp at hb; omega
            rw [e0] at hi
            have ex : c = x := by simpa using hi
            rw [← ex, pk_us, show 1 + Q.length = i + 1 by omega]
        · intro x hx hn
          rw [List.mem_append, List.mem_singleton] at hn
          rw [pk_un (fun e => hn (Or.inr (by omega)))]
          exact q6 x hx (fun z => hn (Or.inl z))
        · intro x hx
          rw [pk_uLs, ic_Bor, ic_Bone (by omega) (by omega), Bool.or_eq_true, decide_eq_true_iff, q7 x hx, List.mem_append, List.mem_singleton]
      · obtain ⟨Q2, p1, p2, p3, p4, p5, p6, p7⟩ := hQ a' ha'
        have hlen2 : Q2.length ≤ 33 := ic_len 33 Q2 p1 (fun x hx => (p2 x hx).1)
        refine ⟨Q2, p1, fun x hx => ⟨(p2 x hx).1, z2 _ (p2 x hx).2⟩, by rw [pk_un ea]; exact p3, ic_L_up p4 (by omega), ?_, ?_, ?_⟩
        · intro i x hi
          have := (p2 x (List.mem_iff_getElem?.mpr ⟨i, hi⟩)).1
          rw [pk_un (by omega)]; exact p5 i x hi
        · intro x hx hn
          rw [pk_un (by omega)]; exact p6 x hx hn
        · intro x hx
          rw [pk_uLn ea]; exact p7 x hx
    · unfold wpX_enqueue
      refine xw_set (s := 2) ha hc (by omega) (by omega) hs0 ?_
      simp (disch := omega) only [forall_eq, true_and, and_true, true_implies, false_implies, implies_true, not_true_eq_false, not_false_eq_true, nI_clamp, vp_in_nI, nI_add, ic_m3, ic_m4, ic_m5, ic_m6, ic_m8, ic_m11, ic_m12, ic_m24, ic_m33, ic_p1, ic_p2, ic_p3, ic_p4, ic_p5, ic_p6, ic_p7, ic_p8, ic_q3, ic_d11, ic_r11, ic_d22, ic_n11, ic_n22, ic_n3, ic_n2, ic_oneI, q3]
      refine br_t ?_ hp
      rw [ic_Btest _ (by omega)]
      exact ts_nt (fun z => hcQ ((q7 c hc).mp z))
    · refine nm_r (e' := nI (a * 33 + c)) (by rw [ic_m33]; exact nI_add _ _) ⟨34, ?_⟩
      refine yw_enqL (Q := Q) ha hc hin q6 post ?_ 33 0 (by omega)
      rw [wY_enqueue_13]
      refine br_t (Int32.le_refl _) ?_
      simp (disch := omega) only [forall_eq, true_and, and_true, true_implies, false_implies, implies_true, not_true_eq_false, not_false_eq_true, nI_clamp, vp_in_nI, nI_add, ic_m3, ic_m4, ic_m5, ic_m6, ic_m8, ic_m11, ic_m12, ic_m24, ic_m33, ic_p1, ic_p2, ic_p3, ic_p4, ic_p5, ic_p6, ic_p7, ic_p8, ic_q3, ic_d11, ic_r11, ic_d22, ic_n11, ic_n22, ic_n3, ic_n2, ic_oneI]
      refine br_t (q6 c hc hcQ) ?_
      rw [ic_cnt_all q1 h33]
      exact hp
end
end
section
/-! the best pair -/
def ic_BU (fit : Nat → Prop) (R : Nat → Nat) (n : Nat) (r : Int32) : Prop :=
  (r = -1 ∧ ∀ y, y < n → ¬ fit y) ∨ ∃ x, x < n ∧ r = nI x ∧ fit x ∧ ∀ y, y < n → fit y → y ≠ x → R y < R x
theorem ic_BU_0 (fit : Nat → Prop) (R : Nat → Nat) : ic_BU fit R 0 (-1) := Or.inl ⟨rfl, fun y h => by omega⟩
theorem ic_BU_skip {fit : Nat → Prop} {R : Nat → Nat} {n : Nat} {r : Int32} (h : ¬ fit n) (H : ic_BU fit R n r) : ic_BU fit R (n + 1) r := by
  rcases H with ⟨h1, h2⟩ | ⟨x, h1, h2, h3, h4⟩
  · refine Or.inl ⟨h1, fun y hy => ?_⟩
    by_cases e : y = n
    · rw [e]; exact h
    · exact h2 y (by omega)
  · refine Or.inr ⟨x, by omega, h2, h3, fun y hy hf hn => ?_⟩
    by_cases e : y = n
    · rw [e] at hf; exact absurd hf h
    · exact h4 y (by omega) hf hn
theorem ic_BU_new {fit : Nat → Prop} {R : Nat → Nat} {n : Nat} (hn : ∀ y, y < n → ¬ fit y) (h : fit n) : ic_BU fit R (n + 1) (nI n) := by
  refine Or.inr ⟨n, by omega, rfl, h, fun y hy hf hne => ?_⟩
  exact absurd hf (hn y (by omega))
theorem ic_BU_keep {fit : Nat → Prop} {R : Nat → Nat} {n z : Nat} (hz : z < n) (hf : fit z) (hb : ∀ y, y < n → fit y → y ≠ z → R y < R z) (h : R n < R z) : ic_BU fit R (n + 1) (nI z) := by
  refine Or.inr ⟨z, by omega, rfl, hf, fun y hy hf hne => ?_⟩
  by_cases e : y = n
  · rw [e]; exact h
  · exact hb y (by omega) hf hne
theorem ic_BU_rep {fit : Nat → Prop} {R : Nat → Nat} {n z : Nat} (hb : ∀ y, y < n → fit y → y ≠ z → R y < R z) (hf : fit n) (h : R z < R n) : ic_BU fit R (n + 1) (nI n) := by
  refine Or.inr ⟨n, by omega, rfl, hf, fun y hy hf hne => ?_⟩
  by_cases e : y = z
  · rw [e]; exact h
  · exact Nat.lt_trans (hb y (by omega) hf e) h
theorem ic_BU_ex {fit : Nat → Prop} {R : Nat → Nat} (hR : ∀ x y, x < 33 → y < 33 → R x = R y → x = y) : ∀ n, n ≤ 33 → ∃ r, ic_BU fit R n r := by
  intro n
  induction n with
  | zero => intro _; exact ⟨-1, ic_BU_0 _ _⟩
  | succ n ih =>
    intro hn
    obtain ⟨r, H⟩ := ih (by omega)
    by_cases hf : fit n
    · rcases H with ⟨h1, h2⟩ | ⟨x, h1, h2, h3, h4⟩
      · exact ⟨_, ic_BU_new h2 hf⟩
      · rcases Nat.lt_trichotomy (R n) (R x) with h | h | h
        · exact ⟨_, ic_BU_keep h1 h3 h4 h⟩
        · exact absurd (hR n x (by omega) (by omega) h) (by omega)
        · exact ⟨_, ic_BU_rep h4 hf h⟩
    · exact ⟨r, ic_BU_skip hf H⟩
theorem ic_BU_u {fit : Nat → Prop} {R : Nat → Nat} {r r' : Int32} (H : ic_BU fit R 33 r) (H' : ic_BU fit R 33 r') : r = r' := by
  rcases H with ⟨h1, h2⟩ | ⟨x, h1, h2, h3, h4⟩
  · rcases H' with ⟨g1, g2⟩ | ⟨y, g1, g2, g3, g4⟩
    · rw [h1, g1]
    · exact absurd g3 (h2 y g1)
  · rcases H' with ⟨g1, g2⟩ | ⟨y, g1, g2, g3, g4⟩
    · exact absurd h3 (g2 x h1)
    · by_cases e : x = y
      · rw [h2, g2, e]
      · have := h4 y g1 g3 (fun z => e z.symm)
        have := g4 x h1 h3 e
        omega
def ic_fit (se st : Nat → Int32) (a w y : Nat) : Prop := st (a * 33 + y) = nI w ∧ (w = 2 ∨ ¬ ∃ z, z < 33 ∧ ic_KC se st a y 3 z)
def ic_rnk (ro se bd : Nat → Int32) (a y : Nat) : Nat := ic_pr ro se bd a y * 64 + 63 - y
theorem ic_rnk_inj {ro se bd : Nat → Int32} {a : Nat} : ∀ x y, x < 33 → y < 33 → ic_rnk ro se bd a x = ic_rnk ro se bd a y → x = y := by
  intro x y hx hy h
  unfold ic_rnk at h
  omega
/-- the first that fits of a sorted list is the best -/
theorem ic_first {ro se bd st rk : Nat → Int32} {a w x : Nat} {A B L : List Nat} (hro : ic_R ro 1) (hse : ic_R se 4) (hw : 1 ≤ w) (hw5 : w ≤ 5) (e : L = A ++ x :: B) (h2 : ∀ c, c ∈ L ↔ c < 33 ∧ st (a * 33 + c) ≠ 0) (hs : ic_srt rk a L)
    (hk : ∀ c, c < 33 → st (a * 33 + c) ≠ 0 → rk (a * 33 + c) = nI (ic_rnk ro se bd a c)) (hA : ∀ y, y ∈ A → ¬ ic_fit se st a w y) (hx : ic_fit se st a w x) : ic_BU (ic_fit se st a w) (ic_rnk ro se bd a) 33 (nI x) := by
  have hxL : x ∈ L := by rw [e]; simp
  have hx3 := (h2 x).mp hxL
  refine Or.inr ⟨x, hx3.1, rfl, hx, fun y hy hf hne => ?_⟩
  have hnz : st (a * 33 + y) ≠ 0 := by
    rw [hf.1]
    exact nI_ne0 (by omega) (by omega)
  have hyL : y ∈ L := (h2 y).mpr ⟨hy, hnz⟩
  have hyB : y ∈ B := by
    rw [e, List.mem_append, List.mem_cons] at hyL
    rcases hyL with h | h | h
    · exact absurd hf (hA y h)
    · exact absurd h hne
    · exact h
  have h5 : rk (a * 33 + y) ≤ rk (a * 33 + x) := by
    unfold ic_srt at hs
    rw [e, List.pairwise_append] at hs
    exact (List.pairwise_cons.mp hs.2.1).1 y hyB
  rw [hk y hy hnz, hk x hx3.1 hx3.2] at h5
  have p1 := ic_pr_lt (bd := bd) (a := a) hro hse hy
  have p2 := ic_pr_lt (bd := bd) (a := a) hro hse hx3.1
  have e1 : ic_rnk ro se bd a y < 2 ^ 31 := by unfold ic_rnk; omega
  have e2 : ic_rnk ro se bd a x < 2 ^ 31 := by unfold ic_rnk; omega
  rw [nI_leI e1 e2] at h5
  rcases Nat.lt_or_ge (ic_rnk ro se bd a y) (ic_rnk ro se bd a x) with h6 | h6
  · exact h6
  · exact absurd (ic_rnk_inj (ro := ro) (se := se) (bd := bd) (a := a) y x hy hx3.1 (by omega)) hne
theorem ic_nofit {ro se bd st : Nat → Int32} {a w : Nat} {L : List Nat} (hw : 1 ≤ w) (hw5 : w ≤ 5) (h2 : ∀ c, c ∈ L ↔ c < 33 ∧ st (a * 33 + c) ≠ 0) (hA : ∀ y, y ∈ L → ¬ ic_fit se st a w y) : ic_BU (ic_fit se st a w) (ic_rnk ro se bd a) 33 (-1) := by
  refine Or.inl ⟨rfl, fun y hy hf => hA y ((h2 y).mpr ⟨hy, ?_⟩) hf⟩
  rw [hf.1]
  exact nI_ne0 (by omega) (by omega)
section
variable {wn fl : Int32} {nt ro ph ck ch na ns ba ow se tp po pc pb sp sg st rk cx ca mr : Nat → Int32} {fm mb : Nat → Int64} {od os qu qs : Nat → Int32} {qd : Nat → Int64} {rg ft pa bd bo sk sn : Nat → Int32}
theorem yw_bestL {post : Int32 → Prop} {a w : Nat} (ha : a < 2) (hw : w = 1 ∨ w = 2) (hro : ic_R ro 1) (hse : ic_R se 4) (hsb : ic_SB st ba se) (K : ∀ r, ic_BU (ic_fit se st a w) (ic_rnk ro se bd a) 33 r → post r) :
    ∀ (n x : Nat) (r : Int32), 33 < n + x → x ≤ 33 → ic_BU (ic_fit se st a w) (ic_rnk ro se bd a) x r → wY_best_5 post (nI a) (nI w) fl wn nt ro ph ck ch ns na pa ow se bd bo st cx ca mr sk ba sn n r (nI x) := by
  intro n
  induction n with
  | zero => intro x r h; omega
  | succ n ih =>
    intro x r h1 h2 H
    rw [wY_best_5]
    refine pk_le 33 x (fun h => ?_) (fun h => ?_)
    · have e : x = 33 := by omega
      rw [e] at H; exact K r H
    · have tp : ∀ y, y < 33 → ic_fit se st a w y → ∃ t, 1 ≤ t ∧ t ≤ 4 ∧ se (a * 11 + y % 11) = nI t := by
        intro y hy hf
        have hnz : st (a * 33 + y) ≠ 0 := by
          rw [hf.1]
          exact nI_ne0 (by omega) (by omega)
        exact ic_nz (hse _) (hsb a ha y hy hnz).2
      have skip : ¬ ic_fit se st a w x → wY_best_48 post (wY_best_5 post (nI a) (nI w) fl wn nt ro ph ck ch ns na pa ow se bd bo st cx ca mr sk ba sn n) (nI a) (nI w) r (nI x) fl wn nt ro ph ck ch ns na pa ow se bd bo st cx ca mr sk ba sn := by
        intro hf
        exact br_t rfl (nm_r (nI_1 x) (ih (x + 1) r (by omega) (by omega) (ic_BU_skip hf H)))
      have take : ic_fit se st a w x → wY_best_44 post (wY_best_5 post (nI a) (nI w) fl wn nt ro ph ck ch ns na pa ow se bd bo st cx ca mr sk ba sn n) (nI a) (nI w) r (nI x) fl wn nt ro ph ck ch ns na pa ow se bd bo st cx ca mr sk ba sn := by
        intro hf
        refine br_f (by decide) ?_
        rcases H with ⟨g1, g2⟩ | ⟨z, g1, g2, g3, g4⟩
        · exact br_t g1 (nm_r (nI_1 x) (ih (x + 1) _ (by omega) (by omega) (ic_BU_new g2 hf)))
        · subst g2
          obtain ⟨t1, q1, q2, q3⟩ := tp x h hf
          obtain ⟨t2, q4, q5, q6⟩ := tp z (by omega) g3
          have p1 := ic_pr_lt (bd := bd) (a := a) hro hse h
          have p2 := ic_pr_lt (bd := bd) (a := a) hro hse (show z < 33 by omega)
          refine br_f (ic_ne1 z (by omega)) (yw_prio ha h hro q1 q2 q3 (yw_prio ha (by omega) hro q4 q5 q6 ?_))
          refine pk_le (ic_pr ro se bd a x) (ic_pr ro se bd a z) (fun hl => ?_) (fun hl => ?_)
          · exact nm_r (nI_1 x) (ih (x + 1) _ (by omega) (by omega) (ic_BU_keep g1 g3 g4 (by unfold ic_rnk; omega)))
          · exact nm_r (nI_1 x) (ih (x + 1) _ (by omega) (by omega) (ic_BU_rep g4 hf (by unfold ic_rnk; omega)))
      simp (disch := omega) only [forall_eq, true_and, and_true, true_implies, false_implies, implies_true, not_true_eq_false, not_false_eq_true, nI_clamp, vp_in_nI, nI_add, ic_m3, ic_m4, ic_m5, ic_m6, ic_m8, ic_m11, ic_m12, ic_m24, ic_m33, ic_p1, ic_p2, ic_p3, ic_p4, ic_p5, ic_p6, ic_p7, ic_p8, ic_q3, ic_d11, ic_r11, ic_d22, ic_n11, ic_n22, ic_n3, ic_n2, ic_oneI]
      refine br_c (fun hs => ?_) (fun hs => skip (fun z => hs z.1))
      refine pk_eq w 2 (fun h2 => take ⟨hs, Or.inl h2⟩) (fun h2 => ?_)
      exact yw_kin 3 ha h (by omega) (fun z => br_f (by decide) (skip (fun z2 => z2.2.elim h2 (fun z3 => z3 z)))) (fun z => br_t rfl (take ⟨hs, Or.inr z⟩))
theorem yw_best {post : Int32 → Prop} {a w : Nat} {r : Int32} (ha : a < 2) (hw : w = 1 ∨ w = 2) (hro : ic_R ro 1) (hse : ic_R se 4) (hsb : ic_SB st ba se) (hr : ic_BU (ic_fit se st a w) (ic_rnk ro se bd a) 33 r) (hp : post r) : wpY_best post (fl, wn, nt, ro, ph, ck, ch, ns, na, pa, ow, se, bd, bo, st, cx, ca, mr, sk, ba, sn) (nI a) (nI w) :=
  ⟨34, yw_bestL ha hw hro hse hsb (fun r' h => by rw [ic_BU_u h hr]; exact hp) 34 0 (-1) (by omega) (by omega) (ic_BU_0 _ _)⟩
theorem xw_bwL {post : Int32 → Prop} {a : Nat} {L : List Nat} (ha : a < 2) (hro : ic_R ro 1) (hse : ic_R se 4) (hO : ic_O1 st rk od os a L) (hk : ∀ c, c < 33 → st (a * 33 + c) ≠ 0 → rk (a * 33 + c) = nI (ic_rnk ro se bd a c))
    (K : ∀ r, ic_BU (ic_fit se st a 2) (ic_rnk ro se bd a) 33 r → post r) : ∀ (n : Nat) (A B : List Nat), L = A ++ B → B.length < n → (∀ y, y ∈ A → ¬ ic_fit se st a 2 y) → wX_bestWaiting_20 post (nI a) wn fl nt ro ph ck ch na ns ba ow se tp po pc pb sp sg st rk cx ca mr fm mb od os qu qs qd rg ft n (nI A.length) := by
  obtain ⟨o1, o2, o3, o4, o5⟩ := hO
  have hlen : L.length ≤ 33 := ic_len 33 L o1 (fun c hc => ((o2 c).mp hc).1)
  intro n
  induction n with
  | zero => intro A B _ h; omega
  | succ n ih =>
    intro A B e hn hA
    have hAB : L.length = A.length + B.length := by rw [e]; simp
    rw [wX_bestWaiting_20]
    simp (disch := omega) only [forall_eq, true_and, and_true, true_implies, false_implies, implies_true, not_true_eq_false, not_false_eq_true, nI_clamp, vp_in_nI, nI_add, ic_m3, ic_m4, ic_m5, ic_m6, ic_m8, ic_m11, ic_m12, ic_m24, ic_m33, ic_p1, ic_p2, ic_p3, ic_p4, ic_p5, ic_p6, ic_p7, ic_p8, ic_q3, ic_d11, ic_r11, ic_d22, ic_n11, ic_n22, ic_n3, ic_n2, ic_oneI, o3]
    cases B with
    | nil =>
      refine br_t (nI_le (by simp at hAB; omega) (by omega)) (K _ (ic_nofit (by omega) (by omega) o2 ?_))
      rw [e, List.append_nil]; exact hA
    | cons x B =>
      rw [List.length_cons] at hAB hn
      have hx : x < 33 := ((o2 x).mp (by rw [e]; simp)).1
      have hg : od (a * 33 + A.length) = nI x := by
        rw [e, ic_L_app, ic_L_cons] at o4
        exact o4.2.1
      refine br_f (nI_ge (by omega) (by omega)) ⟨vp_in_nI (by omega) (by omega), ?_⟩
      simp (disch := omega) only [forall_eq, true_and, and_true, true_implies, false_implies, implies_true, not_true_eq_false, not_false_eq_true, nI_clamp, vp_in_nI, nI_add, ic_m3, ic_m4, ic_m5, ic_m6, ic_m8, ic_m11, ic_m12, ic_m24, ic_m33, ic_p1, ic_p2, ic_p3, ic_p4, ic_p5, ic_p6, ic_p7, ic_p8, ic_q3, ic_d11, ic_r11, ic_d22, ic_n11, ic_n22, ic_n3, ic_n2, ic_oneI, hg]
      refine br_c (fun z => K _ (ic_first hro hse (by omega) (by omega) e o2 o5 hk hA ⟨z, Or.inl rfl⟩)) (fun z => ?_)
      have := ih (A ++ [x]) B (by rw [e]; simp) (by omega) (fun y hy => by
        rcases List.mem_append.mp hy with hy | hy
        · exact hA y hy
        · rw [List.mem_singleton.mp hy]
          exact fun z2 => z z2.1)
      rw [List.length_append] at this
      exact this
theorem xw_bw {post : Int32 → Prop} {a : Nat} {r : Int32} (ha : a < 2) (hro : ic_R ro 1) (hse : ic_R se 4) (hM : ic_M st mb) (hO : ic_O st rk od os) (hk : ∀ c, c < 33 → st (a * 33 + c) ≠ 0 → rk (a * 33 + c) = nI (ic_rnk ro se bd a c))
    (hr : ic_BU (ic_fit se st a 2) (ic_rnk ro se bd a) 33 r) (hp : post r) : wpX_bestWaiting post (wn, fl, nt, ro, ph, ck, ch, na, ns, ba, ow, se, tp, po, pc, pb, sp, sg, st, rk, cx, ca, mr, fm, mb, od, os, qu, qs, qd, rg, ft) (nI a) := by
  have K : ∀ r', ic_BU (ic_fit se st a 2) (ic_rnk ro se bd a) 33 r' → post r' := fun r' h => by rw [ic_BU_u h hr]; exact hp
  unfold wpX_bestWaiting
  simp (disch := omega) only [forall_eq, true_and, and_true, true_implies, false_implies, implies_true, not_true_eq_false, not_false_eq_true, nI_clamp, vp_in_nI, nI_add, ic_m3, ic_m4, ic_m5, ic_m6, ic_m8, ic_m11, ic_m12, ic_m24, ic_m33, ic_p1, ic_p2, ic_p3, ic_p4, ic_p5, ic_p6, ic_p7, ic_p8, ic_q3, ic_d11, ic_r11, ic_d22, ic_n11, ic_n22, ic_n3, ic_n2, ic_oneI]
  obtain ⟨L, hL⟩ := hO a ha
  refine br_c (fun z => K _ (Or.inl ⟨rfl, fun y hy hf => ?_⟩)) (fun z => ⟨34, ?_⟩)
  · have := (hM a ha 2 (by omega) (by omega) y hy).mpr hf.1
    rw [(ic_Bz _).mp z y (by omega)] at this
    cases this
  · have hlen : L.length ≤ 33 := ic_len 33 L hL.1 (fun c hc => ((hL.2.1 c).mp hc).1)
    exact xw_bwL (ba := ba) ha hro hse hL hk K 34 [] L rfl (by omega) (fun y hy => by cases hy)
theorem xw_bfL {post : Int32 → Prop} {a : Nat} {L : List Nat} (ha : a < 2) (hro : ic_R ro 1) (hse : ic_R se 4) (hT : ic_T se tp) (hM : ic_M st mb) (hsb : ic_SB st ba se) (hO : ic_O1 st rk od os a L) (hk : ∀ c, c < 33 → st (a * 33 + c) ≠ 0 → rk (a * 33 + c) = nI (ic_rnk ro se bd a c))
    (K : ∀ r, ic_BU (ic_fit se st a 1) (ic_rnk ro se bd a) 33 r → post r) : ∀ (n : Nat) (A B : List Nat), L = A ++ B → B.length < n → (∀ y, y ∈ A → ¬ ic_fit se st a 1 y) → wX_bestFrozen_15 post (nI a) (mb (a * 6 + 3)) wn fl nt ro ph ck ch na ns ba ow se tp po pc pb sp sg st rk cx ca mr fm mb od os qu qs qd rg ft n (nI A.length) := by
  obtain ⟨o1, o2, o3, o4, o5⟩ := hO
  have hlen : L.length ≤ 33 := ic_len 33 L o1 (fun c hc => ((o2 c).mp hc).1)
  intro n
  induction n with
  | zero => intro A B _ h; omega
  | succ n ih =>
    intro A B e hn hA
    have hAB : L.length = A.length + B.length := by rw [e]; simp
    rw [wX_bestFrozen_15]
    simp (disch := omega) only [forall_eq, true_and, and_true, true_implies, false_implies, implies_true, not_true_eq_false, not_false_eq_true, nI_clamp, vp_in_nI, nI_add, ic_m3, ic_m4, ic_m5, ic_m6, ic_m8, ic_m11, ic_m12, ic_m24, ic_m33, ic_p1, ic_p2, ic_p3, ic_p4, ic_p5, ic_p6, ic_p7, ic_p8, ic_q3, ic_d11, ic_r11, ic_d22, ic_n11, ic_n22, ic_n3, ic_n2, ic_oneI, o3]
    cases B with
    | nil =>
      refine br_t (nI_le (by simp at hAB; omega) (by omega)) (K _ (ic_nofit (by omega) (by omega) o2 ?_))
      rw [e, List.append_nil]; exact hA
    | cons x B =>
      rw [List.length_cons] at hAB hn
      have hx := (o2 x).mp (by rw [e]; simp)
      have hx33 := hx.1
      have hg : od (a * 33 + A.length) = nI x := by
        rw [e, ic_L_app, ic_L_cons] at o4
        exact o4.2.1
      have nx : ¬ ic_fit se st a 1 x → wX_bestFrozen_15 post (nI a) (mb (a * 6 + 3)) wn fl nt ro ph ck ch na ns ba ow se tp po pc pb sp sg st rk cx ca mr fm mb od os qu qs qd rg ft n (nI (A.length + 1)) := by
        intro z
        have := ih (A ++ [x]) B (by rw [e]; simp) (by omega) (fun y hy => by
          rcases List.mem_append.mp hy with hy | hy
          · exact hA y hy
          · rw [List.mem_singleton.mp hy]; exact z)
        rw [List.length_append] at this
        exact this
      refine br_f (nI_ge (by omega) (by omega)) ⟨vp_in_nI (by omega) (by omega), ?_⟩
      simp (disch := omega) only [forall_eq, true_and, and_true, true_implies, false_implies, implies_true, not_true_eq_false, not_false_eq_true, nI_clamp, vp_in_nI, nI_add, ic_m3, ic_m4, ic_m5, ic_m6, ic_m8, ic_m11, ic_m12, ic_m24, ic_m33, ic_p1, ic_p2, ic_p3, ic_p4, ic_p5, ic_p6, ic_p7, ic_p8, ic_q3, ic_d11, ic_r11, ic_d22, ic_n11, ic_n22, ic_n3, ic_n2, ic_oneI, hg]
      refine br_c (fun z => ?_) (fun z => br_t rfl (nm_r (nI_1 _) (nx (fun z2 => z z2.1))))
      obtain ⟨t, t1, t4, hset⟩ := ic_nz (hse _) (hsb a ha x hx33 hx.2).2
      obtain ⟨F, f1, f2⟩ := xw_found (wn := wn) (fl := fl) (nt := nt) (ro := ro) (ph := ph) (ck := ck) (ch := ch) (na := na) (ns := ns) (ba := ba) (ow := ow) (se := se) (tp := tp) (po := po) (pc := pc) (pb := pb) (sp := sp) (sg := sg) (st := st) (rk := rk) (cx := cx) (ca := ca) (mr := mr) (fm := fm) (mb := mb) (od := od) (os := os) (qu := qu) (qs := qs) (qd := qd) (rg := rg) (ft := ft) ha hx33 hT t1 t4 hset
      have k3 := ic_kinS (s := 3) ha (by omega) (by omega) (by rw [z]; decide) f1 hM
      refine br_f (by decide) (f2 _ ?_)
      refine br_c (fun z2 => K _ (ic_first hro hse (by omega) (by omega) e o2 o5 hk hA ⟨z, Or.inr (k3.mp z2)⟩)) (fun z2 => nm_r (nI_1 _) (nx (fun z3 => z2 (k3.mpr (z3.2.elim (fun z4 => by omega) id)))))
theorem xw_bf {post : Int32 → Prop} {a : Nat} {r : Int32} (ha : a < 2) (hro : ic_R ro 1) (hse : ic_R se 4) (hT : ic_T se tp) (hM : ic_M st mb) (hsb : ic_SB st ba se) (hO : ic_O st rk od os) (hk : ∀ c, c < 33 → st (a * 33 + c) ≠ 0 → rk (a * 33 + c) = nI (ic_rnk ro se bd a c))
    (hr : ic_BU (ic_fit se st a 1) (ic_rnk ro se bd a) 33 r) (hp : post r) : wpX_bestFrozen post (wn, fl, nt, ro, ph, ck, ch, na, ns, ba, ow, se, tp, po, pc, pb, sp, sg, st, rk, cx, ca, mr, fm, mb, od, os, qu, qs, qd, rg, ft) (nI a) := by
  have K : ∀ r', ic_BU (ic_fit se st a 1) (ic_rnk ro se bd a) 33 r' → post r' := fun r' h => by rw [ic_BU_u h hr]; exact hp
  unfold wpX_bestFrozen
  simp (disch := omega) only [forall_eq, true_and, and_true, true_implies, false_implies, implies_true, not_true_eq_false, not_false_eq_true, nI_clamp, vp_in_nI, nI_add, ic_m3, ic_m4, ic_m5, ic_m6, ic_m8, ic_m11, ic_m12, ic_m24, ic_m33, ic_p1, ic_p2, ic_p3, ic_p4, ic_p5, ic_p6, ic_p7, ic_p8, ic_q3, ic_d11, ic_r11, ic_d22, ic_n11, ic_n22, ic_n3, ic_n2, ic_oneI]
  obtain ⟨L, hL⟩ := hO a ha
  have hlen : L.length ≤ 33 := ic_len 33 L hL.1 (fun c hc => ((hL.2.1 c).mp hc).1)
  exact ⟨34, xw_bfL ha hro hse hT hM hsb hL hk K 34 [] L rfl (by omega) (fun y hy => by cases hy)⟩
end
end
section
/-! expiry -/
theorem ic_and3 {n : Nat} (h : n < 2 ^ 31) : nI n &&& 3 = nI (n % 4) := pk_andN (m := 3) (by omega) 2 (by decide)
def ic_C2 (st ca rg : Nat → Int32) (a t : Nat) : Prop :=
  ∀ c, c < 33 → st (a * 33 + c) = 3 → ∃ t0 : Nat, ca (a * 33 + c) = nI t0 ∧ t0 < t ∧ t ≤ t0 + 3 ∧ rg (a * 4 + t0 % 4) = nI (c + 1)
theorem ic_C21 {st ca rg : Nat → Int32} {a t : Nat} (h : ic_C2 st ca rg a t) : ic_C1 st ca rg a t := by
  intro c hc z
  obtain ⟨t0, h1, h2, h3, h4⟩ := h c hc z
  exact ⟨t0, h1, by omega, h3, h4⟩
theorem ic_Ck {k k' : Nat} {st ck ca rg : Nat → Int32} (h : k ≤ k') (H : ic_C k st ck ca rg) : ic_C k' st ck ca rg := by
  intro a ha
  obtain ⟨t, h1, h2⟩ := H a ha
  exact ⟨t, by omega, h2⟩
/-- the states after the reference's scan, up to pair x -/
def ic_ex (st ca cx : Nat → Int32) (a : Nat) (now : Int32) (x : Nat) : Nat → Int32 := fun j =>
  if a * 33 ≤ j ∧ j < a * 33 + x ∧ st j = 3 ∧ ¬ (now - ca j) < 4 then (if cx j < 2 then 2 else 5) else st j
theorem ic_ex_0 {st ca cx : Nat → Int32} {a : Nat} {now : Int32} : ic_ex st ca cx a now 0 = st := by
  funext j; unfold ic_ex; rw [if_neg (by omega)]
theorem ic_ex_r {st ca cx : Nat → Int32} {a x : Nat} {now : Int32} : ic_ex st ca cx a now x (a * 33 + x) = st (a * 33 + x) := by
  unfold ic_ex; rw [if_neg (by omega)]
theorem ic_ex_k {st ca cx : Nat → Int32} {a x : Nat} {now : Int32} (h : ¬ (st (a * 33 + x) = 3 ∧ ¬ (now - ca (a * 33 + x)) < 4)) : ic_ex st ca cx a now x = ic_ex st ca cx a now (x + 1) := by
  funext j
  unfold ic_ex
  by_cases e : j = a * 33 + x
  · subst e
    rw [if_neg (by omega), if_neg]
    rintro ⟨_, _, z⟩
    exact h z
  · by_cases h1 : a * 33 ≤ j ∧ j < a * 33 + x ∧ st j = 3 ∧ ¬ (now - ca j) < 4
    · have h1' : a * 33 ≤ j ∧ j < a * 33 + (x + 1) ∧ st j = 3 ∧ ¬ (now - ca j) < 4 := ⟨h1.1, by omega, h1.2.2⟩
      rw [if_pos h1, if_pos h1']
    · rw [if_neg h1, if_neg]
      rintro ⟨z1, z2, z3⟩
      exact h1 ⟨z1, by omega, z3⟩
theorem ic_ex_u {st ca cx : Nat → Int32} {a x : Nat} {now v : Int32} (h : st (a * 33 + x) = 3 ∧ ¬ (now - ca (a * 33 + x)) < 4) (hv : (if cx (a * 33 + x) < 2 then (2 : Int32) else 5) = v) : upd (ic_ex st ca cx a now x) (a * 33 + x) v = ic_ex st ca cx a now (x + 1) := by
  funext j
  by_cases e : j = a * 33 + x
  · subst e
    rw [pk_us]; unfold ic_ex
    rw [if_pos ⟨by omega, by omega, h⟩, hv]
  · rw [pk_un e]; unfold ic_ex
    by_cases h1 : a * 33 ≤ j ∧ j < a * 33 + x ∧ st j = 3 ∧ ¬ (now - ca j) < 4
    · have h1' : a * 33 ≤ j ∧ j < a * 33 + (x + 1) ∧ st j = 3 ∧ ¬ (now - ca j) < 4 := ⟨h1.1, by omega, h1.2.2⟩
      rw [if_pos h1, if_pos h1']
    · rw [if_neg h1, if_neg]
      rintro ⟨z1, z2, z3⟩
      exact h1 ⟨z1, by omega, z3⟩
section
variable {wn fl : Int32} {nt ro ph ck ch na ns ba ow se tp po pc pb sp sg st rk cx ca mr : Nat → Int32} {fm mb : Nat → Int64} {od os qu qs : Nat → Int32} {qd : Nat → Int64} {rg ft pa bd bo sk sn : Nat → Int32}
theorem yw_exL {a : Nat} {now : Int32} (ha : a < 2) (post : Int32 → SY → Prop) (hp : wY_tick_70 post (nI a) now fl wn 1 (nI 33) (nI (a * 33 + 33)) nt ro ph ck ch ns na pa ow se bd bo (ic_ex st ca cx a now 33) cx ca mr sk ba sn) : ∀ d x : Nat, x + d = 33 →
    wY_tick_70 post (nI a) now fl wn (d + 1) (nI x) (nI (a * 33 + x)) nt ro ph ck ch ns na pa ow se bd bo (ic_ex st ca cx a now x) cx ca mr sk ba sn := by
  intro d
  induction d with
  | zero =>
    intro x h
    have e : x = 33 := by omega
    rw [e]; exact hp
  | succ d ih =>
    intro x h
    have nx := ih (x + 1) (by omega)
    rw [show a * 33 + (x + 1) = a * 33 + x + 1 by omega] at nx
    rw [wY_tick_70]
    refine br_f (nI_ge (b := 33) (by omega) (by omega)) ?_
    simp (disch := omega) only [forall_eq, true_and, and_true, true_implies, false_implies, implies_true, not_true_eq_false, not_false_eq_true, nI_clamp, vp_in_nI, nI_add, ic_m3, ic_m4, ic_m5, ic_m6, ic_m8, ic_m11, ic_m12, ic_m24, ic_m33, ic_p1, ic_p2, ic_p3, ic_p4, ic_p5, ic_p6, ic_p7, ic_p8, ic_q3, ic_d11, ic_r11, ic_d22, ic_n11, ic_n22, ic_n3, ic_n2, ic_oneI, ic_ex_r]
    refine br_c (fun z => br_c (fun z2 => ?_) (fun z2 => br_c (fun z3 => ?_) (fun z3 => ?_))) (fun z => ?_)
    · rw [ic_ex_k (fun y => y.2 z2)]; exact nx
    · rw [ic_ex_u ⟨z, z2⟩ (by rw [if_pos z3])]; exact nx
    · rw [ic_ex_u ⟨z, z2⟩ (by rw [if_neg z3])]; exact nx
    · rw [ic_ex_k (fun y => z y.1)]; exact nx
/-- a tick of the clock, and the expiry of the check of four units ago -/
theorem lk_exp {k a t : Nat} {E : Nat → Nat → Prop} (hI : ic_I k E wn fl nt ro ph ck ch na ns ba ow se tp po pc pb sp sg st rk cx ca mr fm mb od os qu qs qd rg ft pa bd bo sk sn) (hk : k ≤ 2564) (ha : a < 2) (ht : ck a = nI t) (htk : t ≤ k) :
    ∃ (st' rg' : Nat → Int32) (mb' : Nat → Int64), ic_I (k + 5) E wn fl nt ro ph (upd ck a (nI (t + 1))) ch na ns ba ow se tp po pc pb sp sg st' rk cx ca mr fm mb' od os qu qs qd rg' ft pa bd bo sk sn ∧ ic_C2 st' ca rg' a (t + 1) ∧
      (∀ post : SX → Prop, post (wn, fl, nt, ro, ph, upd ck a (nI (t + 1)), ch, na, ns, ba, ow, se, tp, po, pc, pb, sp, sg, st', rk, cx, ca, mr, fm, mb', od, os, qu, qs, qd, rg', ft) → wpX_expire post (wn, fl, nt, ro, ph, upd ck a (nI (t + 1)), ch, na, ns, ba, ow, se, tp, po, pc, pb, sp, sg, st, rk, cx, ca, mr, fm, mb, od, os, qu, qs, qd, rg, ft) (nI a)) ∧
      (∀ post : Int32 → SY → Prop, wY_tick_70 post (nI a) (nI (t + 1)) fl wn 1 (nI 33) (nI (a * 33 + 33)) nt ro ph (upd ck a (nI (t + 1))) ch ns na pa ow se bd bo st' cx ca mr sk ba sn →
        wY_tick_70 post (nI a) (nI (t + 1)) fl wn 34 (nI 0) (nI (a * 33)) nt ro ph (upd ck a (nI (t + 1))) ch ns na pa ow se bd bo st cx ca mr sk ba sn) := by
  obtain ⟨hnt, hro, hph, hns, how, hse, hst, hmk, hrg, hpn, hch, hob, hop, hsp, hsb, hP, hS, hT, hM, hfm, hO, hK, hQ, hC, hF⟩ := hI
  obtain ⟨t', ht'k, ht', hC1⟩ := hC a ha
  have et : t' = t := by
    rw [ht] at ht'
    exact (ic_eqn (by omega) (by omega) ht').symm
  subst et
  -- who expires
  have who : ∀ x, x < 33 → st (a * 33 + x) = 3 → ¬ (nI (t' + 1) - ca (a * 33 + x)) < 4 → rg (a * 4 + (t' + 1) % 4) = nI (x + 1) := by
    intro x hx h3 hn
    obtain ⟨t0, g1, g2, g3, g4⟩ := hC1 x hx h3
    rw [g1, pk_sub (by omega)] at hn
    have h4 : 4 ≤ t' + 1 - t0 := by
      rcases Nat.lt_or_ge (t' + 1 - t0) 4 with h | h
      · exact absurd (nI_lt (b := 4) h (by omega)) hn
      · exact h
    rw [show (t' + 1) % 4 = t0 % 4 by omega]; exact g4
  -- the rest keep their time
  have rest : ∀ st2 : Nat → Int32, (∀ x, x < 33 → st2 (a * 33 + x) = 3 → st (a * 33 + x) = 3 ∧ (nI (t' + 1) - ca (a * 33 + x)) < 4) → ic_C2 st2 ca (upd rg (a * 4 + (t' + 1) % 4) 0) a (t' + 1) := by
    intro st2 h x hx h3
    obtain ⟨y1, y2⟩ := h x hx h3
    obtain ⟨t0, g1, g2, g3, g4⟩ := hC1 x hx y1
    have h4 : t' + 1 - t0 < 4 := by
      rw [g1, pk_sub (by omega)] at y2
      rcases Nat.lt_or_ge (t' + 1 - t0) 4 with h | h
      · exact h
      · exact absurd y2 (nI_nlt (b := 4) h (by omega))
    refine ⟨t0, g1, by omega, by omega, ?_⟩
    rw [pk_un (by omega)]; exact g4
  have allC : ∀ st2 : Nat → Int32, (∀ j, st2 j = 3 → st j = 3) → ic_C2 st2 ca (upd rg (a * 4 + (t' + 1) % 4) 0) a (t' + 1) → ic_C (k + 5) st2 (upd ck a (nI (t' + 1))) ca (upd rg (a * 4 + (t' + 1) % 4) 0) := by
    intro st2 h3 hc2 a' ha'
    by_cases e : a' = a
    · subst e
      exact ⟨t' + 1, by omega, pk_us, ic_C21 hc2⟩
    · obtain ⟨t2, y1, y2, y3⟩ := hC a' ha'
      refine ⟨t2, by omega, by rw [pk_un e]; exact y2, fun c hc z => ?_⟩
      obtain ⟨t0, g1, g2, g3, g4⟩ := y3 c hc (h3 _ z)
      exact ⟨t0, g1, g2, g3, by rw [pk_un (by omega)]; exact g4⟩
  have hY : ∀ st2 : Nat → Int32, ic_ex st ca cx a (nI (t' + 1)) 33 = st2 → ∀ post : Int32 → SY → Prop, wY_tick_70 post (nI a) (nI (t' + 1)) fl wn 1 (nI 33) (nI (a * 33 + 33)) nt ro ph (upd ck a (nI (t' + 1))) ch ns na pa ow se bd bo st2 cx ca mr sk ba sn →
        wY_tick_70 post (nI a) (nI (t' + 1)) fl wn 34 (nI 0) (nI (a * 33)) nt ro ph (upd ck a (nI (t' + 1))) ch ns na pa ow se bd bo st cx ca mr sk ba sn := by
    intro st2 e post hp
    rw [← e] at hp
    have := yw_exL ha post hp 33 0 (by omega)
    rw [ic_ex_0] at this
    exact this
  have e3 := ic_and3 (n := t' + 1) (by omega)
  obtain ⟨r, hr, er⟩ := hrg (a * 4 + (t' + 1) % 4)
  -- nothing expires
  have idle : (∀ x, x < 33 → st (a * 33 + x) = 3 → (nI (t' + 1) - ca (a * 33 + x)) < 4) → (∀ post : SX → Prop, post (wn, fl, nt, ro, ph, upd ck a (nI (t' + 1)), ch, na, ns, ba, ow, se, tp, po, pc, pb, sp, sg, st, rk, cx, ca, mr, fm, mb, od, os, qu, qs, qd, upd rg (a * 4 + (t' + 1) % 4) 0, ft) → wpX_expire post (wn, fl, nt, ro, ph, upd ck a (nI (t' + 1)), ch, na, ns, ba, ow, se, tp, po, pc, pb, sp, sg, st, rk, cx, ca, mr, fm, mb, od, os, qu, qs, qd, rg, ft) (nI a)) →
    ∃ (st' rg' : Nat → Int32) (mb' : Nat → Int64), ic_I (k + 5) E wn fl nt ro ph (upd ck a (nI (t' + 1))) ch na ns ba ow se tp po pc pb sp sg st' rk cx ca mr fm mb' od os qu qs qd rg' ft pa bd bo sk sn ∧ ic_C2 st' ca rg' a (t' + 1) ∧
      (∀ post : SX → Prop, post (wn, fl, nt, ro, ph, upd ck a (nI (t' + 1)), ch, na, ns, ba, ow, se, tp, po, pc, pb, sp, sg, st', rk, cx, ca, mr, fm, mb', od, os, qu, qs, qd, rg', ft) → wpX_expire post (wn, fl, nt, ro, ph, upd ck a (nI (t' + 1)), ch, na, ns, ba, ow, se, tp, po, pc, pb, sp, sg, st, rk, cx, ca, mr, fm, mb, od, os, qu, qs, qd, rg, ft) (nI a)) ∧
      (∀ post : Int32 → SY → Prop, wY_tick_70 post (nI a) (nI (t' + 1)) fl wn 1 (nI 33) (nI (a * 33 + 33)) nt ro ph (upd ck a (nI (t' + 1))) ch ns na pa ow se bd bo st' cx ca mr sk ba sn →
        wY_tick_70 post (nI a) (nI (t' + 1)) fl wn 34 (nI 0) (nI (a * 33)) nt ro ph (upd ck a (nI (t' + 1))) ch ns na pa ow se bd bo st cx ca mr sk ba sn) := by
    intro hno hX
    have c2 := rest st (fun x hx z => ⟨z, hno x hx z⟩)
    refine ⟨st, upd rg (a * 4 + (t' + 1) % 4) 0, mb, ?_, c2, hX, hY st ?_⟩
    · exact ⟨hnt, hro, hph, hns, how, hse, hst, hmk, ic_Ru hrg _ 0 (by omega), hpn, hch, hob, hop, hsp, hsb, hP, hS, hT, hM, hfm, hO, hK, hQ, allC st (fun _ z => z) c2, hF⟩
    · funext j
      unfold ic_ex
      rw [if_neg]
      rintro ⟨z1, z2, z3, z4⟩
      have := hno (j - a * 33) (by omega)
      rw [show a * 33 + (j - a * 33) = j by omega] at this
      exact z4 (this z3)
  rcases Nat.eq_zero_or_pos r with r0 | rp
  · subst r0
    refine idle (fun x hx h3 => ?_) (fun post hp => ?_)
    · apply Decidable.byContradiction
      intro hn
      have := who x hx h3 hn
      rw [er] at this
      have := ic_eqn (a := 0) (by omega) (by omega) this
      omega
    · unfold wpX_expire
      simp (disch := omega) only [forall_eq, true_and, and_true, true_implies, false_implies, implies_true, not_true_eq_false, not_false_eq_true, nI_clamp, vp_in_nI, nI_add, ic_m3, ic_m4, ic_m5, ic_m6, ic_m8, ic_m11, ic_m12, ic_m24, ic_m33, ic_p1, ic_p2, ic_p3, ic_p4, ic_p5, ic_p6, ic_p7, ic_p8, ic_q3, ic_d11, ic_r11, ic_d22, ic_n11, ic_n22, ic_n3, ic_n2, ic_oneI, pk_us, e3, er]
      exact br_f (by decide) hp
  · obtain ⟨c, ec⟩ : ∃ c, r = c + 1 := ⟨r - 1, by omega⟩
    subst ec
    have em : nI (c + 1) - 1 = nI c := nI_pred c
    have hneg : (0 : Int32) ≤ nI c := nI_pos' (by omega)
    by_cases h3 : st (a * 33 + c) = 3
    · by_cases h4 : (nI (t' + 1) - ca (a * 33 + c)) < 4
      · refine idle (fun x hx hx3 => ?_) (fun post hp => ?_)
        · apply Decidable.byContradiction
          intro hn
          have := who x hx hx3 hn
          rw [er] at this
          have := ic_eqn (by omega) (by omega) this
          have ecx : x = c := by omega
          rw [ecx] at hn
          exact hn h4
        · have h4' : ¬ (4 : Int32) ≤ nI (t' + 1) - ca (a * 33 + c) := fun z => Int32.lt_irrefl (Int32.lt_of_lt_of_le h4 z)
          unfold wpX_expire
          simp (disch := omega) only [forall_eq, true_and, and_true, true_implies, false_implies, implies_true, not_true_eq_false, not_false_eq_true, nI_clamp, vp_in_nI, nI_add, ic_m3, ic_m4, ic_m5, ic_m6, ic_m8, ic_m11, ic_m12, ic_m24, ic_m33, ic_p1, ic_p2, ic_p3, ic_p4, ic_p5, ic_p6, ic_p7, ic_p8, ic_q3, ic_d11, ic_r11, ic_d22, ic_n11, ic_n22, ic_n3, ic_n2, ic_oneI, pk_us, e3, er, em]
          exact br_t hneg (br_t h3 (br_f h4' hp))
      · have h4' : (4 : Int32) ≤ nI (t' + 1) - ca (a * 33 + c) := Int32.not_lt.mp h4
        have main : ∀ s : Nat, s = 2 ∨ s = 5 → (if cx (a * 33 + c) < 2 then (2 : Int32) else 5) = nI s → (∀ post : SX → Prop, wX_expire_91 post (nI s) (nI c) (nI a) wn fl nt ro ph (upd ck a (nI (t' + 1))) ch na ns ba ow se tp po pc pb sp sg st rk cx ca mr fm mb od os qu qs qd (upd rg (a * 4 + (t' + 1) % 4) 0) ft → wpX_expire post (wn, fl, nt, ro, ph, upd ck a (nI (t' + 1)), ch, na, ns, ba, ow, se, tp, po, pc, pb, sp, sg, st, rk, cx, ca, mr, fm, mb, od, os, qu, qs, qd, rg, ft) (nI a)) →
          ∃ (st' rg' : Nat → Int32) (mb' : Nat → Int64), ic_I (k + 5) E wn fl nt ro ph (upd ck a (nI (t' + 1))) ch na ns ba ow se tp po pc pb sp sg st' rk cx ca mr fm mb' od os qu qs qd rg' ft pa bd bo sk sn ∧ ic_C2 st' ca rg' a (t' + 1) ∧
            (∀ post : SX → Prop, post (wn, fl, nt, ro, ph, upd ck a (nI (t' + 1)), ch, na, ns, ba, ow, se, tp, po, pc, pb, sp, sg, st', rk, cx, ca, mr, fm, mb', od, os, qu, qs, qd, rg', ft) → wpX_expire post (wn, fl, nt, ro, ph, upd ck a (nI (t' + 1)), ch, na, ns, ba, ow, se, tp, po, pc, pb, sp, sg, st, rk, cx, ca, mr, fm, mb, od, os, qu, qs, qd, rg, ft) (nI a)) ∧
            (∀ post : Int32 → SY → Prop, wY_tick_70 post (nI a) (nI (t' + 1)) fl wn 1 (nI 33) (nI (a * 33 + 33)) nt ro ph (upd ck a (nI (t' + 1))) ch ns na pa ow se bd bo st' cx ca mr sk ba sn →
              wY_tick_70 post (nI a) (nI (t' + 1)) fl wn 34 (nI 0) (nI (a * 33)) nt ro ph (upd ck a (nI (t' + 1))) ch ns na pa ow se bd bo st cx ca mr sk ba sn) := by
          intro s hs hv hX
          have hs0 : ¬ nI s = 0 := nI_ne0 (by omega) (by omega)
          have hs3 : ¬ nI s = 3 := fun z => by have := ic_eqn (b := 3) (by omega) (by omega) z; omega
          have zi : ∀ j, upd st (a * 33 + c) (nI s) j = 0 ↔ st j = 0 := by
            intro j
            by_cases e : j = a * 33 + c
            · rw [e, pk_us, h3]
              exact ⟨fun z => absurd z hs0, fun z => absurd z (by decide)⟩
            · rw [pk_un e]
          have mono : ∀ j, st j ≠ 0 → upd st (a * 33 + c) (nI s) j ≠ 0 := fun j z z2 => z ((zi j).mp z2)
          have z3 : ∀ j, upd st (a * 33 + c) (nI s) j = 3 → st j = 3 ∧ j ≠ a * 33 + c := by
            intro j z
            by_cases e : j = a * 33 + c
            · rw [e, pk_us] at z
              exact absurd z hs3
            · rw [pk_un e] at z; exact ⟨z, e⟩
          have z2 : ∀ j, st j = 2 → upd st (a * 33 + c) (nI s) j = 2 := by
            intro j z
            rw [pk_un]
            · exact z
            · intro e
              rw [e, h3] at z
              exact absurd z (by decide)
          have c2 := rest (upd st (a * 33 + c) (nI s)) (fun x hx z => by
            obtain ⟨y1, y2⟩ := z3 _ z
            refine ⟨y1, ?_⟩
            apply Decidable.byContradiction
            intro hn
            have := who x hx y1 hn
            rw [er] at this
            have := ic_eqn (by omega) (by omega) this
            omega)
          refine ⟨upd st (a * 33 + c) (nI s), upd rg (a * 4 + (t' + 1) % 4) 0, ic_ms mb a c 3 s, ?_, c2, fun post hp => ?_, hY _ ?_⟩
          · exact ⟨hnt, hro, hph, hns, how, hse, ic_Ru hst _ s (by omega), hmk, ic_Ru hrg _ 0 (by omega), hpn, ic_CHm mono hch, hob, hop, hsp, ic_SBi zi hsb, hP, hS, hT, ic_Mset hM ha (by omega) (by omega) (by omega) h3, ic_FMi zi hfm, ic_Oi zi hO, ic_Ki zi hK, ic_Qst (fun a' c' _ _ z => z2 _ z) hQ, allC _ (fun j z => (z3 j z).1) c2, ic_Fm mono (fun _ z => z) hF⟩
          · refine hX post ?_
            unfold wX_expire_91
            refine xw_set (s0 := 3) ha (by omega) (by omega) (by omega) h3 ?_
            exact hp
          · funext j
            unfold ic_ex
            by_cases e : j = a * 33 + c
            · rw [e, pk_us, if_pos ⟨by omega, by omega, h3, h4⟩]; exact hv
            · rw [pk_un e, if_neg]
              rintro ⟨y1, y2, y3, y4⟩
              have := who (j - a * 33) (by omega)
              rw [show a * 33 + (j - a * 33) = j by omega] at this
              have := this y3 y4
              rw [er] at this
              have := ic_eqn (by omega) (by omega) this
              omega
        by_cases h5 : cx (a * 33 + c) < 2
        · refine main 2 (Or.inl rfl) (by rw [if_pos h5]; rfl) (fun post hp => ?_)
          unfold wpX_expire
          simp (disch := omega) only [forall_eq, true_and, and_true, true_implies, false_implies, implies_true, not_true_eq_false, not_false_eq_true, nI_clamp, vp_in_nI, nI_add, ic_m3, ic_m4, ic_m5, ic_m6, ic_m8, ic_m11, ic_m12, ic_m24, ic_m33, ic_p1, ic_p2, ic_p3, ic_p4, ic_p5, ic_p6, ic_p7, ic_p8, ic_q3, ic_d11, ic_r11, ic_d22, ic_n11, ic_n22, ic_n3, ic_n2, ic_oneI, pk_us, e3, er, em]
          exact br_t hneg (br_t h3 (br_t h4' (br_t h5 hp)))
        · refine main 5 (Or.inr rfl) (by rw [if_neg h5]; rfl) (fun post hp => ?_)
          unfold wpX_expire
          simp (disch := omega) only [forall_eq, true_and, and_true, true_implies, false_implies, implies_true, not_true_eq_false, not_false_eq_true, nI_clamp, vp_in_nI, nI_add, ic_m3, ic_m4, ic_m5, ic_m6, ic_m8, ic_m11, ic_m12, ic_m24, ic_m33, ic_p1, ic_p2, ic_p3, ic_p4, ic_p5, ic_p6, ic_p7, ic_p8, ic_q3, ic_d11, ic_r11, ic_d22, ic_n11, ic_n22, ic_n3, ic_n2, ic_oneI, pk_us, e3, er, em]
          exact br_t hneg (br_t h3 (br_t h4' (br_f h5 hp)))
    · refine idle (fun x hx hx3 => ?_) (fun post hp => ?_)
      · apply Decidable.byContradiction
        intro hn
        have := who x hx hx3 hn
        rw [er] at this
        have := ic_eqn (by omega) (by omega) this
        have ecx : x = c := by omega
        rw [ecx] at hx3
        exact h3 hx3
      · unfold wpX_expire
        simp (disch := omega) only [forall_eq, true_and, and_true, true_implies, false_implies, implies_true, not_true_eq_false, not_false_eq_true, nI_clamp, vp_in_nI, nI_add, ic_m3, ic_m4, ic_m5, ic_m6, ic_m8, ic_m11, ic_m12, ic_m24, ic_m33, ic_p1, ic_p2, ic_p3, ic_p4, ic_p5, ic_p6, ic_p7, ic_p8, ic_q3, ic_d11, ic_r11, ic_d22, ic_n11, ic_n22, ic_n3, ic_n2, ic_oneI, pk_us, e3, er, em]
        exact br_t hneg (br_f h3 hp)
end
end
section
/-- the relation: what both keep alike is the same function; the rest is tied by ic_I -/
def i_Rel (k : Nat) (u : SX) (v : SY) : Prop := match u with
  | (wn, fl, nt, ro, ph, ck, ch, na, ns, ba, ow, se, tp, po, pc, pb, sp, sg, st, rk, cx, ca, mr, fm, mb, od, os, qu, qs, qd, rg, ft) => ∃ pa bd bo sk sn : Nat → Int32, v = (fl, wn, nt, ro, ph, ck, ch, ns, na, pa, ow, se, bd, bo, st, cx, ca, mr, sk, ba, sn) ∧ ic_I k ic_E0 wn fl nt ro ph ck ch na ns ba ow se tp po pc pb sp sg st rk cx ca mr fm mb od os qu qs qd rg ft pa bd bo sk sn
/-- one outcome for both sides -/
def lk_R (k : Nat) (A : (Int32 → SX → Prop) → Prop) (B : (Int32 → SY → Prop) → Prop) : Prop :=
  ∃ (r : Int32) (u' : SX) (v' : SY), (∀ p : Int32 → SX → Prop, p r u' → A p) ∧ (∀ p : Int32 → SY → Prop, p r v' → B p) ∧ i_Rel k u' v'
theorem lk_mono {k : Nat} {A A' : (Int32 → SX → Prop) → Prop} {B B' : (Int32 → SY → Prop) → Prop} (hA : ∀ p, A' p → A p) (hB : ∀ p, B' p → B p) (h : lk_R k A' B') : lk_R k A B := by
  obtain ⟨r, u', v', h1, h2, h3⟩ := h
  exact ⟨r, u', v', fun p hp => hA p (h1 p hp), fun p hp => hB p (h2 p hp), h3⟩
theorem lk_top {k : Nat} {A : (Int32 → SX → Prop) → Prop} {B : (Int32 → SY → Prop) → Prop} (h : lk_R k A B) : A (fun r u' => B (fun r' v' => r' = r ∧ i_Rel k u' v')) := by
  obtain ⟨r, u', v', h1, h2, h3⟩ := h
  exact h1 _ (h2 _ ⟨rfl, h3⟩)
section
variable {wn fl : Int32} {nt ro ph ck ch na ns ba ow se tp po pc pb sp sg st rk cx ca mr : Nat → Int32} {fm mb : Nat → Int64} {od os qu qs : Nat → Int32} {qd : Nat → Int64} {rg ft pa bd bo sk sn : Nat → Int32}
theorem i_mk {k : Nat} (hI : ic_I k ic_E0 wn fl nt ro ph ck ch na ns ba ow se tp po pc pb sp sg st rk cx ca mr fm mb od os qu qs qd rg ft pa bd bo sk sn) : i_Rel k (wn, fl, nt, ro, ph, ck, ch, na, ns, ba, ow, se, tp, po, pc, pb, sp, sg, st, rk, cx, ca, mr, fm, mb, od, os, qu, qs, qd, rg, ft) (fl, wn, nt, ro, ph, ck, ch, ns, na, pa, ow, se, bd, bo, st, cx, ca, mr, sk, ba, sn) := ⟨pa, bd, bo, sk, sn, rfl, hI⟩
theorem lk_ret {k : Nat} {A : (Int32 → SX → Prop) → Prop} {B : (Int32 → SY → Prop) → Prop} (r : Int32) (hI : ic_I k ic_E0 wn fl nt ro ph ck ch na ns ba ow se tp po pc pb sp sg st rk cx ca mr fm mb od os qu qs qd rg ft pa bd bo sk sn) (hA : ∀ p : Int32 → SX → Prop, p r (wn, fl, nt, ro, ph, ck, ch, na, ns, ba, ow, se, tp, po, pc, pb, sp, sg, st, rk, cx, ca, mr, fm, mb, od, os, qu, qs, qd, rg, ft) → A p) (hB : ∀ p : Int32 → SY → Prop, p r (fl, wn, nt, ro, ph, ck, ch, ns, na, pa, ow, se, bd, bo, st, cx, ca, mr, sk, ba, sn) → B p) : lk_R k A B := ⟨r, _, _, hA, hB, i_mk hI⟩
end
theorem i_el {k : Nat} {u : SX} {v : SY} {P : SX → SY → Prop} (I : i_Rel k u v) (h : ∀ (wn fl : Int32) (nt ro ph ck ch na ns ba ow se tp po pc pb sp sg st rk cx ca mr : Nat → Int32) (fm mb : Nat → Int64) (od os qu qs : Nat → Int32) (qd : Nat → Int64) (rg ft pa bd bo sk sn : Nat → Int32), ic_I k ic_E0 wn fl nt ro ph ck ch na ns ba ow se tp po pc pb sp sg st rk cx ca mr fm mb od os qu qs qd rg ft pa bd bo sk sn → P (wn, fl, nt, ro, ph, ck, ch, na, ns, ba, ow, se, tp, po, pc, pb, sp, sg, st, rk, cx, ca, mr, fm, mb, od, os, qu, qs, qd, rg, ft) (fl, wn, nt, ro, ph, ck, ch, ns, na, pa, ow, se, bd, bo, st, cx, ca, mr, sk, ba, sn)) : P u v := by
  obtain ⟨wn, fl, nt, ro, ph, ck, ch, na, ns, ba, ow, se, tp, po, pc, pb, sp, sg, st, rk, cx, ca, mr, fm, mb, od, os, qu, qs, qd, rg, ft⟩ := u
  obtain ⟨pa, bd, bo, sk, sn, rfl, hI⟩ := I
  exact h _ _ _ _ _ _ _ _ _ _ _ _ _ _ _ _ _ _ _ _ _ _ _ _ _ _ _ _ _ _ _ _ _ _ _ _ _ hI
theorem i_Ik {k k' : Nat} {E : Nat → Nat → Prop} (wn fl : Int32) (nt ro ph ck ch na ns ba ow se tp po pc pb sp sg st rk cx ca mr : Nat → Int32) (fm mb : Nat → Int64) (od os qu qs : Nat → Int32) (qd : Nat → Int64) (rg ft pa bd bo sk sn : Nat → Int32) (h : k ≤ k') (hI : ic_I k E wn fl nt ro ph ck ch na ns ba ow se tp po pc pb sp sg st rk cx ca mr fm mb od os qu qs qd rg ft pa bd bo sk sn) : ic_I k' E wn fl nt ro ph ck ch na ns ba ow se tp po pc pb sp sg st rk cx ca mr fm mb od os qu qs qd rg ft pa bd bo sk sn := by
  obtain ⟨hnt, hro, hph, hns, how, hse, hst, hmk, hrg, hpn, hch, hob, hop, hsp, hsb, hP, hS, hT, hM, hfm, hO, hK, hQ, hC, hF⟩ := hI
  exact ⟨hnt, hro, hph, hns, how, hse, hst, hmk, hrg, hpn, hch, hob, hop, hsp, hsb, hP, hS, hT, hM, hfm, hO, hK, hQ, ic_Ck h hC, hF⟩
theorem i_IE {k : Nat} {E E' : Nat → Nat → Prop} (wn fl : Int32) (nt ro ph ck ch na ns ba ow se tp po pc pb sp sg st rk cx ca mr : Nat → Int32) (fm mb : Nat → Int64) (od os qu qs : Nat → Int32) (qd : Nat → Int64) (rg ft pa bd bo sk sn : Nat → Int32) (h : ∀ a c, E a c → E' a c) (hI : ic_I k E wn fl nt ro ph ck ch na ns ba ow se tp po pc pb sp sg st rk cx ca mr fm mb od os qu qs qd rg ft pa bd bo sk sn) : ic_I k E' wn fl nt ro ph ck ch na ns ba ow se tp po pc pb sp sg st rk cx ca mr fm mb od os qu qs qd rg ft pa bd bo sk sn := by
  obtain ⟨hnt, hro, hph, hns, how, hse, hst, hmk, hrg, hpn, hch, hob, hop, hsp, hsb, hP, hS, hT, hM, hfm, hO, hK, hQ, hC, hF⟩ := hI
  exact ⟨hnt, hro, hph, hns, how, hse, hst, hmk, hrg, hpn, hch, hob, hop, hsp, hsb, hP, hS, hT, hM, hfm, hO, ic_Km h hK, hQ, hC, hF⟩
theorem i_up {k : Nat} {u : SX} {v : SY} (h : i_Rel k u v) : i_Rel (k + 5) u v := by
  refine i_el (P := fun u v => i_Rel (k + 5) u v) h ?_
  intro wn fl nt ro ph ck ch na ns ba ow se tp po pc pb sp sg st rk cx ca mr fm mb od os qu qs qd rg ft pa bd bo sk sn hI
  exact i_mk (i_Ik wn fl nt ro ph ck ch na ns ba ow se tp po pc pb sp sg st rk cx ca mr fm mb od os qu qs qd rg ft pa bd bo sk sn (by omega) hI)
end
section
/-! one tick -/
theorem ic_Qst' {st st' qu qs sk : Nat → Int32} {qd : Nat → Int64} {a c : Nat} (h : ∀ j, j ≠ a * 33 + c → st j = 2 → st' j = 2) (hs : sk (a * 33 + c) = 0) (H : ic_Q st qu qs qd sk) : ic_Q st' qu qs qd sk := by
  intro a' ha'
  obtain ⟨Q, h1, h2, h3, h4, h5, h6⟩ := H a' ha'
  refine ⟨Q, h1, fun x hx => ⟨(h2 x hx).1, h _ (fun e => ?_) (h2 x hx).2⟩, h3, h4, h5, h6⟩
  obtain ⟨i, hi⟩ := List.mem_iff_getElem?.mp hx
  have hl : i < Q.length := (List.getElem?_eq_some_iff.mp hi).1
  have hlen : Q.length ≤ 33 := ic_len 33 Q h1 (fun y hy => (h2 y hy).1)
  have h7 := h5 i x hi
  rw [e, hs] at h7
  have := ic_eqn (a := 0) (by omega) (by omega) h7
  omega
section
variable {wn fl : Int32} {nt ro ph ck ch na ns ba ow se tp po pc pb sp sg st rk cx ca mr : Nat → Int32} {fm mb : Nat → Int64} {od os qu qs : Nat → Int32} {qd : Nat → Int64} {rg ft pa bd bo sk sn : Nat → Int32}
theorem lk_req {k a c nm : Nat} {E : Nat → Nat → Prop} {x3 : Int32} (hI : ic_I k E wn fl nt ro ph ck ch na ns ba ow se tp po pc pb sp sg st rk cx ca mr fm mb od os qu qs qd rg ft pa bd bo sk sn) (ha : a < 2) (hc : c < 33) (h0 : st (a * 33 + c) ≠ 0) (hx : (nm = 0 ∧ x3 = 0) ∨ (nm = 1 ∧ x3 = 1)) :
    ∃ (fl' : Int32) (po' pc' pb' sp' sg' ft' pa' bd' bo' sn' : Nat → Int32), ic_I k E wn fl' nt ro ph ck ch na ns ba ow se tp po' pc' pb' sp' sg' st rk cx ca mr fm mb od os qu qs qd rg ft' pa' bd' bo' sk sn' ∧
      (∀ post : SX → Prop, post (wn, fl', nt, ro, ph, ck, ch, na, ns, ba, ow, se, tp, po', pc', pb', sp', sg', st, rk, cx, ca, mr, fm, mb, od, os, qu, qs, qd, rg, ft') → wpX_request post (wn, fl, nt, ro, ph, ck, ch, na, ns, ba, ow, se, tp, po, pc, pb, sp, sg, st, rk, cx, ca, mr, fm, mb, od, os, qu, qs, qd, rg, ft) (nI a) (nI c) (nI nm)) ∧
      (∀ (x5 : Int32) (post : Int32 → SY → Prop), post x5 (fl', wn, nt, ro, ph, ck, ch, ns, na, pa', ow, se, bd', bo', st, cx, ca, mr, sk, ba, sn') → wY_tick_355 post (nI a) x3 (nI c) x5 fl wn nt ro ph ck ch ns na pa ow se bd bo st cx ca mr sk ba sn) := by
  have hI0 := hI
  obtain ⟨hnt, hro, hph, hns, how, hse, hst, hmk, hrg, hpn, hch, hob, hop, hsp, hsb, hP, hS, hT, hM, hfm, hO, hK, hQ, hC, hF⟩ := hI
  obtain ⟨r, hr, er⟩ := hro a
  have hnm : nm ≤ 1 := by omega
  obtain ⟨fl', po', pc', pb', sp', sg', ft', pa', bd', bo', sn', g1, g2, g3, g4⟩ := lk_post (kd := 0) (r := r) (m := nm) (b := c / 11) (d := c % 11) (b' := c / 11) (q := c % 11) hI0 ha (by omega) (by omega) (hsb a ha c hc h0).1 (by omega) hr hnm (by omega) (by omega)
    (fun _ => by rw [show c / 11 * 11 + c % 11 = c by omega]; exact h0) (fun z => absurd rfl z)
  rw [show c / 11 * 11 + c % 11 = c by omega] at g4
  have ec := ic_carry (r := r) (m := nm) (b := c / 11) (q := c % 11) (by omega) (by omega) (by omega) (by omega)
  refine ⟨fl', po', pc', pb', sp', sg', ft', pa', bd', bo', sn', g1, fun post hp => ?_, fun x5 post hp => ?_⟩
  · unfold wpX_request
    simp (disch := omega) only [forall_eq, true_and, and_true, true_implies, false_implies, implies_true, not_true_eq_false, not_false_eq_true, nI_clamp, vp_in_nI, nI_add, ic_m3, ic_m4, ic_m5, ic_m6, ic_m8, ic_m11, ic_m12, ic_m24, ic_m33, ic_p1, ic_p2, ic_p3, ic_p4, ic_p5, ic_p6, ic_p7, ic_p8, ic_q3, ic_d11, ic_r11, ic_d22, ic_n11, ic_n22, ic_n3, ic_n2, ic_oneI, er, ec]
    exact g3 _ hp
  · unfold wY_tick_355
    simp (disch := omega) only [forall_eq, true_and, and_true, true_implies, false_implies, implies_true, not_true_eq_false, not_false_eq_true, nI_clamp, vp_in_nI, nI_add, ic_m3, ic_m4, ic_m5, ic_m6, ic_m8, ic_m11, ic_m12, ic_m24, ic_m33, ic_p1, ic_p2, ic_p3, ic_p4, ic_p5, ic_p6, ic_p7, ic_p8, ic_q3, ic_d11, ic_r11, ic_d22, ic_n11, ic_n22, ic_n3, ic_n2, ic_oneI, er]
    rcases hx with ⟨h1, h2⟩ | ⟨h1, h2⟩
    · subst h1
      refine br_t h2 ?_
      unfold wY_tick_383
      exact g4 _ hp
    · subst h1
      refine br_f (by rw [h2]; decide) ?_
      unfold wY_tick_383
      exact g4 _ hp
theorem lk_check {k a c t : Nat} {E : Nat → Nat → Prop} (hI : ic_I k E wn fl nt ro ph ck ch na ns ba ow se tp po pc pb sp sg st rk cx ca mr fm mb od os qu qs qd rg ft pa bd bo sk sn) (hk : k ≤ 5000) (ha : a < 2) (hc : c < 33) (h0 : st (a * 33 + c) ≠ 0) (hs : sk (a * 33 + c) = 0) (ht : ck a = nI t) (htk : t ≤ k) (hc2 : ic_C2 st ca rg a t) :
    ∃ (fl' : Int32) (st' cx' ca' rg' po' pc' pb' sp' sg' ft' pa' bd' bo' sn' : Nat → Int32) (mb' : Nat → Int64), ic_I k E wn fl' nt ro ph ck ch na ns ba ow se tp po' pc' pb' sp' sg' st' rk cx' ca' mr fm mb' od os qu qs qd rg' ft' pa' bd' bo' sk sn' ∧
      (∀ post : SX → Prop, post (wn, fl', nt, ro, ph, ck, ch, na, ns, ba, ow, se, tp, po', pc', pb', sp', sg', st', rk, cx', ca', mr, fm, mb', od, os, qu, qs, qd, rg', ft') → wpX_check post (wn, fl, nt, ro, ph, ck, ch, na, ns, ba, ow, se, tp, po, pc, pb, sp, sg, st, rk, cx, ca, mr, fm, mb, od, os, qu, qs, qd, rg, ft) (nI a) (nI c)) ∧
      (∀ (x5 : Int32) (post : Int32 → SY → Prop), post x5 (fl', wn, nt, ro, ph, ck, ch, ns, na, pa', ow, se, bd', bo', st', cx', ca', mr, sk, ba, sn') → wY_tick_355 post (nI a) 0 (nI c) x5 fl wn nt ro ph ck ch ns na pa ow se bd bo (upd st (a * 33 + c) 3) (upd cx (a * 33 + c) (cx (a * 33 + c) + 1)) (upd ca (a * 33 + c) (nI t)) mr sk ba sn) := by
  obtain ⟨hnt, hro, hph, hns, how, hse, hst, hmk, hrg, hpn, hch, hob, hop, hsp, hsb, hP, hS, hT, hM, hfm, hO, hK, hQ, hC, hF⟩ := hI
  obtain ⟨s0, s1, s5, es⟩ := ic_nz (hst (a * 33 + c)) h0
  have zi : ∀ j, upd st (a * 33 + c) (nI 3) j = 0 ↔ st j = 0 := by
    intro j
    by_cases e : j = a * 33 + c
    · rw [e, pk_us]
      exact ⟨fun z => absurd z (by decide), fun z => absurd z h0⟩
    · rw [pk_un e]
  have mono : ∀ j, st j ≠ 0 → upd st (a * 33 + c) (nI 3) j ≠ 0 := fun j z z2 => z ((zi j).mp z2)
  have hI1 : ic_I k E wn fl nt ro ph ck ch na ns ba ow se tp po pc pb sp sg (upd st (a * 33 + c) (nI 3)) rk (upd cx (a * 33 + c) (cx (a * 33 + c) + 1)) (upd ca (a * 33 + c) (nI t)) mr fm (ic_ms mb a c s0 3) od os qu qs qd (upd rg (a * 4 + t % 4) (nI (c + 1))) ft pa bd bo sk sn := by
    refine ⟨hnt, hro, hph, hns, how, hse, ic_Ru hst _ 3 (by omega), hmk, ic_Ru hrg _ (c + 1) (by omega), hpn, ic_CHm mono hch, hob, hop, hsp, ic_SBi zi hsb, hP, hS, hT, ic_Mset hM ha hc (by omega) (by omega) es, ic_FMi zi hfm, ic_Oi zi hO, ic_Ki zi hK, ic_Qst' (fun j e z => by rw [pk_un e]; exact z) hs hQ, ?_, ic_Fm mono (fun _ z => z) hF⟩
    intro a' ha'
    by_cases e : a' = a
    · subst e
      refine ⟨t, htk, ht, fun x hx z => ?_⟩
      by_cases ex : x = c
      · subst ex
        exact ⟨t, pk_us, Nat.le_refl _, by omega, pk_us⟩
      · rw [pk_un (by omega)] at z
        obtain ⟨t0, y1, y2, y3, y4⟩ := hc2 x hx z
        exact ⟨t0, by rw [pk_un (by omega)]; exact y1, by omega, y3, by rw [pk_un (by omega)]; exact y4⟩
    · obtain ⟨t2, x1, x2, x3⟩ := hC a' ha'
      refine ⟨t2, x1, x2, fun x hx z => ?_⟩
      rw [pk_un (by omega)] at z
      obtain ⟨t0, y1, y2, y3, y4⟩ := x3 x hx z
      exact ⟨t0, by rw [pk_un (by omega)]; exact y1, y2, y3, by rw [pk_un (by omega)]; exact y4⟩
  obtain ⟨fl', po', pc', pb', sp', sg', ft', pa', bd', bo', sn', g1, g2, g3⟩ := lk_req (nm := 0) (x3 := 0) hI1 ha hc (by rw [pk_us]; decide) (Or.inl ⟨rfl, rfl⟩)
  refine ⟨fl', _, _, _, _, po', pc', pb', sp', sg', ft', pa', bd', bo', sn', _, g1, fun post hp => ?_, fun x5 post hp => g3 x5 post hp⟩
  unfold wpX_check
  refine xw_set (s := 3) ha hc (by omega) (by omega) es ?_
  have e3 := ic_and3 (n := t) (by omega)
  simp (disch := omega) only [forall_eq, true_and, and_true, true_implies, false_implies, implies_true, not_true_eq_false, not_false_eq_true, nI_clamp, vp_in_nI, nI_add, ic_m3, ic_m4, ic_m5, ic_m6, ic_m8, ic_m11, ic_m12, ic_m24, ic_m33, ic_p1, ic_p2, ic_p3, ic_p4, ic_p5, ic_p6, ic_p7, ic_p8, ic_q3, ic_d11, ic_r11, ic_d22, ic_n11, ic_n22, ic_n3, ic_n2, ic_oneI, ht, e3]
  exact g2 _ hp
/-- the scan of the spots -/
theorem yw_201s {a : Nat} {x2 x3 x5 cur : Int32} (hcur : ¬ cur = -1) (post : Int32 → SY → Prop) (hp : wY_tick_201 post (nI a) x2 x3 x5 fl wn nt ro ph ck ch ns na pa ow se bd bo st cx ca mr sk ba sn 1 cur (nI 33)) : ∀ d x : Nat, x + d = 33 → wY_tick_201 post (nI a) x2 x3 x5 fl wn nt ro ph ck ch ns na pa ow se bd bo st cx ca mr sk ba sn (d + 1) cur (nI x) := by
  intro d
  induction d with
  | zero =>
    intro x h
    have e : x = 33 := by omega
    rw [e]; exact hp
  | succ d ih =>
    intro x h
    rw [wY_tick_201]
    exact br_f (nI_ge (b := 33) (by omega) (by omega)) (br_f hcur (nm_r (nI_1 x) (ih (x + 1) (by omega))))
theorem yw_201n {a : Nat} {x2 x3 x5 : Int32} (ha : a < 2) (hno : ∀ x, x < 33 → ¬ sk (a * 33 + x) = 1) (post : Int32 → SY → Prop) (hp : wY_tick_201 post (nI a) x2 x3 x5 fl wn nt ro ph ck ch ns na pa ow se bd bo st cx ca mr sk ba sn 1 (-1) (nI 33)) : ∀ d x : Nat, x + d = 33 → wY_tick_201 post (nI a) x2 x3 x5 fl wn nt ro ph ck ch ns na pa ow se bd bo st cx ca mr sk ba sn (d + 1) (-1) (nI x) := by
  intro d
  induction d with
  | zero =>
    intro x h
    have e : x = 33 := by omega
    rw [e]; exact hp
  | succ d ih =>
    intro x h
    rw [wY_tick_201]
    refine br_f (nI_ge (b := 33) (by omega) (by omega)) (br_t rfl ?_)
    simp (disch := omega) only [forall_eq, true_and, and_true, true_implies, false_implies, implies_true, not_true_eq_false, not_false_eq_true, nI_clamp, vp_in_nI, nI_add, ic_m3, ic_m4, ic_m5, ic_m6, ic_m8, ic_m11, ic_m12, ic_m24, ic_m33, ic_p1, ic_p2, ic_p3, ic_p4, ic_p5, ic_p6, ic_p7, ic_p8, ic_q3, ic_d11, ic_r11, ic_d22, ic_n11, ic_n22, ic_n3, ic_n2, ic_oneI]
    exact br_f (hno x (by omega)) (ih (x + 1) (by omega))
theorem yw_201f {a c : Nat} {x2 x3 x5 : Int32} (ha : a < 2) (hc : c < 33) (hno : ∀ x, x < 33 → (sk (a * 33 + x) = 1 ↔ x = c)) (post : Int32 → SY → Prop) (hp : wY_tick_201 post (nI a) x2 x3 x5 fl wn nt ro ph ck ch ns na pa ow se bd bo st cx ca mr sk ba sn 1 (nI c) (nI 33)) : ∀ d x : Nat, x + d = 33 → x ≤ c → wY_tick_201 post (nI a) x2 x3 x5 fl wn nt ro ph ck ch ns na pa ow se bd bo st cx ca mr sk ba sn (d + 1) (-1) (nI x) := by
  intro d
  induction d with
  | zero => intro x h hx; omega
  | succ d ih =>
    intro x h hx
    rw [wY_tick_201]
    refine br_f (nI_ge (b := 33) (by omega) (by omega)) (br_t rfl ?_)
    simp (disch := omega) only [forall_eq, true_and, and_true, true_implies, false_implies, implies_true, not_true_eq_false, not_false_eq_true, nI_clamp, vp_in_nI, nI_add, ic_m3, ic_m4, ic_m5, ic_m6, ic_m8, ic_m11, ic_m12, ic_m24, ic_m33, ic_p1, ic_p2, ic_p3, ic_p4, ic_p5, ic_p6, ic_p7, ic_p8, ic_q3, ic_d11, ic_r11, ic_d22, ic_n11, ic_n22, ic_n3, ic_n2, ic_oneI]
    by_cases e : x = c
    · refine br_t ((hno x (by omega)).mpr e) ?_
      rw [e]
      exact yw_201s (ic_ne1 c (by omega)) post hp d (c + 1) (by omega)
    · exact br_f (fun z => e ((hno x (by omega)).mp z)) (ih (x + 1) (by omega) (by omega))
/-- a check of pair c, and its answer -/
theorem lk_fin {k a c t : Nat} {sk0 : Nat → Int32} (x5 : Int32) (hI : ic_I k ic_E0 wn fl nt ro ph ck ch na ns ba ow se tp po pc pb sp sg st rk cx ca mr fm mb od os qu qs qd rg ft pa bd bo sk sn) (hk : k ≤ 5000) (ha : a < 2) (hc : c < 33) (h0 : st (a * 33 + c) ≠ 0) (hs : sk (a * 33 + c) = 0) (hsk : ic_dq sk0 a c = sk) (ht : ck a = nI t) (htk : t ≤ k) (hc2 : ic_C2 st ca rg a t) :
    lk_R k (fun p => wX_runCheck_58 p (nI a) x5 (nI c) wn fl nt ro ph ck ch na ns ba ow se tp po pc pb sp sg st rk cx ca mr fm mb od os qu qs qd rg ft) (fun p => wY_tick_276 p (nI a) (nI t) 0 (nI c) x5 fl wn nt ro ph ck ch ns na pa ow se bd bo st cx ca mr sk0 ba sn) := by
  obtain ⟨fl', st', cx', ca', rg', po', pc', pb', sp', sg', ft', pa', bd', bo', sn', mb', g1, g2, g3⟩ := lk_check hI hk ha hc h0 hs ht htk hc2
  refine lk_ret x5 g1 (fun p hp => ?_) (fun p hp => ?_)
  · unfold wX_runCheck_58
    exact br_f (ic_ne1 c (by omega)) (g2 _ hp)
  · unfold wY_tick_276
    refine br_f (ic_ne1 c (by omega)) (br_t rfl (yw_deq ha hc _ ?_))
    rw [hsk]
    simp (disch := omega) only [forall_eq, true_and, and_true, true_implies, false_implies, implies_true, not_true_eq_false, not_false_eq_true, nI_clamp, vp_in_nI, nI_add, ic_m3, ic_m4, ic_m5, ic_m6, ic_m8, ic_m11, ic_m12, ic_m24, ic_m33, ic_p1, ic_p2, ic_p3, ic_p4, ic_p5, ic_p6, ic_p7, ic_p8, ic_q3, ic_d11, ic_r11, ic_d22, ic_n11, ic_n22, ic_n3, ic_n2, ic_oneI]
    exact g3 x5 p hp
theorem ic_K0 {ro se bd st rk : Nat → Int32} {a : Nat} (ha : a < 2) (hK : ic_K ic_E0 ro se bd st rk) : ∀ c, c < 33 → st (a * 33 + c) ≠ 0 → rk (a * 33 + c) = nI (ic_rnk ro se bd a c) := fun c hc z => hK a ha c hc (fun z => z) z
theorem lk_run {k a t : Nat} (hI : ic_I k ic_E0 wn fl nt ro ph ck ch na ns ba ow se tp po pc pb sp sg st rk cx ca mr fm mb od os qu qs qd rg ft pa bd bo sk sn) (hk : k ≤ 5000) (ha : a < 2) (ht : ck a = nI t) (htk : t ≤ k) (hc2 : ic_C2 st ca rg a t) :
    lk_R k (fun p => wpX_runCheck p (wn, fl, nt, ro, ph, ck, ch, na, ns, ba, ow, se, tp, po, pc, pb, sp, sg, st, rk, cx, ca, mr, fm, mb, od, os, qu, qs, qd, rg, ft) (nI a)) (fun p => ∃ n201 : Nat, wY_tick_201 p (nI a) (nI t) 0 9 fl wn nt ro ph ck ch ns na pa ow se bd bo st cx ca mr sk ba sn n201 (-1) 0) := by
  have hI0 := hI
  obtain ⟨hnt, hro, hph, hns, how, hse, hst, hmk, hrg, hpn, hch, hob, hop, hsp, hsb, hP, hS, hT, hM, hfm, hO, hK, hQ, hC, hF⟩ := hI
  obtain ⟨Q, hQ1⟩ := hQ a ha
  obtain ⟨q1, q2, q3, q4, q5, q6, q7⟩ := hQ1
  have hlen : Q.length ≤ 33 := ic_len 33 Q q1 (fun x hx => (q2 x hx).1)
  have hex : ∀ post : Int32 → SY → Prop, ∀ cur : Int32, wY_tick_201 post (nI a) (nI t) 0 9 fl wn nt ro ph ck ch ns na pa ow se bd bo st cx ca mr sk ba sn 1 cur (nI 33) ↔ ((cur = -1 → wpY_best (fun r => wY_tick_258 post (nI a) (nI t) 0 r 7 fl wn nt ro ph ck ch ns na pa ow se bd bo st cx ca mr sk ba sn) (fl, wn, nt, ro, ph, ck, ch, ns, na, pa, ow, se, bd, bo, st, cx, ca, mr, sk, ba, sn) (nI a) 2) ∧ (¬ cur = -1 → wY_tick_258 post (nI a) (nI t) 0 cur 9 fl wn nt ro ph ck ch ns na pa ow se bd bo st cx ca mr sk ba sn)) := by
    intro post cur
    rw [wY_tick_201]
    exact ⟨fun z => z.1 (Int32.le_refl _), fun z => br_t (Int32.le_refl _) z⟩
  cases Q with
  | cons c Q' =>
    have hc := q2 c List.mem_cons_self
    have hc33 := hc.1
    have h0 : st (a * 33 + c) ≠ 0 := by rw [hc.2]; decide
    have hq0 : qu (a * 33) = nI c := q4 0 c rfl
    have hno : ∀ x, x < 33 → (sk (a * 33 + x) = 1 ↔ x = c) := by
      intro x hx
      constructor
      · intro z
        by_cases hxQ : x ∈ c :: Q'
        · obtain ⟨i, hi⟩ := List.mem_iff_getElem?.mp hxQ
          have hl : i < (c :: Q').length := (List.getElem?_eq_some_iff.mp hi).1
          have h7 := q5 i x hi
          rw [z] at h7
          have := ic_eqn (a := 1) (by omega) (by omega) h7
          have e0 : i = 0 := by omega
          rw [e0] at hi
          have : c = x := by simpa using hi
          exact this.symm
        · rw [q6 x hx hxQ] at z
          exact absurd z (by decide)
      · intro e
        rw [e]; exact q5 0 c rfl
    obtain ⟨qu', qs', sk', qd', g1, g2, g3, g4⟩ := lk_deq hI0 ha hc33
    refine lk_mono (fun p hp => ?_) (fun p hp => ?_) (lk_fin (sk0 := sk) 9 g1 hk ha hc33 h0 g2 g3.symm ht htk hc2)
    · unfold wpX_runCheck
      simp (disch := omega) only [forall_eq, true_and, and_true, true_implies, false_implies, implies_true, not_true_eq_false, not_false_eq_true, nI_clamp, vp_in_nI, nI_add, ic_m3, ic_m4, ic_m5, ic_m6, ic_m8, ic_m11, ic_m12, ic_m24, ic_m33, ic_p1, ic_p2, ic_p3, ic_p4, ic_p5, ic_p6, ic_p7, ic_p8, ic_q3, ic_d11, ic_r11, ic_d22, ic_n11, ic_n22, ic_n3, ic_n2, ic_oneI, q3, hq0]
      refine br_f (nI_nle (by simp) (by omega)) (g4 _ ?_)
      exact br_f (ic_ne1 c (by omega)) (br_f (ic_ne1 c (by omega)) hp)
    · refine ⟨34, yw_201f ha hc33 hno p ((hex p _).mpr (br_f (ic_ne1 c (by omega)) ?_)) 33 0 (by omega) (by omega)⟩
      exact br_f (ic_ne1 c (by omega)) hp
  | nil =>
    have hz : ∀ x, x < 33 → sk (a * 33 + x) = 0 := fun x hx => q6 x hx (by simp)
    have hno : ∀ x, x < 33 → ¬ sk (a * 33 + x) = 1 := fun x hx z => by rw [hz x hx] at z; exact absurd z (by decide)
    have hqs : qs a ≤ 0 := by rw [q3]; exact Int32.le_refl _
    have hk0 := ic_K0 ha hK
    obtain ⟨r, hr⟩ := ic_BU_ex (fit := ic_fit se st a 2) (R := ic_rnk ro se bd a) ic_rnk_inj 33 (Nat.le_refl _)
    have hXW : ∀ p : Int32 → SX → Prop, wX_runCheck_44 p (nI a) 7 r wn fl nt ro ph ck ch na ns ba ow se tp po pc pb sp sg st rk cx ca mr fm mb od os qu qs qd rg ft → wpX_runCheck p (wn, fl, nt, ro, ph, ck, ch, na, ns, ba, ow, se, tp, po, pc, pb, sp, sg, st, rk, cx, ca, mr, fm, mb, od, os, qu, qs, qd, rg, ft) (nI a) := by
      intro p hp
      unfold wpX_runCheck
      simp (disch := omega) only [forall_eq, true_and, and_true, true_implies, false_implies, implies_true, not_true_eq_false, not_false_eq_true, nI_clamp, vp_in_nI, nI_add, ic_m3, ic_m4, ic_m5, ic_m6, ic_m8, ic_m11, ic_m12, ic_m24, ic_m33, ic_p1, ic_p2, ic_p3, ic_p4, ic_p5, ic_p6, ic_p7, ic_p8, ic_q3, ic_d11, ic_r11, ic_d22, ic_n11, ic_n22, ic_n3, ic_n2, ic_oneI]
      refine br_t hqs ?_
      unfold wX_runCheck_30
      exact br_t rfl (xw_bw ha hro hse hM hO hk0 hr hp)
    have hYW : ∀ p : Int32 → SY → Prop, wY_tick_258 p (nI a) (nI t) 0 r 7 fl wn nt ro ph ck ch ns na pa ow se bd bo st cx ca mr sk ba sn → ∃ n201 : Nat, wY_tick_201 p (nI a) (nI t) 0 9 fl wn nt ro ph ck ch ns na pa ow se bd bo st cx ca mr sk ba sn n201 (-1) 0 := by
      intro p hp
      refine ⟨34, yw_201n ha hno p ((hex p _).mpr (br_t rfl ?_)) 33 0 (by omega)⟩
      exact yw_best (w := 2) ha (Or.inr rfl) hro hse hsb hr hp
    have hr' := hr
    rcases hr' with ⟨e1, e2⟩ | ⟨c, c1, c2, c3, c4⟩
    · obtain ⟨r2, hr2⟩ := ic_BU_ex (fit := ic_fit se st a 1) (R := ic_rnk ro se bd a) ic_rnk_inj 33 (Nat.le_refl _)
      have hXF : ∀ p : Int32 → SX → Prop, wX_runCheck_58 p (nI a) 8 r2 wn fl nt ro ph ck ch na ns ba ow se tp po pc pb sp sg st rk cx ca mr fm mb od os qu qs qd rg ft → wpX_runCheck p (wn, fl, nt, ro, ph, ck, ch, na, ns, ba, ow, se, tp, po, pc, pb, sp, sg, st, rk, cx, ca, mr, fm, mb, od, os, qu, qs, qd, rg, ft) (nI a) := by
        intro p hp
        refine hXW p ?_
        unfold wX_runCheck_44
        exact br_t e1 (xw_bf ha hro hse hT hM hsb hO hk0 hr2 hp)
      have hYF : ∀ p : Int32 → SY → Prop, wY_tick_276 p (nI a) (nI t) 0 r2 8 fl wn nt ro ph ck ch ns na pa ow se bd bo st cx ca mr sk ba sn → ∃ n201 : Nat, wY_tick_201 p (nI a) (nI t) 0 9 fl wn nt ro ph ck ch ns na pa ow se bd bo st cx ca mr sk ba sn n201 (-1) 0 := by
        intro p hp
        refine hYW p ?_
        unfold wY_tick_258
        exact br_t e1 (yw_best (w := 1) ha (Or.inl rfl) hro hse hsb hr2 hp)
      have hr3 := hr2
      rcases hr3 with ⟨f1, f2⟩ | ⟨c, c1, c2, c3, c4⟩
      · refine lk_ret 6 hI0 (fun p hp => hXF p ?_) (fun p hp => hYF p ?_)
        · unfold wX_runCheck_58
          exact br_t f1 hp
        · unfold wY_tick_276
          exact br_t f1 hp
      · subst c2
        have h0 : st (a * 33 + c) ≠ 0 := by rw [c3.1]; decide
        exact lk_mono (fun p hp => hXF p hp) (fun p hp => hYF p hp) (lk_fin (sk0 := sk) 8 hI0 hk ha c1 h0 (hz c c1) (ic_dq_0 (hz c c1)) ht htk hc2)
    · subst c2
      have h0 : st (a * 33 + c) ≠ 0 := by rw [c3.1]; decide
      refine lk_mono (fun p hp => hXW p ?_) (fun p hp => hYW p ?_) (lk_fin (sk0 := sk) 7 hI0 hk ha c1 h0 (hz c c1) (ic_dq_0 (hz c c1)) ht htk hc2)
      · unfold wX_runCheck_44
        exact br_f (ic_ne1 c (by omega)) hp
      · unfold wY_tick_258
        exact br_f (ic_ne1 c (by omega)) hp
end
end
section
/-! change of role, learning, selection -/
theorem ic_zfu {bd : Nat → Int32} {a p : Nat} : ic_zf bd a p = ic_zf bd a p := rfl
section
variable {wn fl : Int32} {nt ro ph ck ch na ns ba ow se tp po pc pb sp sg st rk cx ca mr : Nat → Int32} {fm mb : Nat → Int64} {od os qu qs : Nat → Int32} {qd : Nat → Int64} {rg ft pa bd bo sk sn : Nat → Int32}
theorem xw_swL {a : Nat} {L : List Nat} (ha : a < 2) (hro : ic_R ro 1) (hse : ic_R se 4) (hP : ic_P nt ba po pc pb bd bo) (hsp : ic_SP se bd) (hd : L.Nodup) (hL : ∀ c, c ∈ L → c < 33) (hseL : ∀ c, c ∈ L → se (a * 11 + c % 11) ≠ 0) :
    ∀ (n : Nat) (A B P : List Nat) (g rk0 o0 : Nat → Int32), L = A ++ B → B.length < n → P.Perm A → ic_L g (a * 33) P → ic_L g (a * 33 + A.length) B → o0 a = nI A.length → ic_srt rk0 a P →
      (∀ c, c ∈ A → rk0 (a * 33 + c) = nI (ic_pr ro se bd a c * 64 + 63 - c)) →
    ∃ (od' rk' os' : Nat → Int32) (P' : List Nat), P'.Perm L ∧ ic_L od' (a * 33) P' ∧ os' a = nI L.length ∧ ic_srt rk' a P' ∧ (∀ c, c ∈ L → rk' (a * 33 + c) = nI (ic_pr ro se bd a c * 64 + 63 - c)) ∧
      (∀ j, j < a * 33 ∨ a * 33 + 33 ≤ j → od' j = g j) ∧ (∀ j, j < a * 33 ∨ a * 33 + 33 ≤ j → rk' j = rk0 j) ∧ (∀ a', a' ≠ a → os' a' = o0 a') ∧
      ∀ post : SX → Prop, post (wn, fl, nt, ro, ph, ck, ch, na, ns, ba, ow, se, tp, po, pc, pb, sp, sg, st, rk', cx, ca, mr, fm, mb, od', os', qu, qs, qd, rg, ft) → wX_switchRole_30 post (nI a) (nI L.length) n (nI A.length) wn fl nt ro ph ck ch na ns ba ow se tp po pc pb sp sg st rk0 cx ca mr fm mb g o0 qu qs qd rg ft := by
  have hlen : L.length ≤ 33 := ic_len 33 L hd hL
  intro n
  induction n with
  | zero => intro A B P g rk0 o0 _ h; omega
  | succ n ih =>
    intro A B P g rk0 o0 e hn hPA hg hgB ho hs hr
    have hAB : L.length = A.length + B.length := by rw [e]; simp
    cases B with
    | nil =>
      rw [List.append_nil] at e
      refine ⟨g, rk0, o0, P, by rw [e]; exact hPA, hg, by rw [e]; exact ho, hs, by rw [e]; exact hr, fun _ _ => rfl, fun _ _ => rfl, fun _ _ => rfl, fun post hp => ?_⟩
      rw [wX_switchRole_30]
      exact br_t (by rw [e]; exact Int32.le_refl _) hp
    | cons x B =>
      rw [List.length_cons] at hAB hn
      rw [ic_L_cons] at hgB
      have hxL : x ∈ L := by rw [e]; simp
      have hx := hL x hxL
      have hPl : P.length = A.length := hPA.length_eq
      have hxP : x ∉ P := by
        intro z
        rw [hPA.mem_iff] at z
        rw [e, List.nodup_append] at hd
        exact hd.2.2 x z x List.mem_cons_self rfl
      obtain ⟨t, t1, t4, hset⟩ := ic_nz (hse (a * 11 + x % 11)) (hseL x hxL)
      obtain ⟨od1, P1, x1, x2, x3, x4, x5⟩ := xw_ins (wn := wn) (fl := fl) (nt := nt) (ro := ro) (ph := ph) (ck := ck) (ch := ch) (na := na) (ns := ns) (ba := ba) (ow := ow) (se := se) (tp := tp) (po := po) (pc := pc) (pb := pb) (sp := sp) (sg := sg) (st := st) (rk := rk0) (cx := cx) (ca := ca) (mr := mr) (fm := fm) (mb := mb) (od := g) (os := o0) (qu := qu) (qs := qs) (qd := qd) (rg := rg) (ft := ft)
        ha hx (ic_pr_lt (bd := bd) (a := a) hro hse hx) (fun y hy => hL y (by rw [e]; exact List.mem_append_left _ (hPA.mem_iff.mp hy))) (by omega) (by rw [hPl]; exact ho) hg hxP hs
        (fun post hp => xw_prio ha hx hro t1 t4 hset (fun h3 => ic_far hP hsp ha h3 (by omega) (hseL x hxL)) hp)
      have hP1 : P1.Perm (A ++ [x]) := by
        refine x2.trans ?_
        refine (List.Perm.cons x hPA).trans ?_
        have := (List.perm_middle (a := x) (l₁ := A) (l₂ := [])).symm
        rw [List.append_nil] at this
        exact this
      have hP1l : P1.length = A.length + 1 := by rw [hP1.length_eq]; simp
      have hA1 : (A ++ [x]).length = A.length + 1 := by simp
      obtain ⟨od', rk', os', P', y1, y2, y3, y4, y5, y6, y7, y8, y9⟩ := ih (A ++ [x]) B P1 od1 (upd rk0 (a * 33 + x) (nI (ic_pr ro se bd a x * 64 + 63 - x))) (upd o0 a (nI P1.length)) (by rw [e]; simp) (by omega) hP1 x3
        (by
          rw [hA1, show a * 33 + (A.length + 1) = a * 33 + A.length + 1 by omega]
          exact ic_L_fr hgB.2 (fun j h1 h2 => x4 j (by omega)))
        (by rw [pk_us, hP1l, hA1]) x5
        (by
          intro c hc
          rcases List.mem_append.mp hc with hc | hc
          · rw [pk_un]
            · exact hr c hc
            · intro z
              have ecx : c = x := by omega
              rw [ecx] at hc
              exact hxP (hPA.mem_iff.mpr hc)
          · rw [List.mem_singleton.mp hc, pk_us])
      refine ⟨od', rk', os', P', y1, y2, y3, y4, y5, fun j hj => by rw [y6 j hj, x4 j (by omega)], fun j hj => by rw [y7 j hj, pk_un (by omega)], fun a' h => by rw [y8 a' h, pk_un h], fun post hp => ?_⟩
      rw [wX_switchRole_30]
      refine br_f (nI_ge (by omega) (by omega)) ?_
      simp (disch := omega) only [forall_eq, true_and, and_true, true_implies, false_implies, implies_true, not_true_eq_false, not_false_eq_true, nI_clamp, vp_in_nI, nI_add, ic_m3, ic_m4, ic_m5, ic_m6, ic_m8, ic_m11, ic_m12, ic_m24, ic_m33, ic_p1, ic_p2, ic_p3, ic_p4, ic_p5, ic_p6, ic_p7, ic_p8, ic_q3, ic_d11, ic_r11, ic_d22, ic_n11, ic_n22, ic_n3, ic_n2, ic_oneI, hgB.1]
      refine x1 _ ?_
      have h9 := y9 post hp
      rw [hA1] at h9
      exact h9
/-- the role of side a turned, all ranks anew -/
theorem lk_switch {k a r : Nat} (hI : ic_I k ic_E0 wn fl nt ro ph ck ch na ns ba ow se tp po pc pb sp sg st rk cx ca mr fm mb od os qu qs qd rg ft pa bd bo sk sn) (ha : a < 2) (hr : ro a = nI r) (hr1 : r ≤ 1) :
    ∃ (rk' od' os' : Nat → Int32), ic_I k ic_E0 wn fl nt (upd ro a (nI (1 - r))) ph ck ch na ns ba ow se tp po pc pb sp sg st rk' cx ca mr fm mb od' os' qu qs qd rg ft pa bd bo sk sn ∧ (∀ post : SX → Prop, post (wn, fl, nt, upd ro a (nI (1 - r)), ph, ck, ch, na, ns, ba, ow, se, tp, po, pc, pb, sp, sg, st, rk', cx, ca, mr, fm, mb, od', os', qu, qs, qd, rg, ft) → wpX_switchRole post (wn, fl, nt, ro, ph, ck, ch, na, ns, ba, ow, se, tp, po, pc, pb, sp, sg, st, rk, cx, ca, mr, fm, mb, od, os, qu, qs, qd, rg, ft) (nI a)) := by
  obtain ⟨hnt, hro, hph, hns, how, hse, hst, hmk, hrg, hpn, hch, hob, hop, hsp, hsb, hP, hS, hT, hM, hfm, hO, hK, hQ, hC, hF⟩ := hI
  obtain ⟨L, l1, l2, l3, l4, l5⟩ := hO a ha
  have hro' : ic_R (upd ro a (nI (1 - r))) 1 := ic_Ru hro _ _ (by omega)
  obtain ⟨od', rk', os', P', y1, y2, y3, y4, y5, y6, y7, y8, y9⟩ := xw_swL (wn := wn) (fl := fl) (nt := nt) (ro := upd ro a (nI (1 - r))) (ph := ph) (ck := ck) (ch := ch) (na := na) (ns := ns) (ba := ba) (ow := ow) (se := se) (tp := tp) (po := po) (pc := pc) (pb := pb) (sp := sp) (sg := sg) (st := st) (cx := cx) (ca := ca) (mr := mr) (fm := fm) (mb := mb) (qu := qu) (qs := qs) (qd := qd) (rg := rg) (ft := ft)
    ha hro' hse hP hsp l1 (fun c hc => ((l2 c).mp hc).1) (fun c hc => (hsb a ha c ((l2 c).mp hc).1 ((l2 c).mp hc).2).2) 34 [] L [] od rk (upd os a (nI 0)) rfl (by have := ic_len 33 L l1 (fun c hc => ((l2 c).mp hc).1); omega) (List.Perm.refl _) (ic_L_nil _ _) l4 pk_us List.Pairwise.nil (fun c hc => by cases hc)
  refine ⟨rk', od', os', ?_, fun post hp => ?_⟩
  · refine ⟨hnt, hro', hph, hns, how, hse, hst, hmk, hrg, hpn, hch, hob, hop, hsp, hsb, hP, hS, hT, hM, hfm, ?_, ?_, hQ, hC, hF⟩
    · refine ic_Of ha hO (fun a' _ e => by rw [y8 a' e, pk_un e]) y6 y7 (fun _ _ => rfl) ⟨P', (y1.nodup_iff).mpr l1, fun c => by rw [y1.mem_iff, l2 c], by rw [y3, y1.length_eq], y2, y4⟩
    · intro a' ha' c hc he z
      by_cases e : a' = a
      · subst e
        exact y5 c ((l2 c).mpr ⟨hc, z⟩)
      · rw [y7 _ (by omega), hK a' ha' c hc he z]
        unfold ic_pr
        rw [pk_un e]
  · unfold wpX_switchRole
    simp (disch := omega) only [forall_eq, true_and, and_true, true_implies, false_implies, implies_true, not_true_eq_false, not_false_eq_true, nI_clamp, vp_in_nI, nI_add, ic_m3, ic_m4, ic_m5, ic_m6, ic_m8, ic_m11, ic_m12, ic_m24, ic_m33, ic_p1, ic_p2, ic_p3, ic_p4, ic_p5, ic_p6, ic_p7, ic_p8, ic_q3, ic_d11, ic_r11, ic_d22, ic_n11, ic_n22, ic_n3, ic_n2, ic_oneI, hr, l3]
    exact ⟨34, y9 post hp⟩
/-- selection -/
theorem lk_sel {k a c : Nat} {E : Nat → Nat → Prop} (hI : ic_I k E wn fl nt ro ph ck ch na ns ba ow se tp po pc pb sp sg st rk cx ca mr fm mb od os qu qs qd rg ft pa bd bo sk sn) (ha : a < 2) (hc : c < 33) (h0 : st (a * 33 + c) ≠ 0) :
    ic_I k E wn fl nt ro (upd ph a 2) ck (upd ch a (nI c)) na ns ba ow se tp po pc pb sp sg st rk cx ca mr fm mb od os qu qs qd rg ft pa bd bo sk sn ∧ (∀ post : SX → Prop, post (wn, fl, nt, ro, upd ph a 2, ck, upd ch a (nI c), na, ns, ba, ow, se, tp, po, pc, pb, sp, sg, st, rk, cx, ca, mr, fm, mb, od, os, qu, qs, qd, rg, ft) → wpX_select post (wn, fl, nt, ro, ph, ck, ch, na, ns, ba, ow, se, tp, po, pc, pb, sp, sg, st, rk, cx, ca, mr, fm, mb, od, os, qu, qs, qd, rg, ft) (nI a) (nI c)) ∧
      (∀ post : SY → Prop, post (fl, wn, nt, ro, upd ph a 2, ck, upd ch a (nI c), ns, na, pa, ow, se, bd, bo, st, cx, ca, mr, sk, ba, sn) → wpY_select post (fl, wn, nt, ro, ph, ck, ch, ns, na, pa, ow, se, bd, bo, st, cx, ca, mr, sk, ba, sn) (nI a) (nI c)) := by
  obtain ⟨hnt, hro, hph, hns, how, hse, hst, hmk, hrg, hpn, hch, hob, hop, hsp, hsb, hP, hS, hT, hM, hfm, hO, hK, hQ, hC, hF⟩ := hI
  refine ⟨⟨hnt, hro, ic_Ru hph _ 2 (by omega), hns, how, hse, hst, hmk, hrg, ?_, ?_, hob, hop, hsp, hsb, hP, hS, hT, hM, hfm, hO, hK, hQ, hC, hF⟩, fun post hp => ?_, fun post hp => ?_⟩
  · intro j z
    by_cases e : j = a
    · rw [e, pk_us] at z
      exact absurd z (by decide)
    · rw [pk_un e] at z
      exact hpn j z
  · intro a' ha' z
    by_cases e : a' = a
    · subst e
      exact ⟨c, hc, pk_us, h0⟩
    · rw [pk_un e] at z ⊢
      exact hch a' ha' z
  · unfold wpX_select
    simp (disch := omega) only [forall_eq, true_and, and_true, true_implies, false_implies, implies_true, not_true_eq_false, not_false_eq_true, nI_clamp, vp_in_nI, nI_add, ic_m3, ic_m4, ic_m5, ic_m6, ic_m8, ic_m11, ic_m12, ic_m24, ic_m33, ic_p1, ic_p2, ic_p3, ic_p4, ic_p5, ic_p6, ic_p7, ic_p8, ic_q3, ic_d11, ic_r11, ic_d22, ic_n11, ic_n22, ic_n3, ic_n2, ic_oneI]
    exact hp
  · unfold wpY_select
    simp (disch := omega) only [forall_eq, true_and, and_true, true_implies, false_implies, implies_true, not_true_eq_false, not_false_eq_true, nI_clamp, vp_in_nI, nI_add, ic_m3, ic_m4, ic_m5, ic_m6, ic_m8, ic_m11, ic_m12, ic_m24, ic_m33, ic_p1, ic_p2, ic_p3, ic_p4, ic_p5, ic_p6, ic_p7, ic_p8, ic_q3, ic_d11, ic_r11, ic_d22, ic_n11, ic_n22, ic_n3, ic_n2, ic_oneI]
    exact hp
end
/-- masks of places by type, one place moved -/
def ic_ts (tp : Nat → Int32) (a p s0 s : Nat) : Nat → Int32 :=
  upd (upd tp (a * 5 + s0) (tp (a * 5 + s0) &&& (((1 : Int32) <<< (nI p &&& 31)) ^^^ (-1)))) (a * 5 + s)
    (upd tp (a * 5 + s0) (tp (a * 5 + s0) &&& (((1 : Int32) <<< (nI p &&& 31)) ^^^ (-1))) (a * 5 + s) ||| ((1 : Int32) <<< (nI p &&& 31)))
theorem ic_Tset {se tp : Nat → Int32} {a p s s0 : Nat} (hT : ic_T se tp) (ha : a < 2) (hp : p < 11) (hs1 : 1 ≤ s) (hs : s ≤ 4) (hs0 : s0 ≤ 4) (h0 : se (a * 11 + p) = nI s0) : ic_T (upd se (a * 11 + p) (nI s)) (ic_ts tp a p s0 s) := by
  intro a' ha' s' h1 h4 i hi
  unfold ic_ts
  by_cases e1 : a' * 5 + s' = a * 5 + s
  · have ea : a' = a := by omega
    have es : s' = s := by omega
    subst ea; subst es
    rw [pk_us, b_or, ic_bone (by omega) hi]
    by_cases ec : i = p
    · subst ec
      rw [pk_us]; simp [hp]
    · rw [decide_eq_false ec, Bool.or_false]
      have hne : i < 11 → a' * 11 + i ≠ a' * 11 + p := fun _ => by omega
      have hrhs : (i < 11 ∧ upd se (a' * 11 + p) (nI s') (a' * 11 + i) = nI s') ↔ (i < 11 ∧ se (a' * 11 + i) = nI s') := by
        rw [pk_un (by omega)]
      rw [hrhs]
      by_cases e2 : a' * 5 + s' = a' * 5 + s0
      · have e3 : s' = s0 := by omega
        subst e3
        rw [pk_us, b_and, ic_bnot _ hi, ic_bone (by omega) hi, decide_eq_false ec, Bool.not_false, Bool.and_true]
        exact hT a' ha' s' h1 h4 i hi
      · rw [pk_un e2]
        exact hT a' ha' s' h1 h4 i hi
  · rw [pk_un e1]
    by_cases e2 : a' * 5 + s' = a * 5 + s0
    · have ea : a' = a := by omega
      have es : s' = s0 := by omega
      subst ea; subst es
      rw [pk_us, b_and, ic_bnot _ hi, ic_bone (by omega) hi]
      by_cases ec : i = p
      · subst ec
        rw [pk_us, decide_eq_true rfl, Bool.not_true, Bool.and_false]
        constructor
        · intro h; cases h
        · rintro ⟨_, h⟩
          have := ic_eqn (by omega) (by omega) h
          omega
      · rw [pk_un (by omega), decide_eq_false ec, Bool.not_false, Bool.and_true]
        exact hT a' ha' s' h1 h4 i hi
    · rw [pk_un e2]
      by_cases e3 : a' = a ∧ i = p
      · obtain ⟨ea, ei⟩ := e3
        subst ea; subst ei
        rw [pk_us, hT a' ha' s' h1 h4 i hi, h0]
        constructor
        · rintro ⟨_, h⟩
          have := ic_eqn (by omega) (by omega) h
          omega
        · rintro ⟨_, h⟩
          have := ic_eqn (by omega) (by omega) h
          omega
      · rw [hT a' ha' s' h1 h4 i hi]
        constructor
        · rintro ⟨z1, z2⟩
          exact ⟨z1, by rw [pk_un (by omega)]; exact z2⟩
        · rintro ⟨z1, z2⟩
          exact ⟨z1, by rw [pk_un (by omega)] at z2; exact z2⟩
section
variable {wn fl : Int32} {nt ro ph ck ch na ns ba ow se tp po pc pb sp sg st rk cx ca mr : Nat → Int32} {fm mb : Nat → Int64} {od os qu qs : Nat → Int32} {qd : Nat → Int64} {rg ft pa bd bo sk sn : Nat → Int32}
theorem lk_learn {k a p t : Nat} (hI : ic_I k ic_E0 wn fl nt ro ph ck ch na ns ba ow se tp po pc pb sp sg st rk cx ca mr fm mb od os qu qs qd rg ft pa bd bo sk sn) (ha : a < 2) (hp : p < 11) (ht1 : 1 ≤ t) (ht : t ≤ 4) (hb : 3 ≤ p → bd ((1 - a) * 11 + p) ≠ 0) :
    ∃ tp' : Nat → Int32, ic_I k (fun a' c' => a' = a ∧ c' % 11 = p) wn fl nt ro ph ck ch na ns ba ow (upd se (a * 11 + p) (nI t)) tp' po pc pb sp sg st rk cx ca mr fm mb od os qu qs qd rg ft pa bd bo sk sn ∧ (∀ post : SX → Prop, post (wn, fl, nt, ro, ph, ck, ch, na, ns, ba, ow, upd se (a * 11 + p) (nI t), tp', po, pc, pb, sp, sg, st, rk, cx, ca, mr, fm, mb, od, os, qu, qs, qd, rg, ft) → wpX_learn post (wn, fl, nt, ro, ph, ck, ch, na, ns, ba, ow, se, tp, po, pc, pb, sp, sg, st, rk, cx, ca, mr, fm, mb, od, os, qu, qs, qd, rg, ft) (nI a) (nI p) (nI t)) := by
  obtain ⟨hnt, hro, hph, hns, how, hse, hst, hmk, hrg, hpn, hch, hob, hop, hsp, hsb, hP, hS, hT, hM, hfm, hO, hK, hQ, hC, hF⟩ := hI
  obtain ⟨s0, hs0, es⟩ := hse (a * 11 + p)
  have mono : ∀ j, se j ≠ 0 → upd se (a * 11 + p) (nI t) j ≠ 0 := fun j z => ic_umono (nI_ne0 (by omega) (by omega)) z
  refine ⟨ic_ts tp a p s0 t, ⟨hnt, hro, hph, hns, how, ic_Ru hse _ t ht, hst, hmk, hrg, hpn, hch, hob, hop, ?_, ?_, hP, hS, ic_Tset hT ha hp ht1 ht hs0 es, hM, hfm, hO, ?_, hQ, hC, hF⟩, fun post hpo => ?_⟩
  · intro a' ha' q q3 q11 z
    by_cases e : a' * 11 + q = a * 11 + p
    · have e1 : a' = a := by omega
      have e2 : q = p := by omega
      rw [e1, e2]; exact hb (by omega)
    · rw [pk_un e] at z
      exact hsp a' ha' q q3 q11 z
  · intro a' ha' c hc z
    exact ⟨(hsb a' ha' c hc z).1, mono _ (hsb a' ha' c hc z).2⟩
  · intro a' ha' c hc he z
    rw [hK a' ha' c hc (fun z => z) z]
    unfold ic_pr
    rw [pk_un]
    intro e
    exact he ⟨by omega, by omega⟩
  · unfold wpX_learn
    simp (disch := omega) only [forall_eq, true_and, and_true, true_implies, false_implies, implies_true, not_true_eq_false, not_false_eq_true, nI_clamp, vp_in_nI, nI_add, ic_m3, ic_m4, ic_m5, ic_m6, ic_m8, ic_m11, ic_m12, ic_m24, ic_m33, ic_p1, ic_p2, ic_p3, ic_p4, ic_p5, ic_p6, ic_p7, ic_p8, ic_q3, ic_d11, ic_r11, ic_d22, ic_n11, ic_n22, ic_n3, ic_n2, ic_oneI, es]
    exact hpo
end
end
section
/-! what a place lets in -/
def ic_nr (sn : Nat → Int32) (e s x : Nat) : Prop := ∃ d : Nat, d < x ∧ ic_gr d = ic_gr s ∧ sn (e * 12 + d) ≠ 0
section
variable {wn fl : Int32} {nt ro ph ck ch na ns ba ow se tp po pc pb sp sg st rk cx ca mr : Nat → Int32} {fm mb : Nat → Int64} {od os qu qs : Nat → Int32} {qd : Nat → Int64} {rg ft pa bd bo sk sn : Nat → Int32}
theorem yw_admL {a p s : Nat} {x5 : Int32} (ha : a < 2) (hp : p < 11) (hs : s < 11) (post : Int32 → Prop)
    (k1 : ic_nr sn (a * 11 + p) s 12 → wY_admits_57 post (nI a) (nI p) (nI s) (nI (a * 11 + p)) x5 fl wn nt ro ph ck ch ns na pa ow se bd bo st cx ca mr sk ba sn 1 1 (nI 12)) (k0 : ¬ ic_nr sn (a * 11 + p) s 12 → wY_admits_57 post (nI a) (nI p) (nI s) (nI (a * 11 + p)) x5 fl wn nt ro ph ck ch ns na pa ow se bd bo st cx ca mr sk ba sn 1 0 (nI 12)) :
    ∀ (d x : Nat) (cur : Int32), x + d = 12 → ((cur = 0 ∧ ¬ ic_nr sn (a * 11 + p) s x) ∨ (cur = 1 ∧ ic_nr sn (a * 11 + p) s x)) → wY_admits_57 post (nI a) (nI p) (nI s) (nI (a * 11 + p)) x5 fl wn nt ro ph ck ch ns na pa ow se bd bo st cx ca mr sk ba sn (d + 1) cur (nI x) := by
  intro d
  induction d with
  | zero =>
    intro x cur h hc
    have e : x = 12 := by omega
    subst e
    rcases hc with ⟨h1, h2⟩ | ⟨h1, h2⟩
    · rw [h1]; exact k0 h2
    · rw [h1]; exact k1 h2
  | succ d ih =>
    intro x cur h hc
    have step : ¬ (ic_gr x = ic_gr s ∧ sn ((a * 11 + p) * 12 + x) ≠ 0) → wY_admits_57 post (nI a) (nI p) (nI s) (nI (a * 11 + p)) x5 fl wn nt ro ph ck ch ns na pa ow se bd bo st cx ca mr sk ba sn (d + 1) cur (nI (x + 1)) := by
      intro hn
      refine ih (x + 1) cur (by omega) ?_
      rcases hc with ⟨h1, h2⟩ | ⟨h1, y, z1, z2, z3⟩
      · refine Or.inl ⟨h1, ?_⟩
        rintro ⟨y, z1, z2, z3⟩
        by_cases e : y = x
        · rw [e] at z2 z3; exact hn ⟨z2, z3⟩
        · exact h2 ⟨y, by omega, z2, z3⟩
      · exact Or.inr ⟨h1, y, by omega, z2, z3⟩
    rw [wY_admits_57]
    refine br_f (nI_ge (b := 12) (by omega) (by omega)) ?_
    simp (disch := omega) only [forall_eq, true_and, and_true, true_implies, false_implies, implies_true, not_true_eq_false, not_false_eq_true, nI_clamp, vp_in_nI, nI_add, ic_m3, ic_m4, ic_m5, ic_m6, ic_m8, ic_m11, ic_m12, ic_m24, ic_m33, ic_p1, ic_p2, ic_p3, ic_p4, ic_p5, ic_p6, ic_p7, ic_p8, ic_q3, ic_d11, ic_r11, ic_d22, ic_n11, ic_n22, ic_n3, ic_n2, ic_oneI]
    refine br_c (fun z => step (fun z2 => z2.2 z)) (fun z => yw_group (by omega) (yw_group (by omega) (br_c (fun z2 => ?_) (fun z2 => ?_))))
    · have g1 := ic_gr_lt x
      have g2 := ic_gr_lt s
      exact ih (x + 1) 1 (by omega) (Or.inr ⟨rfl, x, by omega, ic_eqn (by omega) (by omega) z2, z⟩)
    · exact step (fun z3 => z2 (by rw [z3.1]))
theorem xw_hs {post : Int32 → Prop} {a p s : Nat} (ha : a < 2) (hp : p < 11) (hs : s < 11) (hS : ic_S sp sg sn) (k1 : ic_nr sn (a * 11 + p) s 12 → post 1) (k0 : ¬ ic_nr sn (a * 11 + p) s 12 → post 0) : wpX_hasSentToGroup post (wn, fl, nt, ro, ph, ck, ch, na, ns, ba, ow, se, tp, po, pc, pb, sp, sg, st, rk, cx, ca, mr, fm, mb, od, os, qu, qs, qd, rg, ft) (nI a) (nI p) (nI s) := by
  unfold wpX_hasSentToGroup
  refine xw_group (by omega) ?_
  have g := ic_gr_lt s
  simp (disch := omega) only [forall_eq, true_and, and_true, true_implies, false_implies, implies_true, not_true_eq_false, not_false_eq_true, nI_clamp, vp_in_nI, nI_add, ic_m3, ic_m4, ic_m5, ic_m6, ic_m8, ic_m11, ic_m12, ic_m24, ic_m33, ic_p1, ic_p2, ic_p3, ic_p4, ic_p5, ic_p6, ic_p7, ic_p8, ic_q3, ic_d11, ic_r11, ic_d22, ic_n11, ic_n22, ic_n3, ic_n2, ic_oneI]
  have hb := ic_btest (sg (a * 11 + p)) (k := ic_gr s) (by omega)
  have h2 := (hS (a * 11 + p) (by omega)).2 (ic_gr s) g
  refine br_c (fun z => k1 (h2.mp (hb.mp z))) (fun z => k0 (fun z2 => z (hb.mpr (h2.mpr z2))))
theorem lk_adm {a p s : Nat} (hP : ic_P nt ba po pc pb bd bo) (hS : ic_S sp sg sn) (ha : a < 2) (hp : p < 11) (hs : s < 11) :
    ∃ r : Int32, (∀ post : Int32 → Prop, post r → wpX_reached post (wn, fl, nt, ro, ph, ck, ch, na, ns, ba, ow, se, tp, po, pc, pb, sp, sg, st, rk, cx, ca, mr, fm, mb, od, os, qu, qs, qd, rg, ft) (nI a) (nI p) (nI s)) ∧ (∀ post : Int32 → Prop, post r → wpY_admits post (fl, wn, nt, ro, ph, ck, ch, ns, na, pa, ow, se, bd, bo, st, cx, ca, mr, sk, ba, sn) (nI a) (nI p) (nI s)) ∧
      (r = -1 ∨ ∃ b : Nat, b < 3 ∧ r = nI b ∧ ba (a * 3 + b) ≠ 0 ∧ (p < 3 → ba (a * 3 + p) ≠ 0) ∧ (3 ≤ p → bd (a * 11 + p) ≠ 0)) := by
  have hoff : ∀ post : Int32 → Prop, (ic_nr sn (a * 11 + p) s 12 → wY_admits_57 post (nI a) (nI p) (nI s) (nI (a * 11 + p)) (nt a - 1 - (nt a - 1) / 3 * 3) fl wn nt ro ph ck ch ns na pa ow se bd bo st cx ca mr sk ba sn 1 1 (nI 12)) →
      (¬ ic_nr sn (a * 11 + p) s 12 → wY_admits_57 post (nI a) (nI p) (nI s) (nI (a * 11 + p)) (nt a - 1 - (nt a - 1) / 3 * 3) fl wn nt ro ph ck ch ns na pa ow se bd bo st cx ca mr sk ba sn 1 0 (nI 12)) → wpY_admits post (fl, wn, nt, ro, ph, ck, ch, ns, na, pa, ow, se, bd, bo, st, cx, ca, mr, sk, ba, sn) (nI a) (nI p) (nI s) := by
    intro post k1 k0
    have i1 : ¬ ic_out (nI a) 1 := by
      rintro (z | z)
      · exact nI_pos (by omega) z
      · exact z (nI_le (b := 1) (by omega) (by omega))
    have i2 : ¬ ic_out (nI p) 10 := by
      rintro (z | z)
      · exact nI_pos (by omega) z
      · exact z (nI_le (b := 10) (by omega) (by omega))
    have i3 : ¬ ic_out (nI s) 10 := by
      rintro (z | z)
      · exact nI_pos (by omega) z
      · exact z (nI_le (b := 10) (by omega) (by omega))
    unfold wpY_admits
    refine yw_out0 i1 (br_t rfl (yw_out0 i2 (br_t rfl (yw_out0 i3 (br_t rfl ?_)))))
    simp (disch := omega) only [forall_eq, true_and, and_true, true_implies, false_implies, implies_true, not_true_eq_false, not_false_eq_true, nI_clamp, vp_in_nI, nI_add, ic_m3, ic_m4, ic_m5, ic_m6, ic_m8, ic_m11, ic_m12, ic_m24, ic_m33, ic_p1, ic_p2, ic_p3, ic_p4, ic_p5, ic_p6, ic_p7, ic_p8, ic_q3, ic_d11, ic_r11, ic_d22, ic_n11, ic_n22, ic_n3, ic_n2, ic_oneI]
    exact ⟨13, yw_admL ha hp hs post k1 k0 12 0 0 (by omega) (Or.inl ⟨rfl, fun z => by obtain ⟨d, z1, _⟩ := z; omega⟩)⟩
  have exitW : ∀ (post : Int32 → Prop) (cur x5 : Int32), (((3 ≤ nI p → (vp_in (nI (a * 11 + p)) 22 ∧ ((((bd (nI (a * 11 + p)).toNatClampNeg) ≤ 0 → (post (-1))) ∧ (¬ (bd (nI (a * 11 + p)).toNatClampNeg) ≤ 0 → (((x5 = 0 → (wY_admits_196 post (nI (a * 11 + p)) fl wn nt ro ph ck ch ns na pa ow se bd bo st cx ca mr sk ba sn)) ∧ (¬ x5 = 0 → (((x5 = 1 → (((cur = 0 → (wY_admits_175 post (nI s) (nI (a * 11 + p)) x5 fl wn nt ro ph ck ch ns na pa ow se bd bo st cx ca mr sk ba sn)) ∧ (¬ cur = 0 → (wY_admits_196 post (nI (a * 11 + p)) fl wn nt ro ph ck ch ns na pa ow se bd bo st cx ca mr sk ba sn))))) ∧ (¬ x5 = 1 → (wY_admits_175 post (nI s) (nI (a * 11 + p)) x5 fl wn nt ro ph ck ch ns na pa ow se bd bo st cx ca mr sk ba sn)))))))))))) ∧ (¬ 3 ≤ nI p → (vp_in ((nI a * 3) + nI p) 6 ∧ ((((ba ((nI a * 3) + nI p).toNatClampNeg) = 0 → (post (-1))) ∧ (¬ (ba ((nI a * 3) + nI p).toNatClampNeg) = 0 → (((nI p = 2 → (((cur = 0 → (post (-1))) ∧ (¬ cur = 0 → (post (nI p)))))) ∧ (¬ nI p = 2 → (vp_in (nI a) 2 ∧ ((((nt (nI a).toNatClampNeg) = 0 → (post (nI p))) ∧ (¬ (nt (nI a).toNatClampNeg) = 0 → (post (-1)))))))))))))))) → wY_admits_57 post (nI a) (nI p) (nI s) (nI (a * 11 + p)) x5 fl wn nt ro ph ck ch ns na pa ow se bd bo st cx ca mr sk ba sn 1 cur (nI 12) := by
    intro post cur x5 h
    rw [wY_admits_57]
    exact br_t (Int32.le_refl _) h
  by_cases h3 : 3 ≤ p
  · have h3' : (3 : Int32) ≤ nI p := nI_le (a := 3) h3 (by omega)
    have h3'' : ¬ nI p < 3 := nI_nlt (b := 3) h3 (by omega)
    obtain ⟨n, hn, hpc, hP1⟩ := hP a ha
    have ep : nI p - 3 = nI (p - 3) := pk_sub (b := 3) h3
    by_cases hb : p < 3 + n
    · obtain ⟨b, d, b1, b2, b3, b4, b5, b6, b7⟩ := hP1.1 p h3 hb
      have hlt : nI (p - 3) < nI n := nI_lt (by omega) (by omega)
      have hpos : ¬ bd (a * 11 + p) ≤ 0 := by rw [b4]; exact nI_nle (by omega) (by omega)
      have hbd0 : bd (a * 11 + p) ≠ 0 := by rw [b4]; exact nI_ne0 (by omega) (by omega)
      have e196 : bd (a * 11 + p) - 1 = nI b := by rw [b4]; exact nI_pred b
      have y196 : ∀ post : Int32 → Prop, post (nI b) → wY_admits_196 post (nI (a * 11 + p)) fl wn nt ro ph ck ch ns na pa ow se bd bo st cx ca mr sk ba sn := by
        intro post h
        unfold wY_admits_196
        simp (disch := omega) only [forall_eq, true_and, and_true, true_implies, false_implies, implies_true, not_true_eq_false, not_false_eq_true, nI_clamp, vp_in_nI, nI_add, ic_m3, ic_m4, ic_m5, ic_m6, ic_m8, ic_m11, ic_m12, ic_m24, ic_m33, ic_p1, ic_p2, ic_p3, ic_p4, ic_p5, ic_p6, ic_p7, ic_p8, ic_q3, ic_d11, ic_r11, ic_d22, ic_n11, ic_n22, ic_n3, ic_n2, ic_oneI, e196]
        exact h
      have x89 : ∀ post : Int32 → Prop, post (nI b) → wX_throughPort_89 post (nI (a * 11 + p)) 1 wn fl nt ro ph ck ch na ns ba ow se tp po pc pb sp sg st rk cx ca mr fm mb od os qu qs qd rg ft := by
        intro post h
        unfold wX_throughPort_89
        simp (disch := omega) only [forall_eq, true_and, and_true, true_implies, false_implies, implies_true, not_true_eq_false, not_false_eq_true, nI_clamp, vp_in_nI, nI_add, ic_m3, ic_m4, ic_m5, ic_m6, ic_m8, ic_m11, ic_m12, ic_m24, ic_m33, ic_p1, ic_p2, ic_p3, ic_p4, ic_p5, ic_p6, ic_p7, ic_p8, ic_q3, ic_d11, ic_r11, ic_d22, ic_n11, ic_n22, ic_n3, ic_n2, ic_oneI, b3]
        exact br_f (by decide) h
      have xin : ∀ post : Int32 → Prop, (nt a - 1 - (nt a - 1) / 3 * 3 = 0 → wX_throughPort_44 post (nI a) (nI p) (nI s) (nI (a * 11 + p)) (nt a - 1 - (nt a - 1) / 3 * 3) 1 wn fl nt ro ph ck ch na ns ba ow se tp po pc pb sp sg st rk cx ca mr fm mb od os qu qs qd rg ft) → (¬ nt a - 1 - (nt a - 1) / 3 * 3 = 0 → wX_throughPort_44 post (nI a) (nI p) (nI s) (nI (a * 11 + p)) (nt a - 1 - (nt a - 1) / 3 * 3) 0 wn fl nt ro ph ck ch na ns ba ow se tp po pc pb sp sg st rk cx ca mr fm mb od os qu qs qd rg ft) → wpX_reached post (wn, fl, nt, ro, ph, ck, ch, na, ns, ba, ow, se, tp, po, pc, pb, sp, sg, st, rk, cx, ca, mr, fm, mb, od, os, qu, qs, qd, rg, ft) (nI a) (nI p) (nI s) := by
        intro post k1 k0
        unfold wpX_reached
        refine br_f h3'' ?_
        unfold wpX_throughPort
        simp (disch := omega) only [forall_eq, true_and, and_true, true_implies, false_implies, implies_true, not_true_eq_false, not_false_eq_true, nI_clamp, vp_in_nI, nI_add, ic_m3, ic_m4, ic_m5, ic_m6, ic_m8, ic_m11, ic_m12, ic_m24, ic_m33, ic_p1, ic_p2, ic_p3, ic_p4, ic_p5, ic_p6, ic_p7, ic_p8, ic_q3, ic_d11, ic_r11, ic_d22, ic_n11, ic_n22, ic_n3, ic_n2, ic_oneI, ep, hpc]
        exact br_t hlt ⟨k1, k0⟩
      have ok : ∃ b' : Nat, b' < 3 ∧ nI b = nI b' ∧ ba (a * 3 + b') ≠ 0 ∧ (p < 3 → ba (a * 3 + p) ≠ 0) ∧ (3 ≤ p → bd (a * 11 + p) ≠ 0) := ⟨b, by omega, rfl, b5, fun h => by omega, fun _ => hbd0⟩
      generalize hf : nt a - 1 - (nt a - 1) / 3 * 3 = f at *
      by_cases f0 : f = 0
      · have f1 : ¬ f = 1 := by rw [f0]; decide
        have f2 : ¬ f = 2 := by rw [f0]; decide
        refine ⟨nI b, fun post h => xin post (fun _ => ?_) (fun z => absurd f0 z), fun post h => ?_, Or.inr ok⟩
        · exact br_f f1 (br_f f2 (x89 post h))
        · have yy : ∀ cur : Int32, wY_admits_57 post (nI a) (nI p) (nI s) (nI (a * 11 + p)) f fl wn nt ro ph ck ch ns na pa ow se bd bo st cx ca mr sk ba sn 1 cur (nI 12) := by
            intro cur
            refine exitW post cur f (br_t h3' ?_)
            simp (disch := omega) only [forall_eq, true_and, and_true, true_implies, false_implies, implies_true, not_true_eq_false, not_false_eq_true, nI_clamp, vp_in_nI, nI_add, ic_m3, ic_m4, ic_m5, ic_m6, ic_m8, ic_m11, ic_m12, ic_m24, ic_m33, ic_p1, ic_p2, ic_p3, ic_p4, ic_p5, ic_p6, ic_p7, ic_p8, ic_q3, ic_d11, ic_r11, ic_d22, ic_n11, ic_n22, ic_n3, ic_n2, ic_oneI]
            exact br_f hpos (br_t f0 (y196 post h))
          exact hoff post (fun _ => yy 1) (fun _ => yy 0)
      · by_cases f1 : f = 1
        · have f2 : ¬ f = 2 := by rw [f1]; decide
          by_cases hnr : ic_nr sn (a * 11 + p) s 12
          · refine ⟨nI b, fun post h => xin post (fun z => absurd z f0) (fun _ => ?_), fun post h => ?_, Or.inr ok⟩
            · exact br_t f1 (xw_hs ha hp hs hS (fun _ => br_f f2 (x89 post h)) (fun z => absurd hnr z))
            · refine hoff post (fun _ => exitW post 1 f (br_t h3' ?_)) (fun z => absurd hnr z)
              simp (disch := omega) only [forall_eq, true_and, and_true, true_implies, false_implies, implies_true, not_true_eq_false, not_false_eq_true, nI_clamp, vp_in_nI, nI_add, ic_m3, ic_m4, ic_m5, ic_m6, ic_m8, ic_m11, ic_m12, ic_m24, ic_m33, ic_p1, ic_p2, ic_p3, ic_p4, ic_p5, ic_p6, ic_p7, ic_p8, ic_q3, ic_d11, ic_r11, ic_d22, ic_n11, ic_n22, ic_n3, ic_n2, ic_oneI]
              exact br_f hpos (br_f f0 (br_t f1 (br_f (by decide) (y196 post h))))
          · refine ⟨-1, fun post h => xin post (fun z => absurd z f0) (fun _ => ?_), fun post h => ?_, Or.inl rfl⟩
            · exact br_t f1 (xw_hs ha hp hs hS (fun z => absurd z hnr) (fun _ => br_f f2 (br_t rfl h)))
            · refine hoff post (fun z => absurd z hnr) (fun _ => exitW post 0 f (br_t h3' ?_))
              simp (disch := omega) only [forall_eq, true_and, and_true, true_implies, false_implies, implies_true, not_true_eq_false, not_false_eq_true, nI_clamp, vp_in_nI, nI_add, ic_m3, ic_m4, ic_m5, ic_m6, ic_m8, ic_m11, ic_m12, ic_m24, ic_m33, ic_p1, ic_p2, ic_p3, ic_p4, ic_p5, ic_p6, ic_p7, ic_p8, ic_q3, ic_d11, ic_r11, ic_d22, ic_n11, ic_n22, ic_n3, ic_n2, ic_oneI]
              exact br_f hpos (br_f f0 (br_t f1 (br_f f2 h)))
        · by_cases f2 : f = 2
          · have ht := ic_btest (sp (a * 11 + p)) (k := s) (by omega)
            have hs1 := (hS (a * 11 + p) (by omega)).1 s (by omega)
            by_cases hsn : sn ((a * 11 + p) * 12 + s) = 0
            · have hbit : ¬ ((sp (a * 11 + p) >>> (nI s &&& 31)) &&& 1) = 1 := fun z => (hs1.mp (ht.mp z)) hsn
              refine ⟨-1, fun post h => xin post (fun z => absurd z f0) (fun _ => ?_), fun post h => ?_, Or.inl rfl⟩
              · refine br_f f1 (br_t f2 ?_)
                simp (disch := omega) only [forall_eq, true_and, and_true, true_implies, false_implies, implies_true, not_true_eq_false, not_false_eq_true, nI_clamp, vp_in_nI, nI_add, ic_m3, ic_m4, ic_m5, ic_m6, ic_m8, ic_m11, ic_m12, ic_m24, ic_m33, ic_p1, ic_p2, ic_p3, ic_p4, ic_p5, ic_p6, ic_p7, ic_p8, ic_q3, ic_d11, ic_r11, ic_d22, ic_n11, ic_n22, ic_n3, ic_n2, ic_oneI]
                exact br_f hbit (br_t rfl h)
              · have yy : ∀ cur : Int32, wY_admits_57 post (nI a) (nI p) (nI s) (nI (a * 11 + p)) f fl wn nt ro ph ck ch ns na pa ow se bd bo st cx ca mr sk ba sn 1 cur (nI 12) := by
                  intro cur
                  refine exitW post cur f (br_t h3' ?_)
                  simp (disch := omega) only [forall_eq, true_and, and_true, true_implies, false_implies, implies_true, not_true_eq_false, not_false_eq_true, nI_clamp, vp_in_nI, nI_add, ic_m3, ic_m4, ic_m5, ic_m6, ic_m8, ic_m11, ic_m12, ic_m24, ic_m33, ic_p1, ic_p2, ic_p3, ic_p4, ic_p5, ic_p6, ic_p7, ic_p8, ic_q3, ic_d11, ic_r11, ic_d22, ic_n11, ic_n22, ic_n3, ic_n2, ic_oneI]
                  refine br_f hpos (br_f f0 (br_f f1 (br_t f2 ?_)))
                  simp (disch := omega) only [forall_eq, true_and, and_true, true_implies, false_implies, implies_true, not_true_eq_false, not_false_eq_true, nI_clamp, vp_in_nI, nI_add, ic_m3, ic_m4, ic_m5, ic_m6, ic_m8, ic_m11, ic_m12, ic_m24, ic_m33, ic_p1, ic_p2, ic_p3, ic_p4, ic_p5, ic_p6, ic_p7, ic_p8, ic_q3, ic_d11, ic_r11, ic_d22, ic_n11, ic_n22, ic_n3, ic_n2, ic_oneI]
                  exact br_t hsn h
                exact hoff post (fun _ => yy 1) (fun _ => yy 0)
            · have hbit : ((sp (a * 11 + p) >>> (nI s &&& 31)) &&& 1) = 1 := ht.mpr (hs1.mpr hsn)
              refine ⟨nI b, fun post h => xin post (fun z => absurd z f0) (fun _ => ?_), fun post h => ?_, Or.inr ok⟩
              · refine br_f f1 (br_t f2 ?_)
                simp (disch := omega) only [forall_eq, true_and, and_true, true_implies, false_implies, implies_true, not_true_eq_false, not_false_eq_true, nI_clamp, vp_in_nI, nI_add, ic_m3, ic_m4, ic_m5, ic_m6, ic_m8, ic_m11, ic_m12, ic_m24, ic_m33, ic_p1, ic_p2, ic_p3, ic_p4, ic_p5, ic_p6, ic_p7, ic_p8, ic_q3, ic_d11, ic_r11, ic_d22, ic_n11, ic_n22, ic_n3, ic_n2, ic_oneI]
                exact br_t hbit (x89 post h)
              · have yy : ∀ cur : Int32, wY_admits_57 post (nI a) (nI p) (nI s) (nI (a * 11 + p)) f fl wn nt ro ph ck ch ns na pa ow se bd bo st cx ca mr sk ba sn 1 cur (nI 12) := by
                  intro cur
                  refine exitW post cur f (br_t h3' ?_)
                  simp (disch := omega) only [forall_eq, true_and, and_true, true_implies, false_implies, implies_true, not_true_eq_false, not_false_eq_true, nI_clamp, vp_in_nI, nI_add, ic_m3, ic_m4, ic_m5, ic_m6, ic_m8, ic_m11, ic_m12, ic_m24, ic_m33, ic_p1, ic_p2, ic_p3, ic_p4, ic_p5, ic_p6, ic_p7, ic_p8, ic_q3, ic_d11, ic_r11, ic_d22, ic_n11, ic_n22, ic_n3, ic_n2, ic_oneI]
                  refine br_f hpos (br_f f0 (br_f f1 (br_t f2 ?_)))
                  simp (disch := omega) only [forall_eq, true_and, and_true, true_implies, false_implies, implies_true, not_true_eq_false, not_false_eq_true, nI_clamp, vp_in_nI, nI_add, ic_m3, ic_m4, ic_m5, ic_m6, ic_m8, ic_m11, ic_m12, ic_m24, ic_m33, ic_p1, ic_p2, ic_p3, ic_p4, ic_p5, ic_p6, ic_p7, ic_p8, ic_q3, ic_d11, ic_r11, ic_d22, ic_n11, ic_n22, ic_n3, ic_n2, ic_oneI]
                  exact br_f hsn (y196 post h)
                exact hoff post (fun _ => yy 1) (fun _ => yy 0)
          · refine ⟨-1, fun post h => xin post (fun z => absurd z f0) (fun _ => ?_), fun post h => ?_, Or.inl rfl⟩
            · exact br_f f1 (br_f f2 (br_t rfl h))
            · have yy : ∀ cur : Int32, wY_admits_57 post (nI a) (nI p) (nI s) (nI (a * 11 + p)) f fl wn nt ro ph ck ch ns na pa ow se bd bo st cx ca mr sk ba sn 1 cur (nI 12) := by
                intro cur
                refine exitW post cur f (br_t h3' ?_)
                simp (disch := omega) only [forall_eq, true_and, and_true, true_implies, false_implies, implies_true, not_true_eq_false, not_false_eq_true, nI_clamp, vp_in_nI, nI_add, ic_m3, ic_m4, ic_m5, ic_m6, ic_m8, ic_m11, ic_m12, ic_m24, ic_m33, ic_p1, ic_p2, ic_p3, ic_p4, ic_p5, ic_p6, ic_p7, ic_p8, ic_q3, ic_d11, ic_r11, ic_d22, ic_n11, ic_n22, ic_n3, ic_n2, ic_oneI]
                exact br_f hpos (br_f f0 (br_f f1 (br_f f2 h)))
              exact hoff post (fun _ => yy 1) (fun _ => yy 0)
    · have hz := hP1.2.1 p (by omega) hp
      refine ⟨-1, fun post h => ?_, fun post h => ?_, Or.inl rfl⟩
      · unfold wpX_reached
        refine br_f h3'' ?_
        unfold wpX_throughPort
        simp (disch := omega) only [forall_eq, true_and, and_true, true_implies, false_implies, implies_true, not_true_eq_false, not_false_eq_true, nI_clamp, vp_in_nI, nI_add, ic_m3, ic_m4, ic_m5, ic_m6, ic_m8, ic_m11, ic_m12, ic_m24, ic_m33, ic_p1, ic_p2, ic_p3, ic_p4, ic_p5, ic_p6, ic_p7, ic_p8, ic_q3, ic_d11, ic_r11, ic_d22, ic_n11, ic_n22, ic_n3, ic_n2, ic_oneI, ep, hpc]
        exact br_f (nI_nlt (by omega) (by omega)) h
      · have yy : ∀ cur : Int32, wY_admits_57 post (nI a) (nI p) (nI s) (nI (a * 11 + p)) (nt a - 1 - (nt a - 1) / 3 * 3) fl wn nt ro ph ck ch ns na pa ow se bd bo st cx ca mr sk ba sn 1 cur (nI 12) := by
          intro cur
          refine exitW post cur _ (br_t h3' ?_)
          simp (disch := omega) only [forall_eq, true_and, and_true, true_implies, false_implies, implies_true, not_true_eq_false, not_false_eq_true, nI_clamp, vp_in_nI, nI_add, ic_m3, ic_m4, ic_m5, ic_m6, ic_m8, ic_m11, ic_m12, ic_m24, ic_m33, ic_p1, ic_p2, ic_p3, ic_p4, ic_p5, ic_p6, ic_p7, ic_p8, ic_q3, ic_d11, ic_r11, ic_d22, ic_n11, ic_n22, ic_n3, ic_n2, ic_oneI]
          exact br_t (by rw [hz]; exact Int32.le_refl _) h
        exact hoff post (fun _ => yy 1) (fun _ => yy 0)
  · have h3' : ¬ (3 : Int32) ≤ nI p := nI_ge (b := 3) (by omega) (by omega)
    have h3'' : nI p < 3 := nI_lt (b := 3) (by omega) (by omega)
    by_cases hb0 : ba (a * 3 + p) = 0
    · refine ⟨-1, fun post h => ?_, fun post h => ?_, Or.inl rfl⟩
      · have z42 : ∀ z : Int32, wX_reached_42 post (nI a) (nI p) z wn fl nt ro ph ck ch na ns ba ow se tp po pc pb sp sg st rk cx ca mr fm mb od os qu qs qd rg ft := by
          intro z
          unfold wX_reached_42
          simp (disch := omega) only [forall_eq, true_and, and_true, true_implies, false_implies, implies_true, not_true_eq_false, not_false_eq_true, nI_clamp, vp_in_nI, nI_add, ic_m3, ic_m4, ic_m5, ic_m6, ic_m8, ic_m11, ic_m12, ic_m24, ic_m33, ic_p1, ic_p2, ic_p3, ic_p4, ic_p5, ic_p6, ic_p7, ic_p8, ic_q3, ic_d11, ic_r11, ic_d22, ic_n11, ic_n22, ic_n3, ic_n2, ic_oneI]
          exact br_c (fun _ => h) (fun _ => br_t hb0 h)
        unfold wpX_reached
        refine br_t h3'' (br_c (fun z => xw_hs (p := 2) ha (by omega) hs hS (fun _ => z42 1) (fun _ => z42 0)) (fun z => ?_))
        simp (disch := omega) only [forall_eq, true_and, and_true, true_implies, false_implies, implies_true, not_true_eq_false, not_false_eq_true, nI_clamp, vp_in_nI, nI_add, ic_m3, ic_m4, ic_m5, ic_m6, ic_m8, ic_m11, ic_m12, ic_m24, ic_m33, ic_p1, ic_p2, ic_p3, ic_p4, ic_p5, ic_p6, ic_p7, ic_p8, ic_q3, ic_d11, ic_r11, ic_d22, ic_n11, ic_n22, ic_n3, ic_n2, ic_oneI]
        exact br_c (fun _ => z42 1) (fun _ => z42 0)
      · have yy : ∀ cur : Int32, wY_admits_57 post (nI a) (nI p) (nI s) (nI (a * 11 + p)) (nt a - 1 - (nt a - 1) / 3 * 3) fl wn nt ro ph ck ch ns na pa ow se bd bo st cx ca mr sk ba sn 1 cur (nI 12) := by
          intro cur
          refine exitW post cur _ (br_f h3' ?_)
          simp (disch := omega) only [forall_eq, true_and, and_true, true_implies, false_implies, implies_true, not_true_eq_false, not_false_eq_true, nI_clamp, vp_in_nI, nI_add, ic_m3, ic_m4, ic_m5, ic_m6, ic_m8, ic_m11, ic_m12, ic_m24, ic_m33, ic_p1, ic_p2, ic_p3, ic_p4, ic_p5, ic_p6, ic_p7, ic_p8, ic_q3, ic_d11, ic_r11, ic_d22, ic_n11, ic_n22, ic_n3, ic_n2, ic_oneI]
          exact br_t hb0 h
        exact hoff post (fun _ => yy 1) (fun _ => yy 0)
    · have ok : ∃ b' : Nat, b' < 3 ∧ nI p = nI b' ∧ ba (a * 3 + b') ≠ 0 ∧ (p < 3 → ba (a * 3 + p) ≠ 0) ∧ (3 ≤ p → bd (a * 11 + p) ≠ 0) := ⟨p, by omega, rfl, hb0, fun _ => hb0, fun h => by omega⟩
      have x421 : ∀ post : Int32 → Prop, post (nI p) → wX_reached_42 post (nI a) (nI p) 1 wn fl nt ro ph ck ch na ns ba ow se tp po pc pb sp sg st rk cx ca mr fm mb od os qu qs qd rg ft := by
        intro post h
        unfold wX_reached_42
        simp (disch := omega) only [forall_eq, true_and, and_true, true_implies, false_implies, implies_true, not_true_eq_false, not_false_eq_true, nI_clamp, vp_in_nI, nI_add, ic_m3, ic_m4, ic_m5, ic_m6, ic_m8, ic_m11, ic_m12, ic_m24, ic_m33, ic_p1, ic_p2, ic_p3, ic_p4, ic_p5, ic_p6, ic_p7, ic_p8, ic_q3, ic_d11, ic_r11, ic_d22, ic_n11, ic_n22, ic_n3, ic_n2, ic_oneI]
        exact br_f (by decide) (br_f hb0 h)
      have x420 : ∀ post : Int32 → Prop, post (-1) → wX_reached_42 post (nI a) (nI p) 0 wn fl nt ro ph ck ch na ns ba ow se tp po pc pb sp sg st rk cx ca mr fm mb od os qu qs qd rg ft := fun post h => br_t rfl h
      by_cases h2 : p = 2
      · have h2' : nI p = 2 := by rw [h2]; rfl
        by_cases hnr : ic_nr sn (a * 11 + p) s 12
        · refine ⟨nI p, fun post h => ?_, fun post h => ?_, Or.inr ok⟩
          · unfold wpX_reached
            refine br_t h3'' (br_t h2' (xw_hs (p := 2) ha (by omega) hs hS (fun _ => x421 post h) (fun z => absurd (by rw [h2] at hnr; exact hnr) z)))
          · refine hoff post (fun _ => exitW post 1 _ (br_f h3' ?_)) (fun z => absurd hnr z)
            simp (disch := omega) only [forall_eq, true_and, and_true, true_implies, false_implies, implies_true, not_true_eq_false, not_false_eq_true, nI_clamp, vp_in_nI, nI_add, ic_m3, ic_m4, ic_m5, ic_m6, ic_m8, ic_m11, ic_m12, ic_m24, ic_m33, ic_p1, ic_p2, ic_p3, ic_p4, ic_p5, ic_p6, ic_p7, ic_p8, ic_q3, ic_d11, ic_r11, ic_d22, ic_n11, ic_n22, ic_n3, ic_n2, ic_oneI]
            exact br_f hb0 (br_t h2' (br_f (by decide) h))
        · refine ⟨-1, fun post h => ?_, fun post h => ?_, Or.inl rfl⟩
          · unfold wpX_reached
            refine br_t h3'' (br_t h2' (xw_hs (p := 2) ha (by omega) hs hS (fun z => absurd z (by rw [h2] at hnr; exact hnr)) (fun _ => x420 post h)))
          · refine hoff post (fun z => absurd z hnr) (fun _ => exitW post 0 _ (br_f h3' ?_))
            simp (disch := omega) only [forall_eq, true_and, and_true, true_implies, false_implies, implies_true, not_true_eq_false, not_false_eq_true, nI_clamp, vp_in_nI, nI_add, ic_m3, ic_m4, ic_m5, ic_m6, ic_m8, ic_m11, ic_m12, ic_m24, ic_m33, ic_p1, ic_p2, ic_p3, ic_p4, ic_p5, ic_p6, ic_p7, ic_p8, ic_q3, ic_d11, ic_r11, ic_d22, ic_n11, ic_n22, ic_n3, ic_n2, ic_oneI]
            exact br_f hb0 (br_t h2' h)
      · have h2' : ¬ nI p = 2 := fun z => h2 (ic_eqn (b := 2) (by omega) (by omega) z)
        by_cases h0 : nt a = 0
        · refine ⟨nI p, fun post h => ?_, fun post h => ?_, Or.inr ok⟩
          · unfold wpX_reached
            refine br_t h3'' (br_f h2' ?_)
            simp (disch := omega) only [forall_eq, true_and, and_true, true_implies, false_implies, implies_true, not_true_eq_false, not_false_eq_true, nI_clamp, vp_in_nI, nI_add, ic_m3, ic_m4, ic_m5, ic_m6, ic_m8, ic_m11, ic_m12, ic_m24, ic_m33, ic_p1, ic_p2, ic_p3, ic_p4, ic_p5, ic_p6, ic_p7, ic_p8, ic_q3, ic_d11, ic_r11, ic_d22, ic_n11, ic_n22, ic_n3, ic_n2, ic_oneI]
            exact br_t h0 (x421 post h)
          · have yy : ∀ cur : Int32, wY_admits_57 post (nI a) (nI p) (nI s) (nI (a * 11 + p)) (nt a - 1 - (nt a - 1) / 3 * 3) fl wn nt ro ph ck ch ns na pa ow se bd bo st cx ca mr sk ba sn 1 cur (nI 12) := by
              intro cur
              refine exitW post cur _ (br_f h3' ?_)
              simp (disch := omega) only [forall_eq, true_and, and_true, true_implies, false_implies, implies_true, not_true_eq_false, not_false_eq_true, nI_clamp, vp_in_nI, nI_add, ic_m3, ic_m4, ic_m5, ic_m6, ic_m8, ic_m11, ic_m12, ic_m24, ic_m33, ic_p1, ic_p2, ic_p3, ic_p4, ic_p5, ic_p6, ic_p7, ic_p8, ic_q3, ic_d11, ic_r11, ic_d22, ic_n11, ic_n22, ic_n3, ic_n2, ic_oneI]
              exact br_f hb0 (br_f h2' (br_t h0 h))
            exact hoff post (fun _ => yy 1) (fun _ => yy 0)
        · refine ⟨-1, fun post h => ?_, fun post h => ?_, Or.inl rfl⟩
          · unfold wpX_reached
            refine br_t h3'' (br_f h2' ?_)
            simp (disch := omega) only [forall_eq, true_and, and_true, true_implies, false_implies, implies_true, not_true_eq_false, not_false_eq_true, nI_clamp, vp_in_nI, nI_add, ic_m3, ic_m4, ic_m5, ic_m6, ic_m8, ic_m11, ic_m12, ic_m24, ic_m33, ic_p1, ic_p2, ic_p3, ic_p4, ic_p5, ic_p6, ic_p7, ic_p8, ic_q3, ic_d11, ic_r11, ic_d22, ic_n11, ic_n22, ic_n3, ic_n2, ic_oneI]
            exact br_f h0 (x420 post h)
          · have yy : ∀ cur : Int32, wY_admits_57 post (nI a) (nI p) (nI s) (nI (a * 11 + p)) (nt a - 1 - (nt a - 1) / 3 * 3) fl wn nt ro ph ck ch ns na pa ow se bd bo st cx ca mr sk ba sn 1 cur (nI 12) := by
              intro cur
              refine exitW post cur _ (br_f h3' ?_)
              simp (disch := omega) only [forall_eq, true_and, and_true, true_implies, false_implies, implies_true, not_true_eq_false, not_false_eq_true, nI_clamp, vp_in_nI, nI_add, ic_m3, ic_m4, ic_m5, ic_m6, ic_m8, ic_m11, ic_m12, ic_m24, ic_m33, ic_p1, ic_p2, ic_p3, ic_p4, ic_p5, ic_p6, ic_p7, ic_p8, ic_q3, ic_d11, ic_r11, ic_d22, ic_n11, ic_n22, ic_n3, ic_n2, ic_oneI]
              exact br_f hb0 (br_f h2' (br_f h0 h))
            exact hoff post (fun _ => yy 1) (fun _ => yy 0)
end
end
section
/-! the methods that only read -/
def lk_V (A B : (Int32 → Prop) → Prop) : Prop := ∃ r : Int32, (∀ p : Int32 → Prop, p r → A p) ∧ (∀ p : Int32 → Prop, p r → B p)
theorem lk_topV {A B : (Int32 → Prop) → Prop} {R : Prop} (h : lk_V A B) (hR : R) : A (fun r => B (fun r' => r' = r ∧ R)) := by
  obtain ⟨r, h1, h2⟩ := h
  exact h1 _ (h2 _ ⟨rfl, hR⟩)
theorem ic_nout {x n : Nat} {y : Int32} (hy : y = nI n) (h : x ≤ n) (hn : n < 2 ^ 31) : ¬ ic_out (nI x) y := by
  rintro (z | z)
  · exact nI_pos (by omega) z
  · exact z (by rw [hy]; exact nI_le h hn)
theorem ic_slot {x : Int32} {f : Nat} (hf : f ≤ 100) (h : ¬ ic_out x (nI f - 1)) : ∃ j : Nat, j < f ∧ x = nI j := by
  have h0 : ¬ x < 0 := fun z => h (Or.inl z)
  have h1 : x ≤ nI f - 1 := Decidable.byContradiction fun z => h (Or.inr z)
  obtain ⟨j, hj, rfl⟩ := nI_of h0
  refine ⟨j, ?_, rfl⟩
  rcases Nat.eq_zero_or_pos f with e | e
  · subst e
    have h2 : nI 0 - 1 < (0 : Int32) := by decide
    exact absurd (Int32.lt_of_le_of_lt h1 h2) h0
  · rw [show nI f - 1 = nI (f - 1) from pk_sub (b := 1) e, nI_leI hj (by omega)] at h1
    omega
section
variable {wn fl : Int32} {nt ro ph ck ch na ns ba ow se tp po pc pb sp sg st rk cx ca mr : Nat → Int32} {fm mb : Nat → Int64} {od os qu qs : Nat → Int32} {qd : Nat → Int64} {rg ft pa bd bo sk sn : Nat → Int32}
theorem rd_candidate {k : Nat} (hI : ic_I k ic_E0 wn fl nt ro ph ck ch na ns ba ow se tp po pc pb sp sg st rk cx ca mr fm mb od os qu qs qd rg ft pa bd bo sk sn) (v1 v2 : Int32) : lk_V (fun p => wpX_candidate p (wn, fl, nt, ro, ph, ck, ch, na, ns, ba, ow, se, tp, po, pc, pb, sp, sg, st, rk, cx, ca, mr, fm, mb, od, os, qu, qs, qd, rg, ft) v1 v2) (fun p => wpY_candidate p (fl, wn, nt, ro, ph, ck, ch, ns, na, pa, ow, se, bd, bo, st, cx, ca, mr, sk, ba, sn) v1 v2) := by
  by_cases h1 : ic_out v1 1
  · refine ⟨-1, fun p hp => ?_, fun p hp => ?_⟩
    · unfold wpX_candidate; refine xw_out1 h1 ?_; exact br_f (by decide) hp
    · unfold wpY_candidate; refine yw_out1 h1 ?_; exact br_f (by decide) hp
  · by_cases h2 : ic_out v2 10
    · refine ⟨-1, fun p hp => ?_, fun p hp => ?_⟩
      · unfold wpX_candidate; refine xw_out0 h1 (br_t rfl ?_); refine xw_out1 h2 ?_; exact br_f (by decide) hp
      · unfold wpY_candidate; refine yw_out0 h1 (br_t rfl ?_); refine yw_out1 h2 ?_; exact br_f (by decide) hp
    · obtain ⟨a, ha, rfl⟩ := ic_in (n := 1) (by decide) h1
      obtain ⟨q, hq, rfl⟩ := ic_in (n := 10) (by decide) h2
      refine ⟨ow (a * 11 + q), fun p hp => ?_, fun p hp => ?_⟩
      · unfold wpX_candidate; refine xw_out0 h1 (br_t rfl ?_); refine xw_out0 h2 (br_t rfl ?_)
        simp (disch := omega) only [forall_eq, true_and, and_true, true_implies, false_implies, implies_true, not_true_eq_false, not_false_eq_true, nI_clamp, vp_in_nI, nI_add, ic_m3, ic_m4, ic_m5, ic_m6, ic_m8, ic_m11, ic_m12, ic_m24, ic_m33, ic_p1, ic_p2, ic_p3, ic_p4, ic_p5, ic_p6, ic_p7, ic_p8, ic_q3, ic_d11, ic_r11, ic_d22, ic_n11, ic_n22, ic_n3, ic_n2, ic_oneI]; exact hp
      · unfold wpY_candidate; refine yw_out0 h1 (br_t rfl ?_); refine yw_out0 h2 (br_t rfl ?_)
        simp (disch := omega) only [forall_eq, true_and, and_true, true_implies, false_implies, implies_true, not_true_eq_false, not_false_eq_true, nI_clamp, vp_in_nI, nI_add, ic_m3, ic_m4, ic_m5, ic_m6, ic_m8, ic_m11, ic_m12, ic_m24, ic_m33, ic_p1, ic_p2, ic_p3, ic_p4, ic_p5, ic_p6, ic_p7, ic_p8, ic_q3, ic_d11, ic_r11, ic_d22, ic_n11, ic_n22, ic_n3, ic_n2, ic_oneI]; exact hp
theorem rd_known {k : Nat} (hI : ic_I k ic_E0 wn fl nt ro ph ck ch na ns ba ow se tp po pc pb sp sg st rk cx ca mr fm mb od os qu qs qd rg ft pa bd bo sk sn) (v1 v2 : Int32) : lk_V (fun p => wpX_known p (wn, fl, nt, ro, ph, ck, ch, na, ns, ba, ow, se, tp, po, pc, pb, sp, sg, st, rk, cx, ca, mr, fm, mb, od, os, qu, qs, qd, rg, ft) v1 v2) (fun p => wpY_known p (fl, wn, nt, ro, ph, ck, ch, ns, na, pa, ow, se, bd, bo, st, cx, ca, mr, sk, ba, sn) v1 v2) := by
  by_cases h1 : ic_out v1 1
  · refine ⟨-1, fun p hp => ?_, fun p hp => ?_⟩
    · unfold wpX_known; refine xw_out1 h1 ?_; exact br_f (by decide) hp
    · unfold wpY_known; refine yw_out1 h1 ?_; exact br_f (by decide) hp
  · by_cases h2 : ic_out v2 10
    · refine ⟨-1, fun p hp => ?_, fun p hp => ?_⟩
      · unfold wpX_known; refine xw_out0 h1 (br_t rfl ?_); refine xw_out1 h2 ?_; exact br_f (by decide) hp
      · unfold wpY_known; refine yw_out0 h1 (br_t rfl ?_); refine yw_out1 h2 ?_; exact br_f (by decide) hp
    · obtain ⟨a, ha, rfl⟩ := ic_in (n := 1) (by decide) h1
      obtain ⟨q, hq, rfl⟩ := ic_in (n := 10) (by decide) h2
      refine ⟨se (a * 11 + q), fun p hp => ?_, fun p hp => ?_⟩
      · unfold wpX_known; refine xw_out0 h1 (br_t rfl ?_); refine xw_out0 h2 (br_t rfl ?_)
        simp (disch := omega) only [forall_eq, true_and, and_true, true_implies, false_implies, implies_true, not_true_eq_false, not_false_eq_true, nI_clamp, vp_in_nI, nI_add, ic_m3, ic_m4, ic_m5, ic_m6, ic_m8, ic_m11, ic_m12, ic_m24, ic_m33, ic_p1, ic_p2, ic_p3, ic_p4, ic_p5, ic_p6, ic_p7, ic_p8, ic_q3, ic_d11, ic_r11, ic_d22, ic_n11, ic_n22, ic_n3, ic_n2, ic_oneI]; exact hp
      · unfold wpY_known; refine yw_out0 h1 (br_t rfl ?_); refine yw_out0 h2 (br_t rfl ?_)
        simp (disch := omega) only [forall_eq, true_and, and_true, true_implies, false_implies, implies_true, not_true_eq_false, not_false_eq_true, nI_clamp, vp_in_nI, nI_add, ic_m3, ic_m4, ic_m5, ic_m6, ic_m8, ic_m11, ic_m12, ic_m24, ic_m33, ic_p1, ic_p2, ic_p3, ic_p4, ic_p5, ic_p6, ic_p7, ic_p8, ic_q3, ic_d11, ic_r11, ic_d22, ic_n11, ic_n22, ic_n3, ic_n2, ic_oneI]; exact hp
theorem rd_packet {k : Nat} (hI : ic_I k ic_E0 wn fl nt ro ph ck ch na ns ba ow se tp po pc pb sp sg st rk cx ca mr fm mb od os qu qs qd rg ft pa bd bo sk sn) (v1 v2 : Int32) : lk_V (fun p => wpX_packet p (wn, fl, nt, ro, ph, ck, ch, na, ns, ba, ow, se, tp, po, pc, pb, sp, sg, st, rk, cx, ca, mr, fm, mb, od, os, qu, qs, qd, rg, ft) v1 v2) (fun p => wpY_packet p (fl, wn, nt, ro, ph, ck, ch, ns, na, pa, ow, se, bd, bo, st, cx, ca, mr, sk, ba, sn) v1 v2) := by
  obtain ⟨hnt, hro, hph, hns, how, hse, hst, hmk, hrg, hpn, hch, hob, hop, hsp, hsb, hP, hS, hT, hM, hfm, hO, hK, hQ, hC, hF⟩ := hI
  obtain ⟨f, hf, rfl, hFF⟩ := hF
  by_cases h1 : ic_out v1 (nI f - 1)
  · refine ⟨-1, fun p hp => ?_, fun p hp => ?_⟩
    · unfold wpX_packet; refine xw_out1 h1 ?_; exact br_f (by decide) hp
    · unfold wpY_packet; refine yw_out1 h1 ?_; exact br_f (by decide) hp
  · by_cases h2 : ic_out v2 7
    · refine ⟨-1, fun p hp => ?_, fun p hp => ?_⟩
      · unfold wpX_packet; refine xw_out0 h1 (br_t rfl ?_); refine xw_out1 h2 ?_; exact br_f (by decide) hp
      · unfold wpY_packet; refine yw_out0 h1 (br_t rfl ?_); refine yw_out1 h2 ?_; exact br_f (by decide) hp
    · obtain ⟨i, hi, rfl⟩ := ic_slot (by omega) h1
      obtain ⟨q, hq, rfl⟩ := ic_in (n := 7) (by decide) h2
      obtain ⟨k2, s2, p2, d2, r2, m2, b2, q2, x1, x2, x3, x4, x5, x6⟩ := hFF i hi
      have val : pa (i * 8 + q) = nI (ic_pk k2 s2 p2 d2 r2 m2 b2 q2 / 2 ^ (4 * q) % 16) := by
        obtain ⟨y0, y1, y2, y3, y4, y5, y6, y7⟩ := x3
        have hq8 : q = 0 ∨ q = 1 ∨ q = 2 ∨ q = 3 ∨ q = 4 ∨ q = 5 ∨ q = 6 ∨ q = 7 := by omega
        rcases hq8 with rfl | rfl | rfl | rfl | rfl | rfl | rfl | rfl
        · rw [ic_pk0 x1]; exact y0
        · rw [ic_pk1 x1]; exact y1
        · rw [ic_pk2 x1]; exact y2
        · rw [ic_pk3 x1]; exact y3
        · rw [ic_pk4 x1]; exact y4
        · rw [ic_pk5 x1]; exact y5
        · rw [ic_pk6 x1]; exact y6
        · rw [ic_pk7 x1]; exact y7
      refine ⟨nI (ic_pk k2 s2 p2 d2 r2 m2 b2 q2 / 2 ^ (4 * q) % 16), fun p hp => ?_, fun p hp => ?_⟩
      · unfold wpX_packet; refine xw_out0 h1 (br_t rfl ?_); refine xw_out0 h2 (br_t rfl ?_)
        simp (disch := omega) only [forall_eq, true_and, and_true, true_implies, false_implies, implies_true, not_true_eq_false, not_false_eq_true, nI_clamp, vp_in_nI, nI_add, ic_m3, ic_m4, ic_m5, ic_m6, ic_m8, ic_m11, ic_m12, ic_m24, ic_m33, ic_p1, ic_p2, ic_p3, ic_p4, ic_p5, ic_p6, ic_p7, ic_p8, ic_q3, ic_d11, ic_r11, ic_d22, ic_n11, ic_n22, ic_n3, ic_n2, ic_oneI, x2]
        exact xw_part (ic_pk_lt x1) q (by omega) hp
      · unfold wpY_packet; refine yw_out0 h1 (br_t rfl ?_); refine yw_out0 h2 (br_t rfl ?_)
        simp (disch := omega) only [forall_eq, true_and, and_true, true_implies, false_implies, implies_true, not_true_eq_false, not_false_eq_true, nI_clamp, vp_in_nI, nI_add, ic_m3, ic_m4, ic_m5, ic_m6, ic_m8, ic_m11, ic_m12, ic_m24, ic_m33, ic_p1, ic_p2, ic_p3, ic_p4, ic_p5, ic_p6, ic_p7, ic_p8, ic_q3, ic_d11, ic_r11, ic_d22, ic_n11, ic_n22, ic_n3, ic_n2, ic_oneI, val]; exact hp
theorem rd_pair {k : Nat} (hI : ic_I k ic_E0 wn fl nt ro ph ck ch na ns ba ow se tp po pc pb sp sg st rk cx ca mr fm mb od os qu qs qd rg ft pa bd bo sk sn) (v1 v2 v3 v4 : Int32) : lk_V (fun p => wpX_pair p (wn, fl, nt, ro, ph, ck, ch, na, ns, ba, ow, se, tp, po, pc, pb, sp, sg, st, rk, cx, ca, mr, fm, mb, od, os, qu, qs, qd, rg, ft) v1 v2 v3 v4) (fun p => wpY_pair p (fl, wn, nt, ro, ph, ck, ch, ns, na, pa, ow, se, bd, bo, st, cx, ca, mr, sk, ba, sn) v1 v2 v3 v4) := by
  obtain ⟨hnt, hro, hph, hns, how, hse, hst, hmk, hrg, hpn, hch, hob, hop, hsp, hsb, hP, hS, hT, hM, hfm, hO, hK, hQ, hC, hF⟩ := hI
  by_cases h1 : ic_out v1 1
  · refine ⟨-1, fun p hp => ?_, fun p hp => ?_⟩
    · unfold wpX_pair; refine xw_out1 h1 ?_; exact br_f (by decide) hp
    · unfold wpY_pair; refine yw_out1 h1 ?_; exact br_f (by decide) hp
  · by_cases h2 : ic_out v2 2
    · refine ⟨-1, fun p hp => ?_, fun p hp => ?_⟩
      · unfold wpX_pair; refine xw_out0 h1 (br_t rfl ?_); refine xw_out1 h2 ?_; exact br_f (by decide) hp
      · unfold wpY_pair; refine yw_out0 h1 (br_t rfl ?_); refine yw_out1 h2 ?_; exact br_f (by decide) hp
    · by_cases h3 : ic_out v3 10
      · refine ⟨-1, fun p hp => ?_, fun p hp => ?_⟩
        · unfold wpX_pair; refine xw_out0 h1 (br_t rfl ?_); refine xw_out0 h2 (br_t rfl ?_); refine xw_out1 h3 ?_; exact br_f (by decide) hp
        · unfold wpY_pair; refine yw_out0 h1 (br_t rfl ?_); refine yw_out0 h2 (br_t rfl ?_); refine yw_out1 h3 ?_; exact br_f (by decide) hp
      · by_cases h4 : ic_out v4 4
        · refine ⟨-1, fun p hp => ?_, fun p hp => ?_⟩
          · unfold wpX_pair; refine xw_out0 h1 (br_t rfl ?_); refine xw_out0 h2 (br_t rfl ?_); refine xw_out0 h3 (br_t rfl ?_); refine xw_out1 h4 ?_; exact br_f (by decide) hp
          · unfold wpY_pair; refine yw_out0 h1 (br_t rfl ?_); refine yw_out0 h2 (br_t rfl ?_); refine yw_out0 h3 (br_t rfl ?_); refine yw_out1 h4 ?_; exact br_f (by decide) hp
        · obtain ⟨a, ha, rfl⟩ := ic_in (n := 1) (by decide) h1
          obtain ⟨b, hb, rfl⟩ := ic_in (n := 2) (by decide) h2
          obtain ⟨q, hq, rfl⟩ := ic_in (n := 10) (by decide) h3
          obtain ⟨f, hf, rfl⟩ := ic_in (n := 4) (by decide) h4
          obtain ⟨c, ec⟩ : ∃ c, c = b * 11 + q := ⟨_, rfl⟩
          have hc : c < 33 := by omega
          have eX : a * 33 + b * 11 + q = a * 33 + c := by omega
          have eY : b * 11 + q = c := ec.symm
          have goX : ∀ p : Int32 → Prop, ((nI f = 0 → p (st (a * 33 + c))) ∧ (¬ nI f = 0 → ((st (a * 33 + c) = 0 → p (-1)) ∧ (¬ st (a * 33 + c) = 0 → ((nI f = 1 → p ((rk (a * 33 + c)) >>> ((6 : Int32) &&& 31))) ∧ (¬ nI f = 1 → ((nI f = 2 → p (cx (a * 33 + c))) ∧ (¬ nI f = 2 → ((nI f = 3 → ((st (a * 33 + c) = 3 → p (ck a - ca (a * 33 + c))) ∧ (¬ st (a * 33 + c) = 3 → p (-1)))) ∧ (¬ nI f = 3 → ((mr (a * 33 + c) = 0 → p 0) ∧ (¬ mr (a * 33 + c) = 0 → p 1)))))))))))) → wpX_pair p (wn, fl, nt, ro, ph, ck, ch, na, ns, ba, ow, se, tp, po, pc, pb, sp, sg, st, rk, cx, ca, mr, fm, mb, od, os, qu, qs, qd, rg, ft) (nI a) (nI b) (nI q) (nI f) := by
            intro p hp
            unfold wpX_pair; refine xw_out0 h1 (br_t rfl ?_); refine xw_out0 h2 (br_t rfl ?_); refine xw_out0 h3 (br_t rfl ?_); refine xw_out0 h4 (br_t rfl ?_)
            simp (disch := omega) only [forall_eq, true_and, and_true, true_implies, false_implies, implies_true, not_true_eq_false, not_false_eq_true, nI_clamp, vp_in_nI, nI_add, ic_m3, ic_m4, ic_m5, ic_m6, ic_m8, ic_m11, ic_m12, ic_m24, ic_m33, ic_p1, ic_p2, ic_p3, ic_p4, ic_p5, ic_p6, ic_p7, ic_p8, ic_q3, ic_d11, ic_r11, ic_d22, ic_n11, ic_n22, ic_n3, ic_n2, ic_oneI, eX]
            exact hp
          have goY : ∀ p : Int32 → Prop, ((nI f = 0 → p (st (a * 33 + c))) ∧ (¬ nI f = 0 → ((st (a * 33 + c) = 0 → p (-1)) ∧ (¬ st (a * 33 + c) = 0 → ((nI f = 3 → ((st (a * 33 + c) = 3 → p (ck a - ca (a * 33 + c))) ∧ (¬ st (a * 33 + c) = 3 → p (-1)))) ∧ (¬ nI f = 3 → ((nI f = 1 → wpY_priority (fun r_105 => (p r_105)) (fl, wn, nt, ro, ph, ck, ch, ns, na, pa, ow, se, bd, bo, st, cx, ca, mr, sk, ba, sn) (nI a) (nI c)) ∧ (¬ nI f = 1 → ((nI f = 2 → p (cx (a * 33 + c))) ∧ (¬ nI f = 2 → p (mr (a * 33 + c)))))))))))) → wpY_pair p (fl, wn, nt, ro, ph, ck, ch, ns, na, pa, ow, se, bd, bo, st, cx, ca, mr, sk, ba, sn) (nI a) (nI b) (nI q) (nI f) := by
            intro p hp
            unfold wpY_pair; refine yw_out0 h1 (br_t rfl ?_); refine yw_out0 h2 (br_t rfl ?_); refine yw_out0 h3 (br_t rfl ?_); refine yw_out0 h4 (br_t rfl ?_)
            unfold wY_pair_72
            simp (disch := omega) only [forall_eq, true_and, and_true, true_implies, false_implies, implies_true, not_true_eq_false, not_false_eq_true, nI_clamp, vp_in_nI, nI_add, ic_m3, ic_m4, ic_m5, ic_m6, ic_m8, ic_m11, ic_m12, ic_m24, ic_m33, ic_p1, ic_p2, ic_p3, ic_p4, ic_p5, ic_p6, ic_p7, ic_p8, ic_q3, ic_d11, ic_r11, ic_d22, ic_n11, ic_n22, ic_n3, ic_n2, ic_oneI, eY]
            exact ⟨fun z => br_t z (hp.1 z), fun z => ⟨fun z2 => br_f z ((hp.2 z).1 z2), (hp.2 z).2⟩⟩
          have hf5 : f = 0 ∨ f = 1 ∨ f = 2 ∨ f = 3 ∨ f = 4 := by omega
          by_cases hz : st (a * 33 + c) = 0
          · rcases hf5 with rfl | hf5
            · exact ⟨_, fun p hp => goX p (br_t rfl hp), fun p hp => goY p (br_t rfl hp)⟩
            · have hf0 : ¬ nI f = 0 := nI_ne0 (by omega) (by omega)
              exact ⟨-1, fun p hp => goX p (br_f hf0 (br_t hz hp)), fun p hp => goY p (br_f hf0 (br_t hz hp))⟩
          · rcases hf5 with rfl | rfl | rfl | rfl | rfl
            · exact ⟨_, fun p hp => goX p (br_t rfl hp), fun p hp => goY p (br_t rfl hp)⟩
            · have hpl := ic_pr_lt (bd := bd) (a := a) hro hse hc
              have er : rk (a * 33 + c) >>> ((6 : Int32) &&& 31) = nI (ic_pr ro se bd a c) := by
                rw [hK a (by omega) c hc (fun z => z) hz, pk_shrN (by omega) _ 6 (by decide)]
                rw [show (ic_pr ro se bd a c * 64 + 63 - c) / 2 ^ 6 = ic_pr ro se bd a c by omega]
              obtain ⟨t, t1, t4, hset⟩ := ic_nz (hse _) (hsb a (by omega) c hc hz).2
              refine ⟨nI (ic_pr ro se bd a c), fun p hp => goX p (br_f (by decide) (br_f hz (br_t rfl ?_))), fun p hp => goY p (br_f (by decide) (br_f hz (br_f (by decide) (br_t rfl ?_))))⟩
              · rw [er]; exact hp
              · exact yw_prio (by omega) hc hro t1 t4 hset hp
            · exact ⟨_, fun p hp => goX p (br_f (by decide) (br_f hz (br_f (by decide) (br_t rfl hp)))), fun p hp => goY p (br_f (by decide) (br_f hz (br_f (by decide) (br_f (by decide) (br_t rfl hp)))))⟩
            · by_cases h33 : st (a * 33 + c) = 3
              · exact ⟨_, fun p hp => goX p (br_f (by decide) (br_f hz (br_f (by decide) (br_f (by decide) (br_t rfl (br_t h33 hp)))))), fun p hp => goY p (br_f (by decide) (br_f hz (br_t rfl (br_t h33 hp))))⟩
              · exact ⟨-1, fun p hp => goX p (br_f (by decide) (br_f hz (br_f (by decide) (br_f (by decide) (br_t rfl (br_f h33 hp)))))), fun p hp => goY p (br_f (by decide) (br_f hz (br_t rfl (br_f h33 hp))))⟩
            · obtain ⟨m, hm, em⟩ := hmk (a * 33 + c)
              have hm2 : m = 0 ∨ m = 1 := by omega
              rcases hm2 with rfl | rfl
              · refine ⟨0, fun p hp => goX p (br_f (by decide) (br_f hz (br_f (by decide) (br_f (by decide) (br_f (by decide) (br_t em hp)))))), fun p hp => goY p (br_f (by decide) (br_f hz (br_f (by decide) (br_f (by decide) (br_f (by decide) ?_)))))⟩
                rw [em]; exact hp
              · refine ⟨1, fun p hp => goX p (br_f (by decide) (br_f hz (br_f (by decide) (br_f (by decide) (br_f (by decide) (br_f (by rw [em]; decide) hp)))))), fun p hp => goY p (br_f (by decide) (br_f hz (br_f (by decide) (br_f (by decide) (br_f (by decide) ?_)))))⟩
                rw [em]; exact hp
theorem rd_status {k : Nat} (hI : ic_I k ic_E0 wn fl nt ro ph ck ch na ns ba ow se tp po pc pb sp sg st rk cx ca mr fm mb od os qu qs qd rg ft pa bd bo sk sn) (v1 v2 : Int32) : lk_V (fun p => wpX_status p (wn, fl, nt, ro, ph, ck, ch, na, ns, ba, ow, se, tp, po, pc, pb, sp, sg, st, rk, cx, ca, mr, fm, mb, od, os, qu, qs, qd, rg, ft) v1 v2) (fun p => wpY_status p (fl, wn, nt, ro, ph, ck, ch, ns, na, pa, ow, se, bd, bo, st, cx, ca, mr, sk, ba, sn) v1 v2) := by
  obtain ⟨hnt, hro, hph, hns, how, hse, hst, hmk, hrg, hpn, hch, hob, hop, hsp, hsb, hP, hS, hT, hM, hfm, hO, hK, hQ, hC, hF⟩ := hI
  by_cases h1 : ic_out v1 1
  · refine ⟨-1, fun p hp => ?_, fun p hp => ?_⟩
    · unfold wpX_status; refine xw_out1 h1 ?_; exact br_f (by decide) hp
    · unfold wpY_status; refine yw_out1 h1 ?_; exact br_f (by decide) hp
  · by_cases h2 : ic_out v2 3
    · refine ⟨-1, fun p hp => ?_, fun p hp => ?_⟩
      · unfold wpX_status; refine xw_out0 h1 (br_t rfl ?_); refine xw_out1 h2 ?_; exact br_f (by decide) hp
      · unfold wpY_status; refine yw_out0 h1 (br_t rfl ?_); refine yw_out1 h2 ?_; exact br_f (by decide) hp
    · obtain ⟨a, ha, rfl⟩ := ic_in (n := 1) (by decide) h1
      obtain ⟨f, hf, rfl⟩ := ic_in (n := 3) (by decide) h2
      have goX : ∀ p : Int32 → Prop, (((nI f = 0 → (p (ro a))) ∧ (¬ nI f = 0 → (((nI f = 1 → (p (ph a))) ∧ (¬ nI f = 1 → (((nI f = 2 → ((((ph a) = 0 → (p (-1))) ∧ (¬ (ph a) = 0 → (wpX_code (fun r_82 => (p r_82)) (wn, fl, nt, ro, ph, ck, ch, na, ns, ba, ow, se, tp, po, pc, pb, sp, sg, st, rk, cx, ca, mr, fm, mb, od, os, qu, qs, qd, rg, ft) (ch a)))))) ∧ (¬ nI f = 2 → ((((ph a) = 1 → ((((ns a) = 0 → (p (-1))) ∧ (¬ (ns a) = 0 → (p ((ck a) - (na a))))))) ∧ (¬ (ph a) = 1 → (p (-1)))))))))))))) → wpX_status p (wn, fl, nt, ro, ph, ck, ch, na, ns, ba, ow, se, tp, po, pc, pb, sp, sg, st, rk, cx, ca, mr, fm, mb, od, os, qu, qs, qd, rg, ft) (nI a) (nI f) := by
        intro p hp
        unfold wpX_status; refine xw_out0 h1 (br_t rfl ?_); refine xw_out0 h2 (br_t rfl ?_)
        unfold wX_status_95 wX_status_96
        simp (disch := omega) only [forall_eq, true_and, and_true, true_implies, false_implies, implies_true, not_true_eq_false, not_false_eq_true, nI_clamp, vp_in_nI, nI_add, ic_m3, ic_m4, ic_m5, ic_m6, ic_m8, ic_m11, ic_m12, ic_m24, ic_m33, ic_p1, ic_p2, ic_p3, ic_p4, ic_p5, ic_p6, ic_p7, ic_p8, ic_q3, ic_d11, ic_r11, ic_d22, ic_n11, ic_n22, ic_n3, ic_n2, ic_oneI, ic_n10]
        exact hp
      have goY : ∀ p : Int32 → Prop, (((2 ≤ nI f → (((nI f = 2 → ((((ph a) = 0 → (p (-1))) ∧ (¬ (ph a) = 0 → ((p ((((ch a) / 11) * 16) + ((ch a) - (ch a) / 11 * 11)))))))) ∧ (¬ nI f = 2 → ((((ph a) = 1 → ((((ns a) = 1 → (p ((ck a) - (na a)))) ∧ (¬ (ns a) = 1 → (p (-1)))))) ∧ (¬ (ph a) = 1 → (p (-1))))))))) ∧ (¬ 2 ≤ nI f → (((nI f = 0 → (p (ro a))) ∧ (¬ nI f = 0 → (p (ph a)))))))) → wpY_status p (fl, wn, nt, ro, ph, ck, ch, ns, na, pa, ow, se, bd, bo, st, cx, ca, mr, sk, ba, sn) (nI a) (nI f) := by
        intro p hp
        unfold wpY_status; refine yw_out0 h1 (br_t rfl ?_); refine yw_out0 h2 (br_t rfl ?_)
        simp (disch := omega) only [forall_eq, true_and, and_true, true_implies, false_implies, implies_true, not_true_eq_false, not_false_eq_true, nI_clamp, vp_in_nI, nI_add, ic_m3, ic_m4, ic_m5, ic_m6, ic_m8, ic_m11, ic_m12, ic_m24, ic_m33, ic_p1, ic_p2, ic_p3, ic_p4, ic_p5, ic_p6, ic_p7, ic_p8, ic_q3, ic_d11, ic_r11, ic_d22, ic_n11, ic_n22, ic_n3, ic_n2, ic_oneI]
        exact hp
      have hf4 : f = 0 ∨ f = 1 ∨ f = 2 ∨ f = 3 := by omega
      rcases hf4 with rfl | rfl | rfl | rfl
      · exact ⟨_, fun p hp => goX p (br_t rfl hp), fun p hp => goY p (br_f (by decide) (br_t rfl hp))⟩
      · exact ⟨_, fun p hp => goX p (br_f (by decide) (br_t rfl hp)), fun p hp => goY p (br_f (by decide) (br_f (by decide) hp))⟩
      · by_cases h0 : ph a = 0
        · exact ⟨-1, fun p hp => goX p (br_f (by decide) (br_f (by decide) (br_t rfl (br_t h0 hp)))), fun p hp => goY p (br_t (by decide) (br_t rfl (br_t h0 hp)))⟩
        · exact ⟨_, fun p hp => goX p (br_f (by decide) (br_f (by decide) (br_t rfl (br_f h0 ⟨by decide, by decide, hp⟩)))), fun p hp => goY p (br_t (by decide) (br_t rfl (br_f h0 hp)))⟩
      · by_cases h0 : ph a = 1
        · obtain ⟨m, hm, em⟩ := hns a
          have hm2 : m = 0 ∨ m = 1 := by omega
          rcases hm2 with rfl | rfl
          · exact ⟨-1, fun p hp => goX p (br_f (by decide) (br_f (by decide) (br_f (by decide) (br_t h0 (br_t em hp))))), fun p hp => goY p (br_t (by decide) (br_f (by decide) (br_t h0 (br_f (by rw [em]; decide) hp))))⟩
          · exact ⟨_, fun p hp => goX p (br_f (by decide) (br_f (by decide) (br_f (by decide) (br_t h0 (br_f (by rw [em]; decide) hp))))), fun p hp => goY p (br_t (by decide) (br_f (by decide) (br_t h0 (br_t em hp))))⟩
        · exact ⟨-1, fun p hp => goX p (br_f (by decide) (br_f (by decide) (br_f (by decide) (br_f h0 hp)))), fun p hp => goY p (br_t (by decide) (br_f (by decide) (br_f h0 hp)))⟩
theorem lk_map {k a b d : Nat} (hI : ic_I k ic_E0 wn fl nt ro ph ck ch na ns ba ow se tp po pc pb sp sg st rk cx ca mr fm mb od os qu qs qd rg ft pa bd bo sk sn) (ha : a ≤ 1) (hb : b ≤ 2) (hd : d ≤ 11) : ∃ r : Int32, (∀ p : Int32 → Prop, p r → wpX_mapped p (wn, fl, nt, ro, ph, ck, ch, na, ns, ba, ow, se, tp, po, pc, pb, sp, sg, st, rk, cx, ca, mr, fm, mb, od, os, qu, qs, qd, rg, ft) (nI a) (nI b) (nI d)) ∧ (∀ p : Int32 → Prop, p r → wpY_mapped p (fl, wn, nt, ro, ph, ck, ch, ns, na, pa, ow, se, bd, bo, st, cx, ca, mr, sk, ba, sn) (nI a) (nI b) (nI d)) ∧ (r = -1 ∨ ∃ q : Nat, q < 11 ∧ r = nI q) := by
  obtain ⟨hnt, hro, hph, hns, how, hse, hst, hmk, hrg, hpn, hch, hob, hop, hsp, hsb, hP, hS, hT, hM, hfm, hO, hK, hQ, hC, hF⟩ := hI
  have h1 := ic_nout (n := 1) (y := 1) rfl ha (by omega)
  have h2 := ic_nout (n := 2) (y := 2) rfl hb (by omega)
  have h3 := ic_nout (n := 11) (y := 11) rfl hd (by omega)
  by_cases h0 : ba (a * 3 + b) = 0
  · refine ⟨-1, fun p hp => ?_, fun p hp => ?_, Or.inl rfl⟩
    · unfold wpX_mapped; refine xw_out0 h1 (br_t rfl ?_); refine xw_out0 h2 (br_t rfl ?_); refine xw_out0 h3 (br_t rfl ?_)
      simp (disch := omega) only [forall_eq, true_and, and_true, true_implies, false_implies, implies_true, not_true_eq_false, not_false_eq_true, nI_clamp, vp_in_nI, nI_add, ic_m3, ic_m4, ic_m5, ic_m6, ic_m8, ic_m11, ic_m12, ic_m24, ic_m33, ic_p1, ic_p2, ic_p3, ic_p4, ic_p5, ic_p6, ic_p7, ic_p8, ic_q3, ic_d11, ic_r11, ic_d22, ic_n11, ic_n22, ic_n3, ic_n2, ic_oneI]
      exact br_t h0 hp
    · unfold wpY_mapped; refine yw_out0 h1 (br_t rfl ?_); refine yw_out0 h2 (br_t rfl ?_); refine yw_out0 h3 (br_t rfl ?_)
      simp (disch := omega) only [forall_eq, true_and, and_true, true_implies, false_implies, implies_true, not_true_eq_false, not_false_eq_true, nI_clamp, vp_in_nI, nI_add, ic_m3, ic_m4, ic_m5, ic_m6, ic_m8, ic_m11, ic_m12, ic_m24, ic_m33, ic_p1, ic_p2, ic_p3, ic_p4, ic_p5, ic_p6, ic_p7, ic_p8, ic_q3, ic_d11, ic_r11, ic_d22, ic_n11, ic_n22, ic_n3, ic_n2, ic_oneI]
      exact br_t h0 hp
  · obtain ⟨r, hX, hY, hr⟩ := lk_src (wn := wn) (fl := fl) (nt := nt) (ro := ro) (ph := ph) (ck := ck) (ch := ch) (na := na) (ns := ns) (ba := ba) (ow := ow) (se := se) (tp := tp) (sp := sp) (sg := sg) (st := st) (rk := rk) (cx := cx) (ca := ca) (mr := mr) (fm := fm) (mb := mb) (od := od) (os := os) (qu := qu) (qs := qs) (qd := qd) (rg := rg) (ft := ft) (pa := pa) (sk := sk) (sn := sn) hnt hP (show a < 2 by omega) (show b < 3 by omega) (show d < 12 by omega)
    refine ⟨r, fun p hp => ?_, fun p hp => ?_, ?_⟩
    · unfold wpX_mapped; refine xw_out0 h1 (br_t rfl ?_); refine xw_out0 h2 (br_t rfl ?_); refine xw_out0 h3 (br_t rfl ?_)
      simp (disch := omega) only [forall_eq, true_and, and_true, true_implies, false_implies, implies_true, not_true_eq_false, not_false_eq_true, nI_clamp, vp_in_nI, nI_add, ic_m3, ic_m4, ic_m5, ic_m6, ic_m8, ic_m11, ic_m12, ic_m24, ic_m33, ic_p1, ic_p2, ic_p3, ic_p4, ic_p5, ic_p6, ic_p7, ic_p8, ic_q3, ic_d11, ic_r11, ic_d22, ic_n11, ic_n22, ic_n3, ic_n2, ic_oneI]
      exact br_f h0 (hX _ hp)
    · unfold wpY_mapped; refine yw_out0 h1 (br_t rfl ?_); refine yw_out0 h2 (br_t rfl ?_); refine yw_out0 h3 (br_t rfl ?_)
      simp (disch := omega) only [forall_eq, true_and, and_true, true_implies, false_implies, implies_true, not_true_eq_false, not_false_eq_true, nI_clamp, vp_in_nI, nI_add, ic_m3, ic_m4, ic_m5, ic_m6, ic_m8, ic_m11, ic_m12, ic_m24, ic_m33, ic_p1, ic_p2, ic_p3, ic_p4, ic_p5, ic_p6, ic_p7, ic_p8, ic_q3, ic_d11, ic_r11, ic_d22, ic_n11, ic_n22, ic_n3, ic_n2, ic_oneI]
      exact br_f h0 (hY _ hp)
    · rcases hr with e | ⟨e, _⟩ | ⟨q, q3, q11, e, _⟩
      · exact Or.inr ⟨b, by omega, e⟩
      · exact Or.inl e
      · exact Or.inr ⟨q, q11, e⟩
theorem rd_mapped {k : Nat} (hI : ic_I k ic_E0 wn fl nt ro ph ck ch na ns ba ow se tp po pc pb sp sg st rk cx ca mr fm mb od os qu qs qd rg ft pa bd bo sk sn) (v1 v2 v3 : Int32) : lk_V (fun p => wpX_mapped p (wn, fl, nt, ro, ph, ck, ch, na, ns, ba, ow, se, tp, po, pc, pb, sp, sg, st, rk, cx, ca, mr, fm, mb, od, os, qu, qs, qd, rg, ft) v1 v2 v3) (fun p => wpY_mapped p (fl, wn, nt, ro, ph, ck, ch, ns, na, pa, ow, se, bd, bo, st, cx, ca, mr, sk, ba, sn) v1 v2 v3) := by
  by_cases h1 : ic_out v1 1
  · refine ⟨-1, fun p hp => ?_, fun p hp => ?_⟩
    · unfold wpX_mapped; refine xw_out1 h1 ?_; exact br_f (by decide) hp
    · unfold wpY_mapped; refine yw_out1 h1 ?_; exact br_f (by decide) hp
  · by_cases h2 : ic_out v2 2
    · refine ⟨-1, fun p hp => ?_, fun p hp => ?_⟩
      · unfold wpX_mapped; refine xw_out0 h1 (br_t rfl ?_); refine xw_out1 h2 ?_; exact br_f (by decide) hp
      · unfold wpY_mapped; refine yw_out0 h1 (br_t rfl ?_); refine yw_out1 h2 ?_; exact br_f (by decide) hp
    · by_cases h3 : ic_out v3 11
      · refine ⟨-1, fun p hp => ?_, fun p hp => ?_⟩
        · unfold wpX_mapped; refine xw_out0 h1 (br_t rfl ?_); refine xw_out0 h2 (br_t rfl ?_); refine xw_out1 h3 ?_; exact br_f (by decide) hp
        · unfold wpY_mapped; refine yw_out0 h1 (br_t rfl ?_); refine yw_out0 h2 (br_t rfl ?_); refine yw_out1 h3 ?_; exact br_f (by decide) hp
      · obtain ⟨a, ha, rfl⟩ := ic_in (n := 1) (by decide) h1
        obtain ⟨b, hb, rfl⟩ := ic_in (n := 2) (by decide) h2
        obtain ⟨d, hd, rfl⟩ := ic_in (n := 11) (by decide) h3
        obtain ⟨r, x1, x2, _⟩ := lk_map hI ha hb hd
        exact ⟨r, x1, x2⟩
theorem lk_admV {k a q s : Nat} (hI : ic_I k ic_E0 wn fl nt ro ph ck ch na ns ba ow se tp po pc pb sp sg st rk cx ca mr fm mb od os qu qs qd rg ft pa bd bo sk sn) (ha : a ≤ 1) (hq : q ≤ 10) (hs : s ≤ 10) : ∃ r : Int32, (∀ p : Int32 → Prop, p r → wpX_admits p (wn, fl, nt, ro, ph, ck, ch, na, ns, ba, ow, se, tp, po, pc, pb, sp, sg, st, rk, cx, ca, mr, fm, mb, od, os, qu, qs, qd, rg, ft) (nI a) (nI q) (nI s)) ∧ (∀ p : Int32 → Prop, p r → wpY_admits p (fl, wn, nt, ro, ph, ck, ch, ns, na, pa, ow, se, bd, bo, st, cx, ca, mr, sk, ba, sn) (nI a) (nI q) (nI s)) := by
  obtain ⟨hnt, hro, hph, hns, how, hse, hst, hmk, hrg, hpn, hch, hob, hop, hsp, hsb, hP, hS, hT, hM, hfm, hO, hK, hQ, hC, hF⟩ := hI
  have h1 := ic_nout (n := 1) (y := 1) rfl ha (by omega)
  have h2 := ic_nout (n := 10) (y := 10) rfl hq (by omega)
  have h3 := ic_nout (n := 10) (y := 10) rfl hs (by omega)
  obtain ⟨r, hX, hY, _⟩ := lk_adm (wn := wn) (fl := fl) (nt := nt) (ro := ro) (ph := ph) (ck := ck) (ch := ch) (na := na) (ns := ns) (ow := ow) (se := se) (tp := tp) (st := st) (rk := rk) (cx := cx) (ca := ca) (mr := mr) (fm := fm) (mb := mb) (od := od) (os := os) (qu := qu) (qs := qs) (qd := qd) (rg := rg) (ft := ft) (pa := pa) (sk := sk) hP hS (show a < 2 by omega) (show q < 11 by omega) (show s < 11 by omega)
  refine ⟨r, fun p hp => ?_, hY⟩
  unfold wpX_admits; refine xw_out0 h1 (br_t rfl ?_); refine xw_out0 h2 (br_t rfl ?_); refine xw_out0 h3 (br_t rfl ?_)
  exact hX _ hp
theorem rd_admits {k : Nat} (hI : ic_I k ic_E0 wn fl nt ro ph ck ch na ns ba ow se tp po pc pb sp sg st rk cx ca mr fm mb od os qu qs qd rg ft pa bd bo sk sn) (v1 v2 v3 : Int32) : lk_V (fun p => wpX_admits p (wn, fl, nt, ro, ph, ck, ch, na, ns, ba, ow, se, tp, po, pc, pb, sp, sg, st, rk, cx, ca, mr, fm, mb, od, os, qu, qs, qd, rg, ft) v1 v2 v3) (fun p => wpY_admits p (fl, wn, nt, ro, ph, ck, ch, ns, na, pa, ow, se, bd, bo, st, cx, ca, mr, sk, ba, sn) v1 v2 v3) := by
  by_cases h1 : ic_out v1 1
  · refine ⟨-1, fun p hp => ?_, fun p hp => ?_⟩
    · unfold wpX_admits; refine xw_out1 h1 ?_; exact br_f (by decide) hp
    · unfold wpY_admits; refine yw_out1 h1 ?_; exact br_f (by decide) hp
  · by_cases h2 : ic_out v2 10
    · refine ⟨-1, fun p hp => ?_, fun p hp => ?_⟩
      · unfold wpX_admits; refine xw_out0 h1 (br_t rfl ?_); refine xw_out1 h2 ?_; exact br_f (by decide) hp
      · unfold wpY_admits; refine yw_out0 h1 (br_t rfl ?_); refine yw_out1 h2 ?_; exact br_f (by decide) hp
    · by_cases h3 : ic_out v3 10
      · refine ⟨-1, fun p hp => ?_, fun p hp => ?_⟩
        · unfold wpX_admits; refine xw_out0 h1 (br_t rfl ?_); refine xw_out0 h2 (br_t rfl ?_); refine xw_out1 h3 ?_; exact br_f (by decide) hp
        · unfold wpY_admits; refine yw_out0 h1 (br_t rfl ?_); refine yw_out0 h2 (br_t rfl ?_); refine yw_out1 h3 ?_; exact br_f (by decide) hp
      · obtain ⟨a, ha, rfl⟩ := ic_in (n := 1) (by decide) h1
        obtain ⟨b, hb, rfl⟩ := ic_in (n := 10) (by decide) h2
        obtain ⟨d, hd, rfl⟩ := ic_in (n := 10) (by decide) h3
        obtain ⟨r, x1, x2⟩ := lk_admV hI ha hb hd
        exact ⟨r, x1, x2⟩
theorem rd_data {k : Nat} (hI : ic_I k ic_E0 wn fl nt ro ph ck ch na ns ba ow se tp po pc pb sp sg st rk cx ca mr fm mb od os qu qs qd rg ft pa bd bo sk sn) (v1 : Int32) : lk_V (fun p => wpX_data p (wn, fl, nt, ro, ph, ck, ch, na, ns, ba, ow, se, tp, po, pc, pb, sp, sg, st, rk, cx, ca, mr, fm, mb, od, os, qu, qs, qd, rg, ft) v1) (fun p => wpY_data p (fl, wn, nt, ro, ph, ck, ch, ns, na, pa, ow, se, bd, bo, st, cx, ca, mr, sk, ba, sn) v1) := by
  have hI0 := hI
  obtain ⟨hnt, hro, hph, hns, how, hse, hst, hmk, hrg, hpn, hch, hob, hop, hsp, hsb, hP, hS, hT, hM, hfm, hO, hK, hQ, hC, hF⟩ := hI
  by_cases h1 : ic_out v1 1
  · refine ⟨-1, fun p hp => ?_, fun p hp => ?_⟩
    · unfold wpX_data; refine xw_out1 h1 ?_; exact br_f (by decide) hp
    · unfold wpY_data; refine yw_out1 h1 ?_; exact br_f (by decide) hp
  · obtain ⟨a, ha, rfl⟩ := ic_in (n := 1) (by decide) h1
    by_cases h2 : ph a = 2
    · obtain ⟨c, hc, ec, _⟩ := hch a (by omega) (by rw [h2]; decide)
      obtain ⟨r, x1, x2, hr⟩ := lk_map (b := c / 11) (d := c % 11) hI0 ha (by omega) (by omega)
      have e1 : (1 : Int32) - nI a = nI (1 - a) := ic_oneI ha
      rcases hr with e | ⟨s, hs, e⟩
      · refine ⟨-1, fun p hp => ?_, fun p hp => ?_⟩
        · unfold wpX_data; refine xw_out0 h1 (br_t rfl ?_)
          simp (disch := omega) only [forall_eq, true_and, and_true, true_implies, false_implies, implies_true, not_true_eq_false, not_false_eq_true, nI_clamp, vp_in_nI, nI_add, ic_m3, ic_m4, ic_m5, ic_m6, ic_m8, ic_m11, ic_m12, ic_m24, ic_m33, ic_p1, ic_p2, ic_p3, ic_p4, ic_p5, ic_p6, ic_p7, ic_p8, ic_q3, ic_d11, ic_r11, ic_d22, ic_n11, ic_n22, ic_n3, ic_n2, ic_oneI, ec]
          refine br_t h2 (x1 _ ?_)
          exact br_t e hp
        · unfold wpY_data; refine yw_out0 h1 (br_t rfl ?_)
          simp (disch := omega) only [forall_eq, true_and, and_true, true_implies, false_implies, implies_true, not_true_eq_false, not_false_eq_true, nI_clamp, vp_in_nI, nI_add, ic_m3, ic_m4, ic_m5, ic_m6, ic_m8, ic_m11, ic_m12, ic_m24, ic_m33, ic_p1, ic_p2, ic_p3, ic_p4, ic_p5, ic_p6, ic_p7, ic_p8, ic_q3, ic_d11, ic_r11, ic_d22, ic_n11, ic_n22, ic_n3, ic_n2, ic_oneI, ec]
          refine br_t h2 (x2 _ ?_)
          exact br_t e hp
      · subst e
        obtain ⟨r2, y1, y2⟩ := lk_admV (a := 1 - a) (q := c % 11) (s := s) hI0 (by omega) (by omega) (by omega)
        refine ⟨r2, fun p hp => ?_, fun p hp => ?_⟩
        · unfold wpX_data; refine xw_out0 h1 (br_t rfl ?_)
          simp (disch := omega) only [forall_eq, true_and, and_true, true_implies, false_implies, implies_true, not_true_eq_false, not_false_eq_true, nI_clamp, vp_in_nI, nI_add, ic_m3, ic_m4, ic_m5, ic_m6, ic_m8, ic_m11, ic_m12, ic_m24, ic_m33, ic_p1, ic_p2, ic_p3, ic_p4, ic_p5, ic_p6, ic_p7, ic_p8, ic_q3, ic_d11, ic_r11, ic_d22, ic_n11, ic_n22, ic_n3, ic_n2, ic_oneI, ec]
          refine br_t h2 (x1 _ ?_)
          exact br_f (ic_ne1 s (by omega)) (y1 _ hp)
        · unfold wpY_data; refine yw_out0 h1 (br_t rfl ?_)
          simp (disch := omega) only [forall_eq, true_and, and_true, true_implies, false_implies, implies_true, not_true_eq_false, not_false_eq_true, nI_clamp, vp_in_nI, nI_add, ic_m3, ic_m4, ic_m5, ic_m6, ic_m8, ic_m11, ic_m12, ic_m24, ic_m33, ic_p1, ic_p2, ic_p3, ic_p4, ic_p5, ic_p6, ic_p7, ic_p8, ic_q3, ic_d11, ic_r11, ic_d22, ic_n11, ic_n22, ic_n3, ic_n2, ic_oneI, ec]
          refine br_t h2 (x2 _ ?_)
          exact br_f (ic_ne1 s (by omega)) (y2 _ hp)
    · refine ⟨-1, fun p hp => ?_, fun p hp => ?_⟩
      · unfold wpX_data; refine xw_out0 h1 (br_t rfl ?_)
        simp (disch := omega) only [forall_eq, true_and, and_true, true_implies, false_implies, implies_true, not_true_eq_false, not_false_eq_true, nI_clamp, vp_in_nI, nI_add, ic_m3, ic_m4, ic_m5, ic_m6, ic_m8, ic_m11, ic_m12, ic_m24, ic_m33, ic_p1, ic_p2, ic_p3, ic_p4, ic_p5, ic_p6, ic_p7, ic_p8, ic_q3, ic_d11, ic_r11, ic_d22, ic_n11, ic_n22, ic_n3, ic_n2, ic_oneI]
        exact br_f h2 hp
      · unfold wpY_data; refine yw_out0 h1 (br_t rfl ?_)
        simp (disch := omega) only [forall_eq, true_and, and_true, true_implies, false_implies, implies_true, not_true_eq_false, not_false_eq_true, nI_clamp, vp_in_nI, nI_add, ic_m3, ic_m4, ic_m5, ic_m6, ic_m8, ic_m11, ic_m12, ic_m24, ic_m33, ic_p1, ic_p2, ic_p3, ic_p4, ic_p5, ic_p6, ic_p7, ic_p8, ic_q3, ic_d11, ic_r11, ic_d22, ic_n11, ic_n22, ic_n3, ic_n2, ic_oneI]
        exact br_f h2 hp
/-- the scan for the k-th of the triggered list -/
theorem yw_trL {a k : Nat} (ha : a ≤ 1) (hk : k ≤ 32) (p : Int32 → Prop) (h0 : (∀ x, x < 33 → ¬ sk (a * 33 + x) = nI (k + 1)) → p (-1)) (h1 : ∀ c, c < 33 → sk (a * 33 + c) = nI (k + 1) → p (((nI c / 11) * 16) + (nI c - nI c / 11 * 11))) :
    ∀ n x : Nat, 33 < n + x → x ≤ 33 → (∀ y, y < x → ¬ sk (a * 33 + y) = nI (k + 1)) → wY_triggered_2 p (nI a) (nI k) fl wn nt ro ph ck ch ns na pa ow se bd bo st cx ca mr sk ba sn n (nI x) := by
  intro n
  induction n with
  | zero => intro x h; omega
  | succ n ih =>
    intro x hx hx2 hno
    rw [wY_triggered_2]
    refine pk_le 33 x (fun h => h0 (fun y hy => hno y (by omega))) (fun h => ?_)
    refine yw_out0 (ic_nout (n := 1) (y := 1) rfl ha (by omega)) (br_t rfl ?_)
    refine yw_out0 (ic_nout (n := 32) (y := 32) rfl hk (by omega)) (br_t rfl ?_)
    have e1 : nI a * 33 + nI x = nI (a * 33 + x) := by rw [ic_m33, nI_add]
    rw [e1, nI_clamp (by omega), nI_1]
    refine ⟨vp_in_nI (by omega) (by omega), br_c (fun z => ⟨by decide, by decide, h1 x h z⟩) (fun z => nm_r (nI_1 x) (ih (x + 1) (by omega) (by omega) (fun y hy => ?_)))⟩
    by_cases e : y = x
    · rw [e]; exact z
    · exact hno y (by omega)
theorem rd_triggered {k : Nat} (hI : ic_I k ic_E0 wn fl nt ro ph ck ch na ns ba ow se tp po pc pb sp sg st rk cx ca mr fm mb od os qu qs qd rg ft pa bd bo sk sn) (v1 v2 : Int32) : lk_V (fun p => wpX_triggered p (wn, fl, nt, ro, ph, ck, ch, na, ns, ba, ow, se, tp, po, pc, pb, sp, sg, st, rk, cx, ca, mr, fm, mb, od, os, qu, qs, qd, rg, ft) v1 v2) (fun p => wpY_triggered p (fl, wn, nt, ro, ph, ck, ch, ns, na, pa, ow, se, bd, bo, st, cx, ca, mr, sk, ba, sn) v1 v2) := by
  obtain ⟨hnt, hro, hph, hns, how, hse, hst, hmk, hrg, hpn, hch, hob, hop, hsp, hsb, hP, hS, hT, hM, hfm, hO, hK, hQ, hC, hF⟩ := hI
  by_cases h1 : ic_out v1 1
  · refine ⟨-1, fun p hp => ?_, fun p hp => ⟨1, ?_⟩⟩
    · unfold wpX_triggered; refine xw_out1 h1 ?_; exact br_f (by decide) hp
    · rw [wY_triggered_2]
      refine br_f (by decide) (yw_out1 h1 ?_); exact br_f (by decide) hp
  · have h1' := h1
    obtain ⟨a, ha, rfl⟩ := ic_in (n := 1) (by decide) h1
    obtain ⟨Q, q1, q2, q3, q4, q5, q6, q7⟩ := hQ a (by omega)
    have hlen : Q.length ≤ 33 := ic_len 33 Q q1 (fun x hx => (q2 x hx).1)
    by_cases h2 : ic_out v2 (nI Q.length - 1)
    · refine ⟨-1, fun p hp => ?_, fun p hp => ?_⟩
      · unfold wpX_triggered; refine xw_out0 h1 (br_t rfl ?_)
        simp (disch := omega) only [forall_eq, true_and, and_true, true_implies, false_implies, implies_true, not_true_eq_false, not_false_eq_true, nI_clamp, vp_in_nI, nI_add, ic_m3, ic_m4, ic_m5, ic_m6, ic_m8, ic_m11, ic_m12, ic_m24, ic_m33, ic_p1, ic_p2, ic_p3, ic_p4, ic_p5, ic_p6, ic_p7, ic_p8, ic_q3, ic_d11, ic_r11, ic_d22, ic_n11, ic_n22, ic_n3, ic_n2, ic_oneI, q3]
        refine xw_out1 h2 ?_; exact br_f (by decide) hp
      · by_cases h3 : ic_out v2 32
        · refine ⟨1, ?_⟩
          rw [wY_triggered_2]
          refine br_f (by decide) (yw_out0 h1 (br_t rfl ?_)); refine yw_out1 h3 ?_; exact br_f (by decide) hp
        · obtain ⟨j, hj, rfl⟩ := ic_in (n := 32) (by decide) h3
          refine ⟨34, yw_trL ha hj p (fun _ => hp) (fun c hc z => ?_) 34 0 (by omega) (by omega) (fun y hy => by omega)⟩
          exfalso
          by_cases hcQ : c ∈ Q
          · obtain ⟨i, hi⟩ := List.mem_iff_getElem?.mp hcQ
            have hl : i < Q.length := (List.getElem?_eq_some_iff.mp hi).1
            have h5 := q5 i c hi
            rw [z] at h5
            have := ic_eqn (by omega) (by omega) h5
            exact ic_nout (x := j) (n := Q.length - 1) (y := nI Q.length - 1) (pk_sub (b := 1) (by omega)) (by omega) (by omega) h2
          · rw [q6 c hc hcQ] at z
            have := ic_eqn (a := 0) (by omega) (by omega) z
            omega
    · obtain ⟨j, hj, rfl⟩ := ic_slot (by omega) h2
      have hq := q5 j Q[j] (List.getElem?_eq_some_iff.mpr ⟨hj, rfl⟩)
      have hg := ic_L_get q4 hj
      have hx33 := (q2 Q[j] (List.getElem_mem hj)).1
      refine ⟨((nI Q[j] / 11) * 16) + (nI Q[j] - nI Q[j] / 11 * 11), fun p hp => ?_, fun p hp => ?_⟩
      · unfold wpX_triggered; refine xw_out0 h1 (br_t rfl ?_)
        have e1 : nI a * 33 + nI j = nI (a * 33 + j) := by rw [ic_m33, nI_add]
        rw [nI_clamp (by omega), q3]
        refine ⟨vp_in_nI (by omega) (by omega), xw_out0 h2 (br_t rfl ?_)⟩
        rw [e1, nI_clamp (by omega), hg]
        exact ⟨vp_in_nI (by omega) (by omega), by decide, by decide, hp⟩
      · refine ⟨34, yw_trL ha (by omega) p (fun z => absurd hq (z _ hx33)) (fun c hc z => ?_) 34 0 (by omega) (by omega) (fun y hy => by omega)⟩
        by_cases hcQ : c ∈ Q
        · obtain ⟨i, hi⟩ := List.mem_iff_getElem?.mp hcQ
          have hl : i < Q.length := (List.getElem?_eq_some_iff.mp hi).1
          have h5 := q5 i c hi
          rw [z] at h5
          have e2 := ic_eqn (by omega) (by omega) h5
          have e3 : i = j := by omega
          rw [e3] at hi
          have e4 : Q[j] = c := by
            have := (List.getElem?_eq_some_iff.mp hi).2
            exact this
          rw [← e4]; exact hp
        · rw [q6 c hc hcQ] at z
          have := ic_eqn (a := 0) (by omega) (by omega) z
          omega
end
end
section
/-! lose, nominate, tick -/
section
variable {wn fl : Int32} {nt ro ph ck ch na ns ba ow se tp po pc pb sp sg st rk cx ca mr : Nat → Int32} {fm mb : Nat → Int64} {od os qu qs : Nat → Int32} {qd : Nat → Int64} {rg ft pa bd bo sk sn : Nat → Int32}
theorem ax_lose {k : Nat} (hI : ic_I k ic_E0 wn fl nt ro ph ck ch na ns ba ow se tp po pc pb sp sg st rk cx ca mr fm mb od os qu qs qd rg ft pa bd bo sk sn) (v1 : Int32) : lk_R k (fun p => wpX_lose p (wn, fl, nt, ro, ph, ck, ch, na, ns, ba, ow, se, tp, po, pc, pb, sp, sg, st, rk, cx, ca, mr, fm, mb, od, os, qu, qs, qd, rg, ft) v1) (fun p => wpY_lose p (fl, wn, nt, ro, ph, ck, ch, ns, na, pa, ow, se, bd, bo, st, cx, ca, mr, sk, ba, sn) v1) := by
  have hI0 := hI
  obtain ⟨hnt, hro, hph, hns, how, hse, hst, hmk, hrg, hpn, hch, hob, hop, hsp, hsb, hP, hS, hT, hM, hfm, hO, hK, hQ, hC, hF⟩ := hI
  obtain ⟨f, hf, rfl, hFF⟩ := hF
  by_cases h1 : ic_out v1 (nI f - 1)
  · refine lk_ret 0 hI0 (fun p hp => ?_) (fun p hp => ?_)
    · unfold wpX_lose; refine xw_out1 h1 ?_; exact br_f (by decide) hp
    · unfold wpY_lose; refine yw_out1 h1 ?_; exact br_f (by decide) hp
  · obtain ⟨i, hi, rfl⟩ := ic_slot (by omega) h1
    obtain ⟨ft', pa', g1, g2, g3⟩ := lk_rem hI0 rfl hi hf
    refine lk_ret 1 g1 (fun p hp => ?_) (fun p hp => g3 p hp)
    unfold wpX_lose; refine xw_out0 h1 (br_t rfl ?_)
    exact g2 _ hp
theorem ax_nominate {k : Nat} (hI : ic_I k ic_E0 wn fl nt ro ph ck ch na ns ba ow se tp po pc pb sp sg st rk cx ca mr fm mb od os qu qs qd rg ft pa bd bo sk sn) (v1 v2 v3 : Int32) : lk_R k (fun p => wpX_nominate p (wn, fl, nt, ro, ph, ck, ch, na, ns, ba, ow, se, tp, po, pc, pb, sp, sg, st, rk, cx, ca, mr, fm, mb, od, os, qu, qs, qd, rg, ft) v1 v2 v3) (fun p => wpY_nominate p (fl, wn, nt, ro, ph, ck, ch, ns, na, pa, ow, se, bd, bo, st, cx, ca, mr, sk, ba, sn) v1 v2 v3) := by
  have hI0 := hI
  obtain ⟨hnt, hro, hph, hns, how, hse, hst, hmk, hrg, hpn, hch, hob, hop, hsp, hsb, hP, hS, hT, hM, hfm, hO, hK, hQ, hC, hF⟩ := hI
  by_cases h1 : ic_out v1 1
  · refine lk_ret 0 hI0 (fun p hp => ?_) (fun p hp => ?_)
    · unfold wpX_nominate; refine xw_out1 h1 ?_; exact br_f (by decide) hp
    · unfold wpY_nominate; refine yw_out1 h1 ?_; exact br_f (by decide) hp
  · by_cases h2 : ic_out v2 2
    · refine lk_ret 0 hI0 (fun p hp => ?_) (fun p hp => ?_)
      · unfold wpX_nominate; refine xw_out0 h1 (br_t rfl ?_); refine xw_out1 h2 ?_; exact br_f (by decide) hp
      · unfold wpY_nominate; refine yw_out0 h1 (br_t rfl ?_); refine yw_out1 h2 ?_; exact br_f (by decide) hp
    · by_cases h3 : ic_out v3 10
      · refine lk_ret 0 hI0 (fun p hp => ?_) (fun p hp => ?_)
        · unfold wpX_nominate; refine xw_out0 h1 (br_t rfl ?_); refine xw_out0 h2 (br_t rfl ?_); refine xw_out1 h3 ?_; exact br_f (by decide) hp
        · unfold wpY_nominate; refine yw_out0 h1 (br_t rfl ?_); refine yw_out0 h2 (br_t rfl ?_); refine yw_out1 h3 ?_; exact br_f (by decide) hp
      · obtain ⟨a, ha, rfl⟩ := ic_in (n := 1) (by decide) h1
        obtain ⟨b, hb, rfl⟩ := ic_in (n := 2) (by decide) h2
        obtain ⟨q, hq, rfl⟩ := ic_in (n := 10) (by decide) h3
        obtain ⟨c, ec⟩ : ∃ c, c = b * 11 + q := ⟨_, rfl⟩
        have hc : c < 33 := by omega
        have eY : a * 33 + b * 11 + q = a * 33 + c := by omega
        have eX : b * 11 + q = c := ec.symm
        have goX : ∀ p : Int32 → SX → Prop, ((ph a = 2 → p 4 (wn, fl, nt, ro, ph, ck, ch, na, ns, ba, ow, se, tp, po, pc, pb, sp, sg, st, rk, cx, ca, mr, fm, mb, od, os, qu, qs, qd, rg, ft)) ∧ (¬ ph a = 2 → ((ro a = 1 → ((ph a = 0 → wX_nominate_74 p (nI a) (nI c) 1 wn fl nt ro ph ck ch na ns ba ow se tp po pc pb sp sg st rk cx ca mr fm mb od os qu qs qd rg ft) ∧ (¬ ph a = 0 → wX_nominate_73 p (nI a) (nI c) wn fl nt ro ph ck ch na ns ba ow se tp po pc pb sp sg st rk cx ca mr fm mb od os qu qs qd rg ft))) ∧ (¬ ro a = 1 → wX_nominate_73 p (nI a) (nI c) wn fl nt ro ph ck ch na ns ba ow se tp po pc pb sp sg st rk cx ca mr fm mb od os qu qs qd rg ft)))) → wpX_nominate p (wn, fl, nt, ro, ph, ck, ch, na, ns, ba, ow, se, tp, po, pc, pb, sp, sg, st, rk, cx, ca, mr, fm, mb, od, os, qu, qs, qd, rg, ft) (nI a) (nI b) (nI q) := by
          intro p hp
          unfold wpX_nominate; refine xw_out0 h1 (br_t rfl ?_); refine xw_out0 h2 (br_t rfl ?_); refine xw_out0 h3 (br_t rfl ?_)
          simp (disch := omega) only [forall_eq, true_and, and_true, true_implies, false_implies, implies_true, not_true_eq_false, not_false_eq_true, nI_clamp, vp_in_nI, nI_add, ic_m3, ic_m4, ic_m5, ic_m6, ic_m8, ic_m11, ic_m12, ic_m24, ic_m33, ic_p1, ic_p2, ic_p3, ic_p4, ic_p5, ic_p6, ic_p7, ic_p8, ic_q3, ic_d11, ic_r11, ic_d22, ic_n11, ic_n22, ic_n3, ic_n2, ic_oneI, eX]
          exact hp
        have goY : ∀ p : Int32 → SY → Prop, ((ph a = 2 → p 4 (fl, wn, nt, ro, ph, ck, ch, ns, na, pa, ow, se, bd, bo, st, cx, ca, mr, sk, ba, sn)) ∧ (¬ ph a = 2 → ((ro a = 0 → p 5 (fl, wn, nt, ro, ph, ck, ch, ns, na, pa, ow, se, bd, bo, st, cx, ca, mr, sk, ba, sn)) ∧ (¬ ro a = 0 → ((ph a = 1 → p 5 (fl, wn, nt, ro, ph, ck, ch, ns, na, pa, ow, se, bd, bo, st, cx, ca, mr, sk, ba, sn)) ∧ (¬ ph a = 1 → ((st (a * 33 + c) = 4 → p 1 (fl, wn, nt, ro, upd ph a 1, ck, upd ch a (nI c), ns, na, pa, ow, se, bd, bo, st, cx, ca, mr, sk, ba, sn)) ∧ (¬ st (a * 33 + c) = 4 → p 5 (fl, wn, nt, ro, ph, ck, ch, ns, na, pa, ow, se, bd, bo, st, cx, ca, mr, sk, ba, sn))))))))) → wpY_nominate p (fl, wn, nt, ro, ph, ck, ch, ns, na, pa, ow, se, bd, bo, st, cx, ca, mr, sk, ba, sn) (nI a) (nI b) (nI q) := by
          intro p hp
          unfold wpY_nominate; refine yw_out0 h1 (br_t rfl ?_); refine yw_out0 h2 (br_t rfl ?_); refine yw_out0 h3 (br_t rfl ?_)
          simp (disch := omega) only [forall_eq, true_and, and_true, true_implies, false_implies, implies_true, not_true_eq_false, not_false_eq_true, nI_clamp, vp_in_nI, nI_add, ic_m3, ic_m4, ic_m5, ic_m6, ic_m8, ic_m11, ic_m12, ic_m24, ic_m33, ic_p1, ic_p2, ic_p3, ic_p4, ic_p5, ic_p6, ic_p7, ic_p8, ic_q3, ic_d11, ic_r11, ic_d22, ic_n11, ic_n22, ic_n3, ic_n2, ic_oneI, eX, eY]
          exact hp
        have x73 : ∀ p : Int32 → SX → Prop, p 5 (wn, fl, nt, ro, ph, ck, ch, na, ns, ba, ow, se, tp, po, pc, pb, sp, sg, st, rk, cx, ca, mr, fm, mb, od, os, qu, qs, qd, rg, ft) → wX_nominate_73 p (nI a) (nI c) wn fl nt ro ph ck ch na ns ba ow se tp po pc pb sp sg st rk cx ca mr fm mb od os qu qs qd rg ft := fun p hp => br_t rfl hp
        by_cases hp2 : ph a = 2
        · exact lk_ret 4 hI0 (fun p hp => goX p (br_t hp2 hp)) (fun p hp => goY p (br_t hp2 hp))
        · obtain ⟨r, hr, er⟩ := hro a
          have hr2 : r = 0 ∨ r = 1 := by omega
          rcases hr2 with rfl | rfl
          · exact lk_ret 5 hI0 (fun p hp => goX p (br_f hp2 (br_f (by rw [er]; decide) (x73 p hp)))) (fun p hp => goY p (br_f hp2 (br_t er hp)))
          · have er0 : ¬ ro a = 0 := by rw [er]; decide
            obtain ⟨f, hf, ef⟩ := hph a
            have hf3 : f = 0 ∨ f = 1 ∨ f = 2 := by omega
            rcases hf3 with rfl | rfl | rfl
            · have ef1 : ¬ ph a = 1 := by rw [ef]; decide
              by_cases h4 : st (a * 33 + c) = 4
              · have ens : upd ns a 0 = ns := ic_usame (hpn a ef)
                have hI1 : ic_I k ic_E0 wn fl nt ro (upd ph a 1) ck (upd ch a (nI c)) na ns ba ow se tp po pc pb sp sg st rk cx ca mr fm mb od os qu qs qd rg ft pa bd bo sk sn := by
                  refine ⟨hnt, hro, ic_Ru hph _ 1 (by omega), hns, how, hse, hst, hmk, hrg, ?_, ?_, hob, hop, hsp, hsb, hP, hS, hT, hM, hfm, hO, hK, hQ, hC, hF⟩
                  · intro j z
                    by_cases e : j = a
                    · rw [e, pk_us] at z
                      exact absurd z (by decide)
                    · rw [pk_un e] at z
                      exact hpn j z
                  · intro a' ha' z
                    by_cases e : a' = a
                    · subst e
                      exact ⟨c, hc, pk_us, by rw [h4]; decide⟩
                    · rw [pk_un e] at z ⊢
                      exact hch a' ha' z
                refine lk_ret 1 hI1 (fun p hp => goX p (br_f hp2 (br_t er (br_t ef ?_)))) (fun p hp => goY p (br_f hp2 (br_f er0 (br_f ef1 (br_t h4 hp)))))
                unfold wX_nominate_74
                simp (disch := omega) only [forall_eq, true_and, and_true, true_implies, false_implies, implies_true, not_true_eq_false, not_false_eq_true, nI_clamp, vp_in_nI, nI_add, ic_m3, ic_m4, ic_m5, ic_m6, ic_m8, ic_m11, ic_m12, ic_m24, ic_m33, ic_p1, ic_p2, ic_p3, ic_p4, ic_p5, ic_p6, ic_p7, ic_p8, ic_q3, ic_d11, ic_r11, ic_d22, ic_n11, ic_n22, ic_n3, ic_n2, ic_oneI]
                refine br_f (by decide) (br_t h4 ?_)
                rw [show upd ns a (vp_nar .boolean 0) = ns from ens]
                exact hp
              · refine lk_ret 5 hI0 (fun p hp => goX p (br_f hp2 (br_t er (br_t ef ?_)))) (fun p hp => goY p (br_f hp2 (br_f er0 (br_f ef1 (br_f h4 hp)))))
                unfold wX_nominate_74
                simp (disch := omega) only [forall_eq, true_and, and_true, true_implies, false_implies, implies_true, not_true_eq_false, not_false_eq_true, nI_clamp, vp_in_nI, nI_add, ic_m3, ic_m4, ic_m5, ic_m6, ic_m8, ic_m11, ic_m12, ic_m24, ic_m33, ic_p1, ic_p2, ic_p3, ic_p4, ic_p5, ic_p6, ic_p7, ic_p8, ic_q3, ic_d11, ic_r11, ic_d22, ic_n11, ic_n22, ic_n3, ic_n2, ic_oneI]
                exact br_f (by decide) (br_f h4 hp)
            · exact lk_ret 5 hI0 (fun p hp => goX p (br_f hp2 (br_t er (br_f (by rw [ef]; decide) (x73 p hp))))) (fun p hp => goY p (br_f hp2 (br_f er0 (br_t ef hp))))
            · exact absurd ef hp2
/-- after the clock's step -/
theorem ax_tick2 {k a t : Nat} (hI : ic_I k ic_E0 wn fl nt ro ph ck ch na ns ba ow se tp po pc pb sp sg st rk cx ca mr fm mb od os qu qs qd rg ft pa bd bo sk sn) (hk : k ≤ 5000) (ha : a < 2) (ht : ck a = nI t) (htk : t ≤ k) (hc2 : ic_C2 st ca rg a t) :
    lk_R k (fun p => wpX_isNominationDue (fun r => ((r = 0 → wpX_runCheck p (wn, fl, nt, ro, ph, ck, ch, na, ns, ba, ow, se, tp, po, pc, pb, sp, sg, st, rk, cx, ca, mr, fm, mb, od, os, qu, qs, qd, rg, ft) (nI a)) ∧ (¬ r = 0 → wpX_request (fun u => p 10 u) (wn, fl, nt, ro, ph, ck, ch, upd na a (nI t), upd ns a 1, ba, ow, se, tp, po, pc, pb, sp, sg, st, rk, cx, ca, mr, fm, mb, od, os, qu, qs, qd, rg, ft) (nI a) (ch a) 1))) (wn, fl, nt, ro, ph, ck, ch, na, ns, ba, ow, se, tp, po, pc, pb, sp, sg, st, rk, cx, ca, mr, fm, mb, od, os, qu, qs, qd, rg, ft) (nI a)) (fun p => wY_tick_70 p (nI a) (nI t) fl wn 1 (nI 33) (nI (a * 33 + 33)) nt ro ph ck ch ns na pa ow se bd bo st cx ca mr sk ba sn) := by
  have hI0 := hI
  obtain ⟨hnt, hro, hph, hns, how, hse, hst, hmk, hrg, hpn, hch, hob, hop, hsp, hsb, hP, hS, hT, hM, hfm, hO, hK, hQ, hC, hF⟩ := hI
  have goX : ∀ q : Int32 → Prop, ((ph a = 1 → ((ns a = 0 → q 1) ∧ (¬ ns a = 0 → ((nI t - na a < 4 → q 0) ∧ (¬ nI t - na a < 4 → q 1))))) ∧ (¬ ph a = 1 → q 0)) → wpX_isNominationDue q (wn, fl, nt, ro, ph, ck, ch, na, ns, ba, ow, se, tp, po, pc, pb, sp, sg, st, rk, cx, ca, mr, fm, mb, od, os, qu, qs, qd, rg, ft) (nI a) := by
    intro q hq
    unfold wpX_isNominationDue
    simp (disch := omega) only [forall_eq, true_and, and_true, true_implies, false_implies, implies_true, not_true_eq_false, not_false_eq_true, nI_clamp, vp_in_nI, nI_add, ic_m3, ic_m4, ic_m5, ic_m6, ic_m8, ic_m11, ic_m12, ic_m24, ic_m33, ic_p1, ic_p2, ic_p3, ic_p4, ic_p5, ic_p6, ic_p7, ic_p8, ic_q3, ic_d11, ic_r11, ic_d22, ic_n11, ic_n22, ic_n3, ic_n2, ic_oneI, ht]
    exact hq
  have goY : ∀ p : Int32 → SY → Prop, ((ph a = 1 → ((ns a = 0 → wY_tick_163 p (nI a) (nI t) fl wn nt ro ph ck ch ns na pa ow se bd bo st cx ca mr sk ba sn) ∧ (¬ ns a = 0 → ((nI t - na a < 4 → wY_tick_167 p (nI a) (nI t) fl wn nt ro ph ck ch ns na pa ow se bd bo st cx ca mr sk ba sn) ∧ (¬ nI t - na a < 4 → wY_tick_163 p (nI a) (nI t) fl wn nt ro ph ck ch ns na pa ow se bd bo st cx ca mr sk ba sn))))) ∧ (¬ ph a = 1 → wY_tick_167 p (nI a) (nI t) fl wn nt ro ph ck ch ns na pa ow se bd bo st cx ca mr sk ba sn)) → wY_tick_70 p (nI a) (nI t) fl wn 1 (nI 33) (nI (a * 33 + 33)) nt ro ph ck ch ns na pa ow se bd bo st cx ca mr sk ba sn := by
    intro p hp
    rw [wY_tick_70]
    refine br_t (Int32.le_refl _) ?_
    simp (disch := omega) only [forall_eq, true_and, and_true, true_implies, false_implies, implies_true, not_true_eq_false, not_false_eq_true, nI_clamp, vp_in_nI, nI_add, ic_m3, ic_m4, ic_m5, ic_m6, ic_m8, ic_m11, ic_m12, ic_m24, ic_m33, ic_p1, ic_p2, ic_p3, ic_p4, ic_p5, ic_p6, ic_p7, ic_p8, ic_q3, ic_d11, ic_r11, ic_d22, ic_n11, ic_n22, ic_n3, ic_n2, ic_oneI]
    exact hp
  have notDue : (∀ q : Int32 → Prop, q 0 → wpX_isNominationDue q (wn, fl, nt, ro, ph, ck, ch, na, ns, ba, ow, se, tp, po, pc, pb, sp, sg, st, rk, cx, ca, mr, fm, mb, od, os, qu, qs, qd, rg, ft) (nI a)) → (∀ p : Int32 → SY → Prop, wY_tick_167 p (nI a) (nI t) fl wn nt ro ph ck ch ns na pa ow se bd bo st cx ca mr sk ba sn → wY_tick_70 p (nI a) (nI t) fl wn 1 (nI 33) (nI (a * 33 + 33)) nt ro ph ck ch ns na pa ow se bd bo st cx ca mr sk ba sn) → lk_R k (fun p => wpX_isNominationDue (fun r => ((r = 0 → wpX_runCheck p (wn, fl, nt, ro, ph, ck, ch, na, ns, ba, ow, se, tp, po, pc, pb, sp, sg, st, rk, cx, ca, mr, fm, mb, od, os, qu, qs, qd, rg, ft) (nI a)) ∧ (¬ r = 0 → wpX_request (fun u => p 10 u) (wn, fl, nt, ro, ph, ck, ch, upd na a (nI t), upd ns a 1, ba, ow, se, tp, po, pc, pb, sp, sg, st, rk, cx, ca, mr, fm, mb, od, os, qu, qs, qd, rg, ft) (nI a) (ch a) 1))) (wn, fl, nt, ro, ph, ck, ch, na, ns, ba, ow, se, tp, po, pc, pb, sp, sg, st, rk, cx, ca, mr, fm, mb, od, os, qu, qs, qd, rg, ft) (nI a)) (fun p => wY_tick_70 p (nI a) (nI t) fl wn 1 (nI 33) (nI (a * 33 + 33)) nt ro ph ck ch ns na pa ow se bd bo st cx ca mr sk ba sn) := by
    intro hX hY
    refine lk_mono (fun p hp => hX _ (br_t rfl hp)) (fun p hp => hY p ?_) (lk_run hI0 hk ha ht htk hc2)
    exact br_t rfl (br_t rfl hp)
  have due : ph a = 1 → (∀ q : Int32 → Prop, q 1 → wpX_isNominationDue q (wn, fl, nt, ro, ph, ck, ch, na, ns, ba, ow, se, tp, po, pc, pb, sp, sg, st, rk, cx, ca, mr, fm, mb, od, os, qu, qs, qd, rg, ft) (nI a)) → (∀ p : Int32 → SY → Prop, wY_tick_163 p (nI a) (nI t) fl wn nt ro ph ck ch ns na pa ow se bd bo st cx ca mr sk ba sn → wY_tick_70 p (nI a) (nI t) fl wn 1 (nI 33) (nI (a * 33 + 33)) nt ro ph ck ch ns na pa ow se bd bo st cx ca mr sk ba sn) → lk_R k (fun p => wpX_isNominationDue (fun r => ((r = 0 → wpX_runCheck p (wn, fl, nt, ro, ph, ck, ch, na, ns, ba, ow, se, tp, po, pc, pb, sp, sg, st, rk, cx, ca, mr, fm, mb, od, os, qu, qs, qd, rg, ft) (nI a)) ∧ (¬ r = 0 → wpX_request (fun u => p 10 u) (wn, fl, nt, ro, ph, ck, ch, upd na a (nI t), upd ns a 1, ba, ow, se, tp, po, pc, pb, sp, sg, st, rk, cx, ca, mr, fm, mb, od, os, qu, qs, qd, rg, ft) (nI a) (ch a) 1))) (wn, fl, nt, ro, ph, ck, ch, na, ns, ba, ow, se, tp, po, pc, pb, sp, sg, st, rk, cx, ca, mr, fm, mb, od, os, qu, qs, qd, rg, ft) (nI a)) (fun p => wY_tick_70 p (nI a) (nI t) fl wn 1 (nI 33) (nI (a * 33 + 33)) nt ro ph ck ch ns na pa ow se bd bo st cx ca mr sk ba sn) := by
    intro h1 hX hY
    obtain ⟨c, hc, ec, h0⟩ := hch a ha (by rw [h1]; decide)
    have hI1 : ic_I k ic_E0 wn fl nt ro ph ck ch (upd na a (nI t)) (upd ns a 1) ba ow se tp po pc pb sp sg st rk cx ca mr fm mb od os qu qs qd rg ft pa bd bo sk sn := by
      refine ⟨hnt, hro, hph, ic_Ru hns _ 1 (by omega), how, hse, hst, hmk, hrg, ?_, hch, hob, hop, hsp, hsb, hP, hS, hT, hM, hfm, hO, hK, hQ, hC, hF⟩
      intro j z
      by_cases e : j = a
      · rw [e, h1] at z
        exact absurd z (by decide)
      · rw [pk_un e]; exact hpn j z
    obtain ⟨fl', po', pc', pb', sp', sg', ft', pa', bd', bo', sn', g1, g2, g3⟩ := lk_req (nm := 1) (x3 := 1) hI1 ha hc h0 (Or.inr ⟨rfl, rfl⟩)
    have hne := ic_ne1 c (show c < 2 ^ 31 by omega)
    refine lk_ret 10 g1 (fun p hp => hX _ (br_f (by decide) ?_)) (fun p hp => hY p ?_)
    · rw [ec]
      exact g2 _ hp
    · unfold wY_tick_163 wY_tick_168
      refine br_f (by decide) ?_
      simp (disch := omega) only [forall_eq, true_and, and_true, true_implies, false_implies, implies_true, not_true_eq_false, not_false_eq_true, nI_clamp, vp_in_nI, nI_add, ic_m3, ic_m4, ic_m5, ic_m6, ic_m8, ic_m11, ic_m12, ic_m24, ic_m33, ic_p1, ic_p2, ic_p3, ic_p4, ic_p5, ic_p6, ic_p7, ic_p8, ic_q3, ic_d11, ic_r11, ic_d22, ic_n11, ic_n22, ic_n3, ic_n2, ic_oneI, ec]
      refine br_f (by decide) ⟨34, yw_201s hne p ?_ 33 0 (by omega)⟩
      rw [wY_tick_201]
      refine br_t (Int32.le_refl _) (br_f hne (br_f hne (br_f hne (br_f (by decide) ?_))))
      simp (disch := omega) only [forall_eq, true_and, and_true, true_implies, false_implies, implies_true, not_true_eq_false, not_false_eq_true, nI_clamp, vp_in_nI, nI_add, ic_m3, ic_m4, ic_m5, ic_m6, ic_m8, ic_m11, ic_m12, ic_m24, ic_m33, ic_p1, ic_p2, ic_p3, ic_p4, ic_p5, ic_p6, ic_p7, ic_p8, ic_q3, ic_d11, ic_r11, ic_d22, ic_n11, ic_n22, ic_n3, ic_n2, ic_oneI]
      exact g3 10 p hp
  by_cases h1 : ph a = 1
  · by_cases h2 : ns a = 0
    · exact due h1 (fun q hq => goX q (br_t h1 (br_t h2 hq))) (fun p hp => goY p (br_t h1 (br_t h2 hp)))
    · by_cases h3 : nI t - na a < 4
      · exact notDue (fun q hq => goX q (br_t h1 (br_f h2 (br_t h3 hq)))) (fun p hp => goY p (br_t h1 (br_f h2 (br_t h3 hp))))
      · exact due h1 (fun q hq => goX q (br_t h1 (br_f h2 (br_f h3 hq)))) (fun p hp => goY p (br_t h1 (br_f h2 (br_f h3 hp))))
  · exact notDue (fun q hq => goX q (br_f h1 hq)) (fun p hp => goY p (br_f h1 hp))
theorem ax_tick {k : Nat} (hI : ic_I k ic_E0 wn fl nt ro ph ck ch na ns ba ow se tp po pc pb sp sg st rk cx ca mr fm mb od os qu qs qd rg ft pa bd bo sk sn) (hk : k ≤ 2564) (v1 : Int32) : lk_R (k + 5) (fun p => wpX_tick p (wn, fl, nt, ro, ph, ck, ch, na, ns, ba, ow, se, tp, po, pc, pb, sp, sg, st, rk, cx, ca, mr, fm, mb, od, os, qu, qs, qd, rg, ft) v1) (fun p => wpY_tick p (fl, wn, nt, ro, ph, ck, ch, ns, na, pa, ow, se, bd, bo, st, cx, ca, mr, sk, ba, sn) v1) := by
  have hI0 := hI
  have hI5 := i_Ik wn fl nt ro ph ck ch na ns ba ow se tp po pc pb sp sg st rk cx ca mr fm mb od os qu qs qd rg ft pa bd bo sk sn (show k ≤ k + 5 by omega) hI
  obtain ⟨hnt, hro, hph, hns, how, hse, hst, hmk, hrg, hpn, hch, hob, hop, hsp, hsb, hP, hS, hT, hM, hfm, hO, hK, hQ, hC, hF⟩ := hI
  by_cases h1 : ic_out v1 1
  · refine lk_ret 0 hI5 (fun p hp => ?_) (fun p hp => ?_)
    · unfold wpX_tick; refine xw_out1 h1 ?_; exact br_f (by decide) hp
    · unfold wpY_tick; refine yw_out1 h1 ?_; exact br_f (by decide) hp
  · obtain ⟨a, ha, rfl⟩ := ic_in (n := 1) (by decide) h1
    by_cases hp2 : ph a = 2
    · refine lk_ret 4 hI5 (fun p hp => ?_) (fun p hp => ?_)
      · unfold wpX_tick; refine xw_out0 h1 (br_t rfl ?_)
        simp (disch := omega) only [forall_eq, true_and, and_true, true_implies, false_implies, implies_true, not_true_eq_false, not_false_eq_true, nI_clamp, vp_in_nI, nI_add, ic_m3, ic_m4, ic_m5, ic_m6, ic_m8, ic_m11, ic_m12, ic_m24, ic_m33, ic_p1, ic_p2, ic_p3, ic_p4, ic_p5, ic_p6, ic_p7, ic_p8, ic_q3, ic_d11, ic_r11, ic_d22, ic_n11, ic_n22, ic_n3, ic_n2, ic_oneI]
        exact br_t hp2 hp
      · unfold wpY_tick wY_tick_30; refine yw_out0 h1 (br_t rfl ?_)
        simp (disch := omega) only [forall_eq, true_and, and_true, true_implies, false_implies, implies_true, not_true_eq_false, not_false_eq_true, nI_clamp, vp_in_nI, nI_add, ic_m3, ic_m4, ic_m5, ic_m6, ic_m8, ic_m11, ic_m12, ic_m24, ic_m33, ic_p1, ic_p2, ic_p3, ic_p4, ic_p5, ic_p6, ic_p7, ic_p8, ic_q3, ic_d11, ic_r11, ic_d22, ic_n11, ic_n22, ic_n3, ic_n2, ic_oneI]
        exact br_t hp2 (br_t hp2 hp)
    · by_cases h8 : fl < 8
      · obtain ⟨t, htk, ht, _⟩ := hC a (by omega)
        obtain ⟨st', rg', mb', g1, g2, g3, g4⟩ := lk_exp hI0 hk (show a < 2 by omega) ht htk
        refine lk_mono (fun p hp => ?_) (fun p hp => ?_) (ax_tick2 g1 (by omega) (by omega) pk_us (by omega) g2)
        · unfold wpX_tick; refine xw_out0 h1 (br_t rfl ?_)
          simp (disch := omega) only [forall_eq, true_and, and_true, true_implies, false_implies, implies_true, not_true_eq_false, not_false_eq_true, nI_clamp, vp_in_nI, nI_add, ic_m3, ic_m4, ic_m5, ic_m6, ic_m8, ic_m11, ic_m12, ic_m24, ic_m33, ic_p1, ic_p2, ic_p3, ic_p4, ic_p5, ic_p6, ic_p7, ic_p8, ic_q3, ic_d11, ic_r11, ic_d22, ic_n11, ic_n22, ic_n3, ic_n2, ic_oneI, ht]
          refine br_f hp2 (br_t h8 (g3 _ ?_))
          simp (disch := omega) only [forall_eq, true_and, and_true, true_implies, false_implies, implies_true, not_true_eq_false, not_false_eq_true, nI_clamp, vp_in_nI, nI_add, ic_m3, ic_m4, ic_m5, ic_m6, ic_m8, ic_m11, ic_m12, ic_m24, ic_m33, ic_p1, ic_p2, ic_p3, ic_p4, ic_p5, ic_p6, ic_p7, ic_p8, ic_q3, ic_d11, ic_r11, ic_d22, ic_n11, ic_n22, ic_n3, ic_n2, ic_oneI, pk_us]
          exact hp
        · unfold wpY_tick; refine yw_out0 h1 (br_t rfl ?_)
          simp (disch := omega) only [forall_eq, true_and, and_true, true_implies, false_implies, implies_true, not_true_eq_false, not_false_eq_true, nI_clamp, vp_in_nI, nI_add, ic_m3, ic_m4, ic_m5, ic_m6, ic_m8, ic_m11, ic_m12, ic_m24, ic_m33, ic_p1, ic_p2, ic_p3, ic_p4, ic_p5, ic_p6, ic_p7, ic_p8, ic_q3, ic_d11, ic_r11, ic_d22, ic_n11, ic_n22, ic_n3, ic_n2, ic_oneI, ht]
          exact br_f hp2 (br_t h8 ⟨34, g4 p hp⟩)
      · refine lk_ret 3 hI5 (fun p hp => ?_) (fun p hp => ?_)
        · unfold wpX_tick; refine xw_out0 h1 (br_t rfl ?_)
          simp (disch := omega) only [forall_eq, true_and, and_true, true_implies, false_implies, implies_true, not_true_eq_false, not_false_eq_true, nI_clamp, vp_in_nI, nI_add, ic_m3, ic_m4, ic_m5, ic_m6, ic_m8, ic_m11, ic_m12, ic_m24, ic_m33, ic_p1, ic_p2, ic_p3, ic_p4, ic_p5, ic_p6, ic_p7, ic_p8, ic_q3, ic_d11, ic_r11, ic_d22, ic_n11, ic_n22, ic_n3, ic_n2, ic_oneI]
          exact br_f hp2 (br_f h8 hp)
        · unfold wpY_tick wY_tick_30; refine yw_out0 h1 (br_t rfl ?_)
          simp (disch := omega) only [forall_eq, true_and, and_true, true_implies, false_implies, implies_true, not_true_eq_false, not_false_eq_true, nI_clamp, vp_in_nI, nI_add, ic_m3, ic_m4, ic_m5, ic_m6, ic_m8, ic_m11, ic_m12, ic_m24, ic_m33, ic_p1, ic_p2, ic_p3, ic_p4, ic_p5, ic_p6, ic_p7, ic_p8, ic_q3, ic_d11, ic_r11, ic_d22, ic_n11, ic_n22, ic_n3, ic_n2, ic_oneI]
          exact br_f hp2 (br_f h8 (br_f hp2 hp))
end
end
section
/-! gather and signal -/
theorem i_IE2 {k : Nat} {E E' : Nat → Nat → Prop} (wn fl : Int32) (nt ro ph ck ch na ns ba ow se tp po pc pb sp sg st rk cx ca mr : Nat → Int32) (fm mb : Nat → Int64) (od os qu qs : Nat → Int32) (qd : Nat → Int64) (rg ft pa bd bo sk sn : Nat → Int32) (h : ∀ a c, a < 2 → c < 33 → st (a * 33 + c) ≠ 0 → E a c → E' a c) (hI : ic_I k E wn fl nt ro ph ck ch na ns ba ow se tp po pc pb sp sg st rk cx ca mr fm mb od os qu qs qd rg ft pa bd bo sk sn) : ic_I k E' wn fl nt ro ph ck ch na ns ba ow se tp po pc pb sp sg st rk cx ca mr fm mb od os qu qs qd rg ft pa bd bo sk sn := by
  obtain ⟨hnt, hro, hph, hns, how, hse, hst, hmk, hrg, hpn, hch, hob, hop, hsp, hsb, hP, hS, hT, hM, hfm, hO, hK, hQ, hC, hF⟩ := hI
  refine ⟨hnt, hro, hph, hns, how, hse, hst, hmk, hrg, hpn, hch, hob, hop, hsp, hsb, hP, hS, hT, hM, hfm, hO, ?_, hQ, hC, hF⟩
  intro a ha c hc he z
  exact hK a ha c hc (fun z2 => he (h a c ha hc z z2)) z
section
variable {wn fl : Int32} {nt ro ph ck ch na ns ba ow se tp po pc pb sp sg st rk cx ca mr : Nat → Int32} {fm mb : Nat → Int64} {od os qu qs : Nat → Int32} {qd : Nat → Int64} {rg ft pa bd bo sk sn : Nat → Int32}
theorem xw_fom0 {a c : Nat} (ha : a < 2) (hc : c < 33) (h0 : st (a * 33 + c) = 0) (post : SX → Prop) (hp : wpX_form post (wn, fl, nt, ro, ph, ck, ch, na, ns, ba, ow, se, tp, po, pc, pb, sp, sg, st, rk, cx, ca, mr, fm, mb, od, os, qu, qs, qd, rg, ft) (nI a) (nI c)) : wpX_formOrMove post (wn, fl, nt, ro, ph, ck, ch, na, ns, ba, ow, se, tp, po, pc, pb, sp, sg, st, rk, cx, ca, mr, fm, mb, od, os, qu, qs, qd, rg, ft) (nI a) (nI c) := by
  unfold wpX_formOrMove
  simp (disch := omega) only [forall_eq, true_and, and_true, true_implies, false_implies, implies_true, not_true_eq_false, not_false_eq_true, nI_clamp, vp_in_nI, nI_add, ic_m3, ic_m4, ic_m5, ic_m6, ic_m8, ic_m11, ic_m12, ic_m24, ic_m33, ic_p1, ic_p2, ic_p3, ic_p4, ic_p5, ic_p6, ic_p7, ic_p8, ic_q3, ic_d11, ic_r11, ic_d22, ic_n11, ic_n22, ic_n3, ic_n2, ic_oneI]
  exact br_t h0 hp
theorem xw_fom1 {a c : Nat} (ha : a < 2) (hc : c < 33) (h0 : ¬ st (a * 33 + c) = 0) (post : SX → Prop) (hp : wpX_withdraw (fun u => wpX_insert post u (nI a) (nI c)) (wn, fl, nt, ro, ph, ck, ch, na, ns, ba, ow, se, tp, po, pc, pb, sp, sg, st, rk, cx, ca, mr, fm, mb, od, os, qu, qs, qd, rg, ft) (nI a) (nI c)) : wpX_formOrMove post (wn, fl, nt, ro, ph, ck, ch, na, ns, ba, ow, se, tp, po, pc, pb, sp, sg, st, rk, cx, ca, mr, fm, mb, od, os, qu, qs, qd, rg, ft) (nI a) (nI c) := by
  unfold wpX_formOrMove
  simp (disch := omega) only [forall_eq, true_and, and_true, true_implies, false_implies, implies_true, not_true_eq_false, not_false_eq_true, nI_clamp, vp_in_nI, nI_add, ic_m3, ic_m4, ic_m5, ic_m6, ic_m8, ic_m11, ic_m12, ic_m24, ic_m33, ic_p1, ic_p2, ic_p3, ic_p4, ic_p5, ic_p6, ic_p7, ic_p8, ic_q3, ic_d11, ic_r11, ic_d22, ic_n11, ic_n22, ic_n3, ic_n2, ic_oneI]
  exact br_f h0 hp
theorem yw_170s {a b : Nat} (hb : 3 ≤ b) (hb4 : b ≤ 4) (p : Int32 → SY → Prop) (hp : p 1 (fl, wn, nt, ro, ph, ck, ch, ns, na, pa, ow, se, bd, bo, st, cx, ca, mr, sk, ba, sn)) : ∀ d x : Nat, x + d = 11 → wY_gather_170 p (nI a) (nI b) (d + 1) (nI x) fl wn nt ro ph ck ch ns na pa ow se bd bo st cx ca mr sk ba sn := by
  intro d
  induction d with
  | zero =>
    intro x h
    have e : x = 11 := by omega
    rw [e, wY_gather_170]
    exact br_t (Int32.le_refl _) hp
  | succ d ih =>
    intro x h
    rw [wY_gather_170]
    exact br_f (nI_ge (b := 11) (by omega) (by omega)) (br_t (nI_le (a := 3) hb (by omega)) (nm_r (nI_1 x) (ih (x + 1) (by omega))))
theorem lk_gl {k a b : Nat} (ha : a < 2) (hb : b < 3) : ∀ (d x : Nat) (st rk od os : Nat → Int32) (fm mb : Nat → Int64), x + d = 11 → ic_I k ic_E0 wn fl nt ro ph ck ch na ns ba ow se tp po pc pb sp sg st rk cx ca mr fm mb od os qu qs qd rg ft pa bd bo sk sn → (∀ y, x ≤ y → y < 11 → st (a * 33 + (b * 11 + y)) = 0) → ba (a * 3 + b) ≠ 0 →
    lk_R k (fun p => wX_gatherBase_49 p (nI a) (nI b) (d + 1) (nI x) wn fl nt ro ph ck ch na ns ba ow se tp po pc pb sp sg st rk cx ca mr fm mb od os qu qs qd rg ft) (fun p => wY_gather_170 p (nI a) (nI b) (d + 1) (nI x) fl wn nt ro ph ck ch ns na pa ow se bd bo st cx ca mr sk ba sn) := by
  intro d
  induction d with
  | zero =>
    intro x st rk od os fm mb h hI _ _
    have e : x = 11 := by omega
    subst e
    refine lk_ret 1 hI (fun p hp => ?_) (fun p hp => ?_)
    · rw [wX_gatherBase_49]
      exact br_t (Int32.le_refl _) hp
    · rw [wY_gather_170]
      exact br_t (Int32.le_refl _) hp
  | succ d ih =>
    intro x st rk od os fm mb h hI hz hba
    have h11 : ¬ (11 : Int32) ≤ nI x := nI_ge (b := 11) (by omega) (by omega)
    have h3 : ¬ (3 : Int32) ≤ nI b := nI_ge (b := 3) (by omega) (by omega)
    by_cases hl : se (a * 11 + x) = 0 ∨ se (a * 11 + x) = 3
    · refine lk_mono (fun p hp => ?_) (fun p hp => ?_) (ih (x + 1) st rk od os fm mb (by omega) hI (fun y h1 h2 => hz y (by omega) h2) hba)
      · rw [wX_gatherBase_49]
        refine br_f h11 ?_
        simp (disch := omega) only [forall_eq, true_and, and_true, true_implies, false_implies, implies_true, not_true_eq_false, not_false_eq_true, nI_clamp, vp_in_nI, nI_add, ic_m3, ic_m4, ic_m5, ic_m6, ic_m8, ic_m11, ic_m12, ic_m24, ic_m33, ic_p1, ic_p2, ic_p3, ic_p4, ic_p5, ic_p6, ic_p7, ic_p8, ic_q3, ic_d11, ic_r11, ic_d22, ic_n11, ic_n22, ic_n3, ic_n2, ic_oneI]
        refine xw_last ?_
        exact br_t (ic_last0 hl) hp
      · rw [wY_gather_170]
        refine br_f h11 (br_f h3 ?_)
        simp (disch := omega) only [forall_eq, true_and, and_true, true_implies, false_implies, implies_true, not_true_eq_false, not_false_eq_true, nI_clamp, vp_in_nI, nI_add, ic_m3, ic_m4, ic_m5, ic_m6, ic_m8, ic_m11, ic_m12, ic_m24, ic_m33, ic_p1, ic_p2, ic_p3, ic_p4, ic_p5, ic_p6, ic_p7, ic_p8, ic_q3, ic_d11, ic_r11, ic_d22, ic_n11, ic_n22, ic_n3, ic_n2, ic_oneI]
        refine yw_last ?_
        exact br_t (ic_last0 hl) hp
    · have hl0 : se (a * 11 + x) ≠ 0 := fun z => hl (Or.inl z)
      have hl3 : se (a * 11 + x) ≠ 3 := fun z => hl (Or.inr z)
      have e1 : (b * 11 + x) / 11 = b := by omega
      have e2 : (b * 11 + x) % 11 = x := by omega
      obtain ⟨s, st', rk', od', os', fm', mb', hs, est, g1, g2, g3⟩ := lk_form (c := b * 11 + x) hI ha (by omega) (hz x (Nat.le_refl _) (by omega)) (by rw [e1]; exact hba) (by rw [e2]; exact hl0)
      refine lk_mono (fun p hp => ?_) (fun p hp => ?_) (ih (x + 1) st' rk' od' os' fm' mb' (by omega) (i_IE _ _ _ _ _ _ _ _ _ _ _ _ _ _ _ _ _ _ _ _ _ _ _ _ _ _ _ _ _ _ _ _ _ _ _ _ _ (fun _ _ z => z.1) g1) (fun y h1 h2 => by rw [est, pk_un (by omega)]; exact hz y (by omega) h2) hba)
      · rw [wX_gatherBase_49]
        refine br_f h11 ?_
        simp (disch := omega) only [forall_eq, true_and, and_true, true_implies, false_implies, implies_true, not_true_eq_false, not_false_eq_true, nI_clamp, vp_in_nI, nI_add, ic_m3, ic_m4, ic_m5, ic_m6, ic_m8, ic_m11, ic_m12, ic_m24, ic_m33, ic_p1, ic_p2, ic_p3, ic_p4, ic_p5, ic_p6, ic_p7, ic_p8, ic_q3, ic_d11, ic_r11, ic_d22, ic_n11, ic_n22, ic_n3, ic_n2, ic_oneI]
        refine xw_last ?_
        refine br_f (by rw [ic_last1 hl0 hl3]; decide) ?_
        refine xw_fom0 ha (by omega) (hz x (Nat.le_refl _) (by omega)) _ (g2 _ ?_)
        exact hp
      · rw [wY_gather_170]
        refine br_f h11 (br_f h3 ?_)
        simp (disch := omega) only [forall_eq, true_and, and_true, true_implies, false_implies, implies_true, not_true_eq_false, not_false_eq_true, nI_clamp, vp_in_nI, nI_add, ic_m3, ic_m4, ic_m5, ic_m6, ic_m8, ic_m11, ic_m12, ic_m24, ic_m33, ic_p1, ic_p2, ic_p3, ic_p4, ic_p5, ic_p6, ic_p7, ic_p8, ic_q3, ic_d11, ic_r11, ic_d22, ic_n11, ic_n22, ic_n3, ic_n2, ic_oneI]
        refine yw_last ?_
        refine br_f (by rw [ic_last1 hl0 hl3]; decide) ?_
        exact g3 _ hp
theorem ax_gather {k : Nat} (hI : ic_I k ic_E0 wn fl nt ro ph ck ch na ns ba ow se tp po pc pb sp sg st rk cx ca mr fm mb od os qu qs qd rg ft pa bd bo sk sn) (v1 v2 : Int32) : lk_R k (fun p => wpX_gather p (wn, fl, nt, ro, ph, ck, ch, na, ns, ba, ow, se, tp, po, pc, pb, sp, sg, st, rk, cx, ca, mr, fm, mb, od, os, qu, qs, qd, rg, ft) v1 v2) (fun p => wpY_gather p (fl, wn, nt, ro, ph, ck, ch, ns, na, pa, ow, se, bd, bo, st, cx, ca, mr, sk, ba, sn) v1 v2) := by
  have hI0 := hI
  obtain ⟨hnt, hro, hph, hns, how, hse, hst, hmk, hrg, hpn, hch, hob, hop, hsp, hsb, hP, hS, hT, hM, hfm, hO, hK, hQ, hC, hF⟩ := hI
  by_cases h1 : ic_out v1 1
  · refine lk_ret 0 hI0 (fun p hp => ?_) (fun p hp => ?_)
    · unfold wpX_gather; refine xw_out1 h1 ?_; exact br_f (by decide) hp
    · unfold wpY_gather; refine yw_out1 h1 ?_; exact br_f (by decide) hp
  · by_cases h2 : ic_out v2 4
    · refine lk_ret 0 hI0 (fun p hp => ?_) (fun p hp => ?_)
      · unfold wpX_gather; refine xw_out0 h1 (br_t rfl ?_); refine xw_out1 h2 ?_; exact br_f (by decide) hp
      · unfold wpY_gather; refine yw_out0 h1 (br_t rfl ?_); refine yw_out1 h2 ?_; exact br_f (by decide) hp
    · obtain ⟨a, ha, rfl⟩ := ic_in (n := 1) (by decide) h1
      obtain ⟨b, hb, rfl⟩ := ic_in (n := 4) (by decide) h2
      have ha2 : a < 2 := by omega
      by_cases hp2 : ph a = 2
      · refine lk_ret 4 hI0 (fun p hp => ?_) (fun p hp => ?_)
        · unfold wpX_gather; refine xw_out0 h1 (br_t rfl ?_); refine xw_out0 h2 (br_t rfl ?_)
          simp (disch := omega) only [forall_eq, true_and, and_true, true_implies, false_implies, implies_true, not_true_eq_false, not_false_eq_true, nI_clamp, vp_in_nI, nI_add, ic_m3, ic_m4, ic_m5, ic_m6, ic_m8, ic_m11, ic_m12, ic_m24, ic_m33, ic_p1, ic_p2, ic_p3, ic_p4, ic_p5, ic_p6, ic_p7, ic_p8, ic_q3, ic_d11, ic_r11, ic_d22, ic_n11, ic_n22, ic_n3, ic_n2, ic_oneI]
          exact br_t hp2 hp
        · unfold wpY_gather; refine yw_out0 h1 (br_t rfl ?_); refine yw_out0 h2 (br_t rfl ?_)
          simp (disch := omega) only [forall_eq, true_and, and_true, true_implies, false_implies, implies_true, not_true_eq_false, not_false_eq_true, nI_clamp, vp_in_nI, nI_add, ic_m3, ic_m4, ic_m5, ic_m6, ic_m8, ic_m11, ic_m12, ic_m24, ic_m33, ic_p1, ic_p2, ic_p3, ic_p4, ic_p5, ic_p6, ic_p7, ic_p8, ic_q3, ic_d11, ic_r11, ic_d22, ic_n11, ic_n22, ic_n3, ic_n2, ic_oneI]
          exact br_t hp2 hp
      · by_cases h3 : 3 ≤ b
        · have h3' : (3 : Int32) ≤ nI b := nI_le (a := 3) h3 (by omega)
          have h2' : ¬ nI b ≤ 2 := nI_ge (a := 2) (by omega) (by omega)
          have eb : nI b - 3 = nI (b - 3) := pk_sub (b := 3) h3
          have eb2 : nI (a * 3 + b) - 3 = nI (a * 3 + (b - 3)) := by
            rw [show nI (a * 3 + b) - 3 = nI (a * 3 + b - 3) from pk_sub (b := 3) (by omega), show a * 3 + b - 3 = a * 3 + (b - 3) by omega]
          have goX : ∀ p : Int32 → SX → Prop, wpX_gatherReflexive p (wn, fl, nt, ro, ph, ck, ch, na, ns, ba, ow, se, tp, po, pc, pb, sp, sg, st, rk, cx, ca, mr, fm, mb, od, os, qu, qs, qd, rg, ft) (nI a) (nI (b - 3)) → wpX_gather p (wn, fl, nt, ro, ph, ck, ch, na, ns, ba, ow, se, tp, po, pc, pb, sp, sg, st, rk, cx, ca, mr, fm, mb, od, os, qu, qs, qd, rg, ft) (nI a) (nI b) := by
            intro p hp
            unfold wpX_gather; refine xw_out0 h1 (br_t rfl ?_); refine xw_out0 h2 (br_t rfl ?_)
            simp (disch := omega) only [forall_eq, true_and, and_true, true_implies, false_implies, implies_true, not_true_eq_false, not_false_eq_true, nI_clamp, vp_in_nI, nI_add, ic_m3, ic_m4, ic_m5, ic_m6, ic_m8, ic_m11, ic_m12, ic_m24, ic_m33, ic_p1, ic_p2, ic_p3, ic_p4, ic_p5, ic_p6, ic_p7, ic_p8, ic_q3, ic_d11, ic_r11, ic_d22, ic_n11, ic_n22, ic_n3, ic_n2, ic_oneI, eb]
            exact br_f hp2 (br_t h3' hp)
          have goY : ∀ p : Int32 → SY → Prop, ((ba (a * 3 + (b - 3)) = 0 → p 5 (fl, wn, nt, ro, ph, ck, ch, ns, na, pa, ow, se, bd, bo, st, cx, ca, mr, sk, ba, sn)) ∧ (¬ ba (a * 3 + (b - 3)) = 0 → wY_gather_74 p (nI a) (nI b) fl wn nt ro ph ck ch ns na pa ow se bd bo st cx ca mr sk ba sn)) → wpY_gather p (fl, wn, nt, ro, ph, ck, ch, ns, na, pa, ow, se, bd, bo, st, cx, ca, mr, sk, ba, sn) (nI a) (nI b) := by
            intro p hp
            unfold wpY_gather wY_gather_52; refine yw_out0 h1 (br_t rfl ?_); refine yw_out0 h2 (br_t rfl ?_)
            simp (disch := omega) only [forall_eq, true_and, and_true, true_implies, false_implies, implies_true, not_true_eq_false, not_false_eq_true, nI_clamp, vp_in_nI, nI_add, ic_m3, ic_m4, ic_m5, ic_m6, ic_m8, ic_m11, ic_m12, ic_m24, ic_m33, ic_p1, ic_p2, ic_p3, ic_p4, ic_p5, ic_p6, ic_p7, ic_p8, ic_q3, ic_d11, ic_r11, ic_d22, ic_n11, ic_n22, ic_n3, ic_n2, ic_oneI, eb2]
            exact br_f hp2 (br_t h3' (br_f h2' hp))
          by_cases hb0 : ba (a * 3 + (b - 3)) = 0
          · refine lk_ret 5 hI0 (fun p hp => goX p ?_) (fun p hp => goY p (br_t hb0 hp))
            unfold wpX_gatherReflexive
            simp (disch := omega) only [forall_eq, true_and, and_true, true_implies, false_implies, implies_true, not_true_eq_false, not_false_eq_true, nI_clamp, vp_in_nI, nI_add, ic_m3, ic_m4, ic_m5, ic_m6, ic_m8, ic_m11, ic_m12, ic_m24, ic_m33, ic_p1, ic_p2, ic_p3, ic_p4, ic_p5, ic_p6, ic_p7, ic_p8, ic_q3, ic_d11, ic_r11, ic_d22, ic_n11, ic_n22, ic_n3, ic_n2, ic_oneI]
            exact br_t hb0 hp
          · obtain ⟨r, po', pc', pb', sp', sg', bd', bo', sn', g1, gm, g2, g3, g4⟩ := lk_send (b := b - 3) (d := 11) hI0 ha2 (by omega) (by omega) hb0
            rcases g2 with er | ⟨q, hq, er, hq3, hqb⟩
            · refine lk_ret 3 g1 (fun p hp => goX p ?_) (fun p hp => goY p (br_f hb0 ?_))
              · unfold wpX_gatherReflexive
                simp (disch := omega) only [forall_eq, true_and, and_true, true_implies, false_implies, implies_true, not_true_eq_false, not_false_eq_true, nI_clamp, vp_in_nI, nI_add, ic_m3, ic_m4, ic_m5, ic_m6, ic_m8, ic_m11, ic_m12, ic_m24, ic_m33, ic_p1, ic_p2, ic_p3, ic_p4, ic_p5, ic_p6, ic_p7, ic_p8, ic_q3, ic_d11, ic_r11, ic_d22, ic_n11, ic_n22, ic_n3, ic_n2, ic_oneI]
                refine br_f hb0 (g3 _ ?_)
                exact br_t er hp
              · unfold wY_gather_74
                rw [eb]
                refine br_t h3' (g4 _ ?_)
                unfold wY_gather_93
                exact nm_e (br_t er hp)
            · subst er
              have hne := ic_ne1 q (show q < 2 ^ 31 by omega)
              by_cases hl : ow (a * 11 + q) = 0 ∨ ow (a * 11 + q) = 3
              · have hI1 : ic_I k ic_E0 wn fl nt ro ph ck ch na ns ba (upd ow (a * 11 + q) 2) se tp po' pc' pb' sp' sg' st rk cx ca mr fm mb od os qu qs qd rg ft pa bd' bo' sk sn' := by
                  obtain ⟨hnt, hro, hph, hns, how, hse, hst, hmk, hrg, hpn, hch, hob, hop, hsp, hsb, hP, hS, hT, hM, hfm, hO, hK, hQ, hC, hF⟩ := g1
                  refine ⟨hnt, hro, hph, hns, ic_Ru how _ 2 (by omega), hse, hst, hmk, hrg, hpn, hch, ?_, ?_, hsp, hsb, hP, hS, hT, hM, hfm, hO, hK, hQ, hC, hF⟩
                  · intro a' ha' q' hq' z
                    rw [pk_un]
                    · exact hob a' ha' q' hq' z
                    · intro e
                      have e1 : a' = a := by omega
                      have e2 : q' = q := by omega
                      rw [e1, e2, hqb (by omega)] at z
                      exact hb0 z
                  · intro a' ha' q' q3 q11 z
                    by_cases e : a' * 11 + q' = a * 11 + q
                    · have e1 : a' = a := by omega
                      have e2 : q' = q := by omega
                      rw [e1, e2]; exact hq3 (by omega)
                    · rw [pk_un e] at z
                      exact hop a' ha' q' q3 q11 z
                refine lk_ret 1 hI1 (fun p hp => goX p ?_) (fun p hp => goY p (br_f hb0 ?_))
                · unfold wpX_gatherReflexive
                  simp (disch := omega) only [forall_eq, true_and, and_true, true_implies, false_implies, implies_true, not_true_eq_false, not_false_eq_true, nI_clamp, vp_in_nI, nI_add, ic_m3, ic_m4, ic_m5, ic_m6, ic_m8, ic_m11, ic_m12, ic_m24, ic_m33, ic_p1, ic_p2, ic_p3, ic_p4, ic_p5, ic_p6, ic_p7, ic_p8, ic_q3, ic_d11, ic_r11, ic_d22, ic_n11, ic_n22, ic_n3, ic_n2, ic_oneI]
                  refine br_f hb0 (g3 _ ?_)
                  refine br_f hne ?_
                  simp (disch := omega) only [forall_eq, true_and, and_true, true_implies, false_implies, implies_true, not_true_eq_false, not_false_eq_true, nI_clamp, vp_in_nI, nI_add, ic_m3, ic_m4, ic_m5, ic_m6, ic_m8, ic_m11, ic_m12, ic_m24, ic_m33, ic_p1, ic_p2, ic_p3, ic_p4, ic_p5, ic_p6, ic_p7, ic_p8, ic_q3, ic_d11, ic_r11, ic_d22, ic_n11, ic_n22, ic_n3, ic_n2, ic_oneI]
                  refine xw_last ?_
                  exact br_t (ic_last0 hl) hp
                · unfold wY_gather_74
                  rw [eb]
                  refine br_t h3' (g4 _ ?_)
                  unfold wY_gather_93
                  simp (disch := omega) only [forall_eq, true_and, and_true, true_implies, false_implies, implies_true, not_true_eq_false, not_false_eq_true, nI_clamp, vp_in_nI, nI_add, ic_m3, ic_m4, ic_m5, ic_m6, ic_m8, ic_m11, ic_m12, ic_m24, ic_m33, ic_p1, ic_p2, ic_p3, ic_p4, ic_p5, ic_p6, ic_p7, ic_p8, ic_q3, ic_d11, ic_r11, ic_d22, ic_n11, ic_n22, ic_n3, ic_n2, ic_oneI]
                  refine br_f hne (yw_last (br_t (ic_last0 hl) (br_f h2' ?_)))
                  unfold wY_gather_150
                  simp (disch := omega) only [forall_eq, true_and, and_true, true_implies, false_implies, implies_true, not_true_eq_false, not_false_eq_true, nI_clamp, vp_in_nI, nI_add, ic_m3, ic_m4, ic_m5, ic_m6, ic_m8, ic_m11, ic_m12, ic_m24, ic_m33, ic_p1, ic_p2, ic_p3, ic_p4, ic_p5, ic_p6, ic_p7, ic_p8, ic_q3, ic_d11, ic_r11, ic_d22, ic_n11, ic_n22, ic_n3, ic_n2, ic_oneI]
                  refine br_t h3' ⟨12, yw_170s h3 hb p hp 11 0 (by omega)⟩
              · have hl0 : ow (a * 11 + q) ≠ 0 := fun z => hl (Or.inl z)
                have hl3 : ow (a * 11 + q) ≠ 3 := fun z => hl (Or.inr z)
                have h10 : ¬ ic_last (ow (a * 11 + q)) = 0 := by rw [ic_last1 hl0 hl3]; decide
                refine lk_ret 2 g1 (fun p hp => goX p ?_) (fun p hp => goY p (br_f hb0 ?_))
                · unfold wpX_gatherReflexive
                  simp (disch := omega) only [forall_eq, true_and, and_true, true_implies, false_implies, implies_true, not_true_eq_false, not_false_eq_true, nI_clamp, vp_in_nI, nI_add, ic_m3, ic_m4, ic_m5, ic_m6, ic_m8, ic_m11, ic_m12, ic_m24, ic_m33, ic_p1, ic_p2, ic_p3, ic_p4, ic_p5, ic_p6, ic_p7, ic_p8, ic_q3, ic_d11, ic_r11, ic_d22, ic_n11, ic_n22, ic_n3, ic_n2, ic_oneI]
                  refine br_f hb0 (g3 _ ?_)
                  refine br_f hne ?_
                  simp (disch := omega) only [forall_eq, true_and, and_true, true_implies, false_implies, implies_true, not_true_eq_false, not_false_eq_true, nI_clamp, vp_in_nI, nI_add, ic_m3, ic_m4, ic_m5, ic_m6, ic_m8, ic_m11, ic_m12, ic_m24, ic_m33, ic_p1, ic_p2, ic_p3, ic_p4, ic_p5, ic_p6, ic_p7, ic_p8, ic_q3, ic_d11, ic_r11, ic_d22, ic_n11, ic_n22, ic_n3, ic_n2, ic_oneI]
                  refine xw_last ?_
                  exact br_f h10 hp
                · unfold wY_gather_74
                  rw [eb]
                  refine br_t h3' (g4 _ ?_)
                  unfold wY_gather_93
                  simp (disch := omega) only [forall_eq, true_and, and_true, true_implies, false_implies, implies_true, not_true_eq_false, not_false_eq_true, nI_clamp, vp_in_nI, nI_add, ic_m3, ic_m4, ic_m5, ic_m6, ic_m8, ic_m11, ic_m12, ic_m24, ic_m33, ic_p1, ic_p2, ic_p3, ic_p4, ic_p5, ic_p6, ic_p7, ic_p8, ic_q3, ic_d11, ic_r11, ic_d22, ic_n11, ic_n22, ic_n3, ic_n2, ic_oneI]
                  exact br_f hne (yw_last (br_f h10 hp))
        · have h3' : ¬ (3 : Int32) ≤ nI b := nI_ge (b := 3) (by omega) (by omega)
          have h2' : nI b ≤ 2 := nI_le (b := 2) (by omega) (by omega)
          have goX : ∀ p : Int32 → SX → Prop, wpX_gatherBase p (wn, fl, nt, ro, ph, ck, ch, na, ns, ba, ow, se, tp, po, pc, pb, sp, sg, st, rk, cx, ca, mr, fm, mb, od, os, qu, qs, qd, rg, ft) (nI a) (nI b) → wpX_gather p (wn, fl, nt, ro, ph, ck, ch, na, ns, ba, ow, se, tp, po, pc, pb, sp, sg, st, rk, cx, ca, mr, fm, mb, od, os, qu, qs, qd, rg, ft) (nI a) (nI b) := by
            intro p hp
            unfold wpX_gather; refine xw_out0 h1 (br_t rfl ?_); refine xw_out0 h2 (br_t rfl ?_)
            simp (disch := omega) only [forall_eq, true_and, and_true, true_implies, false_implies, implies_true, not_true_eq_false, not_false_eq_true, nI_clamp, vp_in_nI, nI_add, ic_m3, ic_m4, ic_m5, ic_m6, ic_m8, ic_m11, ic_m12, ic_m24, ic_m33, ic_p1, ic_p2, ic_p3, ic_p4, ic_p5, ic_p6, ic_p7, ic_p8, ic_q3, ic_d11, ic_r11, ic_d22, ic_n11, ic_n22, ic_n3, ic_n2, ic_oneI]
            exact br_f hp2 (br_f h3' hp)
          have goY : ∀ p : Int32 → SY → Prop, ((ba (a * 3 + b) = 0 → wY_gather_52 p (nI a) (nI b) fl wn nt ro ph ck ch ns na pa ow se bd bo st cx ca mr sk ba sn) ∧ (¬ ba (a * 3 + b) = 0 → p 2 (fl, wn, nt, ro, ph, ck, ch, ns, na, pa, ow, se, bd, bo, st, cx, ca, mr, sk, ba, sn))) → wpY_gather p (fl, wn, nt, ro, ph, ck, ch, ns, na, pa, ow, se, bd, bo, st, cx, ca, mr, sk, ba, sn) (nI a) (nI b) := by
            intro p hp
            unfold wpY_gather; refine yw_out0 h1 (br_t rfl ?_); refine yw_out0 h2 (br_t rfl ?_)
            simp (disch := omega) only [forall_eq, true_and, and_true, true_implies, false_implies, implies_true, not_true_eq_false, not_false_eq_true, nI_clamp, vp_in_nI, nI_add, ic_m3, ic_m4, ic_m5, ic_m6, ic_m8, ic_m11, ic_m12, ic_m24, ic_m33, ic_p1, ic_p2, ic_p3, ic_p4, ic_p5, ic_p6, ic_p7, ic_p8, ic_q3, ic_d11, ic_r11, ic_d22, ic_n11, ic_n22, ic_n3, ic_n2, ic_oneI]
            exact br_f hp2 (br_f h3' hp)
          by_cases hb0 : ba (a * 3 + b) = 0
          · have how0 := hob a ha2 b (by omega) hb0
            have hne := ic_ne1 b (show b < 2 ^ 31 by omega)
            have step : ∀ w : Nat, 1 ≤ w → w ≤ 4 → lk_R k (fun p => wX_gatherBase_49 p (nI a) (nI b) 12 (nI 0) wn fl nt ro ph ck ch na ns (upd ba (a * 3 + b) 1) (upd ow (a * 11 + b) (nI w)) se tp po pc pb sp sg st rk cx ca mr fm mb od os qu qs qd rg ft) (fun p => wY_gather_170 p (nI a) (nI b) 12 (nI 0) fl wn nt ro ph ck ch ns na pa (upd ow (a * 11 + b) (nI w)) se bd bo st cx ca mr sk (upd ba (a * 3 + b) 1) sn) := by
              intro w w1 w4
              have mono : ∀ j, ba j ≠ 0 → upd ba (a * 3 + b) 1 j ≠ 0 := fun j z => ic_umono (by decide) z
              refine lk_gl ha2 (by omega) 11 0 st rk od os fm mb (by omega) ?_ (fun y _ hy => ?_) (by rw [pk_us]; decide)
              · refine ⟨hnt, hro, hph, hns, ic_Ru how _ w w4, hse, hst, hmk, hrg, hpn, hch, ?_, ?_, hsp, ?_, ?_, hS, hT, hM, hfm, hO, hK, hQ, hC, hF⟩
                · intro a' ha' q hq z
                  by_cases e : a' * 3 + q = a * 3 + b
                  · rw [e, pk_us] at z
                    exact absurd z (by decide)
                  · rw [pk_un e] at z
                    rw [pk_un (by omega)]
                    exact hob a' ha' q hq z
                · intro a' ha' q q3 q11 z
                  rw [pk_un (by omega)] at z
                  exact hop a' ha' q q3 q11 z
                · intro a' ha' c hc z
                  exact ⟨mono _ (hsb a' ha' c hc z).1, (hsb a' ha' c hc z).2⟩
                · intro a' ha'
                  obtain ⟨n, y1, y2, y3, y4, y5⟩ := hP a' ha'
                  refine ⟨n, y1, y2, fun q q3 qn => ?_, y4, y5⟩
                  obtain ⟨b', d', z1, z2, z3, z4, z5, z6, z7⟩ := y3 q q3 qn
                  exact ⟨b', d', z1, z2, z3, z4, mono _ z5, z6, z7⟩
              · apply Decidable.byContradiction
                intro z
                have := (hsb a ha2 (b * 11 + y) (by omega) z).1
                rw [show (b * 11 + y) / 11 = b by omega] at this
                exact this hb0
            by_cases hb2 : b = 2
            · have eb2 : nI b = 2 := by rw [hb2]; rfl
              refine lk_mono (fun p hp => goX p ?_) (fun p hp => goY p (br_t hb0 ?_)) (step 1 (by omega) (by omega))
              · unfold wpX_gatherBase
                simp (disch := omega) only [forall_eq, true_and, and_true, true_implies, false_implies, implies_true, not_true_eq_false, not_false_eq_true, nI_clamp, vp_in_nI, nI_add, ic_m3, ic_m4, ic_m5, ic_m6, ic_m8, ic_m11, ic_m12, ic_m24, ic_m33, ic_p1, ic_p2, ic_p3, ic_p4, ic_p5, ic_p6, ic_p7, ic_p8, ic_q3, ic_d11, ic_r11, ic_d22, ic_n11, ic_n22, ic_n3, ic_n2, ic_oneI]
                exact br_t hb0 (br_t eb2 ⟨12, hp⟩)
              · unfold wY_gather_52
                refine br_t h2' (br_f h3' ?_)
                unfold wY_gather_93
                simp (disch := omega) only [forall_eq, true_and, and_true, true_implies, false_implies, implies_true, not_true_eq_false, not_false_eq_true, nI_clamp, vp_in_nI, nI_add, ic_m3, ic_m4, ic_m5, ic_m6, ic_m8, ic_m11, ic_m12, ic_m24, ic_m33, ic_p1, ic_p2, ic_p3, ic_p4, ic_p5, ic_p6, ic_p7, ic_p8, ic_q3, ic_d11, ic_r11, ic_d22, ic_n11, ic_n22, ic_n3, ic_n2, ic_oneI]
                refine br_f hne (yw_last (br_t (ic_last0 (Or.inl how0)) (br_t h2' (br_t eb2 ?_))))
                unfold wY_gather_150
                simp (disch := omega) only [forall_eq, true_and, and_true, true_implies, false_implies, implies_true, not_true_eq_false, not_false_eq_true, nI_clamp, vp_in_nI, nI_add, ic_m3, ic_m4, ic_m5, ic_m6, ic_m8, ic_m11, ic_m12, ic_m24, ic_m33, ic_p1, ic_p2, ic_p3, ic_p4, ic_p5, ic_p6, ic_p7, ic_p8, ic_q3, ic_d11, ic_r11, ic_d22, ic_n11, ic_n22, ic_n3, ic_n2, ic_oneI]
                exact br_f h3' ⟨12, hp⟩
            · have eb2 : ¬ nI b = 2 := fun z => hb2 (ic_eqn (b := 2) (by omega) (by omega) z)
              refine lk_mono (fun p hp => goX p ?_) (fun p hp => goY p (br_t hb0 ?_)) (step 4 (by omega) (by omega))
              · unfold wpX_gatherBase
                simp (disch := omega) only [forall_eq, true_and, and_true, true_implies, false_implies, implies_true, not_true_eq_false, not_false_eq_true, nI_clamp, vp_in_nI, nI_add, ic_m3, ic_m4, ic_m5, ic_m6, ic_m8, ic_m11, ic_m12, ic_m24, ic_m33, ic_p1, ic_p2, ic_p3, ic_p4, ic_p5, ic_p6, ic_p7, ic_p8, ic_q3, ic_d11, ic_r11, ic_d22, ic_n11, ic_n22, ic_n3, ic_n2, ic_oneI]
                exact br_t hb0 (br_f eb2 ⟨12, hp⟩)
              · unfold wY_gather_52
                refine br_t h2' (br_f h3' ?_)
                unfold wY_gather_93
                simp (disch := omega) only [forall_eq, true_and, and_true, true_implies, false_implies, implies_true, not_true_eq_false, not_false_eq_true, nI_clamp, vp_in_nI, nI_add, ic_m3, ic_m4, ic_m5, ic_m6, ic_m8, ic_m11, ic_m12, ic_m24, ic_m33, ic_p1, ic_p2, ic_p3, ic_p4, ic_p5, ic_p6, ic_p7, ic_p8, ic_q3, ic_d11, ic_r11, ic_d22, ic_n11, ic_n22, ic_n3, ic_n2, ic_oneI]
                refine br_f hne (yw_last (br_t (ic_last0 (Or.inl how0)) (br_t h2' (br_f eb2 ?_))))
                unfold wY_gather_150
                simp (disch := omega) only [forall_eq, true_and, and_true, true_implies, false_implies, implies_true, not_true_eq_false, not_false_eq_true, nI_clamp, vp_in_nI, nI_add, ic_m3, ic_m4, ic_m5, ic_m6, ic_m8, ic_m11, ic_m12, ic_m24, ic_m33, ic_p1, ic_p2, ic_p3, ic_p4, ic_p5, ic_p6, ic_p7, ic_p8, ic_q3, ic_d11, ic_r11, ic_d22, ic_n11, ic_n22, ic_n3, ic_n2, ic_oneI]
                exact br_f h3' ⟨12, hp⟩
          · refine lk_ret 2 hI0 (fun p hp => goX p ?_) (fun p hp => goY p (br_f hb0 hp))
            unfold wpX_gatherBase
            simp (disch := omega) only [forall_eq, true_and, and_true, true_implies, false_implies, implies_true, not_true_eq_false, not_false_eq_true, nI_clamp, vp_in_nI, nI_add, ic_m3, ic_m4, ic_m5, ic_m6, ic_m8, ic_m11, ic_m12, ic_m24, ic_m33, ic_p1, ic_p2, ic_p3, ic_p4, ic_p5, ic_p6, ic_p7, ic_p8, ic_q3, ic_d11, ic_r11, ic_d22, ic_n11, ic_n22, ic_n3, ic_n2, ic_oneI]
            exact br_f hb0 hp
theorem lk_sl {k o q : Nat} (ho : o < 2) (hq : q < 11) : ∀ (d x : Nat) (st rk od os : Nat → Int32) (fm mb : Nat → Int64), x + d = 3 → ic_I k (fun a' c' => a' = o ∧ c' % 11 = q ∧ x ≤ c' / 11) wn fl nt ro ph ck ch na ns ba ow se tp po pc pb sp sg st rk cx ca mr fm mb od os qu qs qd rg ft pa bd bo sk sn → se (o * 11 + q) ≠ 0 →
    lk_R k (fun p => wX_signal_97 p (nI q) (nI o) (d + 1) (nI x) wn fl nt ro ph ck ch na ns ba ow se tp po pc pb sp sg st rk cx ca mr fm mb od os qu qs qd rg ft) (fun p => wY_signal_97 p (nI q) (nI o) (d + 1) (nI x) fl wn nt ro ph ck ch ns na pa ow se bd bo st cx ca mr sk ba sn) := by
  intro d
  induction d with
  | zero =>
    intro x st rk od os fm mb h hI _
    have e : x = 3 := by omega
    subst e
    refine lk_ret 1 (i_IE2 _ _ _ _ _ _ _ _ _ _ _ _ _ _ _ _ _ _ _ _ _ _ _ _ _ _ _ _ _ _ _ _ _ _ _ _ _ (fun a c _ hc _ z => by obtain ⟨_, _, z⟩ := z; omega) hI) (fun p hp => ?_) (fun p hp => ?_)
    · rw [wX_signal_97]
      exact br_t (Int32.le_refl _) hp
    · rw [wY_signal_97]
      exact br_t (Int32.le_refl _) hp
  | succ d ih =>
    intro x st rk od os fm mb h hI hse0
    have h3 : ¬ (3 : Int32) ≤ nI x := nI_ge (b := 3) (by omega) (by omega)
    have eY : o * 33 + x * 11 + q = o * 33 + (x * 11 + q) := by omega
    have e1 : (x * 11 + q) / 11 = x := by omega
    have e2 : (x * 11 + q) % 11 = q := by omega
    have hsb : ic_SB st ba se := by
      obtain ⟨hnt, hro, hph, hns, how, hse, hst, hmk, hrg, hpn, hch, hob, hop, hsp, hsb, hP, hS, hT, hM, hfm, hO, hK, hQ, hC, hF⟩ := hI
      exact hsb
    by_cases hb : ba (o * 3 + x) = 0
    · refine lk_mono (fun p hp => ?_) (fun p hp => ?_) (ih (x + 1) st rk od os fm mb (by omega) (i_IE2 _ _ _ _ _ _ _ _ _ _ _ _ _ _ _ _ _ _ _ _ _ _ _ _ _ _ _ _ _ _ _ _ _ _ _ _ _ (fun a c ha hc hz z => ?_) hI) hse0)
      · rw [wX_signal_97]
        refine br_f h3 ?_
        simp (disch := omega) only [forall_eq, true_and, and_true, true_implies, false_implies, implies_true, not_true_eq_false, not_false_eq_true, nI_clamp, vp_in_nI, nI_add, ic_m3, ic_m4, ic_m5, ic_m6, ic_m8, ic_m11, ic_m12, ic_m24, ic_m33, ic_p1, ic_p2, ic_p3, ic_p4, ic_p5, ic_p6, ic_p7, ic_p8, ic_q3, ic_d11, ic_r11, ic_d22, ic_n11, ic_n22, ic_n3, ic_n2, ic_oneI]
        exact br_t hb hp
      · rw [wY_signal_97]
        refine br_f h3 ?_
        simp (disch := omega) only [forall_eq, true_and, and_true, true_implies, false_implies, implies_true, not_true_eq_false, not_false_eq_true, nI_clamp, vp_in_nI, nI_add, ic_m3, ic_m4, ic_m5, ic_m6, ic_m8, ic_m11, ic_m12, ic_m24, ic_m33, ic_p1, ic_p2, ic_p3, ic_p4, ic_p5, ic_p6, ic_p7, ic_p8, ic_q3, ic_d11, ic_r11, ic_d22, ic_n11, ic_n22, ic_n3, ic_n2, ic_oneI]
        exact br_t hb hp
      · obtain ⟨z1, z2, z3⟩ := z
        refine ⟨z1, z2, ?_⟩
        rcases Nat.lt_or_ge x (c / 11) with z4 | z4
        · exact z4
        · have := (hsb a ha c hc hz).1
          rw [z1, show c / 11 = x by omega] at this
          exact absurd hb this
    · by_cases h0 : st (o * 33 + (x * 11 + q)) = 0
      · obtain ⟨s, st', rk', od', os', fm', mb', hs, est, g1, g2, g3⟩ := lk_form (c := x * 11 + q) hI ho (by omega) h0 (by rw [e1]; exact hb) (by rw [e2]; exact hse0)
        refine lk_mono (fun p hp => ?_) (fun p hp => ?_) (ih (x + 1) st' rk' od' os' fm' mb' (by omega) (i_IE _ _ _ _ _ _ _ _ _ _ _ _ _ _ _ _ _ _ _ _ _ _ _ _ _ _ _ _ _ _ _ _ _ _ _ _ _ (fun a c z => ?_) g1) hse0)
        · rw [wX_signal_97]
          refine br_f h3 ?_
          simp (disch := omega) only [forall_eq, true_and, and_true, true_implies, false_implies, implies_true, not_true_eq_false, not_false_eq_true, nI_clamp, vp_in_nI, nI_add, ic_m3, ic_m4, ic_m5, ic_m6, ic_m8, ic_m11, ic_m12, ic_m24, ic_m33, ic_p1, ic_p2, ic_p3, ic_p4, ic_p5, ic_p6, ic_p7, ic_p8, ic_q3, ic_d11, ic_r11, ic_d22, ic_n11, ic_n22, ic_n3, ic_n2, ic_oneI]
          refine br_f hb (xw_fom0 ho (by omega) h0 _ (g2 _ ?_))
          exact hp
        · rw [wY_signal_97]
          refine br_f h3 ?_
          simp (disch := omega) only [forall_eq, true_and, and_true, true_implies, false_implies, implies_true, not_true_eq_false, not_false_eq_true, nI_clamp, vp_in_nI, nI_add, ic_m3, ic_m4, ic_m5, ic_m6, ic_m8, ic_m11, ic_m12, ic_m24, ic_m33, ic_p1, ic_p2, ic_p3, ic_p4, ic_p5, ic_p6, ic_p7, ic_p8, ic_q3, ic_d11, ic_r11, ic_d22, ic_n11, ic_n22, ic_n3, ic_n2, ic_oneI, eY]
          refine br_f hb (br_t h0 (g3 _ ?_))
          exact hp
        · obtain ⟨⟨z1, z2, z3⟩, z4⟩ := z
          refine ⟨z1, z2, ?_⟩
          rcases Nat.lt_or_ge x (c / 11) with z5 | z5
          · exact z5
          · exact absurd ⟨z1, by omega⟩ z4
      · obtain ⟨rk', od', os', g1, g2⟩ := lk_move (c := x * 11 + q) hI ho (by omega) h0
        refine lk_mono (fun p hp => ?_) (fun p hp => ?_) (ih (x + 1) st rk' od' os' fm mb (by omega) (i_IE _ _ _ _ _ _ _ _ _ _ _ _ _ _ _ _ _ _ _ _ _ _ _ _ _ _ _ _ _ _ _ _ _ _ _ _ _ (fun a c z => ?_) g1) hse0)
        · rw [wX_signal_97]
          refine br_f h3 ?_
          simp (disch := omega) only [forall_eq, true_and, and_true, true_implies, false_implies, implies_true, not_true_eq_false, not_false_eq_true, nI_clamp, vp_in_nI, nI_add, ic_m3, ic_m4, ic_m5, ic_m6, ic_m8, ic_m11, ic_m12, ic_m24, ic_m33, ic_p1, ic_p2, ic_p3, ic_p4, ic_p5, ic_p6, ic_p7, ic_p8, ic_q3, ic_d11, ic_r11, ic_d22, ic_n11, ic_n22, ic_n3, ic_n2, ic_oneI]
          refine br_f hb (xw_fom1 ho (by omega) h0 _ (g2 _ ?_))
          exact hp
        · rw [wY_signal_97]
          refine br_f h3 ?_
          simp (disch := omega) only [forall_eq, true_and, and_true, true_implies, false_implies, implies_true, not_true_eq_false, not_false_eq_true, nI_clamp, vp_in_nI, nI_add, ic_m3, ic_m4, ic_m5, ic_m6, ic_m8, ic_m11, ic_m12, ic_m24, ic_m33, ic_p1, ic_p2, ic_p3, ic_p4, ic_p5, ic_p6, ic_p7, ic_p8, ic_q3, ic_d11, ic_r11, ic_d22, ic_n11, ic_n22, ic_n3, ic_n2, ic_oneI, eY]
          exact br_f hb (br_f h0 hp)
        · obtain ⟨⟨z1, z2, z3⟩, z4⟩ := z
          refine ⟨z1, z2, ?_⟩
          rcases Nat.lt_or_ge x (c / 11) with z5 | z5
          · exact z5
          · exact absurd ⟨z1, by omega⟩ z4
theorem ax_signal {k : Nat} (hI : ic_I k ic_E0 wn fl nt ro ph ck ch na ns ba ow se tp po pc pb sp sg st rk cx ca mr fm mb od os qu qs qd rg ft pa bd bo sk sn) (v1 v2 : Int32) : lk_R k (fun p => wpX_signal p (wn, fl, nt, ro, ph, ck, ch, na, ns, ba, ow, se, tp, po, pc, pb, sp, sg, st, rk, cx, ca, mr, fm, mb, od, os, qu, qs, qd, rg, ft) v1 v2) (fun p => wpY_signal p (fl, wn, nt, ro, ph, ck, ch, ns, na, pa, ow, se, bd, bo, st, cx, ca, mr, sk, ba, sn) v1 v2) := by
  have hI0 := hI
  obtain ⟨hnt, hro, hph, hns, how, hse, hst, hmk, hrg, hpn, hch, hob, hop, hsp, hsb, hP, hS, hT, hM, hfm, hO, hK, hQ, hC, hF⟩ := hI
  by_cases h1 : ic_out v1 1
  · refine lk_ret 0 hI0 (fun p hp => ?_) (fun p hp => ?_)
    · unfold wpX_signal; refine xw_out1 h1 ?_; exact br_f (by decide) hp
    · unfold wpY_signal; refine yw_out1 h1 ?_; exact br_f (by decide) hp
  · by_cases h2 : ic_out v2 10
    · refine lk_ret 0 hI0 (fun p hp => ?_) (fun p hp => ?_)
      · unfold wpX_signal; refine xw_out0 h1 (br_t rfl ?_); refine xw_out1 h2 ?_; exact br_f (by decide) hp
      · unfold wpY_signal; refine yw_out0 h1 (br_t rfl ?_); refine yw_out1 h2 ?_; exact br_f (by decide) hp
    · obtain ⟨a, ha, rfl⟩ := ic_in (n := 1) (by decide) h1
      obtain ⟨q, hq, rfl⟩ := ic_in (n := 10) (by decide) h2
      have ha2 : a < 2 := by omega
      by_cases hl : ow (a * 11 + q) = 0 ∨ ow (a * 11 + q) = 3
      · refine lk_ret 5 hI0 (fun p hp => ?_) (fun p hp => ?_)
        · unfold wpX_signal; refine xw_out0 h1 (br_t rfl ?_); refine xw_out0 h2 (br_t rfl ?_)
          simp (disch := omega) only [forall_eq, true_and, and_true, true_implies, false_implies, implies_true, not_true_eq_false, not_false_eq_true, nI_clamp, vp_in_nI, nI_add, ic_m3, ic_m4, ic_m5, ic_m6, ic_m8, ic_m11, ic_m12, ic_m24, ic_m33, ic_p1, ic_p2, ic_p3, ic_p4, ic_p5, ic_p6, ic_p7, ic_p8, ic_q3, ic_d11, ic_r11, ic_d22, ic_n11, ic_n22, ic_n3, ic_n2, ic_oneI]
          refine xw_last ?_
          exact br_t (ic_last0 hl) hp
        · unfold wpY_signal; refine yw_out0 h1 (br_t rfl ?_); refine yw_out0 h2 (br_t rfl ?_)
          simp (disch := omega) only [forall_eq, true_and, and_true, true_implies, false_implies, implies_true, not_true_eq_false, not_false_eq_true, nI_clamp, vp_in_nI, nI_add, ic_m3, ic_m4, ic_m5, ic_m6, ic_m8, ic_m11, ic_m12, ic_m24, ic_m33, ic_p1, ic_p2, ic_p3, ic_p4, ic_p5, ic_p6, ic_p7, ic_p8, ic_q3, ic_d11, ic_r11, ic_d22, ic_n11, ic_n22, ic_n3, ic_n2, ic_oneI]
          refine yw_last ?_
          exact br_t (ic_last0 hl) hp
      · have hl0 : ow (a * 11 + q) ≠ 0 := fun z => hl (Or.inl z)
        have hl3 : ow (a * 11 + q) ≠ 3 := fun z => hl (Or.inr z)
        have h10 : ¬ ic_last (ow (a * 11 + q)) = 0 := by rw [ic_last1 hl0 hl3]; decide
        have goX : ∀ p : Int32 → SX → Prop, ((ph (1 - a) = 2 → p 4 (wn, fl, nt, ro, ph, ck, ch, na, ns, ba, ow, se, tp, po, pc, pb, sp, sg, st, rk, cx, ca, mr, fm, mb, od, os, qu, qs, qd, rg, ft)) ∧ (¬ ph (1 - a) = 2 → ((ic_last (se ((1 - a) * 11 + q)) = 0 → wpX_learn (fun u => match u with | (wn1, fl1, nt1, ro1, ph1, ck1, ch1, na1, ns1, ba1, ow1, se1, tp1, po1, pc1, pb1, sp1, sg1, st1, rk1, cx1, ca1, mr1, fm1, mb1, od1, os1, qu1, qs1, qd1, rg1, ft1) => (∃ n97 : Nat, wX_signal_97 p (nI q) (nI (1 - a)) n97 0 wn1 fl1 nt1 ro1 ph1 ck1 ch1 na1 ns1 ba1 ow1 se1 tp1 po1 pc1 pb1 sp1 sg1 st1 rk1 cx1 ca1 mr1 fm1 mb1 od1 os1 qu1 qs1 qd1 rg1 ft1)) (wn, fl, nt, ro, ph, ck, ch, na, ns, ba, ow, se, tp, po, pc, pb, sp, sg, st, rk, cx, ca, mr, fm, mb, od, os, qu, qs, qd, rg, ft) (nI (1 - a)) (nI q) (ow (a * 11 + q))) ∧ (¬ ic_last (se ((1 - a) * 11 + q)) = 0 → p 2 (wn, fl, nt, ro, ph, ck, ch, na, ns, ba, ow, se, tp, po, pc, pb, sp, sg, st, rk, cx, ca, mr, fm, mb, od, os, qu, qs, qd, rg, ft))))) → wpX_signal p (wn, fl, nt, ro, ph, ck, ch, na, ns, ba, ow, se, tp, po, pc, pb, sp, sg, st, rk, cx, ca, mr, fm, mb, od, os, qu, qs, qd, rg, ft) (nI a) (nI q) := by
          intro p hp
          unfold wpX_signal; refine xw_out0 h1 (br_t rfl ?_); refine xw_out0 h2 (br_t rfl ?_)
          simp (disch := omega) only [forall_eq, true_and, and_true, true_implies, false_implies, implies_true, not_true_eq_false, not_false_eq_true, nI_clamp, vp_in_nI, nI_add, ic_m3, ic_m4, ic_m5, ic_m6, ic_m8, ic_m11, ic_m12, ic_m24, ic_m33, ic_p1, ic_p2, ic_p3, ic_p4, ic_p5, ic_p6, ic_p7, ic_p8, ic_q3, ic_d11, ic_r11, ic_d22, ic_n11, ic_n22, ic_n3, ic_n2, ic_oneI]
          refine xw_last ?_
          refine br_f h10 ?_
          refine ⟨hp.1, fun z => xw_last ?_⟩
          exact hp.2 z
        have goY : ∀ p : Int32 → SY → Prop, ((ph (1 - a) = 2 → p 4 (fl, wn, nt, ro, ph, ck, ch, ns, na, pa, ow, se, bd, bo, st, cx, ca, mr, sk, ba, sn)) ∧ (¬ ph (1 - a) = 2 → ((ic_last (se ((1 - a) * 11 + q)) = 0 → (∃ n97 : Nat, wY_signal_97 p (nI q) (nI (1 - a)) n97 0 fl wn nt ro ph ck ch ns na pa ow (upd se ((1 - a) * 11 + q) (ow (a * 11 + q))) bd bo st cx ca mr sk ba sn)) ∧ (¬ ic_last (se ((1 - a) * 11 + q)) = 0 → p 2 (fl, wn, nt, ro, ph, ck, ch, ns, na, pa, ow, se, bd, bo, st, cx, ca, mr, sk, ba, sn))))) → wpY_signal p (fl, wn, nt, ro, ph, ck, ch, ns, na, pa, ow, se, bd, bo, st, cx, ca, mr, sk, ba, sn) (nI a) (nI q) := by
          intro p hp
          unfold wpY_signal; refine yw_out0 h1 (br_t rfl ?_); refine yw_out0 h2 (br_t rfl ?_)
          simp (disch := omega) only [forall_eq, true_and, and_true, true_implies, false_implies, implies_true, not_true_eq_false, not_false_eq_true, nI_clamp, vp_in_nI, nI_add, ic_m3, ic_m4, ic_m5, ic_m6, ic_m8, ic_m11, ic_m12, ic_m24, ic_m33, ic_p1, ic_p2, ic_p3, ic_p4, ic_p5, ic_p6, ic_p7, ic_p8, ic_q3, ic_d11, ic_r11, ic_d22, ic_n11, ic_n22, ic_n3, ic_n2, ic_oneI]
          refine yw_last ?_
          refine br_f h10 ?_
          refine ⟨hp.1, fun z => yw_last ?_⟩
          exact hp.2 z
        by_cases hp2 : ph (1 - a) = 2
        · exact lk_ret 4 hI0 (fun p hp => goX p (br_t hp2 hp)) (fun p hp => goY p (br_t hp2 hp))
        · by_cases hs : se ((1 - a) * 11 + q) = 0 ∨ se ((1 - a) * 11 + q) = 3
          · obtain ⟨t, t1, t4, et⟩ := ic_nz (how (a * 11 + q)) hl0
            obtain ⟨tp', g1, g2⟩ := lk_learn (a := 1 - a) (p := q) (t := t) hI0 (by omega) (by omega) t1 t4 (fun h3 => by rw [show 1 - (1 - a) = a by omega]; exact hop a ha2 q h3 (by omega) hl0)
            refine lk_mono (fun p hp => goX p (br_f hp2 (br_t (ic_last0 hs) ?_))) (fun p hp => goY p (br_f hp2 (br_t (ic_last0 hs) ⟨4, ?_⟩))) (lk_sl (o := 1 - a) (q := q) (by omega) (by omega) 3 0 st rk od os fm mb (by omega) (i_IE _ _ _ _ _ _ _ _ _ _ _ _ _ _ _ _ _ _ _ _ _ _ _ _ _ _ _ _ _ _ _ _ _ _ _ _ _ (fun a' c' z => ⟨z.1, z.2, Nat.zero_le _⟩) g1) ?_)
            · rw [et]
              refine g2 _ ?_
              exact ⟨4, hp⟩
            · rw [et]; exact hp
            · rw [pk_us]; exact nI_ne0 (by omega) (by omega)
          · have hs0 : se ((1 - a) * 11 + q) ≠ 0 := fun z => hs (Or.inl z)
            have hs3 : se ((1 - a) * 11 + q) ≠ 3 := fun z => hs (Or.inr z)
            have h10' : ¬ ic_last (se ((1 - a) * 11 + q)) = 0 := by rw [ic_last1 hs0 hs3]; decide
            exact lk_ret 2 hI0 (fun p hp => goX p (br_f hp2 (br_f h10' hp))) (fun p hp => goY p (br_f hp2 (br_f h10' hp)))
end
end
section
/-! success of a check -/
noncomputable def ic_b01 (P : Prop) (x y : Int32) : Int32 := @ite Int32 P (Classical.propDecidable P) x y
theorem ic_bt1 {P : Prop} {x y : Int32} (h : P) : ic_b01 P x y = x := @if_pos P (Classical.propDecidable P) h Int32 x y
theorem ic_bt0 {P : Prop} {x y : Int32} (h : ¬ P) : ic_b01 P x y = y := @if_neg P (Classical.propDecidable P) h Int32 x y
/-- the frozen pairs of c's foundation, below x, thawed -/
noncomputable def ic_th (se st : Nat → Int32) (e c x : Nat) : Nat → Int32 := fun j => ic_b01 (e * 33 ≤ j ∧ j < e * 33 + x ∧ st j = 1 ∧ ic_Sm se e c (j - e * 33)) 2 (st j)
theorem ic_th_0 {se st : Nat → Int32} {e c : Nat} : ic_th se st e c 0 = st := by
  funext j; unfold ic_th; rw [ic_bt0 (by rintro ⟨h1, h2, _⟩; omega)]
theorem ic_th_r {se st : Nat → Int32} {e c x : Nat} : ic_th se st e c x (e * 33 + x) = st (e * 33 + x) := by
  unfold ic_th; rw [ic_bt0 (by rintro ⟨h1, h2, _⟩; omega)]
theorem ic_th_k {se st : Nat → Int32} {e c x : Nat} (h : ¬ (st (e * 33 + x) = 1 ∧ ic_Sm se e c x)) : ic_th se st e c x = ic_th se st e c (x + 1) := by
  funext j
  unfold ic_th
  by_cases h1 : e * 33 ≤ j ∧ j < e * 33 + x ∧ st j = 1 ∧ ic_Sm se e c (j - e * 33)
  · rw [ic_bt1 h1, ic_bt1 (P := e * 33 ≤ j ∧ j < e * 33 + (x + 1) ∧ st j = 1 ∧ ic_Sm se e c (j - e * 33)) ⟨h1.1, by omega, h1.2.2⟩]
  · rw [ic_bt0 h1, ic_bt0]
    rintro ⟨z1, z2, z3, z4⟩
    by_cases e1 : j = e * 33 + x
    · subst e1
      rw [Nat.add_sub_cancel_left] at z4
      exact h ⟨z3, z4⟩
    · exact h1 ⟨z1, by omega, z3, z4⟩
theorem ic_th_u {se st : Nat → Int32} {e c x : Nat} (h1 : st (e * 33 + x) = 1) (h2 : ic_Sm se e c x) : upd (ic_th se st e c x) (e * 33 + x) 2 = ic_th se st e c (x + 1) := by
  funext j
  by_cases e1 : j = e * 33 + x
  · subst e1
    rw [pk_us]; unfold ic_th
    rw [ic_bt1 ⟨by omega, by omega, h1, by rw [Nat.add_sub_cancel_left]; exact h2⟩]
  · rw [pk_un e1]; unfold ic_th
    by_cases h3 : e * 33 ≤ j ∧ j < e * 33 + x ∧ st j = 1 ∧ ic_Sm se e c (j - e * 33)
    · rw [ic_bt1 h3, ic_bt1 (P := e * 33 ≤ j ∧ j < e * 33 + (x + 1) ∧ st j = 1 ∧ ic_Sm se e c (j - e * 33)) ⟨h3.1, by omega, h3.2.2⟩]
    · rw [ic_bt0 h3, ic_bt0]
      rintro ⟨z1, z2, z3⟩
      exact h3 ⟨z1, by omega, z3⟩
theorem ic_th_v (se st : Nat → Int32) (e c x j : Nat) : ic_th se st e c x j = st j ∨ (ic_th se st e c x j = 2 ∧ st j = 1) := by
  unfold ic_th
  by_cases h : e * 33 ≤ j ∧ j < e * 33 + x ∧ st j = 1 ∧ ic_Sm se e c (j - e * 33)
  · rw [ic_bt1 h]; exact Or.inr ⟨rfl, h.2.2.1⟩
  · rw [ic_bt0 h]; exact Or.inl rfl
theorem ic_th_c {se st : Nat → Int32} {e c : Nat} : ic_th se (upd st (e * 33 + c) 4) e c 33 = upd (ic_th se st e c 33) (e * 33 + c) 4 := by
  funext j
  by_cases e1 : j = e * 33 + c
  · subst e1
    rw [pk_us]; unfold ic_th
    rw [ic_bt0, pk_us]
    rintro ⟨_, _, z, _⟩
    rw [pk_us] at z
    exact absurd z (by decide)
  · rw [pk_un e1]; unfold ic_th
    rw [pk_un e1]
section
variable {wn fl : Int32} {nt ro ph ck ch na ns ba ow se tp po pc pb sp sg st rk cx ca mr : Nat → Int32} {fm mb : Nat → Int64} {od os qu qs : Nat → Int32} {qd : Nat → Int64} {rg ft pa bd bo sk sn : Nat → Int32}
theorem yw_146 {e c m : Nat} (he : e < 2) (hc : c < 33) (h4 : ¬ st (e * 33 + c) = 4) (p : Int32 → SY → Prop) (hp : wY_answered_146 p (nI e) (nI m) (nI c) (nI (e * 33 + c)) fl wn 1 (nI 33) (nI (e * 33 + 33)) nt ro ph ck ch ns na pa ow se bd bo (ic_th se st e c 33) cx ca mr sk ba sn) :
    ∀ d x : Nat, x + d = 33 → wY_answered_146 p (nI e) (nI m) (nI c) (nI (e * 33 + c)) fl wn (d + 1) (nI x) (nI (e * 33 + x)) nt ro ph ck ch ns na pa ow se bd bo (ic_th se st e c x) cx ca mr sk ba sn := by
  intro d
  induction d with
  | zero =>
    intro x h
    have e1 : x = 33 := by omega
    rw [e1]; exact hp
  | succ d ih =>
    intro x h
    have nx := ih (x + 1) (by omega)
    rw [show e * 33 + (x + 1) = e * 33 + x + 1 by omega] at nx
    have h4' : ¬ ic_th se st e c x (e * 33 + c) = 4 := by
      rcases ic_th_v se st e c x (e * 33 + c) with z | ⟨z, _⟩
      · rw [z]; exact h4
      · rw [z]; decide
    rw [wY_answered_146]
    refine br_f (nI_ge (b := 33) (by omega) (by omega)) ?_
    simp (disch := omega) only [forall_eq, true_and, and_true, true_implies, false_implies, implies_true, not_true_eq_false, not_false_eq_true, nI_clamp, vp_in_nI, nI_add, ic_m3, ic_m4, ic_m5, ic_m6, ic_m8, ic_m11, ic_m12, ic_m24, ic_m33, ic_p1, ic_p2, ic_p3, ic_p4, ic_p5, ic_p6, ic_p7, ic_p8, ic_q3, ic_d11, ic_r11, ic_d22, ic_n11, ic_n22, ic_n3, ic_n2, ic_oneI, ic_th_r]
    refine br_f h4' (br_c (fun z => yw_same he hc (by omega) (fun z2 => br_f (by decide) ?_) (fun z2 => br_t rfl ?_)) (fun z => ?_))
    · rw [ic_th_u z z2]; exact nx
    · rw [ic_th_k (fun y => z2 y.2)]; exact nx
    · rw [ic_th_k (fun y => z y.1)]; exact nx
theorem yw_146s {e c m : Nat} (he : e < 2) (hc : c < 33) (h4 : st (e * 33 + c) = 4) (p : Int32 → SY → Prop) (hp : wY_answered_146 p (nI e) (nI m) (nI c) (nI (e * 33 + c)) fl wn 1 (nI 33) (nI (e * 33 + 33)) nt ro ph ck ch ns na pa ow se bd bo st cx ca mr sk ba sn) :
    ∀ d x : Nat, x + d = 33 → wY_answered_146 p (nI e) (nI m) (nI c) (nI (e * 33 + c)) fl wn (d + 1) (nI x) (nI (e * 33 + x)) nt ro ph ck ch ns na pa ow se bd bo st cx ca mr sk ba sn := by
  intro d
  induction d with
  | zero =>
    intro x h
    have e1 : x = 33 := by omega
    rw [e1]; exact hp
  | succ d ih =>
    intro x h
    have nx := ih (x + 1) (by omega)
    rw [show e * 33 + (x + 1) = e * 33 + x + 1 by omega] at nx
    rw [wY_answered_146]
    refine br_f (nI_ge (b := 33) (by omega) (by omega)) ?_
    simp (disch := omega) only [forall_eq, true_and, and_true, true_implies, false_implies, implies_true, not_true_eq_false, not_false_eq_true, nI_clamp, vp_in_nI, nI_add, ic_m3, ic_m4, ic_m5, ic_m6, ic_m8, ic_m11, ic_m12, ic_m24, ic_m33, ic_p1, ic_p2, ic_p3, ic_p4, ic_p5, ic_p6, ic_p7, ic_p8, ic_q3, ic_d11, ic_r11, ic_d22, ic_n11, ic_n22, ic_n3, ic_n2, ic_oneI]
    exact br_t h4 nx
theorem xw_35 {e c : Nat} {T : Int64} (he : e < 2) (hT : ∀ x, x < 33 → (ic_B T x = true ↔ (st (e * 33 + x) = 1 ∧ ic_Sm se e c x))) :
    ∀ (d x : Nat) (mb : Nat → Int64), x + d = 33 → ic_M (ic_th se st e c x) mb → ∃ mb' : Nat → Int64, ic_M (ic_th se st e c 33) mb' ∧
      ∀ post : SX → Prop, post (wn, fl, nt, ro, ph, ck, ch, na, ns, ba, ow, se, tp, po, pc, pb, sp, sg, ic_th se st e c 33, rk, cx, ca, mr, fm, mb', od, os, qu, qs, qd, rg, ft) → wX_succeed_35 post (nI e) T (d + 1) (nI x) wn fl nt ro ph ck ch na ns ba ow se tp po pc pb sp sg (ic_th se st e c x) rk cx ca mr fm mb od os qu qs qd rg ft := by
  intro d
  induction d with
  | zero =>
    intro x mb h hM
    have e1 : x = 33 := by omega
    subst e1
    refine ⟨mb, hM, fun post hp => ?_⟩
    rw [wX_succeed_35]
    exact br_t (Int32.le_refl _) hp
  | succ d ih =>
    intro x mb h hM
    have h33 : ¬ (33 : Int32) ≤ nI x := nI_ge (b := 33) (by omega) (by omega)
    have ht := ic_Btest T (k := x) (by omega)
    by_cases hb : st (e * 33 + x) = 1 ∧ ic_Sm se e c x
    · have h1 : ic_th se st e c x (e * 33 + x) = nI 1 := by rw [ic_th_r]; exact hb.1
      have hM1 := ic_Mset (s := 2) hM he (show x < 33 by omega) (by omega) (by omega) h1
      rw [show upd (ic_th se st e c x) (e * 33 + x) (nI 2) = ic_th se st e c (x + 1) from ic_th_u hb.1 hb.2] at hM1
      obtain ⟨mb', g1, g2⟩ := ih (x + 1) _ (by omega) hM1
      refine ⟨mb', g1, fun post hp => ?_⟩
      rw [wX_succeed_35]
      refine br_f h33 (br_f (fun z => ?_) (xw_set (s := 2) he (by omega) (by omega) (by omega) h1 ?_))
      · rw [ht, (hT x (by omega)).mpr hb] at z; cases z
      · rw [show upd (ic_th se st e c x) (e * 33 + x) (nI 2) = ic_th se st e c (x + 1) from ic_th_u hb.1 hb.2]
        exact nm_r (nI_1 x) (g2 post hp)
    · have ek := ic_th_k (se := se) (st := st) (e := e) (c := c) (x := x) hb
      rw [ek] at hM
      obtain ⟨mb', g1, g2⟩ := ih (x + 1) mb (by omega) hM
      refine ⟨mb', g1, fun post hp => ?_⟩
      rw [wX_succeed_35, ek]
      refine br_f h33 (br_t ?_ (nm_r (nI_1 x) (g2 post hp)))
      rw [ht]
      exact ts_nt (fun z => hb ((hT x (by omega)).mp z))
/-- both sides have the pair succeed -/
theorem lk_succ {k e c m : Nat} {V : Int32} (hI : ic_I k ic_E0 wn fl nt ro ph ck ch na ns ba ow se tp po pc pb sp sg st rk cx ca mr fm mb od os qu qs qd rg ft pa bd bo sk sn) (he : e < 2) (hc : c < 33) (h0 : st (e * 33 + c) ≠ 0) :
    ∃ (st' qu' qs' sk' : Nat → Int32) (mb' qd' : Nat → Int64), ic_I k ic_E0 wn fl nt ro ph ck ch na ns ba ow se tp po pc pb sp sg st' rk cx ca mr fm mb' od os qu' qs' qd' rg ft pa bd bo sk' sn ∧ st' (e * 33 + c) ≠ 0 ∧
      (∀ p : Int32 → SX → Prop, wX_takeSuccess_109 p (nI e) V (nI c) (nI (e * 33 + c)) wn fl nt ro ph ck ch na ns ba ow se tp po pc pb sp sg st' rk cx ca mr fm mb' od os qu' qs' qd' rg ft → wX_takeSuccess_92 p (nI e) V (nI c) (nI (e * 33 + c)) wn fl nt ro ph ck ch na ns ba ow se tp po pc pb sp sg st rk cx ca mr fm mb od os qu qs qd rg ft) ∧
      (∀ p : Int32 → SY → Prop, ((mr (e * 33 + c) = 1 → wY_answered_236 p (nI e) (nI c) fl wn nt ro ph ck ch ns na pa ow se bd bo st' cx ca mr sk' ba sn) ∧ (¬ mr (e * 33 + c) = 1 → ((nI m = 1 → wY_answered_236 p (nI e) (nI c) fl wn nt ro ph ck ch ns na pa ow se bd bo st' cx ca mr sk' ba sn) ∧ (¬ nI m = 1 → p 16 (fl, wn, nt, ro, ph, ck, ch, ns, na, pa, ow, se, bd, bo, st', cx, ca, mr, sk', ba, sn))))) →
        wY_answered_146 p (nI e) (nI m) (nI c) (nI (e * 33 + c)) fl wn 34 (nI 0) (nI (e * 33)) nt ro ph ck ch ns na pa ow se bd bo st cx ca mr sk ba sn) := by
  have hI0 := hI
  obtain ⟨hnt, hro, hph, hns, how, hse, hst, hmk, hrg, hpn, hch, hob, hop, hsp, hsb, hP, hS, hT, hM, hfm, hO, hK, hQ, hC, hF⟩ := hI
  obtain ⟨Q, hQ1⟩ := hQ e he
  have hQ2 := hQ1
  obtain ⟨q1, q2, q3, q4, q5, q6, q7⟩ := hQ1
  have h33 : ∀ x, x ∈ Q → x < 33 := fun x hx => (q2 x hx).1
  have fin : ∀ (st2 : Nat → Int32) (p : Int32 → SY → Prop), ((mr (e * 33 + c) = 1 → wY_answered_236 p (nI e) (nI c) fl wn nt ro ph ck ch ns na pa ow se bd bo (upd st2 (e * 33 + c) 4) cx ca mr (ic_dq sk e c) ba sn) ∧ (¬ mr (e * 33 + c) = 1 → ((nI m = 1 → wY_answered_236 p (nI e) (nI c) fl wn nt ro ph ck ch ns na pa ow se bd bo (upd st2 (e * 33 + c) 4) cx ca mr (ic_dq sk e c) ba sn) ∧ (¬ nI m = 1 → p 16 (fl, wn, nt, ro, ph, ck, ch, ns, na, pa, ow, se, bd, bo, upd st2 (e * 33 + c) 4, cx, ca, mr, ic_dq sk e c, ba, sn))))) →
      wY_answered_146 p (nI e) (nI m) (nI c) (nI (e * 33 + c)) fl wn 1 (nI 33) (nI (e * 33 + 33)) nt ro ph ck ch ns na pa ow se bd bo st2 cx ca mr sk ba sn := by
    intro st2 p hp
    rw [wY_answered_146]
    refine br_t (Int32.le_refl _) ?_
    simp (disch := omega) only [forall_eq, true_and, and_true, true_implies, false_implies, implies_true, not_true_eq_false, not_false_eq_true, nI_clamp, vp_in_nI, nI_add, ic_m3, ic_m4, ic_m5, ic_m6, ic_m8, ic_m11, ic_m12, ic_m24, ic_m33, ic_p1, ic_p2, ic_p3, ic_p4, ic_p5, ic_p6, ic_p7, ic_p8, ic_q3, ic_d11, ic_r11, ic_d22, ic_n11, ic_n22, ic_n3, ic_n2, ic_oneI]
    refine yw_deq he hc _ ?_
    simp (disch := omega) only [forall_eq, true_and, and_true, true_implies, false_implies, implies_true, not_true_eq_false, not_false_eq_true, nI_clamp, vp_in_nI, nI_add, ic_m3, ic_m4, ic_m5, ic_m6, ic_m8, ic_m11, ic_m12, ic_m24, ic_m33, ic_p1, ic_p2, ic_p3, ic_p4, ic_p5, ic_p6, ic_p7, ic_p8, ic_q3, ic_d11, ic_r11, ic_d22, ic_n11, ic_n22, ic_n3, ic_n2, ic_oneI]
    exact hp
  by_cases h4 : st (e * 33 + c) = 4
  · have hcQ : c ∉ Q := fun z => by
      have := (q2 c z).2
      rw [h4] at this
      exact absurd this (by decide)
    have hs0 := q6 c hc hcQ
    refine ⟨st, qu, qs, sk, mb, qd, hI0, h0, fun p hp => ?_, fun p hp => ?_⟩
    · unfold wX_takeSuccess_92
      simp (disch := omega) only [forall_eq, true_and, and_true, true_implies, false_implies, implies_true, not_true_eq_false, not_false_eq_true, nI_clamp, vp_in_nI, nI_add, ic_m3, ic_m4, ic_m5, ic_m6, ic_m8, ic_m11, ic_m12, ic_m24, ic_m33, ic_p1, ic_p2, ic_p3, ic_p4, ic_p5, ic_p6, ic_p7, ic_p8, ic_q3, ic_d11, ic_r11, ic_d22, ic_n11, ic_n22, ic_n3, ic_n2, ic_oneI]
      exact br_t h4 hp
    · refine yw_146s he hc h4 p ?_ 33 0 (by omega)
      refine fin st p ?_
      rw [ic_usame h4, ic_dq_0 hs0]
      exact hp
  · obtain ⟨s0, s1, s5, es⟩ := ic_nz (hst (e * 33 + c)) h0
    obtain ⟨t, t1, t4, hset⟩ := ic_nz (hse (e * 11 + c % 11)) (hsb e he c hc h0).2
    have hM1 := ic_Mset (s := 4) hM he hc (by omega) (by omega) es
    obtain ⟨qu', y1, y2, y3⟩ := xw_uq (wn := wn) (fl := fl) (nt := nt) (ro := ro) (ph := ph) (ck := ck) (ch := ch) (na := na) (ns := ns) (ba := ba) (ow := ow) (se := se) (tp := tp) (po := po) (pc := pc) (pb := pb) (sp := sp) (sg := sg) (st := upd st (e * 33 + c) (nI 4)) (rk := rk) (cx := cx) (ca := ca) (mr := mr) (fm := fm) (mb := ic_ms mb e c s0 4) (od := od) (os := os) (qd := qd) (rg := rg) (ft := ft) he hc (ic_len 33 Q q1 h33) h33 q3 q4
    obtain ⟨F, f1, f2⟩ := xw_found (wn := wn) (fl := fl) (nt := nt) (ro := ro) (ph := ph) (ck := ck) (ch := ch) (na := na) (ns := ns) (ba := ba) (ow := ow) (se := se) (tp := tp) (po := po) (pc := pc) (pb := pb) (sp := sp) (sg := sg) (st := upd st (e * 33 + c) (nI 4)) (rk := rk) (cx := cx) (ca := ca) (mr := mr) (fm := fm) (mb := ic_ms mb e c s0 4) (od := od) (os := os) (qu := qu') (qs := upd qs e (nI (ic_rm c Q).length)) (qd := vp_updL qd e (qd e &&& (((1 : Int64) <<< ((nI c).toInt64 &&& 63)) ^^^ (-1)))) (rg := rg) (ft := ft) he hc hT t1 t4 hset
    have hTT : ∀ x, x < 33 → (ic_B (F &&& ic_ms mb e c s0 4 (e * 6 + 1)) x = true ↔ (upd st (e * 33 + c) (nI 4) (e * 33 + x) = 1 ∧ ic_Sm se e c x)) := by
      intro x hx
      rw [ic_Band, Bool.and_eq_true, f1 x (by omega), hM1 e he 1 (by omega) (by omega) x hx]
      exact ⟨fun z => ⟨z.2, z.1.2⟩, fun z => ⟨⟨hx, z.2⟩, z.1⟩⟩
    obtain ⟨mb', w1, w2⟩ := xw_35 (wn := wn) (fl := fl) (nt := nt) (ro := ro) (ph := ph) (ck := ck) (ch := ch) (na := na) (ns := ns) (ba := ba) (ow := ow) (se := se) (tp := tp) (po := po) (pc := pc) (pb := pb) (sp := sp) (sg := sg) (st := upd st (e * 33 + c) (nI 4)) (rk := rk) (cx := cx) (ca := ca) (mr := mr) (fm := fm) (od := od) (os := os) (qu := qu') (qs := upd qs e (nI (ic_rm c Q).length)) (qd := vp_updL qd e (qd e &&& (((1 : Int64) <<< ((nI c).toInt64 &&& 63)) ^^^ (-1)))) (rg := rg) (ft := ft) he hTT 33 0 (ic_ms mb e c s0 4) (by omega) (by rw [ic_th_0]; exact hM1)
    rw [ic_th_0] at w2
    have vals : ∀ j, ic_th se (upd st (e * 33 + c) (nI 4)) e c 33 j = upd st (e * 33 + c) (nI 4) j ∨ (ic_th se (upd st (e * 33 + c) (nI 4)) e c 33 j = 2 ∧ upd st (e * 33 + c) (nI 4) j = 1) := fun j => ic_th_v _ _ _ _ _ j
    have hcc : ic_th se (upd st (e * 33 + c) (nI 4)) e c 33 (e * 33 + c) = 4 := by
      rcases vals (e * 33 + c) with z | ⟨_, z⟩
      · rw [z, pk_us]; rfl
      · rw [pk_us] at z
        exact absurd z (by decide)
    have oth : ∀ j, j ≠ e * 33 + c → (ic_th se (upd st (e * 33 + c) (nI 4)) e c 33 j = st j ∨ (ic_th se (upd st (e * 33 + c) (nI 4)) e c 33 j = 2 ∧ st j = 1)) := by
      intro j hj
      have := vals j
      rw [pk_un hj] at this
      exact this
    have zi : ∀ j, ic_th se (upd st (e * 33 + c) (nI 4)) e c 33 j = 0 ↔ st j = 0 := by
      intro j
      by_cases e1 : j = e * 33 + c
      · rw [e1, hcc]
        exact ⟨fun z => absurd z (by decide), fun z => absurd z h0⟩
      · rcases oth j e1 with z | ⟨z1, z2⟩
        · rw [z]
        · rw [z1, z2]
          exact ⟨fun z => absurd z (by decide), fun z => absurd z (by decide)⟩
    have mono : ∀ j, st j ≠ 0 → ic_th se (upd st (e * 33 + c) (nI 4)) e c 33 j ≠ 0 := fun j z z2 => z ((zi j).mp z2)
    have hst' : ic_R (ic_th se (upd st (e * 33 + c) (nI 4)) e c 33) 5 := by
      intro j
      rcases vals j with z | ⟨z, _⟩
      · rw [z]; exact ic_Ru hst _ 4 (by omega) j
      · rw [z]; exact ⟨2, by omega, rfl⟩
    have z3 : ∀ j, ic_th se (upd st (e * 33 + c) (nI 4)) e c 33 j = 3 → st j = 3 := by
      intro j z
      by_cases e1 : j = e * 33 + c
      · rw [e1, hcc] at z
        exact absurd z (by decide)
      · rcases oth j e1 with z1 | ⟨z1, _⟩
        · rw [← z1]; exact z
        · rw [z1] at z
          exact absurd z (by decide)
    obtain ⟨z1, z2⟩ := ic_Qdeq (st' := ic_th se (upd st (e * 33 + c) (nI 4)) e c 33) he hc hQ hQ2 (fun j hj z => by
      rcases oth j hj with z1 | ⟨z1, _⟩
      · rw [z1]; exact z
      · exact z1) y1 y2
    refine ⟨ic_th se (upd st (e * 33 + c) (nI 4)) e c 33, qu', upd qs e (nI (ic_rm c Q).length), ic_dq sk e c, mb', vp_updL qd e (qd e &&& (((1 : Int64) <<< ((nI c).toInt64 &&& 63)) ^^^ (-1))), ?_, by rw [hcc]; decide, fun p hp => ?_, fun p hp => ?_⟩
    · exact ⟨hnt, hro, hph, hns, how, hse, hst', hmk, hrg, hpn, ic_CHm mono hch, hob, hop, hsp, ic_SBi zi hsb, hP, hS, hT, w1, ic_FMi zi hfm, ic_Oi zi hO, ic_Ki zi hK, z1, ic_Cst z3 hC, ic_Fm mono (fun _ z => z) hF⟩
    · unfold wX_takeSuccess_92
      simp (disch := omega) only [forall_eq, true_and, and_true, true_implies, false_implies, implies_true, not_true_eq_false, not_false_eq_true, nI_clamp, vp_in_nI, nI_add, ic_m3, ic_m4, ic_m5, ic_m6, ic_m8, ic_m11, ic_m12, ic_m24, ic_m33, ic_p1, ic_p2, ic_p3, ic_p4, ic_p5, ic_p6, ic_p7, ic_p8, ic_q3, ic_d11, ic_r11, ic_d22, ic_n11, ic_n22, ic_n3, ic_n2, ic_oneI]
      refine br_f h4 ?_
      unfold wpX_succeed
      refine xw_set (s := 4) he hc (by omega) (by omega) es ?_
      refine y3 _ ?_
      refine f2 _ ?_
      simp (disch := omega) only [forall_eq, true_and, and_true, true_implies, false_implies, implies_true, not_true_eq_false, not_false_eq_true, nI_clamp, vp_in_nI, nI_add, ic_m3, ic_m4, ic_m5, ic_m6, ic_m8, ic_m11, ic_m12, ic_m24, ic_m33, ic_p1, ic_p2, ic_p3, ic_p4, ic_p5, ic_p6, ic_p7, ic_p8, ic_q3, ic_d11, ic_r11, ic_d22, ic_n11, ic_n22, ic_n3, ic_n2, ic_oneI]
      exact ⟨34, w2 _ hp⟩
    · have := yw_146 (m := m) he hc h4 p (fin _ p (by rw [← ic_th_c]; exact hp)) 33 0 (by omega)
      rw [ic_th_0] at this
      exact this
end
end
section
/-! delivery of a packet -/
section
variable {wn fl : Int32} {nt ro ph ck ch na ns ba ow se tp po pc pb sp sg st rk cx ca mr : Nat → Int32} {fm mb : Nat → Int64} {od os qu qs : Nat → Int32} {qd : Nat → Int64} {rg ft pa bd bo sk sn : Nat → Int32}
/-- the end of a trigger, once the pair is there -/
theorem lk_51 {k e c m : Nat} (hI : ic_I k ic_E0 wn fl nt ro ph ck ch na ns ba ow se tp po pc pb sp sg st rk cx ca mr fm mb od os qu qs qd rg ft pa bd bo sk sn) (he : e < 2) (hc : c < 33) (hm : m ≤ 1) (h0 : st (e * 33 + c) ≠ 0) :
    lk_R k (fun p => wX_trigger_51 (fun u => p 12 u) (nI e) (nI c) (nI m) (nI (e * 33 + c)) wn fl nt ro ph ck ch na ns ba ow se tp po pc pb sp sg st rk cx ca mr fm mb od os qu qs qd rg ft) (fun p => wY_asked_175 p (nI e) (nI m) (nI c) (nI (e * 33 + c)) fl wn nt ro ph ck ch ns na pa ow se bd bo st cx ca mr sk ba sn) := by
  have hm2 : m = 0 ∨ m = 1 := by omega
  by_cases h4 : st (e * 33 + c) = 4
  · have goX : ∀ p : SX → Prop, wX_trigger_80 p (nI e) (nI c) (nI m) (nI (e * 33 + c)) 1 wn fl nt ro ph ck ch na ns ba ow se tp po pc pb sp sg st rk cx ca mr fm mb od os qu qs qd rg ft → wX_trigger_51 p (nI e) (nI c) (nI m) (nI (e * 33 + c)) wn fl nt ro ph ck ch na ns ba ow se tp po pc pb sp sg st rk cx ca mr fm mb od os qu qs qd rg ft := by
      intro p hp
      unfold wX_trigger_51
      simp (disch := omega) only [forall_eq, true_and, and_true, true_implies, false_implies, implies_true, not_true_eq_false, not_false_eq_true, nI_clamp, vp_in_nI, nI_add, ic_m3, ic_m4, ic_m5, ic_m6, ic_m8, ic_m11, ic_m12, ic_m24, ic_m33, ic_p1, ic_p2, ic_p3, ic_p4, ic_p5, ic_p6, ic_p7, ic_p8, ic_q3, ic_d11, ic_r11, ic_d22, ic_n11, ic_n22, ic_n3, ic_n2, ic_oneI]
      exact br_t h4 (br_f (by decide) hp)
    have goY : ∀ p : Int32 → SY → Prop, ((nI m = 1 → wpY_select (fun u => p 12 u) (fl, wn, nt, ro, ph, ck, ch, ns, na, pa, ow, se, bd, bo, st, cx, ca, mr, sk, ba, sn) (nI e) (nI c)) ∧ (¬ nI m = 1 → p 12 (fl, wn, nt, ro, ph, ck, ch, ns, na, pa, ow, se, bd, bo, st, cx, ca, mr, sk, ba, sn))) → wY_asked_175 p (nI e) (nI m) (nI c) (nI (e * 33 + c)) fl wn nt ro ph ck ch ns na pa ow se bd bo st cx ca mr sk ba sn := by
      intro p hp
      unfold wY_asked_175 wY_asked_193 wY_asked_218
      simp (disch := omega) only [forall_eq, true_and, and_true, true_implies, false_implies, implies_true, not_true_eq_false, not_false_eq_true, nI_clamp, vp_in_nI, nI_add, ic_m3, ic_m4, ic_m5, ic_m6, ic_m8, ic_m11, ic_m12, ic_m24, ic_m33, ic_p1, ic_p2, ic_p3, ic_p4, ic_p5, ic_p6, ic_p7, ic_p8, ic_q3, ic_d11, ic_r11, ic_d22, ic_n11, ic_n22, ic_n3, ic_n2, ic_oneI]
      refine br_t h4 ⟨fun z => br_t h4 (br_t z (br_t h4 (hp.1 z))), fun z => br_f z (hp.2 z)⟩
    rcases hm2 with rfl | rfl
    · exact lk_ret 12 hI (fun p hp => goX _ (br_t rfl hp)) (fun p hp => goY p (br_f (by decide) hp))
    · obtain ⟨g1, g2, g3⟩ := lk_sel hI he hc h0
      exact lk_ret 12 g1 (fun p hp => goX _ (br_f (by decide) (br_f (by decide) (g2 _ hp)))) (fun p hp => goY p (br_t rfl (g3 _ hp)))
  · obtain ⟨st', cx', qu', qs', sk', mb', qd', est, g1, g2, g3⟩ := lk_enq hI he hc h0
    have h4' : ¬ st' (e * 33 + c) = 4 := by rw [est, pk_us]; decide
    have goX : ∀ p : SX → Prop, wX_trigger_80 p (nI e) (nI c) (nI m) (nI (e * 33 + c)) 0 wn fl nt ro ph ck ch na ns ba ow se tp po pc pb sp sg st' rk cx' ca mr fm mb' od os qu' qs' qd' rg ft → wX_trigger_51 p (nI e) (nI c) (nI m) (nI (e * 33 + c)) wn fl nt ro ph ck ch na ns ba ow se tp po pc pb sp sg st rk cx ca mr fm mb od os qu qs qd rg ft := by
      intro p hp
      unfold wX_trigger_51
      simp (disch := omega) only [forall_eq, true_and, and_true, true_implies, false_implies, implies_true, not_true_eq_false, not_false_eq_true, nI_clamp, vp_in_nI, nI_add, ic_m3, ic_m4, ic_m5, ic_m6, ic_m8, ic_m11, ic_m12, ic_m24, ic_m33, ic_p1, ic_p2, ic_p3, ic_p4, ic_p5, ic_p6, ic_p7, ic_p8, ic_q3, ic_d11, ic_r11, ic_d22, ic_n11, ic_n22, ic_n3, ic_n2, ic_oneI]
      refine br_f h4 (br_t rfl (g2 _ ?_))
      exact hp
    have goY : ∀ p : Int32 → SY → Prop, ((nI m = 1 → p 12 (fl, wn, nt, ro, ph, ck, ch, ns, na, pa, ow, se, bd, bo, st', cx', ca, upd mr (e * 33 + c) 1, sk', ba, sn)) ∧ (¬ nI m = 1 → p 12 (fl, wn, nt, ro, ph, ck, ch, ns, na, pa, ow, se, bd, bo, st', cx', ca, mr, sk', ba, sn))) → wY_asked_175 p (nI e) (nI m) (nI c) (nI (e * 33 + c)) fl wn nt ro ph ck ch ns na pa ow se bd bo st cx ca mr sk ba sn := by
      intro p hp
      unfold wY_asked_175
      simp (disch := omega) only [forall_eq, true_and, and_true, true_implies, false_implies, implies_true, not_true_eq_false, not_false_eq_true, nI_clamp, vp_in_nI, nI_add, ic_m3, ic_m4, ic_m5, ic_m6, ic_m8, ic_m11, ic_m12, ic_m24, ic_m33, ic_p1, ic_p2, ic_p3, ic_p4, ic_p5, ic_p6, ic_p7, ic_p8, ic_q3, ic_d11, ic_r11, ic_d22, ic_n11, ic_n22, ic_n3, ic_n2, ic_oneI]
      refine br_f h4 (g3 _ ?_)
      unfold wY_asked_193 wY_asked_218
      simp (disch := omega) only [forall_eq, true_and, and_true, true_implies, false_implies, implies_true, not_true_eq_false, not_false_eq_true, nI_clamp, vp_in_nI, nI_add, ic_m3, ic_m4, ic_m5, ic_m6, ic_m8, ic_m11, ic_m12, ic_m24, ic_m33, ic_p1, ic_p2, ic_p3, ic_p4, ic_p5, ic_p6, ic_p7, ic_p8, ic_q3, ic_d11, ic_r11, ic_d22, ic_n11, ic_n22, ic_n3, ic_n2, ic_oneI]
      exact ⟨fun z => br_f h4' (br_t z (br_f h4' (hp.1 z))), fun z => br_f z (hp.2 z)⟩
    rcases hm2 with rfl | rfl
    · exact lk_ret 12 g1 (fun p hp => goX _ (br_t rfl hp)) (fun p hp => goY p (br_f (by decide) hp))
    · have hI1 : ic_I k ic_E0 wn fl nt ro ph ck ch na ns ba ow se tp po pc pb sp sg st' rk cx' ca (upd mr (e * 33 + c) 1) fm mb' od os qu' qs' qd' rg ft pa bd bo sk' sn := by
        obtain ⟨hnt, hro, hph, hns, how, hse, hst, hmk, hrg, hpn, hch, hob, hop, hsp, hsb, hP, hS, hT, hM, hfm, hO, hK, hQ, hC, hF⟩ := g1
        exact ⟨hnt, hro, hph, hns, how, hse, hst, ic_Ru hmk _ 1 (by omega), hrg, hpn, hch, hob, hop, hsp, hsb, hP, hS, hT, hM, hfm, hO, hK, hQ, hC, hF⟩
      refine lk_ret 12 hI1 (fun p hp => goX _ ?_) (fun p hp => goY p (br_t rfl hp))
      unfold wX_trigger_80
      simp (disch := omega) only [forall_eq, true_and, and_true, true_implies, false_implies, implies_true, not_true_eq_false, not_false_eq_true, nI_clamp, vp_in_nI, nI_add, ic_m3, ic_m4, ic_m5, ic_m6, ic_m8, ic_m11, ic_m12, ic_m24, ic_m33, ic_p1, ic_p2, ic_p3, ic_p4, ic_p5, ic_p6, ic_p7, ic_p8, ic_q3, ic_d11, ic_r11, ic_d22, ic_n11, ic_n22, ic_n3, ic_n2, ic_oneI]
      exact br_f (by decide) hp
/-- the pair is formed if it isn't there -/
theorem lk_35 {k e b0 q m : Nat} (hI : ic_I k ic_E0 wn fl nt ro ph ck ch na ns ba ow se tp po pc pb sp sg st rk cx ca mr fm mb od os qu qs qd rg ft pa bd bo sk sn) (he : e < 2) (hb : b0 < 3) (hq : q < 11) (hm : m ≤ 1) (hba : ba (e * 3 + b0) ≠ 0) (hs : se (e * 11 + q) ≠ 0) :
    lk_R k (fun p => wX_trigger_35 (fun u => p 12 u) (nI e) (nI (b0 * 11 + q)) (nI m) (nI (e * 33 + (b0 * 11 + q))) wn fl nt ro ph ck ch na ns ba ow se tp po pc pb sp sg st rk cx ca mr fm mb od os qu qs qd rg ft) (fun p => wY_asked_158 p (nI e) (nI m) (nI (b0 * 11 + q)) (nI (e * 33 + (b0 * 11 + q))) fl wn nt ro ph ck ch ns na pa ow se bd bo st cx ca mr sk ba sn) := by
  have hc : b0 * 11 + q < 33 := by omega
  have e1 : (b0 * 11 + q) / 11 = b0 := by omega
  have e2 : (b0 * 11 + q) % 11 = q := by omega
  by_cases h0 : st (e * 33 + (b0 * 11 + q)) = 0
  · obtain ⟨s, st', rk', od', os', fm', mb', hs12, est, g1, g2, g3⟩ := lk_form (c := b0 * 11 + q) hI he hc h0 (by rw [e1]; exact hba) (by rw [e2]; exact hs)
    have hI1 : ic_I k ic_E0 wn fl nt ro ph ck ch na ns ba ow se tp po pc pb sp sg st' rk' cx ca mr fm' mb' od' os' qu qs qd rg ft pa bd bo sk sn := i_IE _ _ _ _ _ _ _ _ _ _ _ _ _ _ _ _ _ _ _ _ _ _ _ _ _ _ _ _ _ _ _ _ _ _ _ _ _ (fun _ _ z => z.1) g1
    refine lk_mono (fun p hp => ?_) (fun p hp => ?_) (lk_51 (c := b0 * 11 + q) hI1 he hc hm (by rw [est, pk_us]; exact nI_ne0 (by omega) (by omega)))
    · unfold wX_trigger_35
      simp (disch := omega) only [forall_eq, true_and, and_true, true_implies, false_implies, implies_true, not_true_eq_false, not_false_eq_true, nI_clamp, vp_in_nI, nI_add, ic_m3, ic_m4, ic_m5, ic_m6, ic_m8, ic_m11, ic_m12, ic_m24, ic_m33, ic_p1, ic_p2, ic_p3, ic_p4, ic_p5, ic_p6, ic_p7, ic_p8, ic_q3, ic_d11, ic_r11, ic_d22, ic_n11, ic_n22, ic_n3, ic_n2, ic_oneI]
      refine br_t h0 (g2 _ ?_)
      exact hp
    · unfold wY_asked_158
      simp (disch := omega) only [forall_eq, true_and, and_true, true_implies, false_implies, implies_true, not_true_eq_false, not_false_eq_true, nI_clamp, vp_in_nI, nI_add, ic_m3, ic_m4, ic_m5, ic_m6, ic_m8, ic_m11, ic_m12, ic_m24, ic_m33, ic_p1, ic_p2, ic_p3, ic_p4, ic_p5, ic_p6, ic_p7, ic_p8, ic_q3, ic_d11, ic_r11, ic_d22, ic_n11, ic_n22, ic_n3, ic_n2, ic_oneI]
      refine br_t h0 (g3 _ ?_)
      exact hp
  · refine lk_mono (fun p hp => ?_) (fun p hp => ?_) (lk_51 (c := b0 * 11 + q) hI he hc hm h0)
    · unfold wX_trigger_35
      simp (disch := omega) only [forall_eq, true_and, and_true, true_implies, false_implies, implies_true, not_true_eq_false, not_false_eq_true, nI_clamp, vp_in_nI, nI_add, ic_m3, ic_m4, ic_m5, ic_m6, ic_m8, ic_m11, ic_m12, ic_m24, ic_m33, ic_p1, ic_p2, ic_p3, ic_p4, ic_p5, ic_p6, ic_p7, ic_p8, ic_q3, ic_d11, ic_r11, ic_d22, ic_n11, ic_n22, ic_n3, ic_n2, ic_oneI]
      exact br_f h0 hp
    · unfold wY_asked_158
      simp (disch := omega) only [forall_eq, true_and, and_true, true_implies, false_implies, implies_true, not_true_eq_false, not_false_eq_true, nI_clamp, vp_in_nI, nI_add, ic_m3, ic_m4, ic_m5, ic_m6, ic_m8, ic_m11, ic_m12, ic_m24, ic_m33, ic_p1, ic_p2, ic_p3, ic_p4, ic_p5, ic_p6, ic_p7, ic_p8, ic_q3, ic_d11, ic_r11, ic_d22, ic_n11, ic_n22, ic_n3, ic_n2, ic_oneI]
      exact br_f h0 hp
theorem lk_trig {k e b0 q m : Nat} (hI : ic_I k ic_E0 wn fl nt ro ph ck ch na ns ba ow se tp po pc pb sp sg st rk cx ca mr fm mb od os qu qs qd rg ft pa bd bo sk sn) (he : e < 2) (hb : b0 < 3) (hq : q < 11) (hm : m ≤ 1) (hba : ba (e * 3 + b0) ≠ 0) (hbd : 3 ≤ q → bd ((1 - e) * 11 + q) ≠ 0) :
    lk_R k (fun p => wpX_trigger (fun u => p 12 u) (wn, fl, nt, ro, ph, ck, ch, na, ns, ba, ow, se, tp, po, pc, pb, sp, sg, st, rk, cx, ca, mr, fm, mb, od, os, qu, qs, qd, rg, ft) (nI e) (nI (b0 * 11 + q)) (nI m))
      (fun p => ((se (e * 11 + q) = 0 → wY_asked_158 p (nI e) (nI m) (nI (b0 * 11 + q)) (nI (e * 33 + (b0 * 11 + q))) fl wn nt ro ph ck ch ns na pa ow (upd se (e * 11 + q) 3) bd bo st cx ca mr sk ba sn) ∧ (¬ se (e * 11 + q) = 0 → wY_asked_158 p (nI e) (nI m) (nI (b0 * 11 + q)) (nI (e * 33 + (b0 * 11 + q))) fl wn nt ro ph ck ch ns na pa ow se bd bo st cx ca mr sk ba sn))) := by
  have e2 : (b0 * 11 + q) % 11 = q := by omega
  by_cases h0 : se (e * 11 + q) = 0
  · obtain ⟨tp', g1, g2⟩ := lk_learn (p := q) (t := 3) hI he hq (by omega) (by omega) hbd
    have hI1 : ic_I k ic_E0 wn fl nt ro ph ck ch na ns ba ow (upd se (e * 11 + q) (nI 3)) tp' po pc pb sp sg st rk cx ca mr fm mb od os qu qs qd rg ft pa bd bo sk sn := by
      refine i_IE2 _ _ _ _ _ _ _ _ _ _ _ _ _ _ _ _ _ _ _ _ _ _ _ _ _ _ _ _ _ _ _ _ _ _ _ _ _ (fun a c ha hc hz z => ?_) g1
      obtain ⟨hnt, hro, hph, hns, how, hse, hst, hmk, hrg, hpn, hch, hob, hop, hsp, hsb, hP, hS, hT, hM, hfm, hO, hK, hQ, hC, hF⟩ := hI
      have := (hsb a ha c hc hz).2
      rw [z.1, z.2] at this
      exact this h0
    refine lk_mono (fun p hp => ?_) (fun p hp => br_t h0 hp) (lk_35 (b0 := b0) (q := q) hI1 he hb hq hm hba (by rw [pk_us]; decide))
    unfold wpX_trigger
    simp (disch := omega) only [forall_eq, true_and, and_true, true_implies, false_implies, implies_true, not_true_eq_false, not_false_eq_true, nI_clamp, vp_in_nI, nI_add, ic_m3, ic_m4, ic_m5, ic_m6, ic_m8, ic_m11, ic_m12, ic_m24, ic_m33, ic_p1, ic_p2, ic_p3, ic_p4, ic_p5, ic_p6, ic_p7, ic_p8, ic_q3, ic_d11, ic_r11, ic_d22, ic_n11, ic_n22, ic_n3, ic_n2, ic_oneI, e2]
    refine br_t h0 (g2 _ ?_)
    exact hp
  · refine lk_mono (fun p hp => ?_) (fun p hp => br_f h0 hp) (lk_35 (b0 := b0) (q := q) hI he hb hq hm hba h0)
    unfold wpX_trigger
    simp (disch := omega) only [forall_eq, true_and, and_true, true_implies, false_implies, implies_true, not_true_eq_false, not_false_eq_true, nI_clamp, vp_in_nI, nI_add, ic_m3, ic_m4, ic_m5, ic_m6, ic_m8, ic_m11, ic_m12, ic_m24, ic_m33, ic_p1, ic_p2, ic_p3, ic_p4, ic_p5, ic_p6, ic_p7, ic_p8, ic_q3, ic_d11, ic_r11, ic_d22, ic_n11, ic_n22, ic_n3, ic_n2, ic_oneI, e2]
    exact br_f h0 hp
/-- the answer to a request, and the trigger -/
theorem lk_75 {k e b0 kd s p d r m b q : Nat} (hI : ic_I k ic_E0 wn fl nt ro ph ck ch na ns ba ow se tp po pc pb sp sg st rk cx ca mr fm mb od os qu qs qd rg ft pa bd bo sk sn) (he : e < 2) (hb0 : b0 < 3) (hx : kd ≤ 2 ∧ s ≤ 1 ∧ p ≤ 10 ∧ d ≤ 10 ∧ r ≤ 1 ∧ m ≤ 1 ∧ b ≤ 2 ∧ q ≤ 10) (hba : ba (e * 3 + b0) ≠ 0) (hbd : 3 ≤ p → bd ((1 - e) * 11 + p) ≠ 0) (hst : st ((1 - e) * 33 + (b * 11 + q)) ≠ 0) :
    lk_R k (fun P => wX_takeRequest_75 P (nI e) (nI b0) (nI (ic_pk kd s p d r m b q)) (nI p) wn fl nt ro ph ck ch na ns ba ow se tp po pc pb sp sg st rk cx ca mr fm mb od os qu qs qd rg ft) (fun P => wY_asked_92 P (nI e) (nI b0) (nI p) (nI r) (nI m) (nI (b * 11 + q)) (nI (b0 * 11 + p)) (nI (e * 33 + (b0 * 11 + p))) 0 1 fl wn nt ro ph ck ch ns na pa ow se bd bo st cx ca mr sk ba sn) := by
  obtain ⟨fl', po', pc', pb', sp', sg', ft', pa', bd', bo', sn', g1, gm, g3, g4⟩ := lk_post (kd := 1) (r := r) (m := m) (b := b0) (d := p) (b' := b) (q := q) hI he hb0 (by omega) hba (by omega) (by omega) (by omega) (by omega) (by omega) (fun z => by omega) (fun _ => hst)
  have goX : ∀ P : Int32 → SX → Prop, ((ph e = 2 → P 12 (wn, fl', nt, ro, ph, ck, ch, na, ns, ba, ow, se, tp, po', pc', pb', sp', sg', st, rk, cx, ca, mr, fm, mb, od, os, qu, qs, qd, rg, ft')) ∧ (¬ ph e = 2 → wpX_trigger (fun u => P 12 u) (wn, fl', nt, ro, ph, ck, ch, na, ns, ba, ow, se, tp, po', pc', pb', sp', sg', st, rk, cx, ca, mr, fm, mb, od, os, qu, qs, qd, rg, ft') (nI e) (nI (b0 * 11 + p)) (nI m))) → wX_takeRequest_75 P (nI e) (nI b0) (nI (ic_pk kd s p d r m b q)) (nI p) wn fl nt ro ph ck ch na ns ba ow se tp po pc pb sp sg st rk cx ca mr fm mb od os qu qs qd rg ft := by
    intro P hP
    unfold wX_takeRequest_75
    rw [ic_hi hx]
    refine g3 _ ?_
    refine xw_part (ic_pk_lt hx) 5 (by omega) ?_
    rw [ic_pk5 hx]
    simp (disch := omega) only [forall_eq, true_and, and_true, true_implies, false_implies, implies_true, not_true_eq_false, not_false_eq_true, nI_clamp, vp_in_nI, nI_add, ic_m3, ic_m4, ic_m5, ic_m6, ic_m8, ic_m11, ic_m12, ic_m24, ic_m33, ic_p1, ic_p2, ic_p3, ic_p4, ic_p5, ic_p6, ic_p7, ic_p8, ic_q3, ic_d11, ic_r11, ic_d22, ic_n11, ic_n22, ic_n3, ic_n2, ic_oneI]
    exact hP
  have goY : ∀ P : Int32 → SY → Prop, ((ph e = 2 → P 12 (fl', wn, nt, ro, ph, ck, ch, ns, na, pa', ow, se, bd', bo', st, cx, ca, mr, sk, ba, sn')) ∧ (¬ ph e = 2 → ((se (e * 11 + p) = 0 → wY_asked_158 P (nI e) (nI m) (nI (b0 * 11 + p)) (nI (e * 33 + (b0 * 11 + p))) fl' wn nt ro ph ck ch ns na pa' ow (upd se (e * 11 + p) 3) bd' bo' st cx ca mr sk ba sn') ∧ (¬ se (e * 11 + p) = 0 → wY_asked_158 P (nI e) (nI m) (nI (b0 * 11 + p)) (nI (e * 33 + (b0 * 11 + p))) fl' wn nt ro ph ck ch ns na pa' ow se bd' bo' st cx ca mr sk ba sn')))) → wY_asked_92 P (nI e) (nI b0) (nI p) (nI r) (nI m) (nI (b * 11 + q)) (nI (b0 * 11 + p)) (nI (e * 33 + (b0 * 11 + p))) 0 1 fl wn nt ro ph ck ch ns na pa ow se bd bo st cx ca mr sk ba sn := by
    intro P hP
    unfold wY_asked_92
    refine g4 _ ?_
    refine br_t rfl ?_
    simp (disch := omega) only [forall_eq, true_and, and_true, true_implies, false_implies, implies_true, not_true_eq_false, not_false_eq_true, nI_clamp, vp_in_nI, nI_add, ic_m3, ic_m4, ic_m5, ic_m6, ic_m8, ic_m11, ic_m12, ic_m24, ic_m33, ic_p1, ic_p2, ic_p3, ic_p4, ic_p5, ic_p6, ic_p7, ic_p8, ic_q3, ic_d11, ic_r11, ic_d22, ic_n11, ic_n22, ic_n3, ic_n2, ic_oneI]
    exact ⟨fun z => br_t rfl (hP.1 z), hP.2⟩
  by_cases h2 : ph e = 2
  · exact lk_ret 12 g1 (fun P hP => goX P (br_t h2 hP)) (fun P hP => goY P (br_t h2 hP))
  · exact lk_mono (fun P hP => goX P (br_f h2 hP)) (fun P hP => goY P (br_f h2 hP)) (lk_trig (b0 := b0) (q := p) g1 he hb0 (by omega) (by omega) hba (fun z => gm _ (hbd z)))
theorem lk_ask {k e b0 kd s p d r m b q : Nat} (hI : ic_I k ic_E0 wn fl nt ro ph ck ch na ns ba ow se tp po pc pb sp sg st rk cx ca mr fm mb od os qu qs qd rg ft pa bd bo sk sn) (he : e < 2) (hb0 : b0 < 3) (hx : kd ≤ 2 ∧ s ≤ 1 ∧ p ≤ 10 ∧ d ≤ 10 ∧ r ≤ 1 ∧ m ≤ 1 ∧ b ≤ 2 ∧ q ≤ 10) (hba : ba (e * 3 + b0) ≠ 0) (hbd : 3 ≤ p → bd ((1 - e) * 11 + p) ≠ 0) (hsx : st ((1 - e) * 33 + (b * 11 + q)) ≠ 0) :
    lk_R k (fun P => wpX_takeRequest P (wn, fl, nt, ro, ph, ck, ch, na, ns, ba, ow, se, tp, po, pc, pb, sp, sg, st, rk, cx, ca, mr, fm, mb, od, os, qu, qs, qd, rg, ft) (nI e) (nI b0) (nI (ic_pk kd s p d r m b q))) (fun P => wpY_asked P (fl, wn, nt, ro, ph, ck, ch, ns, na, pa, ow, se, bd, bo, st, cx, ca, mr, sk, ba, sn) (nI e) (nI b0) (nI p) (nI r) (nI m) (nI (b * 11 + q))) := by
  have hI0 := hI
  obtain ⟨hnt, hro, hph, hns, how, hse, hst, hmk, hrg, hpn, hch, hob, hop, hsp, hsb, hP, hS, hT, hM, hfm, hO, hK, hQ, hC, hF⟩ := hI
  obtain ⟨r0, hr0, er0⟩ := hro e
  have hr1 : r ≤ 1 := hx.2.2.2.2.1
  have e1 : (1 : Int32) - nI r = nI (1 - r) := ic_oneI hr1
  have goX : ∀ P : Int32 → SX → Prop, ((nI r = nI r0 → ((wn = nI e → wX_takeRequest_36 P (nI e) (nI b0) (nI (ic_pk kd s p d r m b q)) (nI p) 1 wn fl nt ro ph ck ch na ns ba ow se tp po pc pb sp sg st rk cx ca mr fm mb od os qu qs qd rg ft) ∧ (¬ wn = nI e → wX_takeRequest_36 P (nI e) (nI b0) (nI (ic_pk kd s p d r m b q)) (nI p) 0 wn fl nt ro ph ck ch na ns ba ow se tp po pc pb sp sg st rk cx ca mr fm mb od os qu qs qd rg ft))) ∧ (¬ nI r = nI r0 → wX_takeRequest_75 P (nI e) (nI b0) (nI (ic_pk kd s p d r m b q)) (nI p) wn fl nt ro ph ck ch na ns ba ow se tp po pc pb sp sg st rk cx ca mr fm mb od os qu qs qd rg ft)) → wpX_takeRequest P (wn, fl, nt, ro, ph, ck, ch, na, ns, ba, ow, se, tp, po, pc, pb, sp, sg, st, rk, cx, ca, mr, fm, mb, od, os, qu, qs, qd, rg, ft) (nI e) (nI b0) (nI (ic_pk kd s p d r m b q)) := by
    intro P hP
    unfold wpX_takeRequest
    refine xw_part (ic_pk_lt hx) 2 (by omega) ?_
    rw [ic_pk2 hx]
    refine xw_part (ic_pk_lt hx) 4 (by omega) ?_
    rw [ic_pk4 hx]
    simp (disch := omega) only [forall_eq, true_and, and_true, true_implies, false_implies, implies_true, not_true_eq_false, not_false_eq_true, nI_clamp, vp_in_nI, nI_add, ic_m3, ic_m4, ic_m5, ic_m6, ic_m8, ic_m11, ic_m12, ic_m24, ic_m33, ic_p1, ic_p2, ic_p3, ic_p4, ic_p5, ic_p6, ic_p7, ic_p8, ic_q3, ic_d11, ic_r11, ic_d22, ic_n11, ic_n22, ic_n3, ic_n2, ic_oneI, er0]
    exact hP
  have goY : ∀ P : Int32 → SY → Prop, ((nI r = nI r0 → ((wn = nI e → wY_asked_41 P (nI e) (nI b0) (nI p) (nI r) (nI m) (nI (b * 11 + q)) (nI (b0 * 11 + p)) (nI (e * 33 + (b0 * 11 + p))) 1 fl wn nt ro ph ck ch ns na pa ow se bd bo st cx ca mr sk ba sn) ∧ (¬ wn = nI e → wY_asked_41 P (nI e) (nI b0) (nI p) (nI r) (nI m) (nI (b * 11 + q)) (nI (b0 * 11 + p)) (nI (e * 33 + (b0 * 11 + p))) 0 fl wn nt ro ph ck ch ns na pa ow se bd bo st cx ca mr sk ba sn))) ∧ (¬ nI r = nI r0 → wY_asked_63 P (nI e) (nI b0) (nI p) (nI r) (nI m) (nI (b * 11 + q)) (nI (b0 * 11 + p)) (nI (e * 33 + (b0 * 11 + p))) fl wn nt ro ph ck ch ns na pa ow se bd bo st cx ca mr sk ba sn)) → wpY_asked P (fl, wn, nt, ro, ph, ck, ch, ns, na, pa, ow, se, bd, bo, st, cx, ca, mr, sk, ba, sn) (nI e) (nI b0) (nI p) (nI r) (nI m) (nI (b * 11 + q)) := by
    intro P hP
    unfold wpY_asked
    simp (disch := omega) only [forall_eq, true_and, and_true, true_implies, false_implies, implies_true, not_true_eq_false, not_false_eq_true, nI_clamp, vp_in_nI, nI_add, ic_m3, ic_m4, ic_m5, ic_m6, ic_m8, ic_m11, ic_m12, ic_m24, ic_m33, ic_p1, ic_p2, ic_p3, ic_p4, ic_p5, ic_p6, ic_p7, ic_p8, ic_q3, ic_d11, ic_r11, ic_d22, ic_n11, ic_n22, ic_n3, ic_n2, ic_oneI, er0]
    exact hP
  -- what follows a role that needn't change, or has changed
  have y63 : ∀ P : Int32 → SY → Prop, wY_asked_92 P (nI e) (nI b0) (nI p) (nI r) (nI m) (nI (b * 11 + q)) (nI (b0 * 11 + p)) (nI (e * 33 + (b0 * 11 + p))) 0 1 fl wn nt (upd ro e (nI (1 - r))) ph ck ch ns na pa ow se bd bo st cx ca mr sk ba sn → wY_asked_63 P (nI e) (nI b0) (nI p) (nI r) (nI m) (nI (b * 11 + q)) (nI (b0 * 11 + p)) (nI (e * 33 + (b0 * 11 + p))) fl wn nt ro ph ck ch ns na pa ow se bd bo st cx ca mr sk ba sn := by
    intro P hP
    unfold wY_asked_63 wY_asked_64
    simp (disch := omega) only [forall_eq, true_and, and_true, true_implies, false_implies, implies_true, not_true_eq_false, not_false_eq_true, nI_clamp, vp_in_nI, nI_add, ic_m3, ic_m4, ic_m5, ic_m6, ic_m8, ic_m11, ic_m12, ic_m24, ic_m33, ic_p1, ic_p2, ic_p3, ic_p4, ic_p5, ic_p6, ic_p7, ic_p8, ic_q3, ic_d11, ic_r11, ic_d22, ic_n11, ic_n22, ic_n3, ic_n2, ic_oneI, e1]
    exact br_t rfl hP
  by_cases hrr : r = r0
  · have hrr' : nI r = nI r0 := by rw [hrr]
    -- z1 is the winner's word, z0 the role's
    have conf : ∀ (z1 z0 : Int32), (∀ P : Int32 → SX → Prop, wX_takeRequest_51 P (nI e) (nI b0) (nI (ic_pk kd s p d r m b q)) (nI p) z0 z1 wn fl nt ro ph ck ch na ns ba ow se tp po pc pb sp sg st rk cx ca mr fm mb od os qu qs qd rg ft → wpX_takeRequest P (wn, fl, nt, ro, ph, ck, ch, na, ns, ba, ow, se, tp, po, pc, pb, sp, sg, st, rk, cx, ca, mr, fm, mb, od, os, qu, qs, qd, rg, ft) (nI e) (nI b0) (nI (ic_pk kd s p d r m b q))) →
        (∀ P : Int32 → SY → Prop, wY_asked_56 P (nI e) (nI b0) (nI p) (nI r) (nI m) (nI (b * 11 + q)) (nI (b0 * 11 + p)) (nI (e * 33 + (b0 * 11 + p))) z0 z1 fl wn nt ro ph ck ch ns na pa ow se bd bo st cx ca mr sk ba sn → wpY_asked P (fl, wn, nt, ro, ph, ck, ch, ns, na, pa, ow, se, bd, bo, st, cx, ca, mr, sk, ba, sn) (nI e) (nI b0) (nI p) (nI r) (nI m) (nI (b * 11 + q))) →
        lk_R k (fun P => wpX_takeRequest P (wn, fl, nt, ro, ph, ck, ch, na, ns, ba, ow, se, tp, po, pc, pb, sp, sg, st, rk, cx, ca, mr, fm, mb, od, os, qu, qs, qd, rg, ft) (nI e) (nI b0) (nI (ic_pk kd s p d r m b q))) (fun P => wpY_asked P (fl, wn, nt, ro, ph, ck, ch, ns, na, pa, ow, se, bd, bo, st, cx, ca, mr, sk, ba, sn) (nI e) (nI b0) (nI p) (nI r) (nI m) (nI (b * 11 + q))) := by
      intro z1 z0 hX hY
      by_cases hz : z1 = z0
      · obtain ⟨fl', po', pc', pb', sp', sg', ft', pa', bd', bo', sn', g1, gm, g3, g4⟩ := lk_post (kd := 2) (r := r) (m := m) (b := b0) (d := p) (b' := b) (q := q) hI0 he hb0 (by omega) hba (by omega) (by omega) (by omega) (by omega) (by omega) (fun z => by omega) (fun _ => hsx)
        refine lk_ret 13 g1 (fun P hP => hX P ?_) (fun P hP => hY P ?_)
        · unfold wX_takeRequest_51
          rw [ic_hi hx]
          exact br_t hz (g3 _ hP)
        · unfold wY_asked_56
          refine br_t hz ?_
          unfold wY_asked_64
          refine br_f (by decide) (br_f (by decide) ?_)
          unfold wY_asked_92
          refine g4 _ ?_
          exact br_f (by decide) (br_f (by decide) hP)
      · obtain ⟨rk', od', os', g1, g2⟩ := lk_switch hI0 he er0 hr0
        rw [← hrr] at g1 g2
        refine lk_mono (fun P hP => hX P ?_) (fun P hP => hY P ?_) (lk_75 (kd := kd) (s := s) (d := d) g1 he hb0 hx hba hbd hsx)
        · unfold wX_takeRequest_51
          refine br_f hz (g2 _ ?_)
          exact hP
        · unfold wY_asked_56
          exact br_f hz (y63 P hP)
    have rolecase : ∀ (z1 : Int32), (∀ P : Int32 → SX → Prop, wX_takeRequest_36 P (nI e) (nI b0) (nI (ic_pk kd s p d r m b q)) (nI p) z1 wn fl nt ro ph ck ch na ns ba ow se tp po pc pb sp sg st rk cx ca mr fm mb od os qu qs qd rg ft → wpX_takeRequest P (wn, fl, nt, ro, ph, ck, ch, na, ns, ba, ow, se, tp, po, pc, pb, sp, sg, st, rk, cx, ca, mr, fm, mb, od, os, qu, qs, qd, rg, ft) (nI e) (nI b0) (nI (ic_pk kd s p d r m b q))) →
        (∀ P : Int32 → SY → Prop, wY_asked_41 P (nI e) (nI b0) (nI p) (nI r) (nI m) (nI (b * 11 + q)) (nI (b0 * 11 + p)) (nI (e * 33 + (b0 * 11 + p))) z1 fl wn nt ro ph ck ch ns na pa ow se bd bo st cx ca mr sk ba sn → wpY_asked P (fl, wn, nt, ro, ph, ck, ch, ns, na, pa, ow, se, bd, bo, st, cx, ca, mr, sk, ba, sn) (nI e) (nI b0) (nI p) (nI r) (nI m) (nI (b * 11 + q))) →
        lk_R k (fun P => wpX_takeRequest P (wn, fl, nt, ro, ph, ck, ch, na, ns, ba, ow, se, tp, po, pc, pb, sp, sg, st, rk, cx, ca, mr, fm, mb, od, os, qu, qs, qd, rg, ft) (nI e) (nI b0) (nI (ic_pk kd s p d r m b q))) (fun P => wpY_asked P (fl, wn, nt, ro, ph, ck, ch, ns, na, pa, ow, se, bd, bo, st, cx, ca, mr, sk, ba, sn) (nI e) (nI b0) (nI p) (nI r) (nI m) (nI (b * 11 + q))) := by
      intro z1 hX hY
      by_cases h1 : ro e = 1
      · refine conf z1 1 (fun P hP => hX P ?_) (fun P hP => hY P ?_)
        · unfold wX_takeRequest_36
          simp (disch := omega) only [forall_eq, true_and, and_true, true_implies, false_implies, implies_true, not_true_eq_false, not_false_eq_true, nI_clamp, vp_in_nI, nI_add, ic_m3, ic_m4, ic_m5, ic_m6, ic_m8, ic_m11, ic_m12, ic_m24, ic_m33, ic_p1, ic_p2, ic_p3, ic_p4, ic_p5, ic_p6, ic_p7, ic_p8, ic_q3, ic_d11, ic_r11, ic_d22, ic_n11, ic_n22, ic_n3, ic_n2, ic_oneI]
          exact br_t h1 hP
        · unfold wY_asked_41
          simp (disch := omega) only [forall_eq, true_and, and_true, true_implies, false_implies, implies_true, not_true_eq_false, not_false_eq_true, nI_clamp, vp_in_nI, nI_add, ic_m3, ic_m4, ic_m5, ic_m6, ic_m8, ic_m11, ic_m12, ic_m24, ic_m33, ic_p1, ic_p2, ic_p3, ic_p4, ic_p5, ic_p6, ic_p7, ic_p8, ic_q3, ic_d11, ic_r11, ic_d22, ic_n11, ic_n22, ic_n3, ic_n2, ic_oneI]
          exact br_t h1 hP
      · refine conf z1 0 (fun P hP => hX P ?_) (fun P hP => hY P ?_)
        · unfold wX_takeRequest_36
          simp (disch := omega) only [forall_eq, true_and, and_true, true_implies, false_implies, implies_true, not_true_eq_false, not_false_eq_true, nI_clamp, vp_in_nI, nI_add, ic_m3, ic_m4, ic_m5, ic_m6, ic_m8, ic_m11, ic_m12, ic_m24, ic_m33, ic_p1, ic_p2, ic_p3, ic_p4, ic_p5, ic_p6, ic_p7, ic_p8, ic_q3, ic_d11, ic_r11, ic_d22, ic_n11, ic_n22, ic_n3, ic_n2, ic_oneI]
          exact br_f h1 hP
        · unfold wY_asked_41
          simp (disch := omega) only [forall_eq, true_and, and_true, true_implies, false_implies, implies_true, not_true_eq_false, not_false_eq_true, nI_clamp, vp_in_nI, nI_add, ic_m3, ic_m4, ic_m5, ic_m6, ic_m8, ic_m11, ic_m12, ic_m24, ic_m33, ic_p1, ic_p2, ic_p3, ic_p4, ic_p5, ic_p6, ic_p7, ic_p8, ic_q3, ic_d11, ic_r11, ic_d22, ic_n11, ic_n22, ic_n3, ic_n2, ic_oneI]
          exact br_f h1 hP
    by_cases hw : wn = nI e
    · exact rolecase 1 (fun P hP => goX P (br_t hrr' (br_t hw hP))) (fun P hP => goY P (br_t hrr' (br_t hw hP)))
    · exact rolecase 0 (fun P hP => goX P (br_t hrr' (br_f hw hP))) (fun P hP => goY P (br_t hrr' (br_f hw hP)))
  · have hrr' : ¬ nI r = nI r0 := fun z => hrr (ic_eqn (by omega) (by omega) z)
    have eu : upd ro e (nI (1 - r)) = ro := ic_usame (by rw [er0, show r0 = 1 - r by omega])
    rw [eu] at y63
    exact lk_mono (fun P hP => goX P (br_f hrr' hP)) (fun P hP => goY P (br_f hrr' (y63 P hP))) (lk_75 (kd := kd) (s := s) (d := d) hI0 he hb0 hx hba hbd hsx)
/-- the answer of a role conflict -/
theorem lk_rer {k e s p d r m b q : Nat} (hI : ic_I k ic_E0 wn fl nt ro ph ck ch na ns ba ow se tp po pc pb sp sg st rk cx ca mr fm mb od os qu qs qd rg ft pa bd bo sk sn) (he : e < 2) (hx : 2 ≤ 2 ∧ s ≤ 1 ∧ p ≤ 10 ∧ d ≤ 10 ∧ r ≤ 1 ∧ m ≤ 1 ∧ b ≤ 2 ∧ q ≤ 10) (hst0 : st (e * 33 + (b * 11 + q)) ≠ 0) :
    lk_R k (fun P => wpX_takeRoleError P (wn, fl, nt, ro, ph, ck, ch, na, ns, ba, ow, se, tp, po, pc, pb, sp, sg, st, rk, cx, ca, mr, fm, mb, od, os, qu, qs, qd, rg, ft) (nI e) (nI (ic_pk 2 s p d r m b q))) (fun P => wY_answered_38 P (nI e) (nI p) (nI d) 2 (nI m) (nI (b * 11 + q)) (nI (e * 33 + (b * 11 + q))) fl wn nt (upd ro e (nI (1 - r))) ph ck ch ns na pa ow se bd bo st cx ca mr sk ba sn) := by
  have hI0 := hI
  obtain ⟨hnt, hro, hph, hns, how, hse, hst, hmk, hrg, hpn, hch, hob, hop, hsp, hsb, hP, hS, hT, hM, hfm, hO, hK, hQ, hC, hF⟩ := hI
  obtain ⟨r0, hr0, er0⟩ := hro e
  have hr1 : r ≤ 1 := hx.2.2.2.2.1
  have hc : b * 11 + q < 33 := by omega
  have goX : ∀ P : Int32 → SX → Prop, ((nI r = nI r0 → wpX_switchRole (fun u => match u with | (wn1, fl1, nt1, ro1, ph1, ck1, ch1, na1, ns1, ba1, ow1, se1, tp1, po1, pc1, pb1, sp1, sg1, st1, rk1, cx1, ca1, mr1, fm1, mb1, od1, os1, qu1, qs1, qd1, rg1, ft1) => wX_takeRoleError_39 P (nI e) (nI (b * 11 + q)) wn1 fl1 nt1 ro1 ph1 ck1 ch1 na1 ns1 ba1 ow1 se1 tp1 po1 pc1 pb1 sp1 sg1 st1 rk1 cx1 ca1 mr1 fm1 mb1 od1 os1 qu1 qs1 qd1 rg1 ft1) (wn, fl, nt, ro, ph, ck, ch, na, ns, ba, ow, se, tp, po, pc, pb, sp, sg, st, rk, cx, ca, mr, fm, mb, od, os, qu, qs, qd, rg, ft) (nI e)) ∧ (¬ nI r = nI r0 → wX_takeRoleError_39 P (nI e) (nI (b * 11 + q)) wn fl nt ro ph ck ch na ns ba ow se tp po pc pb sp sg st rk cx ca mr fm mb od os qu qs qd rg ft)) → wpX_takeRoleError P (wn, fl, nt, ro, ph, ck, ch, na, ns, ba, ow, se, tp, po, pc, pb, sp, sg, st, rk, cx, ca, mr, fm, mb, od, os, qu, qs, qd, rg, ft) (nI e) (nI (ic_pk 2 s p d r m b q)) := by
    intro P hP
    unfold wpX_takeRoleError
    refine xw_part (ic_pk_lt hx) 6 (by omega) ?_
    rw [ic_pk6 hx]
    refine xw_part (ic_pk_lt hx) 7 (by omega) ?_
    rw [ic_pk7 hx]
    simp (disch := omega) only [forall_eq, true_and, and_true, true_implies, false_implies, implies_true, not_true_eq_false, not_false_eq_true, nI_clamp, vp_in_nI, nI_add, ic_m3, ic_m4, ic_m5, ic_m6, ic_m8, ic_m11, ic_m12, ic_m24, ic_m33, ic_p1, ic_p2, ic_p3, ic_p4, ic_p5, ic_p6, ic_p7, ic_p8, ic_q3, ic_d11, ic_r11, ic_d22, ic_n11, ic_n22, ic_n3, ic_n2, ic_oneI]
    refine xw_part (ic_pk_lt hx) 4 (by omega) ?_
    rw [ic_pk4 hx]
    simp (disch := omega) only [forall_eq, true_and, and_true, true_implies, false_implies, implies_true, not_true_eq_false, not_false_eq_true, nI_clamp, vp_in_nI, nI_add, ic_m3, ic_m4, ic_m5, ic_m6, ic_m8, ic_m11, ic_m12, ic_m24, ic_m33, ic_p1, ic_p2, ic_p3, ic_p4, ic_p5, ic_p6, ic_p7, ic_p8, ic_q3, ic_d11, ic_r11, ic_d22, ic_n11, ic_n22, ic_n3, ic_n2, ic_oneI, er0]
    exact hP
  have fin : ∀ (ro rk od os : Nat → Int32), ic_I k ic_E0 wn fl nt ro ph ck ch na ns ba ow se tp po pc pb sp sg st rk cx ca mr fm mb od os qu qs qd rg ft pa bd bo sk sn → (∀ P : Int32 → SX → Prop, wX_takeRoleError_39 P (nI e) (nI (b * 11 + q)) wn fl nt ro ph ck ch na ns ba ow se tp po pc pb sp sg st rk cx ca mr fm mb od os qu qs qd rg ft → wpX_takeRoleError P (wn, fl, nt, ro, ph, ck, ch, na, ns, ba, ow, se, tp, po, pc, pb, sp, sg, st, rk, cx, ca, mr, fm, mb, od, os, qu, qs, qd, rg, ft) (nI e) (nI (ic_pk 2 s p d r m b q)) → True) →
      lk_R k (fun P => wX_takeRoleError_39 P (nI e) (nI (b * 11 + q)) wn fl nt ro ph ck ch na ns ba ow se tp po pc pb sp sg st rk cx ca mr fm mb od os qu qs qd rg ft) (fun P => wY_answered_38 P (nI e) (nI p) (nI d) 2 (nI m) (nI (b * 11 + q)) (nI (e * 33 + (b * 11 + q))) fl wn nt ro ph ck ch ns na pa ow se bd bo st cx ca mr sk ba sn) := by
    intro ro rk od os hI1 _
    by_cases h3 : st (e * 33 + (b * 11 + q)) = 3
    · obtain ⟨st', cx', qu', qs', sk', mb', qd', est, g1, g2, g3⟩ := lk_enq hI1 he hc hst0
      refine lk_ret 17 g1 (fun P hP => ?_) (fun P hP => ?_)
      · unfold wX_takeRoleError_39
        simp (disch := omega) only [forall_eq, true_and, and_true, true_implies, false_implies, implies_true, not_true_eq_false, not_false_eq_true, nI_clamp, vp_in_nI, nI_add, ic_m3, ic_m4, ic_m5, ic_m6, ic_m8, ic_m11, ic_m12, ic_m24, ic_m33, ic_p1, ic_p2, ic_p3, ic_p4, ic_p5, ic_p6, ic_p7, ic_p8, ic_q3, ic_d11, ic_r11, ic_d22, ic_n11, ic_n22, ic_n3, ic_n2, ic_oneI]
        exact br_t h3 (g2 _ hP)
      · unfold wY_answered_38
        simp (disch := omega) only [forall_eq, true_and, and_true, true_implies, false_implies, implies_true, not_true_eq_false, not_false_eq_true, nI_clamp, vp_in_nI, nI_add, ic_m3, ic_m4, ic_m5, ic_m6, ic_m8, ic_m11, ic_m12, ic_m24, ic_m33, ic_p1, ic_p2, ic_p3, ic_p4, ic_p5, ic_p6, ic_p7, ic_p8, ic_q3, ic_d11, ic_r11, ic_d22, ic_n11, ic_n22, ic_n3, ic_n2, ic_oneI]
        refine br_t h3 (g3 _ ?_)
        exact br_t rfl hP
    · refine lk_ret 17 hI1 (fun P hP => ?_) (fun P hP => ?_)
      · unfold wX_takeRoleError_39
        simp (disch := omega) only [forall_eq, true_and, and_true, true_implies, false_implies, implies_true, not_true_eq_false, not_false_eq_true, nI_clamp, vp_in_nI, nI_add, ic_m3, ic_m4, ic_m5, ic_m6, ic_m8, ic_m11, ic_m12, ic_m24, ic_m33, ic_p1, ic_p2, ic_p3, ic_p4, ic_p5, ic_p6, ic_p7, ic_p8, ic_q3, ic_d11, ic_r11, ic_d22, ic_n11, ic_n22, ic_n3, ic_n2, ic_oneI]
        exact br_f h3 hP
      · unfold wY_answered_38
        simp (disch := omega) only [forall_eq, true_and, and_true, true_implies, false_implies, implies_true, not_true_eq_false, not_false_eq_true, nI_clamp, vp_in_nI, nI_add, ic_m3, ic_m4, ic_m5, ic_m6, ic_m8, ic_m11, ic_m12, ic_m24, ic_m33, ic_p1, ic_p2, ic_p3, ic_p4, ic_p5, ic_p6, ic_p7, ic_p8, ic_q3, ic_d11, ic_r11, ic_d22, ic_n11, ic_n22, ic_n3, ic_n2, ic_oneI]
        refine br_f h3 ?_
        exact br_t rfl hP
  by_cases hrr : r = r0
  · obtain ⟨rk', od', os', g1, g2⟩ := lk_switch hI0 he er0 hr0
    rw [← hrr] at g1 g2
    refine lk_mono (fun P hP => goX P (br_t (by rw [hrr]) (g2 _ ?_))) (fun P hP => hP) (fin _ rk' od' os' g1 (fun _ _ _ => trivial))
    exact hP
  · have eu : upd ro e (nI (1 - r)) = ro := ic_usame (by rw [er0, show r0 = 1 - r by omega])
    rw [eu]
    exact lk_mono (fun P hP => goX P (br_f (fun z => hrr (ic_eqn (by omega) (by omega) z)) hP)) (fun P hP => hP) (fin ro rk od os hI0 (fun _ _ _ => trivial))
/-- the answer of a check -/
theorem lk_tsc {k e kd s p d r m b q : Nat} (hI : ic_I k ic_E0 wn fl nt ro ph ck ch na ns ba ow se tp po pc pb sp sg st rk cx ca mr fm mb od os qu qs qd rg ft pa bd bo sk sn) (he : e < 2) (hx : kd ≤ 2 ∧ s ≤ 1 ∧ p ≤ 10 ∧ d ≤ 10 ∧ r ≤ 1 ∧ m ≤ 1 ∧ b ≤ 2 ∧ q ≤ 10) (hkd : kd = 1) (hst0 : st (e * 33 + (b * 11 + q)) ≠ 0) (hd3 : d < 3 → ba (e * 3 + d) ≠ 0) (hd11 : 3 ≤ d → bd (e * 11 + d) ≠ 0) :
    lk_R k (fun P => wpX_takeSuccess P (wn, fl, nt, ro, ph, ck, ch, na, ns, ba, ow, se, tp, po, pc, pb, sp, sg, st, rk, cx, ca, mr, fm, mb, od, os, qu, qs, qd, rg, ft) (nI e) (nI (ic_pk kd s p d r m b q))) (fun P => wY_answered_38 P (nI e) (nI p) (nI d) (nI kd) (nI m) (nI (b * 11 + q)) (nI (e * 33 + (b * 11 + q))) fl wn nt ro ph ck ch ns na pa ow se bd bo st cx ca mr sk ba sn) := by
  have hI0 := hI
  obtain ⟨hnt, hro, hph, hns, how, hse, hst, hmk, hrg, hpn, hch, hob, hop, hsp, hsb, hP, hS, hT, hM, hfm, hO, hK, hQ, hC, hF⟩ := hI
  have hc : b * 11 + q < 33 := by omega
  have e2 : (b * 11 + q) % 11 = q := by omega
  have hk2 : ¬ nI kd = 2 := fun z => by have := ic_eqn (b := 2) (by omega) (by omega) z; omega
  have goX : ∀ P : Int32 → SX → Prop, ((nI p = nI q → ((ow (e * 11 + d) = 0 → wX_takeSuccess_92 P (nI e) (nI (ic_pk kd s p d r m b q)) (nI (b * 11 + q)) (nI (e * 33 + (b * 11 + q))) wn fl nt ro ph ck ch na ns ba (upd ow (e * 11 + d) 3) se tp po pc pb sp sg st rk cx ca mr fm mb od os qu qs qd rg ft) ∧ (¬ ow (e * 11 + d) = 0 → wX_takeSuccess_92 P (nI e) (nI (ic_pk kd s p d r m b q)) (nI (b * 11 + q)) (nI (e * 33 + (b * 11 + q))) wn fl nt ro ph ck ch na ns ba ow se tp po pc pb sp sg st rk cx ca mr fm mb od os qu qs qd rg ft))) ∧ (¬ nI p = nI q → ((st (e * 33 + (b * 11 + q)) = 3 → wpX_setState (fun u => P 15 u) (wn, fl, nt, ro, ph, ck, ch, na, ns, ba, ow, se, tp, po, pc, pb, sp, sg, st, rk, cx, ca, mr, fm, mb, od, os, qu, qs, qd, rg, ft) (nI e) (nI (b * 11 + q)) 5) ∧ (¬ st (e * 33 + (b * 11 + q)) = 3 → P 15 (wn, fl, nt, ro, ph, ck, ch, na, ns, ba, ow, se, tp, po, pc, pb, sp, sg, st, rk, cx, ca, mr, fm, mb, od, os, qu, qs, qd, rg, ft))))) → wpX_takeSuccess P (wn, fl, nt, ro, ph, ck, ch, na, ns, ba, ow, se, tp, po, pc, pb, sp, sg, st, rk, cx, ca, mr, fm, mb, od, os, qu, qs, qd, rg, ft) (nI e) (nI (ic_pk kd s p d r m b q)) := by
    intro P hP
    unfold wpX_takeSuccess
    refine xw_part (ic_pk_lt hx) 6 (by omega) ?_
    rw [ic_pk6 hx]
    refine xw_part (ic_pk_lt hx) 7 (by omega) ?_
    rw [ic_pk7 hx]
    simp (disch := omega) only [forall_eq, true_and, and_true, true_implies, false_implies, implies_true, not_true_eq_false, not_false_eq_true, nI_clamp, vp_in_nI, nI_add, ic_m3, ic_m4, ic_m5, ic_m6, ic_m8, ic_m11, ic_m12, ic_m24, ic_m33, ic_p1, ic_p2, ic_p3, ic_p4, ic_p5, ic_p6, ic_p7, ic_p8, ic_q3, ic_d11, ic_r11, ic_d22, ic_n11, ic_n22, ic_n3, ic_n2, ic_oneI]
    refine xw_part (ic_pk_lt hx) 2 (by omega) ?_
    rw [ic_pk2 hx, e2]
    refine ⟨fun z => xw_part (ic_pk_lt hx) 3 (by omega) ?_, fun z => hP.2 z⟩
    rw [ic_pk3 hx]
    simp (disch := omega) only [forall_eq, true_and, and_true, true_implies, false_implies, implies_true, not_true_eq_false, not_false_eq_true, nI_clamp, vp_in_nI, nI_add, ic_m3, ic_m4, ic_m5, ic_m6, ic_m8, ic_m11, ic_m12, ic_m24, ic_m33, ic_p1, ic_p2, ic_p3, ic_p4, ic_p5, ic_p6, ic_p7, ic_p8, ic_q3, ic_d11, ic_r11, ic_d22, ic_n11, ic_n22, ic_n3, ic_n2, ic_oneI]
    exact hP.1 z
  have goY : ∀ P : Int32 → SY → Prop, ((nI p = nI q → ((ow (e * 11 + d) = 0 → (∃ n146 : Nat, wY_answered_146 P (nI e) (nI m) (nI (b * 11 + q)) (nI (e * 33 + (b * 11 + q))) fl wn n146 0 (nI (e * 33)) nt ro ph ck ch ns na pa (upd ow (e * 11 + d) 3) se bd bo st cx ca mr sk ba sn)) ∧ (¬ ow (e * 11 + d) = 0 → (∃ n146 : Nat, wY_answered_146 P (nI e) (nI m) (nI (b * 11 + q)) (nI (e * 33 + (b * 11 + q))) fl wn n146 0 (nI (e * 33)) nt ro ph ck ch ns na pa ow se bd bo st cx ca mr sk ba sn)))) ∧ (¬ nI p = nI q → ((st (e * 33 + (b * 11 + q)) = 3 → P 15 (fl, wn, nt, ro, ph, ck, ch, ns, na, pa, ow, se, bd, bo, upd st (e * 33 + (b * 11 + q)) 5, cx, ca, mr, sk, ba, sn)) ∧ (¬ st (e * 33 + (b * 11 + q)) = 3 → P 15 (fl, wn, nt, ro, ph, ck, ch, ns, na, pa, ow, se, bd, bo, st, cx, ca, mr, sk, ba, sn))))) → wY_answered_38 P (nI e) (nI p) (nI d) (nI kd) (nI m) (nI (b * 11 + q)) (nI (e * 33 + (b * 11 + q))) fl wn nt ro ph ck ch ns na pa ow se bd bo st cx ca mr sk ba sn := by
    intro P hP
    unfold wY_answered_38 wY_answered_62 wY_answered_99
    simp (disch := omega) only [forall_eq, true_and, and_true, true_implies, false_implies, implies_true, not_true_eq_false, not_false_eq_true, nI_clamp, vp_in_nI, nI_add, ic_m3, ic_m4, ic_m5, ic_m6, ic_m8, ic_m11, ic_m12, ic_m24, ic_m33, ic_p1, ic_p2, ic_p3, ic_p4, ic_p5, ic_p6, ic_p7, ic_p8, ic_q3, ic_d11, ic_r11, ic_d22, ic_n11, ic_n22, ic_n3, ic_n2, ic_oneI, e2]
    refine br_f hk2 (br_f hk2 ⟨fun z => br_t z (hP.1 z), fun z => ⟨fun z2 => br_f z ((hP.2 z).1 z2), fun z2 => br_f z ((hP.2 z).2 z2)⟩⟩)
  by_cases hpq : nI p = nI q
  · have fin : ∀ ow' : Nat → Int32, ic_I k ic_E0 wn fl nt ro ph ck ch na ns ba ow' se tp po pc pb sp sg st rk cx ca mr fm mb od os qu qs qd rg ft pa bd bo sk sn → (∀ P : Int32 → SX → Prop, wX_takeSuccess_92 P (nI e) (nI (ic_pk kd s p d r m b q)) (nI (b * 11 + q)) (nI (e * 33 + (b * 11 + q))) wn fl nt ro ph ck ch na ns ba ow' se tp po pc pb sp sg st rk cx ca mr fm mb od os qu qs qd rg ft → wpX_takeSuccess P (wn, fl, nt, ro, ph, ck, ch, na, ns, ba, ow, se, tp, po, pc, pb, sp, sg, st, rk, cx, ca, mr, fm, mb, od, os, qu, qs, qd, rg, ft) (nI e) (nI (ic_pk kd s p d r m b q))) →
        (∀ P : Int32 → SY → Prop, (∃ n146 : Nat, wY_answered_146 P (nI e) (nI m) (nI (b * 11 + q)) (nI (e * 33 + (b * 11 + q))) fl wn n146 0 (nI (e * 33)) nt ro ph ck ch ns na pa ow' se bd bo st cx ca mr sk ba sn) → wY_answered_38 P (nI e) (nI p) (nI d) (nI kd) (nI m) (nI (b * 11 + q)) (nI (e * 33 + (b * 11 + q))) fl wn nt ro ph ck ch ns na pa ow se bd bo st cx ca mr sk ba sn) →
        lk_R k (fun P => wpX_takeSuccess P (wn, fl, nt, ro, ph, ck, ch, na, ns, ba, ow, se, tp, po, pc, pb, sp, sg, st, rk, cx, ca, mr, fm, mb, od, os, qu, qs, qd, rg, ft) (nI e) (nI (ic_pk kd s p d r m b q))) (fun P => wY_answered_38 P (nI e) (nI p) (nI d) (nI kd) (nI m) (nI (b * 11 + q)) (nI (e * 33 + (b * 11 + q))) fl wn nt ro ph ck ch ns na pa ow se bd bo st cx ca mr sk ba sn) := by
      intro ow' hI1 hX hY
      obtain ⟨st', qu', qs', sk', mb', qd', g1, g0, g2, g3⟩ := lk_succ (m := m) (V := nI (ic_pk kd s p d r m b q)) hI1 he hc hst0
      have hmr : mr (e * 33 + (b * 11 + q)) = 0 ∨ mr (e * 33 + (b * 11 + q)) = 1 := by
        obtain ⟨w, hw, ew⟩ := hmk (e * 33 + (b * 11 + q))
        have hw2 : w = 0 ∨ w = 1 := by omega
        rcases hw2 with rfl | rfl
        · exact Or.inl ew
        · exact Or.inr ew
      have x109 : ∀ P : Int32 → SX → Prop, ((mr (e * 33 + (b * 11 + q)) = 0 → ((nI m = 1 → wX_takeSuccess_129 P (nI e) (nI (b * 11 + q)) wn fl nt ro ph ck ch na ns ba ow' se tp po pc pb sp sg st' rk cx ca mr fm mb' od os qu' qs' qd' rg ft) ∧ (¬ nI m = 1 → P 16 (wn, fl, nt, ro, ph, ck, ch, na, ns, ba, ow', se, tp, po, pc, pb, sp, sg, st', rk, cx, ca, mr, fm, mb', od, os, qu', qs', qd', rg, ft)))) ∧ (¬ mr (e * 33 + (b * 11 + q)) = 0 → wX_takeSuccess_129 P (nI e) (nI (b * 11 + q)) wn fl nt ro ph ck ch na ns ba ow' se tp po pc pb sp sg st' rk cx ca mr fm mb' od os qu' qs' qd' rg ft)) → wpX_takeSuccess P (wn, fl, nt, ro, ph, ck, ch, na, ns, ba, ow, se, tp, po, pc, pb, sp, sg, st, rk, cx, ca, mr, fm, mb, od, os, qu, qs, qd, rg, ft) (nI e) (nI (ic_pk kd s p d r m b q)) := by
        intro P hP
        refine hX P (g2 P ?_)
        unfold wX_takeSuccess_109
        simp (disch := omega) only [forall_eq, true_and, and_true, true_implies, false_implies, implies_true, not_true_eq_false, not_false_eq_true, nI_clamp, vp_in_nI, nI_add, ic_m3, ic_m4, ic_m5, ic_m6, ic_m8, ic_m11, ic_m12, ic_m24, ic_m33, ic_p1, ic_p2, ic_p3, ic_p4, ic_p5, ic_p6, ic_p7, ic_p8, ic_q3, ic_d11, ic_r11, ic_d22, ic_n11, ic_n22, ic_n3, ic_n2, ic_oneI]
        refine ⟨fun z => xw_part (ic_pk_lt hx) 5 (by omega) ?_, hP.2⟩
        rw [ic_pk5 hx]
        exact hP.1 z
      have sel : (∀ P : Int32 → SX → Prop, wX_takeSuccess_129 P (nI e) (nI (b * 11 + q)) wn fl nt ro ph ck ch na ns ba ow' se tp po pc pb sp sg st' rk cx ca mr fm mb' od os qu' qs' qd' rg ft → wpX_takeSuccess P (wn, fl, nt, ro, ph, ck, ch, na, ns, ba, ow, se, tp, po, pc, pb, sp, sg, st, rk, cx, ca, mr, fm, mb, od, os, qu, qs, qd, rg, ft) (nI e) (nI (ic_pk kd s p d r m b q))) → (∀ P : Int32 → SY → Prop, wY_answered_236 P (nI e) (nI (b * 11 + q)) fl wn nt ro ph ck ch ns na pa ow' se bd bo st' cx ca mr sk' ba sn → wY_answered_38 P (nI e) (nI p) (nI d) (nI kd) (nI m) (nI (b * 11 + q)) (nI (e * 33 + (b * 11 + q))) fl wn nt ro ph ck ch ns na pa ow se bd bo st cx ca mr sk ba sn) →
          lk_R k (fun P => wpX_takeSuccess P (wn, fl, nt, ro, ph, ck, ch, na, ns, ba, ow, se, tp, po, pc, pb, sp, sg, st, rk, cx, ca, mr, fm, mb, od, os, qu, qs, qd, rg, ft) (nI e) (nI (ic_pk kd s p d r m b q))) (fun P => wY_answered_38 P (nI e) (nI p) (nI d) (nI kd) (nI m) (nI (b * 11 + q)) (nI (e * 33 + (b * 11 + q))) fl wn nt ro ph ck ch ns na pa ow se bd bo st cx ca mr sk ba sn) := by
        intro hX2 hY2
        obtain ⟨j1, j2, j3⟩ := lk_sel g1 he hc g0
        refine lk_ret 16 j1 (fun P hP => hX2 P ?_) (fun P hP => hY2 P ?_)
        · unfold wX_takeSuccess_129
          exact j2 _ hP
        · unfold wY_answered_236
          exact j3 _ hP
      by_cases hm1 : nI m = 1
      · refine sel (fun P hP => x109 P ⟨fun _ => br_t hm1 hP, fun _ => hP⟩) (fun P hP => hY P ⟨34, g3 P ⟨fun _ => hP, fun _ => br_t hm1 hP⟩⟩)
      · rcases hmr with h0 | h1
        · have h1' : ¬ mr (e * 33 + (b * 11 + q)) = 1 := by rw [h0]; decide
          exact lk_ret 16 g1 (fun P hP => x109 P (br_t h0 (br_f hm1 hP))) (fun P hP => hY P ⟨34, g3 P (br_f h1' (br_f hm1 hP))⟩)
        · have h0' : ¬ mr (e * 33 + (b * 11 + q)) = 0 := by rw [h1]; decide
          exact sel (fun P hP => x109 P (br_f h0' hP)) (fun P hP => hY P ⟨34, g3 P (br_t h1 hP)⟩)
    by_cases how0 : ow (e * 11 + d) = 0
    · refine fin (upd ow (e * 11 + d) 3) ?_ (fun P hP => goX P (br_t hpq (br_t how0 hP))) (fun P hP => goY P (br_t hpq (br_t how0 hP)))
      refine ⟨hnt, hro, hph, hns, ic_Ru how _ 3 (by omega), hse, hst, hmk, hrg, hpn, hch, ?_, ?_, hsp, hsb, hP, hS, hT, hM, hfm, hO, hK, hQ, hC, hF⟩
      · intro a' ha' q' hq' z
        rw [pk_un]
        · exact hob a' ha' q' hq' z
        · intro ee
          have e3 : a' = e := by omega
          have e4 : q' = d := by omega
          rw [e3, e4] at z
          exact hd3 (by omega) z
      · intro a' ha' q' q3 q11 z
        by_cases ee : a' * 11 + q' = e * 11 + d
        · have e3 : a' = e := by omega
          have e4 : q' = d := by omega
          rw [e3, e4]; exact hd11 (by omega)
        · rw [pk_un ee] at z
          exact hop a' ha' q' q3 q11 z
    · exact fin ow hI0 (fun P hP => goX P (br_t hpq (br_f how0 hP))) (fun P hP => goY P (br_t hpq (br_f how0 hP)))
  · by_cases h3 : st (e * 33 + (b * 11 + q)) = 3
    · have zi : ∀ j, upd st (e * 33 + (b * 11 + q)) (nI 5) j = 0 ↔ st j = 0 := by
        intro j
        by_cases e1 : j = e * 33 + (b * 11 + q)
        · rw [e1, pk_us]
          exact ⟨fun z => absurd z (by decide), fun z => absurd z hst0⟩
        · rw [pk_un e1]
      have mono : ∀ j, st j ≠ 0 → upd st (e * 33 + (b * 11 + q)) (nI 5) j ≠ 0 := fun j z z2 => z ((zi j).mp z2)
      have hI1 : ic_I k ic_E0 wn fl nt ro ph ck ch na ns ba ow se tp po pc pb sp sg (upd st (e * 33 + (b * 11 + q)) (nI 5)) rk cx ca mr fm (ic_ms mb e (b * 11 + q) 3 5) od os qu qs qd rg ft pa bd bo sk sn := by
        refine ⟨hnt, hro, hph, hns, how, hse, ic_Ru hst _ 5 (by omega), hmk, hrg, hpn, ic_CHm mono hch, hob, hop, hsp, ic_SBi zi hsb, hP, hS, hT, ic_Mset hM he hc (by omega) (by omega) h3, ic_FMi zi hfm, ic_Oi zi hO, ic_Ki zi hK, ?_, ?_, ic_Fm mono (fun _ z => z) hF⟩
        · refine ic_Qst (fun a' c' _ _ z => ?_) hQ
          rw [pk_un]
          · exact z
          · intro e1
            rw [e1, h3] at z
            exact absurd z (by decide)
        · refine ic_Cst (fun j z => ?_) hC
          by_cases e1 : j = e * 33 + (b * 11 + q)
          · rw [e1]; exact h3
          · rw [pk_un e1] at z; exact z
      refine lk_ret 15 hI1 (fun P hP => goX P (br_f hpq (br_t h3 ?_))) (fun P hP => goY P (br_f hpq (br_t h3 hP)))
      exact xw_set (s := 5) (s0 := 3) he hc (by omega) (by omega) h3 hP
    · exact lk_ret 15 hI0 (fun P hP => goX P (br_f hpq (br_f h3 hP))) (fun P hP => goY P (br_f hpq (br_f h3 hP)))
end
end
section
/-! deliver, and the owed statements -/
section
variable {wn fl : Int32} {nt ro ph ck ch na ns ba ow se tp po pc pb sp sg st rk cx ca mr : Nat → Int32} {fm mb : Nat → Int64} {od os qu qs : Nat → Int32} {qd : Nat → Int64} {rg ft pa bd bo sk sn : Nat → Int32}
theorem ax_deliver {k : Nat} (hI : ic_I k ic_E0 wn fl nt ro ph ck ch na ns ba ow se tp po pc pb sp sg st rk cx ca mr fm mb od os qu qs qd rg ft pa bd bo sk sn) (v1 : Int32) : lk_R k (fun p => wpX_deliver p (wn, fl, nt, ro, ph, ck, ch, na, ns, ba, ow, se, tp, po, pc, pb, sp, sg, st, rk, cx, ca, mr, fm, mb, od, os, qu, qs, qd, rg, ft) v1) (fun p => wpY_deliver p (fl, wn, nt, ro, ph, ck, ch, ns, na, pa, ow, se, bd, bo, st, cx, ca, mr, sk, ba, sn) v1) := by
  have hI0 := hI
  obtain ⟨hnt, hro, hph, hns, how, hse, hst, hmk, hrg, hpn, hch, hob, hop, hsp, hsb, hP, hS, hT, hM, hfm, hO, hK, hQ, hC, hF⟩ := hI
  obtain ⟨f, hf, rfl, hFF⟩ := hF
  by_cases h1 : ic_out v1 (nI f - 1)
  · refine lk_ret 0 hI0 (fun p hp => ?_) (fun p hp => ?_)
    · unfold wpX_deliver; refine xw_out1 h1 ?_; exact br_f (by decide) hp
    · unfold wpY_deliver; refine yw_out1 h1 ?_; exact br_f (by decide) hp
  · obtain ⟨i, hi, rfl⟩ := ic_slot (by omega) h1
    obtain ⟨kd, s, p, d, r, m, b, q, hx, x2, ⟨y0, y1, y2, y3, y4, y5, y6, y7⟩, x4, x5, x6⟩ := hFF i hi
    obtain ⟨ft', pa', g1, g2, g3⟩ := lk_rem hI0 rfl hi hf
    have hs1 : s ≤ 1 := hx.2.1
    have he : 1 - s < 2 := by omega
    have e1s : 1 - (1 - s) = s := by omega
    obtain ⟨rr, hX, hY, hr⟩ := lk_adm (wn := wn) (fl := nI (f - 1)) (nt := nt) (ro := ro) (ph := ph) (ck := ck) (ch := ch) (na := na) (ns := ns) (ow := ow) (se := se) (tp := tp) (st := st) (rk := rk) (cx := cx) (ca := ca) (mr := mr) (fm := fm) (mb := mb) (od := od) (os := os) (qu := qu) (qs := qs) (qd := qd) (rg := rg) (ft := ft') (pa := pa') (sk := sk) hP hS he (show d < 11 by omega) (show p < 11 by omega)
    have goX : ∀ P : Int32 → SX → Prop, ((rr = -1 → P 11 (wn, nI (f - 1), nt, ro, ph, ck, ch, na, ns, ba, ow, se, tp, po, pc, pb, sp, sg, st, rk, cx, ca, mr, fm, mb, od, os, qu, qs, qd, rg, ft')) ∧ (¬ rr = -1 → ((nI kd = 0 → wpX_takeRequest P (wn, nI (f - 1), nt, ro, ph, ck, ch, na, ns, ba, ow, se, tp, po, pc, pb, sp, sg, st, rk, cx, ca, mr, fm, mb, od, os, qu, qs, qd, rg, ft') (nI (1 - s)) rr (nI (ic_pk kd s p d r m b q))) ∧ (¬ nI kd = 0 → ((ph (1 - s) = 2 → P 14 (wn, nI (f - 1), nt, ro, ph, ck, ch, na, ns, ba, ow, se, tp, po, pc, pb, sp, sg, st, rk, cx, ca, mr, fm, mb, od, os, qu, qs, qd, rg, ft')) ∧ (¬ ph (1 - s) = 2 → ((nI kd = 2 → wpX_takeRoleError P (wn, nI (f - 1), nt, ro, ph, ck, ch, na, ns, ba, ow, se, tp, po, pc, pb, sp, sg, st, rk, cx, ca, mr, fm, mb, od, os, qu, qs, qd, rg, ft') (nI (1 - s)) (nI (ic_pk kd s p d r m b q))) ∧ (¬ nI kd = 2 → wpX_takeSuccess P (wn, nI (f - 1), nt, ro, ph, ck, ch, na, ns, ba, ow, se, tp, po, pc, pb, sp, sg, st, rk, cx, ca, mr, fm, mb, od, os, qu, qs, qd, rg, ft') (nI (1 - s)) (nI (ic_pk kd s p d r m b q)))))))))) → wpX_deliver P (wn, nI f, nt, ro, ph, ck, ch, na, ns, ba, ow, se, tp, po, pc, pb, sp, sg, st, rk, cx, ca, mr, fm, mb, od, os, qu, qs, qd, rg, ft) (nI i) := by
      intro P hP
      unfold wpX_deliver; refine xw_out0 h1 (br_t rfl ?_)
      simp (disch := omega) only [forall_eq, true_and, and_true, true_implies, false_implies, implies_true, not_true_eq_false, not_false_eq_true, nI_clamp, vp_in_nI, nI_add, ic_m3, ic_m4, ic_m5, ic_m6, ic_m8, ic_m11, ic_m12, ic_m24, ic_m33, ic_p1, ic_p2, ic_p3, ic_p4, ic_p5, ic_p6, ic_p7, ic_p8, ic_q3, ic_d11, ic_r11, ic_d22, ic_n11, ic_n22, ic_n3, ic_n2, ic_oneI, x2]
      refine g2 _ ?_
      refine xw_part (ic_pk_lt hx) 1 (by omega) ?_
      rw [ic_pk1 hx]
      simp (disch := omega) only [forall_eq, true_and, and_true, true_implies, false_implies, implies_true, not_true_eq_false, not_false_eq_true, nI_clamp, vp_in_nI, nI_add, ic_m3, ic_m4, ic_m5, ic_m6, ic_m8, ic_m11, ic_m12, ic_m24, ic_m33, ic_p1, ic_p2, ic_p3, ic_p4, ic_p5, ic_p6, ic_p7, ic_p8, ic_q3, ic_d11, ic_r11, ic_d22, ic_n11, ic_n22, ic_n3, ic_n2, ic_oneI]
      refine xw_part (ic_pk_lt hx) 2 (by omega) ?_
      rw [ic_pk2 hx]
      refine xw_part (ic_pk_lt hx) 3 (by omega) ?_
      rw [ic_pk3 hx]
      refine hX _ ?_
      refine ⟨hP.1, fun z => xw_part (ic_pk_lt hx) 0 (by omega) ?_⟩
      rw [ic_pk0 hx]
      exact hP.2 z
    have goY : ∀ P : Int32 → SY → Prop, ((rr = -1 → P 11 (nI (f - 1), wn, nt, ro, ph, ck, ch, ns, na, pa', ow, se, bd, bo, st, cx, ca, mr, sk, ba, sn)) ∧ (¬ rr = -1 → ((nI kd = 0 → wpY_asked P (nI (f - 1), wn, nt, ro, ph, ck, ch, ns, na, pa', ow, se, bd, bo, st, cx, ca, mr, sk, ba, sn) (nI (1 - s)) rr (nI p) (nI r) (nI m) (nI (b * 11 + q))) ∧ (¬ nI kd = 0 → ((ph (1 - s) = 2 → P 14 (nI (f - 1), wn, nt, ro, ph, ck, ch, ns, na, pa', ow, se, bd, bo, st, cx, ca, mr, sk, ba, sn)) ∧ (¬ ph (1 - s) = 2 → ((nI kd = 2 → wY_answered_38 P (nI (1 - s)) (nI p) (nI d) (nI kd) (nI m) (nI (b * 11 + q)) (nI ((1 - s) * 33 + (b * 11 + q))) (nI (f - 1)) wn nt (upd ro (1 - s) (nI (1 - r))) ph ck ch ns na pa' ow se bd bo st cx ca mr sk ba sn) ∧ (¬ nI kd = 2 → wY_answered_38 P (nI (1 - s)) (nI p) (nI d) (nI kd) (nI m) (nI (b * 11 + q)) (nI ((1 - s) * 33 + (b * 11 + q))) (nI (f - 1)) wn nt ro ph ck ch ns na pa' ow se bd bo st cx ca mr sk ba sn)))))))) → wpY_deliver P (nI f, wn, nt, ro, ph, ck, ch, ns, na, pa, ow, se, bd, bo, st, cx, ca, mr, sk, ba, sn) (nI i) := by
      intro P hP
      unfold wpY_deliver; refine yw_out0 h1 (br_t rfl ?_)
      simp (disch := omega) only [forall_eq, true_and, and_true, true_implies, false_implies, implies_true, not_true_eq_false, not_false_eq_true, nI_clamp, vp_in_nI, nI_add, ic_m3, ic_m4, ic_m5, ic_m6, ic_m8, ic_m11, ic_m12, ic_m24, ic_m33, ic_p1, ic_p2, ic_p3, ic_p4, ic_p5, ic_p6, ic_p7, ic_p8, ic_q3, ic_d11, ic_r11, ic_d22, ic_n11, ic_n22, ic_n3, ic_n2, ic_oneI, y0, y1, y2, y3, y4, y5, y6, y7]
      refine g3 _ ?_
      refine hY _ ?_
      refine ⟨hP.1, fun z => ⟨fun z2 => (hP.2 z).1 z2, fun z2 => ?_⟩⟩
      unfold wpY_answered
      simp (disch := omega) only [forall_eq, true_and, and_true, true_implies, false_implies, implies_true, not_true_eq_false, not_false_eq_true, nI_clamp, vp_in_nI, nI_add, ic_m3, ic_m4, ic_m5, ic_m6, ic_m8, ic_m11, ic_m12, ic_m24, ic_m33, ic_p1, ic_p2, ic_p3, ic_p4, ic_p5, ic_p6, ic_p7, ic_p8, ic_q3, ic_d11, ic_r11, ic_d22, ic_n11, ic_n22, ic_n3, ic_n2, ic_oneI]
      exact (hP.2 z).2 z2
    rcases hr with er | ⟨b0, hb0, er, hba, hd3, hd11⟩
    · exact lk_ret 11 g1 (fun P hP => goX P (br_t er hP)) (fun P hP => goY P (br_t er hP))
    · subst er
      have hne := ic_ne1 b0 (show b0 < 2 ^ 31 by omega)
      by_cases hk0 : kd = 0
      · have hk0' : nI kd = 0 := by rw [hk0]; rfl
        exact lk_mono (fun P hP => goX P (br_f hne (br_t hk0' hP))) (fun P hP => goY P (br_f hne (br_t hk0' hP))) (lk_ask g1 he hb0 hx hba (fun z => by rw [e1s]; exact x4 z) (by rw [e1s]; exact x5 hk0))
      · have hk0' : ¬ nI kd = 0 := nI_ne0 (by omega) (by omega)
        by_cases hp2 : ph (1 - s) = 2
        · exact lk_ret 14 g1 (fun P hP => goX P (br_f hne (br_f hk0' (br_t hp2 hP)))) (fun P hP => goY P (br_f hne (br_f hk0' (br_t hp2 hP))))
        · by_cases hk2 : kd = 2
          · subst hk2
            exact lk_mono (fun P hP => goX P (br_f hne (br_f hk0' (br_f hp2 (br_t rfl hP))))) (fun P hP => goY P (br_f hne (br_f hk0' (br_f hp2 (br_t rfl hP))))) (lk_rer g1 he hx (x6 hk0))
          · have hk2' : ¬ nI kd = 2 := fun z => hk2 (ic_eqn (b := 2) (by omega) (by omega) z)
            exact lk_mono (fun P hP => goX P (br_f hne (br_f hk0' (br_f hp2 (br_f hk2' hP))))) (fun P hP => goY P (br_f hne (br_f hk0' (br_f hp2 (br_f hk2' hP))))) (lk_tsc g1 he hx (by omega) (x6 hk0) hd3 hd11)
end
/-! the start -/
def ic_cl (x y : Int32) : Int32 := if 0 ≤ x then (if x ≤ y then x else y) else 0
theorem ic_cl_v (x : Int32) (n : Nat) (hn : n < 2 ^ 31) : ic_vN (ic_cl x (nI n)) n := by
  unfold ic_cl
  by_cases h0 : 0 ≤ x
  · rw [if_pos h0]
    by_cases h1 : x ≤ nI n
    · rw [if_pos h1]
      obtain ⟨j, hj, rfl⟩ := nI_of (Int32.not_lt.mpr h0)
      rw [nI_leI hj hn] at h1
      exact ⟨j, h1, rfl⟩
    · rw [if_neg h1]; exact ⟨n, Nat.le_refl _, rfl⟩
  · rw [if_neg h0]; exact ⟨0, Nat.zero_le _, rfl⟩
section
variable {wn fl : Int32} {nt ro ph ck ch na ns ba ow se tp po pc pb sp sg st rk cx ca mr : Nat → Int32} {fm mb : Nat → Int64} {od os qu qs : Nat → Int32} {qd : Nat → Int64} {rg ft pa bd bo sk sn : Nat → Int32}
theorem xw_clamp {post : Int32 → Prop} {x y : Int32} (hp : post (ic_cl x y)) : wpX_clamp post (wn, fl, nt, ro, ph, ck, ch, na, ns, ba, ow, se, tp, po, pc, pb, sp, sg, st, rk, cx, ca, mr, fm, mb, od, os, qu, qs, qd, rg, ft) x y := by
  unfold ic_cl at hp
  refine br_c (fun h => br_c (fun h1 => ?_) (fun h1 => ?_)) (fun h => ?_)
  · rw [if_pos h, if_pos h1] at hp; exact hp
  · rw [if_pos h, if_neg h1] at hp; exact hp
  · rw [if_neg h] at hp; exact hp
theorem yw_clamp {post : Int32 → Prop} {x y : Int32} (hp : post (ic_cl x y)) : wpY_clamp post (fl, wn, nt, ro, ph, ck, ch, ns, na, pa, ow, se, bd, bo, st, cx, ca, mr, sk, ba, sn) x y := by
  unfold ic_cl at hp
  refine br_c (fun h => br_c (fun h1 => ?_) (fun h1 => ?_)) (fun h => ?_)
  · rw [if_pos h, if_pos h1] at hp; exact hp
  · rw [if_pos h, if_neg h1] at hp; exact hp
  · rw [if_neg h] at hp; exact hp
end
theorem ic_n0 {n : Nat} (h1 : 1 ≤ n) (hn : n < 2 ^ 31) : ¬ (0 : Int32) = nI n := fun z => by
  have := ic_eqn (a := 0) (by omega) hn z
  omega
theorem ic_I0 (wn : Int32) (nt ro : Nat → Int32) (hnt : ic_R nt 9) (hro : ic_R ro 1) :
    ic_I 4 ic_E0 wn 0 nt ro (fun _ => 0) (fun _ => 0) (fun _ => 0) (fun _ => 0) (fun _ => 0) (fun _ => 0) (fun _ => 0) (fun _ => 0) (fun _ => 0) (fun _ => 0) (fun _ => 0) (fun _ => 0) (fun _ => 0) (fun _ => 0) (fun _ => 0) (fun _ => 0) (fun _ => 0) (fun _ => 0) (fun _ => 0) (fun _ => 0) (fun _ => 0) (fun _ => 0) (fun _ => 0) (fun _ => 0) (fun _ => 0) (fun _ => 0) (fun _ => 0) (fun _ => 0) (fun _ => 0) (fun _ => 0) (fun _ => 0) (fun _ => 0) (fun _ => 0) := by
  refine ⟨hnt, hro, ic_R0 _, ic_R0 _, ic_R0 _, ic_R0 _, ic_R0 _, ic_R0 _, ic_R0 _, ?_, ?_, ?_, ?_, ?_, ?_, ?_, ?_, ?_, ?_, ?_, ?_, ?_, ?_, ?_, ?_⟩
  · intro j _; rfl
  · intro a _ h; exact absurd rfl h
  · intro a _ p _ _; rfl
  · intro a _ p _ _ h; exact absurd rfl h
  · intro a _ p _ _ h; exact absurd rfl h
  · intro a _ c _ h; exact absurd rfl h
  · intro a ha
    exact ⟨0, by omega, rfl, fun p h3 hp => by omega, fun p _ _ => rfl, fun b _ k _ => Or.inl rfl⟩
  · intro e he
    refine ⟨fun d hd => ?_, fun g hg => ?_⟩
    · rw [b_0]
      exact ⟨fun z => (by cases z), fun z => absurd rfl z⟩
    · rw [b_0]
      refine ⟨fun z => (by cases z), fun z => ?_⟩
      obtain ⟨d, _, _, z⟩ := z
      exact absurd rfl z
  · intro a ha t h1 h4 i hi
    rw [b_0]
    exact ⟨fun z => (by cases z), fun z => absurd z.2 (ic_n0 h1 (by omega))⟩
  · intro a ha s h1 h5 c hc
    rw [ic_B0]
    exact ⟨fun z => (by cases z), fun z => absurd z (ic_n0 h1 (by omega))⟩
  · intro a ha c hc
    rw [ic_B0]
    exact ⟨fun z => (by cases z), fun z => absurd rfl z⟩
  · intro a ha
    refine ⟨[], List.Pairwise.nil, fun c => ?_, rfl, ic_L_nil _ _, List.Pairwise.nil⟩
    exact ⟨fun z => (by cases z), fun z => absurd rfl z.2⟩
  · intro a ha c hc _ h; exact absurd rfl h
  · intro a ha
    refine ⟨[], List.Pairwise.nil, fun c z => (by cases z), rfl, ic_L_nil _ _, fun i c z => (by simp at z), fun c _ _ => rfl, fun c hc => ?_⟩
    rw [ic_B0]
    exact ⟨fun z => (by cases z), fun z => by cases z⟩
  · intro a ha
    exact ⟨0, by omega, rfl, fun c hc z => absurd (show (0 : Int32) = 3 from z) (by decide)⟩
  · exact ⟨0, by omega, rfl, fun i hi => by omega⟩
theorem i_vc0 (k0 : Int32) (k1 : Int32) (k2 : Int32) (k3 : Int32) : wpX_init (fun u => wpY_init (fun v => i_Rel 4 u v) k0 k1 k2 k3) k0 k1 k2 k3 := by
  unfold wpX_init
  refine xw_clamp ?_
  refine nm_e ?_
  refine xw_clamp ?_
  refine nm_e ?_
  refine xw_clamp ?_
  refine nm_e (nm_e ?_)
  refine xw_clamp ?_
  unfold wpY_init
  refine yw_clamp ?_
  refine nm_e ?_
  refine yw_clamp ?_
  refine nm_e ?_
  refine yw_clamp ?_
  refine ⟨by decide, nm_e ?_⟩
  refine yw_clamp ?_
  refine ⟨by decide, nm_e ?_⟩
  refine yw_clamp ?_
  have c0 := ic_cl_v k0 9 (by omega)
  have c1 := ic_cl_v k1 9 (by omega)
  have c2 := ic_cl_v k2 3 (by omega)
  have hr : ∀ x : Int32, ic_vN x 3 → x - x / 2 * 2 = x &&& 1 ∧ x / 2 = x >>> ((1 : Int32) &&& 31) ∧ ic_vN (x &&& 1) 1 ∧ ic_vN (x >>> ((1 : Int32) &&& 31)) 1 := by
    rintro x ⟨m, hm, rfl⟩
    have hm4 : m = 0 ∨ m = 1 ∨ m = 2 ∨ m = 3 := by omega
    rcases hm4 with rfl | rfl | rfl | rfl
    · exact ⟨by decide, by decide, ⟨0, by omega, by decide⟩, ⟨0, by omega, by decide⟩⟩
    · exact ⟨by decide, by decide, ⟨1, by omega, by decide⟩, ⟨0, by omega, by decide⟩⟩
    · exact ⟨by decide, by decide, ⟨0, by omega, by decide⟩, ⟨1, by omega, by decide⟩⟩
    · exact ⟨by decide, by decide, ⟨1, by omega, by decide⟩, ⟨1, by omega, by decide⟩⟩
  obtain ⟨r1, r2, r3, r4⟩ := hr _ c2
  have r1' : ic_cl k2 3 - ic_cl k2 3 / 2 * 2 = ic_cl k2 3 &&& 1 := r1
  have r2' : ic_cl k2 3 / 2 = ic_cl k2 3 >>> ((1 : Int32) &&& 31) := r2
  rw [r1', r2']
  exact i_mk (ic_I0 _ _ _ (ic_Rv (ic_Rv (ic_R0 9) 0 c0) 1 c1) (ic_Rv (ic_Rv (ic_R0 1) 0 r3) 1 r4))
end
section
/-! what is owed -/
theorem i_vc_gather {k : Nat} {u : SX} {v : SY} (I : i_Rel k u v) (hk : k + 5 ≤ 2564) (v1 : Int32) (v2 : Int32) : wpX_gather (fun r u' => wpY_gather (fun r' v' => r' = r ∧ i_Rel (k + 5) u' v') v v1 v2) u v1 v2 := by
  refine lk_top (A := fun p => wpX_gather p u v1 v2) (B := fun p => wpY_gather p v v1 v2) ?_
  refine i_el (P := fun u v => lk_R (k + 5) (fun p => wpX_gather p u v1 v2) (fun p => wpY_gather p v v1 v2)) I ?_
  intro wn fl nt ro ph ck ch na ns ba ow se tp po pc pb sp sg st rk cx ca mr fm mb od os qu qs qd rg ft pa bd bo sk sn hI
  exact ax_gather (i_Ik wn fl nt ro ph ck ch na ns ba ow se tp po pc pb sp sg st rk cx ca mr fm mb od os qu qs qd rg ft pa bd bo sk sn (by omega) hI) v1 v2
theorem i_vc_signal {k : Nat} {u : SX} {v : SY} (I : i_Rel k u v) (hk : k + 5 ≤ 2564) (v1 : Int32) (v2 : Int32) : wpX_signal (fun r u' => wpY_signal (fun r' v' => r' = r ∧ i_Rel (k + 5) u' v') v v1 v2) u v1 v2 := by
  refine lk_top (A := fun p => wpX_signal p u v1 v2) (B := fun p => wpY_signal p v v1 v2) ?_
  refine i_el (P := fun u v => lk_R (k + 5) (fun p => wpX_signal p u v1 v2) (fun p => wpY_signal p v v1 v2)) I ?_
  intro wn fl nt ro ph ck ch na ns ba ow se tp po pc pb sp sg st rk cx ca mr fm mb od os qu qs qd rg ft pa bd bo sk sn hI
  exact ax_signal (i_Ik wn fl nt ro ph ck ch na ns ba ow se tp po pc pb sp sg st rk cx ca mr fm mb od os qu qs qd rg ft pa bd bo sk sn (by omega) hI) v1 v2
theorem i_vc_tick {k : Nat} {u : SX} {v : SY} (I : i_Rel k u v) (hk : k + 5 ≤ 2564) (v1 : Int32) : wpX_tick (fun r u' => wpY_tick (fun r' v' => r' = r ∧ i_Rel (k + 5) u' v') v v1) u v1 := by
  refine lk_top (A := fun p => wpX_tick p u v1) (B := fun p => wpY_tick p v v1) ?_
  refine i_el (P := fun u v => lk_R (k + 5) (fun p => wpX_tick p u v1) (fun p => wpY_tick p v v1)) I ?_
  intro wn fl nt ro ph ck ch na ns ba ow se tp po pc pb sp sg st rk cx ca mr fm mb od os qu qs qd rg ft pa bd bo sk sn hI
  exact ax_tick hI (by omega) v1
theorem i_vc_deliver {k : Nat} {u : SX} {v : SY} (I : i_Rel k u v) (hk : k + 5 ≤ 2564) (v1 : Int32) : wpX_deliver (fun r u' => wpY_deliver (fun r' v' => r' = r ∧ i_Rel (k + 5) u' v') v v1) u v1 := by
  refine lk_top (A := fun p => wpX_deliver p u v1) (B := fun p => wpY_deliver p v v1) ?_
  refine i_el (P := fun u v => lk_R (k + 5) (fun p => wpX_deliver p u v1) (fun p => wpY_deliver p v v1)) I ?_
  intro wn fl nt ro ph ck ch na ns ba ow se tp po pc pb sp sg st rk cx ca mr fm mb od os qu qs qd rg ft pa bd bo sk sn hI
  exact ax_deliver (i_Ik wn fl nt ro ph ck ch na ns ba ow se tp po pc pb sp sg st rk cx ca mr fm mb od os qu qs qd rg ft pa bd bo sk sn (by omega) hI) v1
theorem i_vc_lose {k : Nat} {u : SX} {v : SY} (I : i_Rel k u v) (hk : k + 5 ≤ 2564) (v1 : Int32) : wpX_lose (fun r u' => wpY_lose (fun r' v' => r' = r ∧ i_Rel (k + 5) u' v') v v1) u v1 := by
  refine lk_top (A := fun p => wpX_lose p u v1) (B := fun p => wpY_lose p v v1) ?_
  refine i_el (P := fun u v => lk_R (k + 5) (fun p => wpX_lose p u v1) (fun p => wpY_lose p v v1)) I ?_
  intro wn fl nt ro ph ck ch na ns ba ow se tp po pc pb sp sg st rk cx ca mr fm mb od os qu qs qd rg ft pa bd bo sk sn hI
  exact ax_lose (i_Ik wn fl nt ro ph ck ch na ns ba ow se tp po pc pb sp sg st rk cx ca mr fm mb od os qu qs qd rg ft pa bd bo sk sn (by omega) hI) v1
theorem i_vc_nominate {k : Nat} {u : SX} {v : SY} (I : i_Rel k u v) (hk : k + 5 ≤ 2564) (v1 : Int32) (v2 : Int32) (v3 : Int32) : wpX_nominate (fun r u' => wpY_nominate (fun r' v' => r' = r ∧ i_Rel (k + 5) u' v') v v1 v2 v3) u v1 v2 v3 := by
  refine lk_top (A := fun p => wpX_nominate p u v1 v2 v3) (B := fun p => wpY_nominate p v v1 v2 v3) ?_
  refine i_el (P := fun u v => lk_R (k + 5) (fun p => wpX_nominate p u v1 v2 v3) (fun p => wpY_nominate p v v1 v2 v3)) I ?_
  intro wn fl nt ro ph ck ch na ns ba ow se tp po pc pb sp sg st rk cx ca mr fm mb od os qu qs qd rg ft pa bd bo sk sn hI
  exact ax_nominate (i_Ik wn fl nt ro ph ck ch na ns ba ow se tp po pc pb sp sg st rk cx ca mr fm mb od os qu qs qd rg ft pa bd bo sk sn (by omega) hI) v1 v2 v3
theorem i_vc_candidate {k : Nat} {u : SX} {v : SY} (I : i_Rel k u v) (hk : k + 5 ≤ 2564) (v1 : Int32) (v2 : Int32) : wpX_candidate (fun r => wpY_candidate (fun r' => r' = r ∧ i_Rel (k + 5) u v) v v1 v2) u v1 v2 := by
  refine lk_topV (A := fun p => wpX_candidate p u v1 v2) (B := fun p => wpY_candidate p v v1 v2) ?_ (i_up I)
  refine i_el (P := fun u v => lk_V (fun p => wpX_candidate p u v1 v2) (fun p => wpY_candidate p v v1 v2)) I ?_
  intro wn fl nt ro ph ck ch na ns ba ow se tp po pc pb sp sg st rk cx ca mr fm mb od os qu qs qd rg ft pa bd bo sk sn hI
  exact rd_candidate hI v1 v2
theorem i_vc_known {k : Nat} {u : SX} {v : SY} (I : i_Rel k u v) (hk : k + 5 ≤ 2564) (v1 : Int32) (v2 : Int32) : wpX_known (fun r => wpY_known (fun r' => r' = r ∧ i_Rel (k + 5) u v) v v1 v2) u v1 v2 := by
  refine lk_topV (A := fun p => wpX_known p u v1 v2) (B := fun p => wpY_known p v v1 v2) ?_ (i_up I)
  refine i_el (P := fun u v => lk_V (fun p => wpX_known p u v1 v2) (fun p => wpY_known p v v1 v2)) I ?_
  intro wn fl nt ro ph ck ch na ns ba ow se tp po pc pb sp sg st rk cx ca mr fm mb od os qu qs qd rg ft pa bd bo sk sn hI
  exact rd_known hI v1 v2
theorem i_vc_pair {k : Nat} {u : SX} {v : SY} (I : i_Rel k u v) (hk : k + 5 ≤ 2564) (v1 : Int32) (v2 : Int32) (v3 : Int32) (v4 : Int32) : wpX_pair (fun r => wpY_pair (fun r' => r' = r ∧ i_Rel (k + 5) u v) v v1 v2 v3 v4) u v1 v2 v3 v4 := by
  refine lk_topV (A := fun p => wpX_pair p u v1 v2 v3 v4) (B := fun p => wpY_pair p v v1 v2 v3 v4) ?_ (i_up I)
  refine i_el (P := fun u v => lk_V (fun p => wpX_pair p u v1 v2 v3 v4) (fun p => wpY_pair p v v1 v2 v3 v4)) I ?_
  intro wn fl nt ro ph ck ch na ns ba ow se tp po pc pb sp sg st rk cx ca mr fm mb od os qu qs qd rg ft pa bd bo sk sn hI
  exact rd_pair hI v1 v2 v3 v4
theorem i_vc_triggered {k : Nat} {u : SX} {v : SY} (I : i_Rel k u v) (hk : k + 5 ≤ 2564) (v1 : Int32) (v2 : Int32) : wpX_triggered (fun r => wpY_triggered (fun r' => r' = r ∧ i_Rel (k + 5) u v) v v1 v2) u v1 v2 := by
  refine lk_topV (A := fun p => wpX_triggered p u v1 v2) (B := fun p => wpY_triggered p v v1 v2) ?_ (i_up I)
  refine i_el (P := fun u v => lk_V (fun p => wpX_triggered p u v1 v2) (fun p => wpY_triggered p v v1 v2)) I ?_
  intro wn fl nt ro ph ck ch na ns ba ow se tp po pc pb sp sg st rk cx ca mr fm mb od os qu qs qd rg ft pa bd bo sk sn hI
  exact rd_triggered hI v1 v2
theorem i_vc_inFlight {k : Nat} {u : SX} {v : SY} (I : i_Rel k u v) (hk : k + 5 ≤ 2564) : wpX_inFlight (fun r => wpY_inFlight (fun r' => r' = r ∧ i_Rel (k + 5) u v) v) u := by
  refine lk_topV (A := fun p => wpX_inFlight p u) (B := fun p => wpY_inFlight p v) ?_ (i_up I)
  refine i_el (P := fun u v => lk_V (fun p => wpX_inFlight p u) (fun p => wpY_inFlight p v)) I ?_
  intro wn fl nt ro ph ck ch na ns ba ow se tp po pc pb sp sg st rk cx ca mr fm mb od os qu qs qd rg ft pa bd bo sk sn hI
  exact ⟨fl, fun p hp => hp, fun p hp => hp⟩
theorem i_vc_packet {k : Nat} {u : SX} {v : SY} (I : i_Rel k u v) (hk : k + 5 ≤ 2564) (v1 : Int32) (v2 : Int32) : wpX_packet (fun r => wpY_packet (fun r' => r' = r ∧ i_Rel (k + 5) u v) v v1 v2) u v1 v2 := by
  refine lk_topV (A := fun p => wpX_packet p u v1 v2) (B := fun p => wpY_packet p v v1 v2) ?_ (i_up I)
  refine i_el (P := fun u v => lk_V (fun p => wpX_packet p u v1 v2) (fun p => wpY_packet p v v1 v2)) I ?_
  intro wn fl nt ro ph ck ch na ns ba ow se tp po pc pb sp sg st rk cx ca mr fm mb od os qu qs qd rg ft pa bd bo sk sn hI
  exact rd_packet hI v1 v2
theorem i_vc_status {k : Nat} {u : SX} {v : SY} (I : i_Rel k u v) (hk : k + 5 ≤ 2564) (v1 : Int32) (v2 : Int32) : wpX_status (fun r => wpY_status (fun r' => r' = r ∧ i_Rel (k + 5) u v) v v1 v2) u v1 v2 := by
  refine lk_topV (A := fun p => wpX_status p u v1 v2) (B := fun p => wpY_status p v v1 v2) ?_ (i_up I)
  refine i_el (P := fun u v => lk_V (fun p => wpX_status p u v1 v2) (fun p => wpY_status p v v1 v2)) I ?_
  intro wn fl nt ro ph ck ch na ns ba ow se tp po pc pb sp sg st rk cx ca mr fm mb od os qu qs qd rg ft pa bd bo sk sn hI
  exact rd_status hI v1 v2
theorem i_vc_mapped {k : Nat} {u : SX} {v : SY} (I : i_Rel k u v) (hk : k + 5 ≤ 2564) (v1 : Int32) (v2 : Int32) (v3 : Int32) : wpX_mapped (fun r => wpY_mapped (fun r' => r' = r ∧ i_Rel (k + 5) u v) v v1 v2 v3) u v1 v2 v3 := by
  refine lk_topV (A := fun p => wpX_mapped p u v1 v2 v3) (B := fun p => wpY_mapped p v v1 v2 v3) ?_ (i_up I)
  refine i_el (P := fun u v => lk_V (fun p => wpX_mapped p u v1 v2 v3) (fun p => wpY_mapped p v v1 v2 v3)) I ?_
  intro wn fl nt ro ph ck ch na ns ba ow se tp po pc pb sp sg st rk cx ca mr fm mb od os qu qs qd rg ft pa bd bo sk sn hI
  exact rd_mapped hI v1 v2 v3
theorem i_vc_admits {k : Nat} {u : SX} {v : SY} (I : i_Rel k u v) (hk : k + 5 ≤ 2564) (v1 : Int32) (v2 : Int32) (v3 : Int32) : wpX_admits (fun r => wpY_admits (fun r' => r' = r ∧ i_Rel (k + 5) u v) v v1 v2 v3) u v1 v2 v3 := by
  refine lk_topV (A := fun p => wpX_admits p u v1 v2 v3) (B := fun p => wpY_admits p v v1 v2 v3) ?_ (i_up I)
  refine i_el (P := fun u v => lk_V (fun p => wpX_admits p u v1 v2 v3) (fun p => wpY_admits p v v1 v2 v3)) I ?_
  intro wn fl nt ro ph ck ch na ns ba ow se tp po pc pb sp sg st rk cx ca mr fm mb od os qu qs qd rg ft pa bd bo sk sn hI
  exact rd_admits hI v1 v2 v3
theorem i_vc_data {k : Nat} {u : SX} {v : SY} (I : i_Rel k u v) (hk : k + 5 ≤ 2564) (v1 : Int32) : wpX_data (fun r => wpY_data (fun r' => r' = r ∧ i_Rel (k + 5) u v) v v1) u v1 := by
  refine lk_topV (A := fun p => wpX_data p u v1) (B := fun p => wpY_data p v v1) ?_ (i_up I)
  refine i_el (P := fun u v => lk_V (fun p => wpX_data p u v1) (fun p => wpY_data p v v1)) I ?_
  intro wn fl nt ro ph ck ch na ns ba ow se tp po pc pb sp sg st rk cx ca mr fm mb od os qu qs qd rg ft pa bd bo sk sn hI
  exact rd_data hI v1
end
