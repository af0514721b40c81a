section
/-! pure rows to paste: stores, nI and lN arithmetic, masks, shifts, narrowing, branches by naturals (pk_le, pk_lt, pk_eq), loops (lp1 .. lp16: the measure of the state; rp1 ..: recursion), negatives. Take what you need -/
theorem pk_us {f : Nat → Int32} {k : Nat} {x : Int32} : upd f k x k = x := if_pos rfl
theorem pk_un {f : Nat → Int32} {k j : Nat} {x : Int32} (h : j ≠ k) : upd f k x j = f j := if_neg h
theorem pk_uLs {f : Nat → Int64} {k : Nat} {x : Int64} : vp_updL f k x k = x := if_pos rfl
theorem pk_uLn {f : Nat → Int64} {k j : Nat} {x : Int64} (h : j ≠ k) : vp_updL f k x j = f j := if_neg h
theorem pk_sub {a b : Nat} (h : b ≤ a) : nI a - nI b = nI (a - b) := by
  obtain ⟨c, rfl⟩ : ∃ c, a = c + b := ⟨a - b, by omega⟩
  rw [← nI_add, Int32.add_sub_cancel, Nat.add_sub_cancel]
theorem pk_m1 (n : Nat) : nI (n + 1) + (-1) = nI n := by
  rw [← nI_1, Int32.add_assoc, show (1 : Int32) + (-1) = 0 from rfl, Int32.add_zero]
theorem pk_mul (a b : Nat) : nI a * nI b = nI (a * b) := (Int32.ofNat_mul a b).symm
theorem pk_div {a d : Nat} (ha : a < 2 ^ 31) (h0 : 0 < d) (hd : d < 2 ^ 31) : nI a / nI d = nI (a / d) := by
  apply Int32.toInt_inj.mp
  rw [lg_idiv_nonneg (by rw [nI_toInt ha]; omega) (by rw [nI_toInt hd]; omega), nI_toInt ha, nI_toInt hd, nI_toInt (Nat.lt_of_le_of_lt (Nat.div_le_self a d) ha)]
  first | rfl | exact (Int.natCast_ediv _ _).symm
theorem pk_rem {a d : Nat} (ha : a < 2 ^ 31) (h0 : 0 < d) (hd : d < 2 ^ 31) : nI a - nI a / nI d * nI d = nI (a % d) := by
  rw [pk_div ha h0 hd, pk_mul, pk_sub (Nat.div_mul_le_self a d)]
  exact congrArg nI (by have := Nat.div_add_mod' a d; omega)
theorem pk_sub_toInt {a b : Nat} (ha : a < 2 ^ 30) (hb : b < 2 ^ 30) : (nI a - nI b).toInt = (a : Int) - b := by
  rw [Int32.toInt_sub, nI_toInt (by omega), nI_toInt (by omega)]
  exact Int.bmod_eq_of_le (by omega) (by omega)
theorem pk_sneg {a b : Nat} (hb : b < 2 ^ 30) (h : a < b) : nI a - nI b < 0 := by
  rw [Int32.lt_iff_toInt_lt, pk_sub_toInt (by omega) hb, show (0 : Int32).toInt = 0 from by decide]
  omega
theorem pk_ix (x : Int32) {n : Nat} (hn : n < 2 ^ 31) : x < 0 ∨ nI n ≤ x ∨ ∃ j : Nat, j < n ∧ x = nI j := by
  by_cases h : x < 0
  · exact Or.inl h
  · obtain ⟨j, hj, rfl⟩ := nI_of h
    by_cases h2 : j < n
    · exact Or.inr (Or.inr ⟨j, h2, rfl⟩)
    · exact Or.inr (Or.inl (nI_le (by omega) hj))
theorem pk_le {x y : Int32} {A B : Prop} (a b : Nat) (f : a ≤ b → A) (g : b < a → B) (hx : x = nI a := by rfl) (hy : y = nI b := by rfl) (ha : a < 2 ^ 31 := by omega) (hb : b < 2 ^ 31 := by omega) : (x ≤ y → A) ∧ (¬ x ≤ y → B) := by
  subst hx hy
  rw [nI_leI ha hb]
  exact ⟨f, fun z => g (by omega)⟩
theorem pk_lt {x y : Int32} {A B : Prop} (a b : Nat) (f : a < b → A) (g : b ≤ a → B) (hx : x = nI a := by rfl) (hy : y = nI b := by rfl) (ha : a < 2 ^ 31 := by omega) (hb : b < 2 ^ 31 := by omega) : (x < y → A) ∧ (¬ x < y → B) := by
  subst hx hy
  rw [nI_ltI ha hb]
  exact ⟨f, fun z => g (by omega)⟩
theorem pk_eq {x y : Int32} {A B : Prop} (a b : Nat) (f : a = b → A) (g : a ≠ b → B) (hx : x = nI a := by rfl) (hy : y = nI b := by rfl) (ha : a < 2 ^ 31 := by omega) (hb : b < 2 ^ 31 := by omega) : (x = y → A) ∧ (¬ x = y → B) := by
  subst hx hy
  rw [nI_eq ha hb]
  exact ⟨f, g⟩
theorem pk_in {x : Int32} (n N : Nat) (h : n < N) (hx : x = nI n := by rfl) (hN : N < 2 ^ 31 := by omega) : vp_in x N := by
  subst hx
  exact vp_in_nI h hN
theorem pk_cl {x : Int32} (n : Nat) (hx : x = nI n := by rfl) (h : n < 2 ^ 31 := by omega) : x.toNatClampNeg = n := by
  subst hx
  exact nI_clamp h
theorem pk_tn {n : Nat} (h : n < 2 ^ 32) : (nI n).toBitVec.toNat = n := Nat.mod_eq_of_lt h
theorem pk_and (x : Int32) {m : Int32} (k : Nat) (hm : m.toBitVec.toNat = 2 ^ k - 1) : x &&& m = nI (x.toBitVec.toNat % 2 ^ k) := by
  apply Int32.toBitVec_inj.mp
  apply BitVec.eq_of_toNat_eq
  rw [Int32.toBitVec_and, BitVec.toNat_and, hm, Nat.and_two_pow_sub_one_eq_mod]
  show _ = (BitVec.ofNat 32 _).toNat
  rw [BitVec.toNat_ofNat]
  exact (Nat.mod_eq_of_lt (Nat.lt_of_le_of_lt (Nat.mod_le _ _) x.toBitVec.isLt)).symm
theorem pk_andN {n : Nat} (h : n < 2 ^ 32) {m : Int32} (k : Nat) (hm : m.toBitVec.toNat = 2 ^ k - 1) : nI n &&& m = nI (n % 2 ^ k) := by
  rw [pk_and _ k hm, pk_tn h]
theorem pk_andE (x : Int32) {m : Int32} (k : Nat) (hm : m.toBitVec.toNat = 2 ^ k - 1) : ∃ j : Nat, j < 2 ^ k ∧ x &&& m = nI j := ⟨_, Nat.mod_lt _ (Nat.two_pow_pos k), pk_and x k hm⟩
theorem pk_andIn (x : Int32) {m : Int32} (k : Nat) (hm : m.toBitVec.toNat = 2 ^ k - 1) (hk : k ≤ 30) : vp_in (x &&& m) (2 ^ k) := by
  obtain ⟨j, hj, e⟩ := pk_andE x k hm
  rw [e]
  exact vp_in_nI hj (Nat.lt_of_le_of_lt (Nat.pow_le_pow_right (by decide) hk) (by decide))
theorem pk_shl (a s : Int32) (k : Nat) (hs : (s.toBitVec.smod 32).toNat = k) : (a <<< s).toBitVec.toNat = a.toBitVec.toNat * 2 ^ k % 2 ^ 32 := by
  show (a.toBitVec <<< (s.toBitVec.smod 32).toNat).toNat = _
  rw [hs, BitVec.toNat_shiftLeft, Nat.shiftLeft_eq]
theorem pk_shlN {n : Nat} (s : Int32) (k : Nat) (hs : (s.toBitVec.smod 32).toNat = k) (h : n * 2 ^ k < 2 ^ 32) : nI n <<< s = nI (n * 2 ^ k) := by
  apply Int32.toBitVec_inj.mp
  apply BitVec.eq_of_toNat_eq
  have hn : n < 2 ^ 32 := Nat.lt_of_le_of_lt (Nat.le_mul_of_pos_right n (Nat.two_pow_pos k)) h
  rw [pk_shl _ _ k hs, pk_tn hn, pk_tn h, Nat.mod_eq_of_lt h]
theorem pk_shr (a s : Int32) (k : Nat) (hs : (s.toBitVec.smod 32).toNat = k) : (a >>> s).toInt = a.toInt >>> k := by
  show (a.toBitVec.sshiftRight (s.toBitVec.smod 32).toNat).toInt = _
  rw [hs, BitVec.toInt_sshiftRight]
  rfl
theorem pk_shrN {n : Nat} (h : n < 2 ^ 31) (s : Int32) (k : Nat) (hs : (s.toBitVec.smod 32).toNat = k) : nI n >>> s = nI (n / 2 ^ k) := by
  apply Int32.toInt_inj.mp
  have h2 : n / 2 ^ k ≤ n := Nat.div_le_self _ _
  rw [pk_shr _ _ k hs, nI_toInt h, nI_toInt (by omega), Int.shiftRight_eq_div_pow]
  rfl
theorem pk_ushr (x s : Int32) (k : Nat) (hs : ((s.toUInt32 &&& Int32.toUInt32 31).toBitVec % 32).toNat = k) : (x.toUInt32 >>> (s.toUInt32 &&& Int32.toUInt32 31)).toInt32.toBitVec.toNat = x.toBitVec.toNat / 2 ^ k := by
  have e : (x.toUInt32 >>> (s.toUInt32 &&& Int32.toUInt32 31)).toInt32.toBitVec = x.toBitVec >>> k := by
    rw [← hs]
    exact UInt32.toBitVec_shiftRight _ _
  rw [e, BitVec.toNat_ushiftRight, Nat.shiftRight_eq_div_pow]
theorem pk_ushrN {n : Nat} (hn : n < 2 ^ 32) (s : Int32) (k : Nat) (hs : ((s.toUInt32 &&& Int32.toUInt32 31).toBitVec % 32).toNat = k) : ((nI n).toUInt32 >>> (s.toUInt32 &&& Int32.toUInt32 31)).toInt32 = nI (n / 2 ^ k) := by
  apply Int32.toBitVec_inj.mp
  apply BitVec.eq_of_toNat_eq
  rw [pk_ushr _ s k hs, pk_tn hn, pk_tn (Nat.lt_of_le_of_lt (Nat.div_le_self _ _) hn)]
theorem pk_nb (z : Int32) : narrow .byte (.int z.toInt8.toInt32) = .int z.toInt8.toInt32 := congrArg Value.int (by simp)
theorem pk_ns (z : Int32) : narrow .short (.int z.toInt16.toInt32) = .int z.toInt16.toInt32 := congrArg Value.int (by simp)
theorem pk_fb (r : Int32) : fits .byte (.int r.toInt8.toInt32) = true := by
  have ⟨a, b⟩ := lg_i2b_range r
  have h1 : (-128 : Int32).toInt = -128 := by decide
  have h2 : (127 : Int32).toInt = 127 := by decide
  simp only [fits, Bool.and_eq_true, decide_eq_true_eq, Int32.le_iff_toInt_le, h1, h2]
  omega
theorem pk_fs (r : Int32) : fits .short (.int r.toInt16.toInt32) = true := by
  have ⟨a, b⟩ := lg_i2s_range r
  have h1 : (-32768 : Int32).toInt = -32768 := by decide
  have h2 : (32767 : Int32).toInt = 32767 := by decide
  simp only [fits, Bool.and_eq_true, decide_eq_true_eq, Int32.le_iff_toInt_le, h1, h2]
  omega
theorem pk_charN {q : Nat} (hq : q < 65536) : narrow .char (.int (nI q)) = .int (nI q) ∧ fits .char (.int (nI q)) = true := by
  constructor
  · have e : (nI q).toUInt32.toUInt16.toUInt32.toInt32 = nI q := by
      apply Int32.toBitVec_inj.mp
      apply BitVec.eq_of_toNat_eq
      show (nI q).toUInt32.toUInt16.toUInt32.toNat = q % 2 ^ 32
      rw [UInt16.toNat_toUInt32, UInt32.toNat_toUInt16, show (nI q).toUInt32.toNat = q % 2 ^ 32 from rfl]
      omega
    exact congrArg Value.int e
  · have a : (0 : Int32) ≤ nI q := nI_pos' (by omega)
    have b : nI q ≤ 65535 := nI_le (b := 65535) (by omega) (by decide)
    show (decide ((0 : Int32) ≤ nI q) && decide (nI q ≤ 65535)) = true
    rw [decide_eq_true a, decide_eq_true b]
    rfl
theorem pk_char (x : Int32) : (x.toUInt32 % 65536).toInt32 = nI (x.toBitVec.toNat % 65536) := by
  apply Int32.toBitVec_inj.mp
  apply BitVec.eq_of_toNat_eq
  rw [pk_tn (by omega)]
  show (x.toUInt32 % 65536).toNat = _
  rw [UInt32.toNat_mod]
  rfl
theorem pk_nc (x : Int32) : narrow .char (.int (x.toUInt32 % 65536).toInt32) = .int (x.toUInt32 % 65536).toInt32 := by
  rw [pk_char]
  exact (pk_charN (Nat.mod_lt _ (by decide))).1
theorem pk_fc (x : Int32) : fits .char (.int (x.toUInt32 % 65536).toInt32) = true := by
  rw [pk_char]
  exact (pk_charN (Nat.mod_lt _ (by decide))).2
theorem pk_vb (z : Int32) : vp_nar .byte z.toInt8.toInt32 = z.toInt8.toInt32 := by rw [vp_nar_byte]; simp
theorem pk_vs (z : Int32) : vp_nar .short z.toInt16.toInt32 = z.toInt16.toInt32 := by rw [vp_nar_short]; simp
theorem pk_vc (z : Int32) : vp_nar .char (z.toUInt32 % 65536).toInt32 = (z.toUInt32 % 65536).toInt32 := Value.int.inj (pk_nc z)
theorem pk_lT {n : Nat} (h : n < 2 ^ 63) : (lN n).toInt = (n : Int) := lg_ofNat_toInt h
theorem pk_lLT {a b : Nat} (ha : a < 2 ^ 63) (hb : b < 2 ^ 63) : lN a < lN b ↔ a < b := by
  rw [Int64.lt_iff_toInt_lt, pk_lT ha, pk_lT hb]; omega
theorem pk_lLE {a b : Nat} (ha : a < 2 ^ 63) (hb : b < 2 ^ 63) : lN a ≤ lN b ↔ a ≤ b := by
  rw [Int64.le_iff_toInt_le, pk_lT ha, pk_lT hb]; omega
theorem pk_lEQ {a b : Nat} (ha : a < 2 ^ 63) (hb : b < 2 ^ 63) : lN a = lN b ↔ a = b := by
  rw [← Int64.toInt_inj, pk_lT ha, pk_lT hb]; omega
theorem pk_lOf {x : Int64} (h : ¬ x < 0) : ∃ k : Nat, k < 2 ^ 63 ∧ x = lN k := by
  rw [Int64.lt_iff_toInt_lt] at h
  have h0 : (0 : Int64).toInt = 0 := by decide
  have hx := Int64.toInt_lt x
  refine ⟨x.toInt.toNat, by omega, Int64.toInt_inj.mp ?_⟩
  rw [pk_lT (by omega)]
  omega
theorem pk_lDiv {a b : Nat} (ha : a < 2 ^ 63) (h0 : 0 < b) (hb : b < 2 ^ 63) : lN a / lN b = lN (a / b) := by
  apply Int64.toInt_inj.mp
  rw [lg_ldiv_nonneg (by rw [pk_lT ha]; omega) (by rw [pk_lT hb]; omega), pk_lT ha, pk_lT hb, pk_lT (Nat.lt_of_le_of_lt (Nat.div_le_self a b) ha)]
  rfl
theorem pk_lRem {a b : Nat} (ha : a < 2 ^ 63) (h0 : 0 < b) (hb : b < 2 ^ 63) : lN a - lN a / lN b * lN b = lN (a % b) := by
  rw [pk_lDiv ha h0 hb, lN_mul, lN_sub (Nat.div_mul_le_self a b)]
  exact congrArg lN (by have := Nat.div_add_mod' a b; omega)
theorem pk_loop {σ : Type} (W : Nat → Nat → σ → Prop) (I : Nat → σ → Prop) (e i0 : Nat) (s : σ) (hi : i0 ≤ e) (h0 : I i0 s) (hx : ∀ n s, I e s → W (n + 1) e s)
    (hs : ∀ n i s, i < e → I i s → (∀ s', I (i + 1) s' → W n (i + 1) s') → W (n + 1) i s) : ∃ n, W n i0 s :=
  ⟨e + 1, loop_i W I e hx hs (e + 1) i0 s hi (by omega) h0⟩
theorem pk_loopD {σ : Type} (W : Nat → Nat → σ → Prop) (I : Nat → σ → Prop) (hx : ∀ n s, I 0 s → W (n + 1) 0 s)
    (hs : ∀ n i s, I (i + 1) s → (∀ s', I i s' → W n i s') → W (n + 1) (i + 1) s) : ∀ (e : Nat) (s : σ), I e s → W (e + 1) e s := by
  intro e
  induction e with
  | zero => exact fun s h => hx 0 s h
  | succ e ih => exact fun s h => hs (e + 1) e s h (fun s' h' => ih s' h')
theorem lp1 {A1 : Type} (W : Nat → A1 → Prop) (I : A1 → Prop) (μ : A1 → Nat) (hs : ∀ (n : Nat) (a1 : A1), I a1 → (∀ (b1 : A1), I b1 → μ b1 < μ a1 → W n b1) → W (n + 1) a1) (a1 : A1) (h : I a1) : ∃ n, W n a1 :=
  loop_m (σ := A1) (fun n s => W n s) (fun s => I s) (fun s => μ s) (fun n s hI hk => hs n s hI (fun b1 h9 hm => hk b1 h9 hm)) a1 h
theorem lp2 {A1 A2 : Type} (W : Nat → A1 → A2 → Prop) (I : A1 → A2 → Prop) (μ : A1 → A2 → Nat) (hs : ∀ (n : Nat) (a1 : A1) (a2 : A2), I a1 a2 → (∀ (b1 : A1) (b2 : A2), I b1 b2 → μ b1 b2 < μ a1 a2 → W n b1 b2) → W (n + 1) a1 a2) (a1 : A1) (a2 : A2) (h : I a1 a2) : ∃ n, W n a1 a2 :=
  loop_m (σ := A1 × A2) (fun n s => W n s.1 s.2) (fun s => I s.1 s.2) (fun s => μ s.1 s.2) (fun n s hI hk => hs n s.1 s.2 hI (fun b1 b2 h9 hm => hk (b1, b2) h9 hm)) (a1, a2) h
theorem lp3 {A1 A2 A3 : Type} (W : Nat → A1 → A2 → A3 → Prop) (I : A1 → A2 → A3 → Prop) (μ : A1 → A2 → A3 → Nat) (hs : ∀ (n : Nat) (a1 : A1) (a2 : A2) (a3 : A3), I a1 a2 a3 → (∀ (b1 : A1) (b2 : A2) (b3 : A3), I b1 b2 b3 → μ b1 b2 b3 < μ a1 a2 a3 → W n b1 b2 b3) → W (n + 1) a1 a2 a3) (a1 : A1) (a2 : A2) (a3 : A3) (h : I a1 a2 a3) : ∃ n, W n a1 a2 a3 :=
  loop_m (σ := A1 × A2 × A3) (fun n s => W n s.1 s.2.1 s.2.2) (fun s => I s.1 s.2.1 s.2.2) (fun s => μ s.1 s.2.1 s.2.2) (fun n s hI hk => hs n s.1 s.2.1 s.2.2 hI (fun b1 b2 b3 h9 hm => hk (b1, b2, b3) h9 hm)) (a1, a2, a3) h
theorem lp4 {A1 A2 A3 A4 : Type} (W : Nat → A1 → A2 → A3 → A4 → Prop) (I : A1 → A2 → A3 → A4 → Prop) (μ : A1 → A2 → A3 → A4 → Nat) (hs : ∀ (n : Nat) (a1 : A1) (a2 : A2) (a3 : A3) (a4 : A4), I a1 a2 a3 a4 → (∀ (b1 : A1) (b2 : A2) (b3 : A3) (b4 : A4), I b1 b2 b3 b4 → μ b1 b2 b3 b4 < μ a1 a2 a3 a4 → W n b1 b2 b3 b4) → W (n + 1) a1 a2 a3 a4) (a1 : A1) (a2 : A2) (a3 : A3) (a4 : A4) (h : I a1 a2 a3 a4) : ∃ n, W n a1 a2 a3 a4 :=
  loop_m (σ := A1 × A2 × A3 × A4) (fun n s => W n s.1 s.2.1 s.2.2.1 s.2.2.2) (fun s => I s.1 s.2.1 s.2.2.1 s.2.2.2) (fun s => μ s.1 s.2.1 s.2.2.1 s.2.2.2) (fun n s hI hk => hs n s.1 s.2.1 s.2.2.1 s.2.2.2 hI (fun b1 b2 b3 b4 h9 hm => hk (b1, b2, b3, b4) h9 hm)) (a1, a2, a3, a4) h
theorem lp5 {A1 A2 A3 A4 A5 : Type} (W : Nat → A1 → A2 → A3 → A4 → A5 → Prop) (I : A1 → A2 → A3 → A4 → A5 → Prop) (μ : A1 → A2 → A3 → A4 → A5 → Nat) (hs : ∀ (n : Nat) (a1 : A1) (a2 : A2) (a3 : A3) (a4 : A4) (a5 : A5), I a1 a2 a3 a4 a5 → (∀ (b1 : A1) (b2 : A2) (b3 : A3) (b4 : A4) (b5 : A5), I b1 b2 b3 b4 b5 → μ b1 b2 b3 b4 b5 < μ a1 a2 a3 a4 a5 → W n b1 b2 b3 b4 b5) → W (n + 1) a1 a2 a3 a4 a5) (a1 : A1) (a2 : A2) (a3 : A3) (a4 : A4) (a5 : A5) (h : I a1 a2 a3 a4 a5) : ∃ n, W n a1 a2 a3 a4 a5 :=
  loop_m (σ := A1 × A2 × A3 × A4 × A5) (fun n s => W n s.1 s.2.1 s.2.2.1 s.2.2.2.1 s.2.2.2.2) (fun s => I s.1 s.2.1 s.2.2.1 s.2.2.2.1 s.2.2.2.2) (fun s => μ s.1 s.2.1 s.2.2.1 s.2.2.2.1 s.2.2.2.2) (fun n s hI hk => hs n s.1 s.2.1 s.2.2.1 s.2.2.2.1 s.2.2.2.2 hI (fun b1 b2 b3 b4 b5 h9 hm => hk (b1, b2, b3, b4, b5) h9 hm)) (a1, a2, a3, a4, a5) h
theorem lp6 {A1 A2 A3 A4 A5 A6 : Type} (W : Nat → A1 → A2 → A3 → A4 → A5 → A6 → Prop) (I : A1 → A2 → A3 → A4 → A5 → A6 → Prop) (μ : A1 → A2 → A3 → A4 → A5 → A6 → Nat) (hs : ∀ (n : Nat) (a1 : A1) (a2 : A2) (a3 : A3) (a4 : A4) (a5 : A5) (a6 : A6), I a1 a2 a3 a4 a5 a6 → (∀ (b1 : A1) (b2 : A2) (b3 : A3) (b4 : A4) (b5 : A5) (b6 : A6), I b1 b2 b3 b4 b5 b6 → μ b1 b2 b3 b4 b5 b6 < μ a1 a2 a3 a4 a5 a6 → W n b1 b2 b3 b4 b5 b6) → W (n + 1) a1 a2 a3 a4 a5 a6) (a1 : A1) (a2 : A2) (a3 : A3) (a4 : A4) (a5 : A5) (a6 : A6) (h : I a1 a2 a3 a4 a5 a6) : ∃ n, W n a1 a2 a3 a4 a5 a6 :=
  loop_m (σ := A1 × A2 × A3 × A4 × A5 × A6) (fun n s => W n s.1 s.2.1 s.2.2.1 s.2.2.2.1 s.2.2.2.2.1 s.2.2.2.2.2) (fun s => I s.1 s.2.1 s.2.2.1 s.2.2.2.1 s.2.2.2.2.1 s.2.2.2.2.2) (fun s => μ s.1 s.2.1 s.2.2.1 s.2.2.2.1 s.2.2.2.2.1 s.2.2.2.2.2) (fun n s hI hk => hs n s.1 s.2.1 s.2.2.1 s.2.2.2.1 s.2.2.2.2.1 s.2.2.2.2.2 hI (fun b1 b2 b3 b4 b5 b6 h9 hm => hk (b1, b2, b3, b4, b5, b6) h9 hm)) (a1, a2, a3, a4, a5, a6) h
theorem lp7 {A1 A2 A3 A4 A5 A6 A7 : Type} (W : Nat → A1 → A2 → A3 → A4 → A5 → A6 → A7 → Prop) (I : A1 → A2 → A3 → A4 → A5 → A6 → A7 → Prop) (μ : A1 → A2 → A3 → A4 → A5 → A6 → A7 → Nat) (hs : ∀ (n : Nat) (a1 : A1) (a2 : A2) (a3 : A3) (a4 : A4) (a5 : A5) (a6 : A6) (a7 : A7), I a1 a2 a3 a4 a5 a6 a7 → (∀ (b1 : A1) (b2 : A2) (b3 : A3) (b4 : A4) (b5 : A5) (b6 : A6) (b7 : A7), I b1 b2 b3 b4 b5 b6 b7 → μ b1 b2 b3 b4 b5 b6 b7 < μ a1 a2 a3 a4 a5 a6 a7 → W n b1 b2 b3 b4 b5 b6 b7) → W (n + 1) a1 a2 a3 a4 a5 a6 a7) (a1 : A1) (a2 : A2) (a3 : A3) (a4 : A4) (a5 : A5) (a6 : A6) (a7 : A7) (h : I a1 a2 a3 a4 a5 a6 a7) : ∃ n, W n a1 a2 a3 a4 a5 a6 a7 :=
  loop_m (σ := A1 × A2 × A3 × A4 × A5 × A6 × A7) (fun n s => W n s.1 s.2.1 s.2.2.1 s.2.2.2.1 s.2.2.2.2.1 s.2.2.2.2.2.1 s.2.2.2.2.2.2) (fun s => I s.1 s.2.1 s.2.2.1 s.2.2.2.1 s.2.2.2.2.1 s.2.2.2.2.2.1 s.2.2.2.2.2.2) (fun s => μ s.1 s.2.1 s.2.2.1 s.2.2.2.1 s.2.2.2.2.1 s.2.2.2.2.2.1 s.2.2.2.2.2.2) (fun n s hI hk => hs n s.1 s.2.1 s.2.2.1 s.2.2.2.1 s.2.2.2.2.1 s.2.2.2.2.2.1 s.2.2.2.2.2.2 hI (fun b1 b2 b3 b4 b5 b6 b7 h9 hm => hk (b1, b2, b3, b4, b5, b6, b7) h9 hm)) (a1, a2, a3, a4, a5, a6, a7) h
theorem lp8 {A1 A2 A3 A4 A5 A6 A7 A8 : Type} (W : Nat → A1 → A2 → A3 → A4 → A5 → A6 → A7 → A8 → Prop) (I : A1 → A2 → A3 → A4 → A5 → A6 → A7 → A8 → Prop) (μ : A1 → A2 → A3 → A4 → A5 → A6 → A7 → A8 → Nat) (hs : ∀ (n : Nat) (a1 : A1) (a2 : A2) (a3 : A3) (a4 : A4) (a5 : A5) (a6 : A6) (a7 : A7) (a8 : A8), I a1 a2 a3 a4 a5 a6 a7 a8 → (∀ (b1 : A1) (b2 : A2) (b3 : A3) (b4 : A4) (b5 : A5) (b6 : A6) (b7 : A7) (b8 : A8), I b1 b2 b3 b4 b5 b6 b7 b8 → μ b1 b2 b3 b4 b5 b6 b7 b8 < μ a1 a2 a3 a4 a5 a6 a7 a8 → W n b1 b2 b3 b4 b5 b6 b7 b8) → W (n + 1) a1 a2 a3 a4 a5 a6 a7 a8) (a1 : A1) (a2 : A2) (a3 : A3) (a4 : A4) (a5 : A5) (a6 : A6) (a7 : A7) (a8 : A8) (h : I a1 a2 a3 a4 a5 a6 a7 a8) : ∃ n, W n a1 a2 a3 a4 a5 a6 a7 a8 :=
  loop_m (σ := A1 × A2 × A3 × A4 × A5 × A6 × A7 × A8) (fun n s => W n s.1 s.2.1 s.2.2.1 s.2.2.2.1 s.2.2.2.2.1 s.2.2.2.2.2.1 s.2.2.2.2.2.2.1 s.2.2.2.2.2.2.2) (fun s => I s.1 s.2.1 s.2.2.1 s.2.2.2.1 s.2.2.2.2.1 s.2.2.2.2.2.1 s.2.2.2.2.2.2.1 s.2.2.2.2.2.2.2) (fun s => μ s.1 s.2.1 s.2.2.1 s.2.2.2.1 s.2.2.2.2.1 s.2.2.2.2.2.1 s.2.2.2.2.2.2.1 s.2.2.2.2.2.2.2) (fun n s hI hk => hs n s.1 s.2.1 s.2.2.1 s.2.2.2.1 s.2.2.2.2.1 s.2.2.2.2.2.1 s.2.2.2.2.2.2.1 s.2.2.2.2.2.2.2 hI (fun b1 b2 b3 b4 b5 b6 b7 b8 h9 hm => hk (b1, b2, b3, b4, b5, b6, b7, b8) h9 hm)) (a1, a2, a3, a4, a5, a6, a7, a8) h
theorem lp9 {A1 A2 A3 A4 A5 A6 A7 A8 A9 : Type} (W : Nat → A1 → A2 → A3 → A4 → A5 → A6 → A7 → A8 → A9 → Prop) (I : A1 → A2 → A3 → A4 → A5 → A6 → A7 → A8 → A9 → Prop) (μ : A1 → A2 → A3 → A4 → A5 → A6 → A7 → A8 → A9 → Nat) (hs : ∀ (n : Nat) (a1 : A1) (a2 : A2) (a3 : A3) (a4 : A4) (a5 : A5) (a6 : A6) (a7 : A7) (a8 : A8) (a9 : A9), I a1 a2 a3 a4 a5 a6 a7 a8 a9 → (∀ (b1 : A1) (b2 : A2) (b3 : A3) (b4 : A4) (b5 : A5) (b6 : A6) (b7 : A7) (b8 : A8) (b9 : A9), I b1 b2 b3 b4 b5 b6 b7 b8 b9 → μ b1 b2 b3 b4 b5 b6 b7 b8 b9 < μ a1 a2 a3 a4 a5 a6 a7 a8 a9 → W n b1 b2 b3 b4 b5 b6 b7 b8 b9) → W (n + 1) a1 a2 a3 a4 a5 a6 a7 a8 a9) (a1 : A1) (a2 : A2) (a3 : A3) (a4 : A4) (a5 : A5) (a6 : A6) (a7 : A7) (a8 : A8) (a9 : A9) (h : I a1 a2 a3 a4 a5 a6 a7 a8 a9) : ∃ n, W n a1 a2 a3 a4 a5 a6 a7 a8 a9 :=
  loop_m (σ := A1 × A2 × A3 × A4 × A5 × A6 × A7 × A8 × A9) (fun n s => W n s.1 s.2.1 s.2.2.1 s.2.2.2.1 s.2.2.2.2.1 s.2.2.2.2.2.1 s.2.2.2.2.2.2.1 s.2.2.2.2.2.2.2.1 s.2.2.2.2.2.2.2.2) (fun s => I s.1 s.2.1 s.2.2.1 s.2.2.2.1 s.2.2.2.2.1 s.2.2.2.2.2.1 s.2.2.2.2.2.2.1 s.2.2.2.2.2.2.2.1 s.2.2.2.2.2.2.2.2) (fun s => μ s.1 s.2.1 s.2.2.1 s.2.2.2.1 s.2.2.2.2.1 s.2.2.2.2.2.1 s.2.2.2.2.2.2.1 s.2.2.2.2.2.2.2.1 s.2.2.2.2.2.2.2.2) (fun n s hI hk => hs n s.1 s.2.1 s.2.2.1 s.2.2.2.1 s.2.2.2.2.1 s.2.2.2.2.2.1 s.2.2.2.2.2.2.1 s.2.2.2.2.2.2.2.1 s.2.2.2.2.2.2.2.2 hI (fun b1 b2 b3 b4 b5 b6 b7 b8 b9 h9 hm => hk (b1, b2, b3, b4, b5, b6, b7, b8, b9) h9 hm)) (a1, a2, a3, a4, a5, a6, a7, a8, a9) h
theorem lp10 {A1 A2 A3 A4 A5 A6 A7 A8 A9 A10 : Type} (W : Nat → A1 → A2 → A3 → A4 → A5 → A6 → A7 → A8 → A9 → A10 → Prop) (I : A1 → A2 → A3 → A4 → A5 → A6 → A7 → A8 → A9 → A10 → Prop) (μ : A1 → A2 → A3 → A4 → A5 → A6 → A7 → A8 → A9 → A10 → Nat) (hs : ∀ (n : Nat) (a1 : A1) (a2 : A2) (a3 : A3) (a4 : A4) (a5 : A5) (a6 : A6) (a7 : A7) (a8 : A8) (a9 : A9) (a10 : A10), I a1 a2 a3 a4 a5 a6 a7 a8 a9 a10 → (∀ (b1 : A1) (b2 : A2) (b3 : A3) (b4 : A4) (b5 : A5) (b6 : A6) (b7 : A7) (b8 : A8) (b9 : A9) (b10 : A10), I b1 b2 b3 b4 b5 b6 b7 b8 b9 b10 → μ b1 b2 b3 b4 b5 b6 b7 b8 b9 b10 < μ a1 a2 a3 a4 a5 a6 a7 a8 a9 a10 → W n b1 b2 b3 b4 b5 b6 b7 b8 b9 b10) → W (n + 1) a1 a2 a3 a4 a5 a6 a7 a8 a9 a10) (a1 : A1) (a2 : A2) (a3 : A3) (a4 : A4) (a5 : A5) (a6 : A6) (a7 : A7) (a8 : A8) (a9 : A9) (a10 : A10) (h : I a1 a2 a3 a4 a5 a6 a7 a8 a9 a10) : ∃ n, W n a1 a2 a3 a4 a5 a6 a7 a8 a9 a10 :=
  loop_m (σ := A1 × A2 × A3 × A4 × A5 × A6 × A7 × A8 × A9 × A10) (fun n s => W n s.1 s.2.1 s.2.2.1 s.2.2.2.1 s.2.2.2.2.1 s.2.2.2.2.2.1 s.2.2.2.2.2.2.1 s.2.2.2.2.2.2.2.1 s.2.2.2.2.2.2.2.2.1 s.2.2.2.2.2.2.2.2.2) (fun s => I s.1 s.2.1 s.2.2.1 s.2.2.2.1 s.2.2.2.2.1 s.2.2.2.2.2.1 s.2.2.2.2.2.2.1 s.2.2.2.2.2.2.2.1 s.2.2.2.2.2.2.2.2.1 s.2.2.2.2.2.2.2.2.2) (fun s => μ s.1 s.2.1 s.2.2.1 s.2.2.2.1 s.2.2.2.2.1 s.2.2.2.2.2.1 s.2.2.2.2.2.2.1 s.2.2.2.2.2.2.2.1 s.2.2.2.2.2.2.2.2.1 s.2.2.2.2.2.2.2.2.2) (fun n s hI hk => hs n s.1 s.2.1 s.2.2.1 s.2.2.2.1 s.2.2.2.2.1 s.2.2.2.2.2.1 s.2.2.2.2.2.2.1 s.2.2.2.2.2.2.2.1 s.2.2.2.2.2.2.2.2.1 s.2.2.2.2.2.2.2.2.2 hI (fun b1 b2 b3 b4 b5 b6 b7 b8 b9 b10 h9 hm => hk (b1, b2, b3, b4, b5, b6, b7, b8, b9, b10) h9 hm)) (a1, a2, a3, a4, a5, a6, a7, a8, a9, a10) h
theorem lp11 {A1 A2 A3 A4 A5 A6 A7 A8 A9 A10 A11 : Type} (W : Nat → A1 → A2 → A3 → A4 → A5 → A6 → A7 → A8 → A9 → A10 → A11 → Prop) (I : A1 → A2 → A3 → A4 → A5 → A6 → A7 → A8 → A9 → A10 → A11 → Prop) (μ : A1 → A2 → A3 → A4 → A5 → A6 → A7 → A8 → A9 → A10 → A11 → Nat) (hs : ∀ (n : Nat) (a1 : A1) (a2 : A2) (a3 : A3) (a4 : A4) (a5 : A5) (a6 : A6) (a7 : A7) (a8 : A8) (a9 : A9) (a10 : A10) (a11 : A11), I a1 a2 a3 a4 a5 a6 a7 a8 a9 a10 a11 → (∀ (b1 : A1) (b2 : A2) (b3 : A3) (b4 : A4) (b5 : A5) (b6 : A6) (b7 : A7) (b8 : A8) (b9 : A9) (b10 : A10) (b11 : A11), I b1 b2 b3 b4 b5 b6 b7 b8 b9 b10 b11 → μ b1 b2 b3 b4 b5 b6 b7 b8 b9 b10 b11 < μ a1 a2 a3 a4 a5 a6 a7 a8 a9 a10 a11 → W n b1 b2 b3 b4 b5 b6 b7 b8 b9 b10 b11) → W (n + 1) a1 a2 a3 a4 a5 a6 a7 a8 a9 a10 a11) (a1 : A1) (a2 : A2) (a3 : A3) (a4 : A4) (a5 : A5) (a6 : A6) (a7 : A7) (a8 : A8) (a9 : A9) (a10 : A10) (a11 : A11) (h : I a1 a2 a3 a4 a5 a6 a7 a8 a9 a10 a11) : ∃ n, W n a1 a2 a3 a4 a5 a6 a7 a8 a9 a10 a11 :=
  loop_m (σ := A1 × A2 × A3 × A4 × A5 × A6 × A7 × A8 × A9 × A10 × A11) (fun n s => W n s.1 s.2.1 s.2.2.1 s.2.2.2.1 s.2.2.2.2.1 s.2.2.2.2.2.1 s.2.2.2.2.2.2.1 s.2.2.2.2.2.2.2.1 s.2.2.2.2.2.2.2.2.1 s.2.2.2.2.2.2.2.2.2.1 s.2.2.2.2.2.2.2.2.2.2) (fun s => I s.1 s.2.1 s.2.2.1 s.2.2.2.1 s.2.2.2.2.1 s.2.2.2.2.2.1 s.2.2.2.2.2.2.1 s.2.2.2.2.2.2.2.1 s.2.2.2.2.2.2.2.2.1 s.2.2.2.2.2.2.2.2.2.1 s.2.2.2.2.2.2.2.2.2.2) (fun s => μ s.1 s.2.1 s.2.2.1 s.2.2.2.1 s.2.2.2.2.1 s.2.2.2.2.2.1 s.2.2.2.2.2.2.1 s.2.2.2.2.2.2.2.1 s.2.2.2.2.2.2.2.2.1 s.2.2.2.2.2.2.2.2.2.1 s.2.2.2.2.2.2.2.2.2.2) (fun n s hI hk => hs n s.1 s.2.1 s.2.2.1 s.2.2.2.1 s.2.2.2.2.1 s.2.2.2.2.2.1 s.2.2.2.2.2.2.1 s.2.2.2.2.2.2.2.1 s.2.2.2.2.2.2.2.2.1 s.2.2.2.2.2.2.2.2.2.1 s.2.2.2.2.2.2.2.2.2.2 hI (fun b1 b2 b3 b4 b5 b6 b7 b8 b9 b10 b11 h9 hm => hk (b1, b2, b3, b4, b5, b6, b7, b8, b9, b10, b11) h9 hm)) (a1, a2, a3, a4, a5, a6, a7, a8, a9, a10, a11) h
theorem lp12 {A1 A2 A3 A4 A5 A6 A7 A8 A9 A10 A11 A12 : Type} (W : Nat → A1 → A2 → A3 → A4 → A5 → A6 → A7 → A8 → A9 → A10 → A11 → A12 → Prop) (I : A1 → A2 → A3 → A4 → A5 → A6 → A7 → A8 → A9 → A10 → A11 → A12 → Prop) (μ : A1 → A2 → A3 → A4 → A5 → A6 → A7 → A8 → A9 → A10 → A11 → A12 → Nat) (hs : ∀ (n : Nat) (a1 : A1) (a2 : A2) (a3 : A3) (a4 : A4) (a5 : A5) (a6 : A6) (a7 : A7) (a8 : A8) (a9 : A9) (a10 : A10) (a11 : A11) (a12 : A12), I a1 a2 a3 a4 a5 a6 a7 a8 a9 a10 a11 a12 → (∀ (b1 : A1) (b2 : A2) (b3 : A3) (b4 : A4) (b5 : A5) (b6 : A6) (b7 : A7) (b8 : A8) (b9 : A9) (b10 : A10) (b11 : A11) (b12 : A12), I b1 b2 b3 b4 b5 b6 b7 b8 b9 b10 b11 b12 → μ b1 b2 b3 b4 b5 b6 b7 b8 b9 b10 b11 b12 < μ a1 a2 a3 a4 a5 a6 a7 a8 a9 a10 a11 a12 → W n b1 b2 b3 b4 b5 b6 b7 b8 b9 b10 b11 b12) → W (n + 1) a1 a2 a3 a4 a5 a6 a7 a8 a9 a10 a11 a12) (a1 : A1) (a2 : A2) (a3 : A3) (a4 : A4) (a5 : A5) (a6 : A6) (a7 : A7) (a8 : A8) (a9 : A9) (a10 : A10) (a11 : A11) (a12 : A12) (h : I a1 a2 a3 a4 a5 a6 a7 a8 a9 a10 a11 a12) : ∃ n, W n a1 a2 a3 a4 a5 a6 a7 a8 a9 a10 a11 a12 :=
  loop_m (σ := A1 × A2 × A3 × A4 × A5 × A6 × A7 × A8 × A9 × A10 × A11 × A12) (fun n s => W n s.1 s.2.1 s.2.2.1 s.2.2.2.1 s.2.2.2.2.1 s.2.2.2.2.2.1 s.2.2.2.2.2.2.1 s.2.2.2.2.2.2.2.1 s.2.2.2.2.2.2.2.2.1 s.2.2.2.2.2.2.2.2.2.1 s.2.2.2.2.2.2.2.2.2.2.1 s.2.2.2.2.2.2.2.2.2.2.2) (fun s => I s.1 s.2.1 s.2.2.1 s.2.2.2.1 s.2.2.2.2.1 s.2.2.2.2.2.1 s.2.2.2.2.2.2.1 s.2.2.2.2.2.2.2.1 s.2.2.2.2.2.2.2.2.1 s.2.2.2.2.2.2.2.2.2.1 s.2.2.2.2.2.2.2.2.2.2.1 s.2.2.2.2.2.2.2.2.2.2.2) (fun s => μ s.1 s.2.1 s.2.2.1 s.2.2.2.1 s.2.2.2.2.1 s.2.2.2.2.2.1 s.2.2.2.2.2.2.1 s.2.2.2.2.2.2.2.1 s.2.2.2.2.2.2.2.2.1 s.2.2.2.2.2.2.2.2.2.1 s.2.2.2.2.2.2.2.2.2.2.1 s.2.2.2.2.2.2.2.2.2.2.2) (fun n s hI hk => hs n s.1 s.2.1 s.2.2.1 s.2.2.2.1 s.2.2.2.2.1 s.2.2.2.2.2.1 s.2.2.2.2.2.2.1 s.2.2.2.2.2.2.2.1 s.2.2.2.2.2.2.2.2.1 s.2.2.2.2.2.2.2.2.2.1 s.2.2.2.2.2.2.2.2.2.2.1 s.2.2.2.2.2.2.2.2.2.2.2 hI (fun b1 b2 b3 b4 b5 b6 b7 b8 b9 b10 b11 b12 h9 hm => hk (b1, b2, b3, b4, b5, b6, b7, b8, b9, b10, b11, b12) h9 hm)) (a1, a2, a3, a4, a5, a6, a7, a8, a9, a10, a11, a12) h
theorem lp13 {A1 A2 A3 A4 A5 A6 A7 A8 A9 A10 A11 A12 A13 : Type} (W : Nat → A1 → A2 → A3 → A4 → A5 → A6 → A7 → A8 → A9 → A10 → A11 → A12 → A13 → Prop) (I : A1 → A2 → A3 → A4 → A5 → A6 → A7 → A8 → A9 → A10 → A11 → A12 → A13 → Prop) (μ : A1 → A2 → A3 → A4 → A5 → A6 → A7 → A8 → A9 → A10 → A11 → A12 → A13 → Nat) (hs : ∀ (n : Nat) (a1 : A1) (a2 : A2) (a3 : A3) (a4 : A4) (a5 : A5) (a6 : A6) (a7 : A7) (a8 : A8) (a9 : A9) (a10 : A10) (a11 : A11) (a12 : A12) (a13 : A13), I a1 a2 a3 a4 a5 a6 a7 a8 a9 a10 a11 a12 a13 → (∀ (b1 : A1) (b2 : A2) (b3 : A3) (b4 : A4) (b5 : A5) (b6 : A6) (b7 : A7) (b8 : A8) (b9 : A9) (b10 : A10) (b11 : A11) (b12 : A12) (b13 : A13), I b1 b2 b3 b4 b5 b6 b7 b8 b9 b10 b11 b12 b13 → μ b1 b2 b3 b4 b5 b6 b7 b8 b9 b10 b11 b12 b13 < μ a1 a2 a3 a4 a5 a6 a7 a8 a9 a10 a11 a12 a13 → W n b1 b2 b3 b4 b5 b6 b7 b8 b9 b10 b11 b12 b13) → W (n + 1) a1 a2 a3 a4 a5 a6 a7 a8 a9 a10 a11 a12 a13) (a1 : A1) (a2 : A2) (a3 : A3) (a4 : A4) (a5 : A5) (a6 : A6) (a7 : A7) (a8 : A8) (a9 : A9) (a10 : A10) (a11 : A11) (a12 : A12) (a13 : A13) (h : I a1 a2 a3 a4 a5 a6 a7 a8 a9 a10 a11 a12 a13) : ∃ n, W n a1 a2 a3 a4 a5 a6 a7 a8 a9 a10 a11 a12 a13 :=
  loop_m (σ := A1 × A2 × A3 × A4 × A5 × A6 × A7 × A8 × A9 × A10 × A11 × A12 × A13) (fun n s => W n s.1 s.2.1 s.2.2.1 s.2.2.2.1 s.2.2.2.2.1 s.2.2.2.2.2.1 s.2.2.2.2.2.2.1 s.2.2.2.2.2.2.2.1 s.2.2.2.2.2.2.2.2.1 s.2.2.2.2.2.2.2.2.2.1 s.2.2.2.2.2.2.2.2.2.2.1 s.2.2.2.2.2.2.2.2.2.2.2.1 s.2.2.2.2.2.2.2.2.2.2.2.2) (fun s => I s.1 s.2.1 s.2.2.1 s.2.2.2.1 s.2.2.2.2.1 s.2.2.2.2.2.1 s.2.2.2.2.2.2.1 s.2.2.2.2.2.2.2.1 s.2.2.2.2.2.2.2.2.1 s.2.2.2.2.2.2.2.2.2.1 s.2.2.2.2.2.2.2.2.2.2.1 s.2.2.2.2.2.2.2.2.2.2.2.1 s.2.2.2.2.2.2.2.2.2.2.2.2) (fun s => μ s.1 s.2.1 s.2.2.1 s.2.2.2.1 s.2.2.2.2.1 s.2.2.2.2.2.1 s.2.2.2.2.2.2.1 s.2.2.2.2.2.2.2.1 s.2.2.2.2.2.2.2.2.1 s.2.2.2.2.2.2.2.2.2.1 s.2.2.2.2.2.2.2.2.2.2.1 s.2.2.2.2.2.2.2.2.2.2.2.1 s.2.2.2.2.2.2.2.2.2.2.2.2) (fun n s hI hk => hs n s.1 s.2.1 s.2.2.1 s.2.2.2.1 s.2.2.2.2.1 s.2.2.2.2.2.1 s.2.2.2.2.2.2.1 s.2.2.2.2.2.2.2.1 s.2.2.2.2.2.2.2.2.1 s.2.2.2.2.2.2.2.2.2.1 s.2.2.2.2.2.2.2.2.2.2.1 s.2.2.2.2.2.2.2.2.2.2.2.1 s.2.2.2.2.2.2.2.2.2.2.2.2 hI (fun b1 b2 b3 b4 b5 b6 b7 b8 b9 b10 b11 b12 b13 h9 hm => hk (b1, b2, b3, b4, b5, b6, b7, b8, b9, b10, b11, b12, b13) h9 hm)) (a1, a2, a3, a4, a5, a6, a7, a8, a9, a10, a11, a12, a13) h
theorem lp14 {A1 A2 A3 A4 A5 A6 A7 A8 A9 A10 A11 A12 A13 A14 : Type} (W : Nat → A1 → A2 → A3 → A4 → A5 → A6 → A7 → A8 → A9 → A10 → A11 → A12 → A13 → A14 → Prop) (I : A1 → A2 → A3 → A4 → A5 → A6 → A7 → A8 → A9 → A10 → A11 → A12 → A13 → A14 → Prop) (μ : A1 → A2 → A3 → A4 → A5 → A6 → A7 → A8 → A9 → A10 → A11 → A12 → A13 → A14 → Nat) (hs : ∀ (n : Nat) (a1 : A1) (a2 : A2) (a3 : A3) (a4 : A4) (a5 : A5) (a6 : A6) (a7 : A7) (a8 : A8) (a9 : A9) (a10 : A10) (a11 : A11) (a12 : A12) (a13 : A13) (a14 : A14), I a1 a2 a3 a4 a5 a6 a7 a8 a9 a10 a11 a12 a13 a14 → (∀ (b1 : A1) (b2 : A2) (b3 : A3) (b4 : A4) (b5 : A5) (b6 : A6) (b7 : A7) (b8 : A8) (b9 : A9) (b10 : A10) (b11 : A11) (b12 : A12) (b13 : A13) (b14 : A14), I b1 b2 b3 b4 b5 b6 b7 b8 b9 b10 b11 b12 b13 b14 → μ b1 b2 b3 b4 b5 b6 b7 b8 b9 b10 b11 b12 b13 b14 < μ a1 a2 a3 a4 a5 a6 a7 a8 a9 a10 a11 a12 a13 a14 → W n b1 b2 b3 b4 b5 b6 b7 b8 b9 b10 b11 b12 b13 b14) → W (n + 1) a1 a2 a3 a4 a5 a6 a7 a8 a9 a10 a11 a12 a13 a14) (a1 : A1) (a2 : A2) (a3 : A3) (a4 : A4) (a5 : A5) (a6 : A6) (a7 : A7) (a8 : A8) (a9 : A9) (a10 : A10) (a11 : A11) (a12 : A12) (a13 : A13) (a14 : A14) (h : I a1 a2 a3 a4 a5 a6 a7 a8 a9 a10 a11 a12 a13 a14) : ∃ n, W n a1 a2 a3 a4 a5 a6 a7 a8 a9 a10 a11 a12 a13 a14 :=
  loop_m (σ := A1 × A2 × A3 × A4 × A5 × A6 × A7 × A8 × A9 × A10 × A11 × A12 × A13 × A14) (fun n s => W n s.1 s.2.1 s.2.2.1 s.2.2.2.1 s.2.2.2.2.1 s.2.2.2.2.2.1 s.2.2.2.2.2.2.1 s.2.2.2.2.2.2.2.1 s.2.2.2.2.2.2.2.2.1 s.2.2.2.2.2.2.2.2.2.1 s.2.2.2.2.2.2.2.2.2.2.1 s.2.2.2.2.2.2.2.2.2.2.2.1 s.2.2.2.2.2.2.2.2.2.2.2.2.1 s.2.2.2.2.2.2.2.2.2.2.2.2.2) (fun s => I s.1 s.2.1 s.2.2.1 s.2.2.2.1 s.2.2.2.2.1 s.2.2.2.2.2.1 s.2.2.2.2.2.2.1 s.2.2.2.2.2.2.2.1 s.2.2.2.2.2.2.2.2.1 s.2.2.2.2.2.2.2.2.2.1 s.2.2.2.2.2.2.2.2.2.2.1 s.2.2.2.2.2.2.2.2.2.2.2.1 s.2.2.2.2.2.2.2.2.2.2.2.2.1 s.2.2.2.2.2.2.2.2.2.2.2.2.2) (fun s => μ s.1 s.2.1 s.2.2.1 s.2.2.2.1 s.2.2.2.2.1 s.2.2.2.2.2.1 s.2.2.2.2.2.2.1 s.2.2.2.2.2.2.2.1 s.2.2.2.2.2.2.2.2.1 s.2.2.2.2.2.2.2.2.2.1 s.2.2.2.2.2.2.2.2.2.2.1 s.2.2.2.2.2.2.2.2.2.2.2.1 s.2.2.2.2.2.2.2.2.2.2.2.2.1 s.2.2.2.2.2.2.2.2.2.2.2.2.2) (fun n s hI hk => hs n s.1 s.2.1 s.2.2.1 s.2.2.2.1 s.2.2.2.2.1 s.2.2.2.2.2.1 s.2.2.2.2.2.2.1 s.2.2.2.2.2.2.2.1 s.2.2.2.2.2.2.2.2.1 s.2.2.2.2.2.2.2.2.2.1 s.2.2.2.2.2.2.2.2.2.2.1 s.2.2.2.2.2.2.2.2.2.2.2.1 s.2.2.2.2.2.2.2.2.2.2.2.2.1 s.2.2.2.2.2.2.2.2.2.2.2.2.2 hI (fun b1 b2 b3 b4 b5 b6 b7 b8 b9 b10 b11 b12 b13 b14 h9 hm => hk (b1, b2, b3, b4, b5, b6, b7, b8, b9, b10, b11, b12, b13, b14) h9 hm)) (a1, a2, a3, a4, a5, a6, a7, a8, a9, a10, a11, a12, a13, a14) h
theorem lp15 {A1 A2 A3 A4 A5 A6 A7 A8 A9 A10 A11 A12 A13 A14 A15 : Type} (W : Nat → A1 → A2 → A3 → A4 → A5 → A6 → A7 → A8 → A9 → A10 → A11 → A12 → A13 → A14 → A15 → Prop) (I : A1 → A2 → A3 → A4 → A5 → A6 → A7 → A8 → A9 → A10 → A11 → A12 → A13 → A14 → A15 → Prop) (μ : A1 → A2 → A3 → A4 → A5 → A6 → A7 → A8 → A9 → A10 → A11 → A12 → A13 → A14 → A15 → Nat) (hs : ∀ (n : Nat) (a1 : A1) (a2 : A2) (a3 : A3) (a4 : A4) (a5 : A5) (a6 : A6) (a7 : A7) (a8 : A8) (a9 : A9) (a10 : A10) (a11 : A11) (a12 : A12) (a13 : A13) (a14 : A14) (a15 : A15), I a1 a2 a3 a4 a5 a6 a7 a8 a9 a10 a11 a12 a13 a14 a15 → (∀ (b1 : A1) (b2 : A2) (b3 : A3) (b4 : A4) (b5 : A5) (b6 : A6) (b7 : A7) (b8 : A8) (b9 : A9) (b10 : A10) (b11 : A11) (b12 : A12) (b13 : A13) (b14 : A14) (b15 : A15), I b1 b2 b3 b4 b5 b6 b7 b8 b9 b10 b11 b12 b13 b14 b15 → μ b1 b2 b3 b4 b5 b6 b7 b8 b9 b10 b11 b12 b13 b14 b15 < μ a1 a2 a3 a4 a5 a6 a7 a8 a9 a10 a11 a12 a13 a14 a15 → W n b1 b2 b3 b4 b5 b6 b7 b8 b9 b10 b11 b12 b13 b14 b15) → W (n + 1) a1 a2 a3 a4 a5 a6 a7 a8 a9 a10 a11 a12 a13 a14 a15) (a1 : A1) (a2 : A2) (a3 : A3) (a4 : A4) (a5 : A5) (a6 : A6) (a7 : A7) (a8 : A8) (a9 : A9) (a10 : A10) (a11 : A11) (a12 : A12) (a13 : A13) (a14 : A14) (a15 : A15) (h : I a1 a2 a3 a4 a5 a6 a7 a8 a9 a10 a11 a12 a13 a14 a15) : ∃ n, W n a1 a2 a3 a4 a5 a6 a7 a8 a9 a10 a11 a12 a13 a14 a15 :=
  loop_m (σ := A1 × A2 × A3 × A4 × A5 × A6 × A7 × A8 × A9 × A10 × A11 × A12 × A13 × A14 × A15) (fun n s => W n s.1 s.2.1 s.2.2.1 s.2.2.2.1 s.2.2.2.2.1 s.2.2.2.2.2.1 s.2.2.2.2.2.2.1 s.2.2.2.2.2.2.2.1 s.2.2.2.2.2.2.2.2.1 s.2.2.2.2.2.2.2.2.2.1 s.2.2.2.2.2.2.2.2.2.2.1 s.2.2.2.2.2.2.2.2.2.2.2.1 s.2.2.2.2.2.2.2.2.2.2.2.2.1 s.2.2.2.2.2.2.2.2.2.2.2.2.2.1 s.2.2.2.2.2.2.2.2.2.2.2.2.2.2) (fun s => I s.1 s.2.1 s.2.2.1 s.2.2.2.1 s.2.2.2.2.1 s.2.2.2.2.2.1 s.2.2.2.2.2.2.1 s.2.2.2.2.2.2.2.1 s.2.2.2.2.2.2.2.2.1 s.2.2.2.2.2.2.2.2.2.1 s.2.2.2.2.2.2.2.2.2.2.1 s.2.2.2.2.2.2.2.2.2.2.2.1 s.2.2.2.2.2.2.2.2.2.2.2.2.1 s.2.2.2.2.2.2.2.2.2.2.2.2.2.1 s.2.2.2.2.2.2.2.2.2.2.2.2.2.2) (fun s => μ s.1 s.2.1 s.2.2.1 s.2.2.2.1 s.2.2.2.2.1 s.2.2.2.2.2.1 s.2.2.2.2.2.2.1 s.2.2.2.2.2.2.2.1 s.2.2.2.2.2.2.2.2.1 s.2.2.2.2.2.2.2.2.2.1 s.2.2.2.2.2.2.2.2.2.2.1 s.2.2.2.2.2.2.2.2.2.2.2.1 s.2.2.2.2.2.2.2.2.2.2.2.2.1 s.2.2.2.2.2.2.2.2.2.2.2.2.2.1 s.2.2.2.2.2.2.2.2.2.2.2.2.2.2) (fun n s hI hk => hs n s.1 s.2.1 s.2.2.1 s.2.2.2.1 s.2.2.2.2.1 s.2.2.2.2.2.1 s.2.2.2.2.2.2.1 s.2.2.2.2.2.2.2.1 s.2.2.2.2.2.2.2.2.1 s.2.2.2.2.2.2.2.2.2.1 s.2.2.2.2.2.2.2.2.2.2.1 s.2.2.2.2.2.2.2.2.2.2.2.1 s.2.2.2.2.2.2.2.2.2.2.2.2.1 s.2.2.2.2.2.2.2.2.2.2.2.2.2.1 s.2.2.2.2.2.2.2.2.2.2.2.2.2.2 hI (fun b1 b2 b3 b4 b5 b6 b7 b8 b9 b10 b11 b12 b13 b14 b15 h9 hm => hk (b1, b2, b3, b4, b5, b6, b7, b8, b9, b10, b11, b12, b13, b14, b15) h9 hm)) (a1, a2, a3, a4, a5, a6, a7, a8, a9, a10, a11, a12, a13, a14, a15) h
theorem lp16 {A1 A2 A3 A4 A5 A6 A7 A8 A9 A10 A11 A12 A13 A14 A15 A16 : Type} (W : Nat → A1 → A2 → A3 → A4 → A5 → A6 → A7 → A8 → A9 → A10 → A11 → A12 → A13 → A14 → A15 → A16 → Prop) (I : A1 → A2 → A3 → A4 → A5 → A6 → A7 → A8 → A9 → A10 → A11 → A12 → A13 → A14 → A15 → A16 → Prop) (μ : A1 → A2 → A3 → A4 → A5 → A6 → A7 → A8 → A9 → A10 → A11 → A12 → A13 → A14 → A15 → A16 → Nat) (hs : ∀ (n : Nat) (a1 : A1) (a2 : A2) (a3 : A3) (a4 : A4) (a5 : A5) (a6 : A6) (a7 : A7) (a8 : A8) (a9 : A9) (a10 : A10) (a11 : A11) (a12 : A12) (a13 : A13) (a14 : A14) (a15 : A15) (a16 : A16), I a1 a2 a3 a4 a5 a6 a7 a8 a9 a10 a11 a12 a13 a14 a15 a16 → (∀ (b1 : A1) (b2 : A2) (b3 : A3) (b4 : A4) (b5 : A5) (b6 : A6) (b7 : A7) (b8 : A8) (b9 : A9) (b10 : A10) (b11 : A11) (b12 : A12) (b13 : A13) (b14 : A14) (b15 : A15) (b16 : A16), I b1 b2 b3 b4 b5 b6 b7 b8 b9 b10 b11 b12 b13 b14 b15 b16 → μ b1 b2 b3 b4 b5 b6 b7 b8 b9 b10 b11 b12 b13 b14 b15 b16 < μ a1 a2 a3 a4 a5 a6 a7 a8 a9 a10 a11 a12 a13 a14 a15 a16 → W n b1 b2 b3 b4 b5 b6 b7 b8 b9 b10 b11 b12 b13 b14 b15 b16) → W (n + 1) a1 a2 a3 a4 a5 a6 a7 a8 a9 a10 a11 a12 a13 a14 a15 a16) (a1 : A1) (a2 : A2) (a3 : A3) (a4 : A4) (a5 : A5) (a6 : A6) (a7 : A7) (a8 : A8) (a9 : A9) (a10 : A10) (a11 : A11) (a12 : A12) (a13 : A13) (a14 : A14) (a15 : A15) (a16 : A16) (h : I a1 a2 a3 a4 a5 a6 a7 a8 a9 a10 a11 a12 a13 a14 a15 a16) : ∃ n, W n a1 a2 a3 a4 a5 a6 a7 a8 a9 a10 a11 a12 a13 a14 a15 a16 :=
  loop_m (σ := A1 × A2 × A3 × A4 × A5 × A6 × A7 × A8 × A9 × A10 × A11 × A12 × A13 × A14 × A15 × A16) (fun n s => W n s.1 s.2.1 s.2.2.1 s.2.2.2.1 s.2.2.2.2.1 s.2.2.2.2.2.1 s.2.2.2.2.2.2.1 s.2.2.2.2.2.2.2.1 s.2.2.2.2.2.2.2.2.1 s.2.2.2.2.2.2.2.2.2.1 s.2.2.2.2.2.2.2.2.2.2.1 s.2.2.2.2.2.2.2.2.2.2.2.1 s.2.2.2.2.2.2.2.2.2.2.2.2.1 s.2.2.2.2.2.2.2.2.2.2.2.2.2.1 s.2.2.2.2.2.2.2.2.2.2.2.2.2.2.1 s.2.2.2.2.2.2.2.2.2.2.2.2.2.2.2) (fun s => I s.1 s.2.1 s.2.2.1 s.2.2.2.1 s.2.2.2.2.1 s.2.2.2.2.2.1 s.2.2.2.2.2.2.1 s.2.2.2.2.2.2.2.1 s.2.2.2.2.2.2.2.2.1 s.2.2.2.2.2.2.2.2.2.1 s.2.2.2.2.2.2.2.2.2.2.1 s.2.2.2.2.2.2.2.2.2.2.2.1 s.2.2.2.2.2.2.2.2.2.2.2.2.1 s.2.2.2.2.2.2.2.2.2.2.2.2.2.1 s.2.2.2.2.2.2.2.2.2.2.2.2.2.2.1 s.2.2.2.2.2.2.2.2.2.2.2.2.2.2.2) (fun s => μ s.1 s.2.1 s.2.2.1 s.2.2.2.1 s.2.2.2.2.1 s.2.2.2.2.2.1 s.2.2.2.2.2.2.1 s.2.2.2.2.2.2.2.1 s.2.2.2.2.2.2.2.2.1 s.2.2.2.2.2.2.2.2.2.1 s.2.2.2.2.2.2.2.2.2.2.1 s.2.2.2.2.2.2.2.2.2.2.2.1 s.2.2.2.2.2.2.2.2.2.2.2.2.1 s.2.2.2.2.2.2.2.2.2.2.2.2.2.1 s.2.2.2.2.2.2.2.2.2.2.2.2.2.2.1 s.2.2.2.2.2.2.2.2.2.2.2.2.2.2.2) (fun n s hI hk => hs n s.1 s.2.1 s.2.2.1 s.2.2.2.1 s.2.2.2.2.1 s.2.2.2.2.2.1 s.2.2.2.2.2.2.1 s.2.2.2.2.2.2.2.1 s.2.2.2.2.2.2.2.2.1 s.2.2.2.2.2.2.2.2.2.1 s.2.2.2.2.2.2.2.2.2.2.1 s.2.2.2.2.2.2.2.2.2.2.2.1 s.2.2.2.2.2.2.2.2.2.2.2.2.1 s.2.2.2.2.2.2.2.2.2.2.2.2.2.1 s.2.2.2.2.2.2.2.2.2.2.2.2.2.2.1 s.2.2.2.2.2.2.2.2.2.2.2.2.2.2.2 hI (fun b1 b2 b3 b4 b5 b6 b7 b8 b9 b10 b11 b12 b13 b14 b15 b16 h9 hm => hk (b1, b2, b3, b4, b5, b6, b7, b8, b9, b10, b11, b12, b13, b14, b15, b16) h9 hm)) (a1, a2, a3, a4, a5, a6, a7, a8, a9, a10, a11, a12, a13, a14, a15, a16) h
theorem pk_least (P : Nat → Prop) (h : ∃ k, P k) : ∃ k, P k ∧ ∀ j, j < k → ¬ P j := by
  obtain ⟨k, hk⟩ := h
  induction k using Nat.strongRecOn with
  | ind k ih =>
    by_cases e : ∃ j, j < k ∧ P j
    · obtain ⟨j, hj, pj⟩ := e
      exact ih j hj pj
    · exact ⟨k, hk, fun j hj pj => e ⟨j, hj, pj⟩⟩
theorem rp1 {ρ A1 : Type} (W : Nat → (ρ → Prop) → A1 → Prop) (ok : A1 → Prop) (μ : A1 → Nat) (val : A1 → ρ)
    (hs : ∀ (d : Nat) (post : ρ → Prop) (a1 : A1), ok a1 → post (val a1) → (∀ (post' : ρ → Prop) (b1 : A1), ok b1 → μ b1 < μ a1 → post' (val b1) → W d post' b1) → W (d + 1) post a1) :
    ∀ (d : Nat) (post : ρ → Prop) (a1 : A1), ok a1 → μ a1 < d → post (val a1) → W d post a1 := by
  intro d
  induction d with
  | zero => intro post a1 _ h; omega
  | succ d ih =>
    intro post a1 ho hm hp
    exact hs d post a1 ho hp (fun post' b1 ho' hm' hp' => ih post' b1 ho' (by omega) hp')
theorem rp2 {ρ A1 A2 : Type} (W : Nat → (ρ → Prop) → A1 → A2 → Prop) (ok : A1 → A2 → Prop) (μ : A1 → A2 → Nat) (val : A1 → A2 → ρ)
    (hs : ∀ (d : Nat) (post : ρ → Prop) (a1 : A1) (a2 : A2), ok a1 a2 → post (val a1 a2) → (∀ (post' : ρ → Prop) (b1 : A1) (b2 : A2), ok b1 b2 → μ b1 b2 < μ a1 a2 → post' (val b1 b2) → W d post' b1 b2) → W (d + 1) post a1 a2) :
    ∀ (d : Nat) (post : ρ → Prop) (a1 : A1) (a2 : A2), ok a1 a2 → μ a1 a2 < d → post (val a1 a2) → W d post a1 a2 := by
  intro d
  induction d with
  | zero => intro post a1 a2 _ h; omega
  | succ d ih =>
    intro post a1 a2 ho hm hp
    exact hs d post a1 a2 ho hp (fun post' b1 b2 ho' hm' hp' => ih post' b1 b2 ho' (by omega) hp')
theorem rp3 {ρ A1 A2 A3 : Type} (W : Nat → (ρ → Prop) → A1 → A2 → A3 → Prop) (ok : A1 → A2 → A3 → Prop) (μ : A1 → A2 → A3 → Nat) (val : A1 → A2 → A3 → ρ)
    (hs : ∀ (d : Nat) (post : ρ → Prop) (a1 : A1) (a2 : A2) (a3 : A3), ok a1 a2 a3 → post (val a1 a2 a3) → (∀ (post' : ρ → Prop) (b1 : A1) (b2 : A2) (b3 : A3), ok b1 b2 b3 → μ b1 b2 b3 < μ a1 a2 a3 → post' (val b1 b2 b3) → W d post' b1 b2 b3) → W (d + 1) post a1 a2 a3) :
    ∀ (d : Nat) (post : ρ → Prop) (a1 : A1) (a2 : A2) (a3 : A3), ok a1 a2 a3 → μ a1 a2 a3 < d → post (val a1 a2 a3) → W d post a1 a2 a3 := by
  intro d
  induction d with
  | zero => intro post a1 a2 a3 _ h; omega
  | succ d ih =>
    intro post a1 a2 a3 ho hm hp
    exact hs d post a1 a2 a3 ho hp (fun post' b1 b2 b3 ho' hm' hp' => ih post' b1 b2 b3 ho' (by omega) hp')
theorem rp4 {ρ A1 A2 A3 A4 : Type} (W : Nat → (ρ → Prop) → A1 → A2 → A3 → A4 → Prop) (ok : A1 → A2 → A3 → A4 → Prop) (μ : A1 → A2 → A3 → A4 → Nat) (val : A1 → A2 → A3 → A4 → ρ)
    (hs : ∀ (d : Nat) (post : ρ → Prop) (a1 : A1) (a2 : A2) (a3 : A3) (a4 : A4), ok a1 a2 a3 a4 → post (val a1 a2 a3 a4) → (∀ (post' : ρ → Prop) (b1 : A1) (b2 : A2) (b3 : A3) (b4 : A4), ok b1 b2 b3 b4 → μ b1 b2 b3 b4 < μ a1 a2 a3 a4 → post' (val b1 b2 b3 b4) → W d post' b1 b2 b3 b4) → W (d + 1) post a1 a2 a3 a4) :
    ∀ (d : Nat) (post : ρ → Prop) (a1 : A1) (a2 : A2) (a3 : A3) (a4 : A4), ok a1 a2 a3 a4 → μ a1 a2 a3 a4 < d → post (val a1 a2 a3 a4) → W d post a1 a2 a3 a4 := by
  intro d
  induction d with
  | zero => intro post a1 a2 a3 a4 _ h; omega
  | succ d ih =>
    intro post a1 a2 a3 a4 ho hm hp
    exact hs d post a1 a2 a3 a4 ho hp (fun post' b1 b2 b3 b4 ho' hm' hp' => ih post' b1 b2 b3 b4 ho' (by omega) hp')
theorem rp5 {ρ A1 A2 A3 A4 A5 : Type} (W : Nat → (ρ → Prop) → A1 → A2 → A3 → A4 → A5 → Prop) (ok : A1 → A2 → A3 → A4 → A5 → Prop) (μ : A1 → A2 → A3 → A4 → A5 → Nat) (val : A1 → A2 → A3 → A4 → A5 → ρ)
    (hs : ∀ (d : Nat) (post : ρ → Prop) (a1 : A1) (a2 : A2) (a3 : A3) (a4 : A4) (a5 : A5), ok a1 a2 a3 a4 a5 → post (val a1 a2 a3 a4 a5) → (∀ (post' : ρ → Prop) (b1 : A1) (b2 : A2) (b3 : A3) (b4 : A4) (b5 : A5), ok b1 b2 b3 b4 b5 → μ b1 b2 b3 b4 b5 < μ a1 a2 a3 a4 a5 → post' (val b1 b2 b3 b4 b5) → W d post' b1 b2 b3 b4 b5) → W (d + 1) post a1 a2 a3 a4 a5) :
    ∀ (d : Nat) (post : ρ → Prop) (a1 : A1) (a2 : A2) (a3 : A3) (a4 : A4) (a5 : A5), ok a1 a2 a3 a4 a5 → μ a1 a2 a3 a4 a5 < d → post (val a1 a2 a3 a4 a5) → W d post a1 a2 a3 a4 a5 := by
  intro d
  induction d with
  | zero => intro post a1 a2 a3 a4 a5 _ h; omega
  | succ d ih =>
    intro post a1 a2 a3 a4 a5 ho hm hp
    exact hs d post a1 a2 a3 a4 a5 ho hp (fun post' b1 b2 b3 b4 b5 ho' hm' hp' => ih post' b1 b2 b3 b4 b5 ho' (by omega) hp')
theorem rp6 {ρ A1 A2 A3 A4 A5 A6 : Type} (W : Nat → (ρ → Prop) → A1 → A2 → A3 → A4 → A5 → A6 → Prop) (ok : A1 → A2 → A3 → A4 → A5 → A6 → Prop) (μ : A1 → A2 → A3 → A4 → A5 → A6 → Nat) (val : A1 → A2 → A3 → A4 → A5 → A6 → ρ)
    (hs : ∀ (d : Nat) (post : ρ → Prop) (a1 : A1) (a2 : A2) (a3 : A3) (a4 : A4) (a5 : A5) (a6 : A6), ok a1 a2 a3 a4 a5 a6 → post (val a1 a2 a3 a4 a5 a6) → (∀ (post' : ρ → Prop) (b1 : A1) (b2 : A2) (b3 : A3) (b4 : A4) (b5 : A5) (b6 : A6), ok b1 b2 b3 b4 b5 b6 → μ b1 b2 b3 b4 b5 b6 < μ a1 a2 a3 a4 a5 a6 → post' (val b1 b2 b3 b4 b5 b6) → W d post' b1 b2 b3 b4 b5 b6) → W (d + 1) post a1 a2 a3 a4 a5 a6) :
    ∀ (d : Nat) (post : ρ → Prop) (a1 : A1) (a2 : A2) (a3 : A3) (a4 : A4) (a5 : A5) (a6 : A6), ok a1 a2 a3 a4 a5 a6 → μ a1 a2 a3 a4 a5 a6 < d → post (val a1 a2 a3 a4 a5 a6) → W d post a1 a2 a3 a4 a5 a6 := by
  intro d
  induction d with
  | zero => intro post a1 a2 a3 a4 a5 a6 _ h; omega
  | succ d ih =>
    intro post a1 a2 a3 a4 a5 a6 ho hm hp
    exact hs d post a1 a2 a3 a4 a5 a6 ho hp (fun post' b1 b2 b3 b4 b5 b6 ho' hm' hp' => ih post' b1 b2 b3 b4 b5 b6 ho' (by omega) hp')
theorem rec_p {σ ρ : Type} (W : Nat → (ρ → Prop) → σ → Prop) (ok : σ → Prop) (μ : σ → Nat) (val : σ → ρ)
    (hs : ∀ d s post, ok s → post (val s) → (∀ s' post', ok s' → μ s' < μ s → post' (val s') → W d post' s') → W (d + 1) post s) :
    ∀ d s post, ok s → μ s < d → post (val s) → W d post s := by
  intro d
  induction d with
  | zero => intro s post _ h; omega
  | succ d ih =>
    intro s post ho hm hp
    exact hs d s post ho hp (fun s' post' ho' hm' hp' => ih s' post' ho' (by omega) hp')
theorem rec_q {σ ρ : Type} (W : Nat → (ρ → Prop) → σ → Prop) (ok : σ → Prop) (μ : σ → Nat) (Q : σ → ρ → Prop)
    (hs : ∀ d s post, ok s → (∀ r, Q s r → post r) → (∀ s' post', ok s' → μ s' < μ s → (∀ r, Q s' r → post' r) → W d post' s') → W (d + 1) post s) :
    ∀ d s post, ok s → μ s < d → (∀ r, Q s r → post r) → W d post s := by
  intro d
  induction d with
  | zero => intro s post _ h; omega
  | succ d ih =>
    intro s post ho hm hp
    exact hs d s post ho hp (fun s' post' ho' hm' hp' => ih s' post' ho' (by omega) hp')
def bx_sum (f : Nat → Int32) : Nat → Int32
  | 0 => 0
  | n + 1 => bx_sum f n + f n
theorem ek_u {A : Prop} {B : Nat → Prop} {k N : Nat} (hk : k < N) (h : B k) : (some k = none → A) ∧ (∀ y : Nat, some k = some y → (y < N ∧ B y)) :=
  ⟨fun z => absurd z (Option.some_ne_none k), fun _ e => (by cases e; exact ⟨hk, h⟩)⟩
theorem ek_nu {A : Prop} {B : Nat → Prop} (h : A) : ((none : Option Nat) = none → A) ∧ (∀ y : Nat, (none : Option Nat) = some y → B y) :=
  ⟨fun _ => h, fun _ e => (by cases e)⟩
theorem ek_if {c d A B : Prop} (e : c ↔ d) (f : d → A) (g : ¬ d → B) : (c → A) ∧ (¬ c → B) :=
  ⟨fun z => f (e.mp z), fun z => g (fun y => z (e.mpr y))⟩
theorem ek_v {α : Sort _} {P : α → Prop} {a b : α} (e : a = b) (h : P b) : P a := e ▸ h
theorem co_some {x : Option Nat} {A : Prop} {B : Nat → Prop} (i : Nat) (h : B i) (hx : x = some i := by rfl) : (x = none → A) ∧ (∀ y : Nat, x = some y → B y) := by
  subst hx
  exact ⟨fun e => (nomatch e), fun y e => Option.some.inj e ▸ h⟩
theorem co_none {x : Option Nat} {A : Prop} {B : Nat → Prop} (h : A) (hx : x = none := by rfl) : (x = none → A) ∧ (∀ y : Nat, x = some y → B y) := by
  subst hx
  exact ⟨fun _ => h, fun y e => (nomatch e)⟩
theorem co_any {x : Option Nat} {A : Prop} {B : Nat → Prop} (hn : x = none → A) (hs : ∀ i : Nat, x = some i → B i) : (x = none → A) ∧ (∀ y : Nat, x = some y → B y) := ⟨hn, hs⟩
theorem co_2 {P : Nat → Prop} (h0 : P 0) (h1 : P 1) {i : Nat} (hi : i < 2) : P i :=
  match i, hi with
  | 0, _ => h0
  | 1, _ => h1
theorem co_3 {P : Nat → Prop} (h0 : P 0) (h1 : P 1) (h2 : P 2) {i : Nat} (hi : i < 3) : P i :=
  match i, hi with
  | 0, _ => h0
  | 1, _ => h1
  | 2, _ => h2
theorem co_4 {P : Nat → Prop} (h0 : P 0) (h1 : P 1) (h2 : P 2) (h3 : P 3) {i : Nat} (hi : i < 4) : P i :=
  match i, hi with
  | 0, _ => h0
  | 1, _ => h1
  | 2, _ => h2
  | 3, _ => h3
theorem co_dec {N : Nat} {P : Nat → Prop} [DecidablePred P] (h : (List.range N).all (fun i => decide (P i)) = true) {i : Nat} (hi : i < N) : P i := by
  have := List.all_eq_true.mp h i (List.mem_range.mpr hi)
  exact of_decide_eq_true this
theorem co_tab {α : Type} {l : List α} {d : α} {P : α → Prop} (h : ∀ a, a ∈ l → P a) {i : Nat} (hi : i < l.length) : P (l.getD i d) := by
  rw [List.getD_eq_getElem?_getD, List.getElem?_eq_getElem hi]
  exact h _ (List.getElem_mem hi)
theorem pk_mu {x : Int32} {L : Nat} (h0 : ¬ x < 0) (h : ¬ nI L ≤ x) (hL : L < 2 ^ 31) : ∃ j : Nat, j < L ∧ x = nI j ∧ x + 1 = nI (j + 1) ∧ x.toNatClampNeg = j ∧ L - (x + 1).toNatClampNeg < L - x.toNatClampNeg := by
  obtain ⟨j, hj, rfl⟩ := nI_of h0
  have hl : j < L := Nat.not_le.mp fun q => h (nI_le q hj)
  refine ⟨j, hl, rfl, nI_1 j, nI_clamp hj, ?_⟩
  rw [nI_1, nI_clamp (by omega), nI_clamp hj]
  omega
theorem op_s {α : Type} {r : Option α} {A : Prop} {B : α → Prop} {y : α} (h : r = some y) (b : B y) : (r = none → A) ∧ ∀ z, r = some z → B z :=
  ⟨fun e => (by rw [h] at e; cases e), fun z e => (by rw [h] at e; cases e; exact b)⟩
def l_holds {α : Type} (a : Nat → Option Nat) (LP : List Nat) (p : Nat → α) (c : Nat) (b : Nat → α) : Prop :=
  ∀ j, j < c → ∃ y, a j = some y ∧ y ∈ LP ∧ p y = b j
theorem l_holds_0 {α : Type} {a : Nat → Option Nat} {LP : List Nat} {p b : Nat → α} : l_holds a LP p 0 b := fun j h => absurd h (Nat.not_lt_zero j)
theorem l_in_new (LP : List Nat) (q : Nat) : q ∈ LP ++ [q] := List.mem_append.mpr (Or.inr (List.mem_singleton.mpr rfl))
def l_sum (b : Nat → Int32) : Nat → Int32
  | 0 => 0
  | k + 1 => l_sum b k + b k
theorem sb_shr0 (x : Int32) : x >>> ((0 : Int32) &&& 31) = x := by
  rw [show ((0 : Int32) &&& 31) = 0 by decide]
  simp
theorem sb_shl0 (x : Int32) : x <<< ((0 : Int32) &&& 31) = x := by
  rw [show ((0 : Int32) &&& 31) = 0 by decide]
  simp
theorem sb_cl0 : (0 : Int32).toNatClampNeg = 0 := by decide
theorem sb_m1 {p : Nat} (h : 0 < p) : nI p + (-1) = nI (p - 1) := by
  obtain ⟨q, rfl⟩ : ∃ q, p = q + 1 := ⟨p - 1, by omega⟩
  exact pk_m1 q
def sb_b (c : Nat) : Int32 := (nI c).toInt8.toInt32
theorem sb_byte : ∀ c, c < 256 → sb_b c &&& 255 = nI c ∧ ((nI c).toUInt32 % 65536).toInt32 = nI c ∧ nI c ≤ 255 := by decide +kernel
def sb_Fit (a : Nat → Int32) : Prop := ∀ j, fits .byte (.int (a j)) = true
def sb_Lat (t : Nat → Nat) (n : Nat) (a : Nat → Int32) : Prop := ∀ j, j < n → t j < 256 ∧ a j = sb_b (t j)
theorem sb_fitB (c : Nat) : fits .byte (.int (sb_b c)) = true := pk_fb _
theorem sb_fit0 : sb_Fit (fun _ => 0) := fun _ => by
  show fits .byte (.int 0) = true
  decide
theorem sb_fitU {a : Nat → Int32} {k : Nat} {x : Int32} (h : sb_Fit a) (hx : fits .byte (.int x) = true) : sb_Fit (upd a k x) := by
  intro j
  by_cases e : j = k
  · subst e
    rw [pk_us]
    exact hx
  · rw [pk_un e]
    exact h j
def sb_cat (t : Nat → Nat) (n : Nat) (s : Nat → Nat) : Nat → Nat := fun j => if j < n then t j else s (j - n)
theorem sb_cat_lo {t s : Nat → Nat} {n j : Nat} (h : j < n) : sb_cat t n s j = t j := if_pos h
theorem sb_cat_hi {t s : Nat → Nat} {n j : Nat} : sb_cat t n s (n + j) = s j := by
  show (if n + j < n then t (n + j) else s (n + j - n)) = s j
  rw [if_neg (by omega), Nat.add_sub_cancel_left]
theorem sb_latPut {t s : Nat → Nat} {n w : Nat} {a a' : Nat → Int32} (h : sb_Lat t n a) (hk : ∀ j, j < n → a' j = a j) (hs : ∀ i, i < w → s i < 256 ∧ a' (n + i) = sb_b (s i)) : sb_Lat (sb_cat t n s) (n + w) a' := by
  intro j hj
  by_cases e : j < n
  · rw [sb_cat_lo e, hk j e]
    exact h j e
  · obtain ⟨i, rfl⟩ : ∃ i, j = n + i := ⟨j - n, by omega⟩
    rw [sb_cat_hi]
    exact hs i (by omega)
theorem sb_latKeep {t : Nat → Nat} {n : Nat} {a a' : Nat → Int32} (h : sb_Lat t n a) (hk : ∀ j, j < n → a' j = a j) : sb_Lat t n a' := fun j hj => by
  rw [hk j hj]
  exact h j hj
def sb_cap (q m : Nat) : Nat := if q ≤ m then m else if 2 * m + 2 < q then q else 2 * m + 2
def sb_Room (q m mc ms : Nat) : Prop := q ≤ m ∨ (1 ≤ mc ∧ sb_cap q m ≤ ms ∧ sb_cap q m ≤ 65536)
theorem sb_cap_ge (q m : Nat) : q ≤ sb_cap q m := by
  unfold sb_cap
  split
  · omega
  · split <;> omega
theorem sb_cap_gem (q m : Nat) : m ≤ sb_cap q m := by
  unfold sb_cap
  split
  · omega
  · split <;> omega
theorem sb_cap_le {q m mc ms : Nat} (hm : m ≤ 65536) (hr : sb_Room q m mc ms) : sb_cap q m ≤ 65536 := by
  rcases hr with h | h
  · rw [sb_cap, if_pos h]
    exact hm
  · exact h.2.2
theorem sb_at {P : Int32 → Prop} {x y : Int32} (e : x = y) (h : P y) : P x := e ▸ h
def sb_dg (w : Nat) : Nat := if w < 10 then 1 else if w < 100 then 2 else if w < 1000 then 3 else if w < 10000 then 4 else if w < 100000 then 5 else if w < 1000000 then 6 else if w < 10000000 then 7 else if w < 100000000 then 8 else if w < 1000000000 then 9 else 10
def sb_dec (v : Nat) : Nat → Nat := fun i => 48 + v / 10 ^ (sb_dg v - 1 - i) % 10
theorem sb_dg_in (w : Nat) : 1 ≤ sb_dg w ∧ sb_dg w ≤ 10 := by
  unfold sb_dg
  constructor <;> (repeat' split) <;> omega
theorem sb_dg100 {w : Nat} (h : 100 ≤ w) (hw : w < 2 ^ 31) : sb_dg w = sb_dg (w / 100) + 2 := by
  rw [sb_dg, sb_dg, if_neg (show ¬ w < 10 by omega), if_neg (show ¬ w < 100 by omega)]
  by_cases h3 : w < 1000
  · rw [if_pos h3, if_pos (show w / 100 < 10 by omega)]
  rw [if_neg h3, if_neg (show ¬ w / 100 < 10 by omega)]
  by_cases h4 : w < 10000
  · rw [if_pos h4, if_pos (show w / 100 < 100 by omega)]
  rw [if_neg h4, if_neg (show ¬ w / 100 < 100 by omega)]
  by_cases h5 : w < 100000
  · rw [if_pos h5, if_pos (show w / 100 < 1000 by omega)]
  rw [if_neg h5, if_neg (show ¬ w / 100 < 1000 by omega)]
  by_cases h6 : w < 1000000
  · rw [if_pos h6, if_pos (show w / 100 < 10000 by omega)]
  rw [if_neg h6, if_neg (show ¬ w / 100 < 10000 by omega)]
  by_cases h7 : w < 10000000
  · rw [if_pos h7, if_pos (show w / 100 < 100000 by omega)]
  rw [if_neg h7, if_neg (show ¬ w / 100 < 100000 by omega)]
  by_cases h8 : w < 100000000
  · rw [if_pos h8, if_pos (show w / 100 < 1000000 by omega)]
  rw [if_neg h8, if_neg (show ¬ w / 100 < 1000000 by omega)]
  by_cases h9 : w < 1000000000
  · rw [if_pos h9, if_pos (show w / 100 < 10000000 by omega)]
  rw [if_neg h9, if_neg (show ¬ w / 100 < 10000000 by omega)]
  rw [if_pos (show w / 100 < 100000000 by omega)]
theorem sb_negT {w : Nat} (h : w < 2 ^ 31) : (-nI w).toInt = -(w : Int) := by
  rw [Int32.toInt_neg, nI_toInt h]
  exact Int.bmod_eq_of_le (by omega) (by omega)
theorem sb_nle {a b : Nat} (ha : a < 2 ^ 31) (hb : b < 2 ^ 31) : -nI a ≤ -nI b ↔ b ≤ a := by
  rw [Int32.le_iff_toInt_le, sb_negT ha, sb_negT hb]
  omega
theorem sb_nlt {a b : Nat} (ha : a < 2 ^ 31) (hb : b < 2 ^ 31) : -nI a < -nI b ↔ b < a := by
  rw [Int32.lt_iff_toInt_lt, sb_negT ha, sb_negT hb]
  omega
theorem sb_cmp {A B : Prop} {x : Int32} (v c : Nat) (f : c ≤ v → A) (g : v < c → B) (hv : v < 2 ^ 31) (hx : x = -nI c := by rfl) (hc : c < 2 ^ 31 := by omega) : (-nI v ≤ x → A) ∧ (¬ -nI v ≤ x → B) := by
  subst hx
  rw [sb_nle hv hc]
  exact ⟨f, fun z => g (by omega)⟩
theorem sb_ndiv {w : Nat} (hw : w < 2 ^ 31) : (-nI w) / 100 = -nI (w / 100) := by
  apply Int32.toInt_inj.mp
  have h100 : (100 : Int32).toInt = 100 := by decide
  rw [Int32.toInt_div, sb_negT hw, h100, sb_negT (by omega), Int.neg_tdiv, Int.tdiv_eq_ediv_of_nonneg (by omega), Int.bmod_eq_of_le (by omega) (by omega)]
  omega
theorem sb_nrem {w : Nat} (hw : w < 2 ^ 31) : (-nI (w / 100)) * 100 - (-nI w) = nI (w % 100) := by
  have h := pk_rem (a := w) (d := 100) hw (by decide) (by decide)
  rw [pk_div hw (by decide) (by decide)] at h
  rw [← h]
  show (-nI (w / 100)) * nI 100 - (-nI w) = nI w - nI (w / 100) * nI 100
  rw [Int32.neg_mul, Int32.sub_neg, Int32.add_comm, ← Int32.sub_eq_add_neg]
end
section
/-! numbers, narrowing, bits -/
theorem sw_nb {n : Nat} (h : n < 128) : (nI n).toInt8.toInt32 = nI n :=
  lg_i2b_small (by rw [nI_toInt (by omega)]; omega) (by rw [nI_toInt (by omega)]; omega)
theorem sw_ns {n : Nat} (h : n < 32768) : (nI n).toInt16.toInt32 = nI n :=
  lg_i2s_small (by rw [nI_toInt (by omega)]; omega) (by rw [nI_toInt (by omega)]; omega)
theorem sw_m1b : (-1 : Int32).toInt8.toInt32 = -1 := by decide
theorem sw_vb {n : Nat} (h : n < 128) : vp_nar .byte (nI n) = nI n := by rw [vp_nar_byte, sw_nb h]
theorem sw_vb2 {n : Nat} (h : n < 128) : vp_nar .byte (nI n).toInt8.toInt32 = nI n := by rw [sw_nb h, sw_vb h]
theorem sw_vs2 {n : Nat} (h : n < 32768) : vp_nar .short (nI n).toInt16.toInt32 = nI n := by
  rw [vp_nar_short, sw_ns h, sw_ns h]
theorem sw_vm : vp_nar .byte (-1) = -1 := by rw [vp_nar_byte]; decide
theorem sw_vm2 : vp_nar .byte (-1 : Int32).toInt8.toInt32 = -1 := by rw [vp_nar_byte]; decide
theorem sw_m1lt : (-1 : Int32) < 0 := by decide
theorem sw_m1le : ¬ (0 : Int32) ≤ -1 := by decide
theorem sw_ne1 {a : Nat} (h : a < 2 ^ 31) : ¬ nI a = -1 := by
  intro e
  have := nI_pos (n := a) h
  rw [e] at this
  exact this sw_m1lt
theorem sw_inj {a b : Nat} (h : nI a = nI b) (ha : a < 2 ^ 31) (hb : b < 2 ^ 31) : a = b := (nI_eq ha hb).mp h
theorem sw_le0 {a : Nat} (h : a < 2 ^ 31) : nI a ≤ 0 ↔ a = 0 := by
  rw [← nI_0, nI_leI h (by omega)]; omega
theorem sw_eq0 {a : Nat} (h : a < 2 ^ 31) : nI a = 0 ↔ a = 0 := by
  rw [← nI_0, nI_eq h (by omega)]
theorem sw_cl {a : Nat} (h : a < 2147483648) : (nI a).toNatClampNeg = a := nI_clamp h
/-- an int between two literals -/
theorem sw_of {x M : Int32} (n : Nat) (hM : M = nI n) (hn : n < 2 ^ 31) (h : ¬ x < 0) (h5 : ¬ M < x) : ∃ j : Nat, j ≤ n ∧ x = nI j := by
  obtain ⟨j, hj, rfl⟩ := nI_of h
  subst hM
  rw [nI_ltI hn hj] at h5
  exact ⟨j, by omega, rfl⟩
theorem sw_of' {x M : Int32} (n : Nat) (hM : M = nI n) (hn : n < 2 ^ 31) (h : ¬ x < 0) (h5 : x ≤ M) : ∃ j : Nat, j ≤ n ∧ x = nI j := by
  obtain ⟨j, hj, rfl⟩ := nI_of h
  subst hM
  rw [nI_leI hj hn] at h5
  exact ⟨j, by omega, rfl⟩
/-- an int from -1 on -/
theorem sw_m1 {x : Int32} (h : ¬ x < -1) : x = -1 ∨ ¬ x < 0 := by
  rw [Int32.lt_iff_toInt_lt] at h
  by_cases z : x < 0
  · left
    rw [Int32.lt_iff_toInt_lt] at z
    have h0 : (0 : Int32).toInt = 0 := by decide
    have h1 : (-1 : Int32).toInt = -1 := by decide
    apply Int32.toInt_inj.mp
    omega
  · exact Or.inr z
theorem sw_sub {a b : Nat} (h : b ≤ a) {B : Int32} (hB : B = nI b) : nI a - B = nI (a - b) := by rw [hB, pk_sub h]
theorem sw_s8 {a : Nat} (h : 8 ≤ a) : nI a - 8 = nI (a - 8) := pk_sub (b := 8) h
theorem sw_s10 {a : Nat} (h : 10 ≤ a) : nI a - 10 = nI (a - 10) := pk_sub (b := 10) h
theorem sw_s20 {a : Nat} (h : 20 ≤ a) : nI a - 20 = nI (a - 20) := pk_sub (b := 20) h
theorem sw_s96 {a : Nat} (h : 96 ≤ a) : nI a - 96 = nI (a - 96) := pk_sub (b := 96) h
theorem sw_add {a b : Nat} {A : Int32} (hA : A = nI a) : A + nI b = nI (a + b) := by rw [hA, nI_add]
theorem sw_s2 {n : Nat} (h : n < 2 ^ 31) : nI n >>> ((2 : Int32) &&& 31) = nI (n / 4) := pk_shrN h _ 2 (by decide)
theorem sw_s6 {n : Nat} (h : n < 2 ^ 31) : nI n >>> ((6 : Int32) &&& 31) = nI (n / 64) := pk_shrN h _ 6 (by decide)
theorem sw_a3 {n : Nat} (h : n < 2 ^ 31) : nI n &&& 3 = nI (n % 4) := pk_andN (by omega) 2 (by decide)
theorem sw_a7 {n : Nat} (h : n < 2 ^ 31) : nI n &&& 7 = nI (n % 8) := pk_andN (by omega) 3 (by decide)
theorem sw_a15 {n : Nat} (h : n < 2 ^ 31) : nI n &&& 15 = nI (n % 16) := pk_andN (by omega) 4 (by decide)
theorem sw_fa {n : Nat} (h : n < 2 ^ 31) : (nI n >>> ((2 : Int32) &&& 31)) &&& 15 = nI (n / 4 % 16) := by
  rw [sw_s2 h, sw_a15 (by omega)]
theorem sw_fb {n : Nat} (h : n < 2 ^ 31) : (nI n >>> ((6 : Int32) &&& 31)) &&& 15 = nI (n / 64 % 16) := by
  rw [sw_s6 h, sw_a15 (by omega)]
theorem sw_shc : ∀ t, t < 32 → ((nI t &&& 31).toBitVec.smod 32).toNat = t := by decide +kernel
theorem sw_bit {m t : Nat} (hm : m < 2 ^ 31) (ht : t < 32) : (nI m >>> (nI t &&& 31)) &&& 1 = nI (m / 2 ^ t % 2) := by
  rw [pk_shrN hm _ t (sw_shc t ht)]
  exact pk_andN (Nat.lt_of_le_of_lt (Nat.div_le_self _ _) (by omega)) 1 (by decide)
theorem sw_bit0 {m t : Nat} (hm : m < 2 ^ 31) (ht : t < 32) : (nI m >>> (nI t &&& 31)) &&& 1 = 0 ↔ m.testBit t = false := by
  rw [sw_bit hm ht, sw_eq0 (by omega), Nat.testBit_eq_decide_div_mod_eq]
  simp only [decide_eq_false_iff_not]
  omega
theorem sw_bit1 {m t : Nat} (hm : m < 2 ^ 31) (ht : t < 32) : (nI m >>> (nI t &&& 31)) &&& 1 = 1 ↔ m.testBit t = true := by
  rw [sw_bit hm ht, show (1 : Int32) = nI 1 from rfl, nI_eq (by omega) (by omega), Nat.testBit_eq_decide_div_mod_eq]
  simp only [decide_eq_true_eq]
theorem sw_or (a b : Nat) : nI a ||| nI b = nI (a ||| b) := by
  apply Int32.toBitVec_inj.mp
  rw [Int32.toBitVec_or]
  show BitVec.ofNat 32 a ||| BitVec.ofNat 32 b = BitVec.ofNat 32 (a ||| b)
  exact BitVec.ofNat_or.symm
theorem sw_pw : ∀ t, t < 8 → (1 : Int32) <<< (nI t &&& 31) = nI (2 ^ t) := by decide +kernel
theorem sw_orb {m t : Nat} (ht : t < 8) : nI m ||| ((1 : Int32) <<< (nI t &&& 31)) = nI (m ||| 2 ^ t) := by
  rw [sw_pw t ht, sw_or]
/-- the stop bit of an effect -/
theorem sw_stop : ∀ n, n < 2048 → ((nI n &&& 1024 = 0) ↔ n < 1024) := by decide +kernel
/-- traits: facts of sixteen numbers -/
theorem sw_tr4 : ∀ x, x < 16 → vp_nar .byte ((nI x ^^^ 4).toInt8.toInt32) = nI x ^^^ 4 ∧ ∃ y, y < 16 ∧ nI x ^^^ 4 = nI y := by
  intro x hx
  have h : ∀ x, x < 16 → (nI x ^^^ 4).toInt8.toInt32.toInt8.toInt32 = nI x ^^^ 4 := by decide +kernel
  have h2 : ∀ x, x < 16 → ∃ y, y < 16 ∧ nI x ^^^ 4 = nI y := by decide +kernel
  rw [vp_nar_byte]
  exact ⟨h x hx, h2 x hx⟩
theorem sw_tr1 : ∀ x, x < 16 → ((nI x &&& 1 = 0) ↔ ¬ (nI x &&& 1 = 1)) := by decide +kernel
/-! branches by facts -/
theorem sw_if {c d A B : Prop} (e : c ↔ d) (f : d → A) (g : ¬ d → B) : (c → A) ∧ (¬ c → B) :=
  ⟨fun h => f (e.mp h), fun h => g (fun z => h (e.mpr z))⟩
/-- upd -/
theorem sw_ue {f : Nat → Int32} {k : Nat} {x : Int32} (h : f k = x) : upd f k x = f := by
  funext j
  by_cases z : j = k
  · subst z; rw [pk_us, h]
  · rw [pk_un z]
def sw_up {α : Type} (f : Nat → α) (k : Nat) (x : α) : Nat → α := fun j => if j = k then x else f j
theorem sw_ups {α : Type} {f : Nat → α} {k : Nat} {x : α} : sw_up f k x k = x := if_pos rfl
theorem sw_upn {α : Type} {f : Nat → α} {k j : Nat} {x : α} (h : j ≠ k) : sw_up f k x j = f j := if_neg h
end
section
/-! chains, places, ranks: pure -/
def sw_Ch (ne : Nat → Int32) : Int32 → List Nat → Prop
  | h, [] => h = -1
  | h, t :: l => h = nI t ∧ sw_Ch ne (ne t) l
theorem sw_Ch_n {ne : Nat → Int32} {h : Int32} : sw_Ch ne h [] ↔ h = -1 := Iff.rfl
theorem sw_Ch_c {ne : Nat → Int32} {h : Int32} {t : Nat} {l : List Nat} : sw_Ch ne h (t :: l) ↔ h = nI t ∧ sw_Ch ne (ne t) l := Iff.rfl
theorem sw_Ch_u {ne : Nat → Int32} {b : Nat} {x : Int32} : ∀ {l : List Nat} {h : Int32}, b ∉ l → sw_Ch ne h l → sw_Ch (upd ne b x) h l := by
  intro l
  induction l with
  | nil => intro h _ c; exact c
  | cons t l ih =>
    intro h nb c
    refine ⟨c.1, ?_⟩
    have h1 : t ≠ b := fun e => nb (by rw [e]; exact List.mem_cons_self)
    rw [pk_un h1]
    exact ih (fun m => nb (List.mem_cons_of_mem _ m)) c.2
/-- out of the middle -/
theorem sw_Ch_x {ne : Nat → Int32} {b t : Nat} {B : List Nat} : ∀ {A : List Nat} {h : Int32}, b ∉ A → b ∉ B → sw_Ch ne h (A ++ b :: t :: B) → sw_Ch (upd ne b (ne t)) h (A ++ b :: B) := by
  intro A
  induction A with
  | nil =>
    intro h _ nB c
    refine ⟨c.1, ?_⟩
    rw [pk_us]
    exact sw_Ch_u nB c.2.2
  | cons a A ih =>
    intro h nA nB c
    refine ⟨c.1, ?_⟩
    have h1 : a ≠ b := fun e => nA (by rw [e]; exact List.mem_cons_self)
    rw [pk_un h1]
    exact ih (fun m => nA (List.mem_cons_of_mem _ m)) nB c.2
/-- at the end: append -/
theorem sw_Ch_a {ne : Nat → Int32} {b t : Nat} : ∀ {A : List Nat} {h : Int32}, b ∉ A → t ∉ A → t ≠ b → ne t = -1 → sw_Ch ne h (A ++ [b]) → sw_Ch (upd ne b (nI t)) h (A ++ [b, t]) := by
  intro A
  induction A with
  | nil =>
    intro h _ _ nt h0 c
    refine ⟨c.1, ?_⟩
    rw [pk_us]
    refine ⟨rfl, ?_⟩
    rw [pk_un nt]
    exact h0
  | cons a A ih =>
    intro h nA nt nt' h0 c
    refine ⟨c.1, ?_⟩
    have h1 : a ≠ b := fun e => nA (by rw [e]; exact List.mem_cons_self)
    rw [pk_un h1]
    exact ih (fun m => nA (List.mem_cons_of_mem _ m)) (fun m => nt (List.mem_cons_of_mem _ m)) nt' h0 c.2
/-- cut the end off -/
theorem sw_Ch_e {ne : Nat → Int32} {b t : Nat} : ∀ {A : List Nat} {h : Int32}, b ∉ A → sw_Ch ne h (A ++ [b, t]) → sw_Ch (upd ne b (-1)) h (A ++ [b]) := by
  intro A
  induction A with
  | nil =>
    intro h _ c
    refine ⟨c.1, ?_⟩
    rw [pk_us]
    exact rfl
  | cons a A ih =>
    intro h nA c
    refine ⟨c.1, ?_⟩
    have h1 : a ≠ b := fun e => nA (by rw [e]; exact List.mem_cons_self)
    rw [pk_un h1]
    exact ih (fun m => nA (List.mem_cons_of_mem _ m)) c.2
theorem sw_Ch_h {ne : Nat → Int32} {h : Int32} {l : List Nat} (c : sw_Ch ne h l) : h = -1 ∨ ∃ t, t ∈ l ∧ h = nI t := by
  cases l with
  | nil => exact Or.inl c
  | cons t l => exact Or.inr ⟨t, List.mem_cons_self, c.1⟩
/-- a head narrows to itself -/
theorem sw_Ch_b {ne : Nat → Int32} {h : Int32} {l : List Nat} (c : sw_Ch ne h l) (hl : ∀ t, t ∈ l → t < 128) : vp_nar .byte h = h := by
  rcases sw_Ch_h c with e | ⟨t, m, e⟩
  · rw [e]; exact sw_vm
  · rw [e]; exact sw_vb (hl t m)

def sw_Pl (P : Nat → Nat) (pl : Nat → Int32) : Prop := ∀ t, t < 8 → P t < 16 ∧ pl t = nI (P t)
def sw_Ac (P : Nat → Nat) : Prop := ∃ rk : Nat → Nat, ∀ t, t < 8 → 8 ≤ P t → rk (P t - 8) < rk t
def sw_Cn (P : Nat → Nat) (fi ne : Nat → Int32) : Prop := ∃ L : Nat → List Nat, ∀ p, p < 16 → sw_Ch ne (fi p) (L p) ∧ (L p).Nodup ∧ ∀ t, t ∈ L p ↔ t < 8 ∧ P t = p

theorem sw_Pl_u {P : Nat → Nat} {pl : Nat → Int32} {t p : Nat} (h : sw_Pl P pl) (hp : p < 16) : sw_Pl (sw_up P t p) (upd pl t (nI p)) := by
  intro j hj
  by_cases e : j = t
  · subst e; rw [sw_ups, pk_us]; exact ⟨hp, rfl⟩
  · rw [sw_upn e, pk_un e]; exact h j hj

/-- what stands ahead of t in its chain, and behind -/
theorem sw_split {t : Nat} : ∀ {l : List Nat}, t ∈ l → ∃ A B, l = A ++ t :: B := by
  intro l m
  exact List.append_of_mem m
/-- out of its chain: at the head -/
theorem sw_un0 {P : Nat → Nat} {fi ne : Nat → Int32} {L : Nat → List Nat} {t : Nat} {B : List Nat}
    (h : ∀ p, p < 16 → sw_Ch ne (fi p) (L p) ∧ (L p).Nodup ∧ ∀ t, t ∈ L p ↔ t < 8 ∧ P t = p) (hf : P t < 16) (e : L (P t) = t :: B) :
    ∃ L1 : Nat → List Nat, ∀ p, p < 16 → sw_Ch ne (upd fi (P t) (ne t) p) (L1 p) ∧ (L1 p).Nodup ∧ ∀ j, j ∈ L1 p ↔ (j < 8 ∧ P j = p) ∧ j ≠ t := by
  refine ⟨sw_up L (P t) B, fun p hp => ?_⟩
  by_cases z : p = P t
  · subst z
    rw [sw_ups, pk_us]
    obtain ⟨h1, h2, h3⟩ := h (P t) hf
    rw [e] at h1 h2 h3
    have hn := List.nodup_cons.mp h2
    refine ⟨h1.2, hn.2, fun j => ?_⟩
    rw [← h3 j]
    constructor
    · intro m; exact ⟨List.mem_cons_of_mem _ m, fun ej => hn.1 (ej ▸ m)⟩
    · rintro ⟨m, nj⟩
      rcases List.mem_cons.mp m with ej | m'
      · exact absurd ej nj
      · exact m'
  · rw [sw_upn z, pk_un z]
    obtain ⟨h1, h2, h3⟩ := h p hp
    refine ⟨h1, h2, fun j => ?_⟩
    rw [h3 j]
    constructor
    · intro hj; exact ⟨hj, fun ej => z (by rw [← hj.2, ej])⟩
    · intro hj; exact hj.1
/-- out of its chain: behind b -/
theorem sw_un1 {P : Nat → Nat} {fi ne : Nat → Int32} {L : Nat → List Nat} {t b : Nat} {A B : List Nat}
    (h : ∀ p, p < 16 → sw_Ch ne (fi p) (L p) ∧ (L p).Nodup ∧ ∀ t, t ∈ L p ↔ t < 8 ∧ P t = p) (hf : P t < 16) (e : L (P t) = A ++ b :: t :: B) :
    ∃ L1 : Nat → List Nat, ∀ p, p < 16 → sw_Ch (upd ne b (ne t)) (fi p) (L1 p) ∧ (L1 p).Nodup ∧ ∀ j, j ∈ L1 p ↔ (j < 8 ∧ P j = p) ∧ j ≠ t := by
  refine ⟨sw_up L (P t) (A ++ b :: B), fun p hp => ?_⟩
  have hb : b < 8 ∧ P b = P t := by
    rw [← (h (P t) hf).2.2 b, e]
    exact List.mem_append_right _ List.mem_cons_self
  by_cases z : p = P t
  · subst z
    rw [sw_ups]
    obtain ⟨h1, h2, h3⟩ := h (P t) hf
    rw [e] at h1 h2 h3
    obtain ⟨nA, nB, nAB⟩ := List.nodup_append.mp h2
    obtain ⟨nb, nB2⟩ := List.nodup_cons.mp nB
    obtain ⟨nt, nB3⟩ := List.nodup_cons.mp nB2
    have bA : b ∉ A := fun m => nAB b m b List.mem_cons_self rfl
    have bB : b ∉ B := fun m => nb (List.mem_cons_of_mem _ m)
    refine ⟨sw_Ch_x bA bB h1, ?_, fun j => ?_⟩
    · refine List.nodup_append.mpr ⟨nA, List.nodup_cons.mpr ⟨bB, nB3⟩, fun x hx y hy => ?_⟩
      refine nAB x hx y ?_
      rcases List.mem_cons.mp hy with ey | my
      · rw [ey]; exact List.mem_cons_self
      · exact List.mem_cons_of_mem _ (List.mem_cons_of_mem _ my)
    · rw [← h3 j]
      simp only [List.mem_append, List.mem_cons]
      constructor
      · rintro (m | m | m)
        · exact ⟨Or.inl m, fun ej => nAB j m t (List.mem_cons_of_mem _ List.mem_cons_self) ej⟩
        · exact ⟨Or.inr (Or.inl m), fun ej => nb (by rw [← m, ej]; exact List.mem_cons_self)⟩
        · exact ⟨Or.inr (Or.inr (Or.inr m)), fun ej => nt (by rw [← ej]; exact m)⟩
      · rintro ⟨m | m | m | m, nj⟩
        · exact Or.inl m
        · exact Or.inr (Or.inl m)
        · exact absurd m nj
        · exact Or.inr (Or.inr m)
  · rw [sw_upn z]
    obtain ⟨h1, h2, h3⟩ := h p hp
    refine ⟨sw_Ch_u ?_ h1, h2, fun j => ?_⟩
    · intro m
      exact z (by rw [← ((h3 b).mp m).2, hb.2])
    · rw [h3 j]
      constructor
      · intro hj; exact ⟨hj, fun ej => z (by rw [← hj.2, ej])⟩
      · intro hj; exact hj.1
/-- hung in at the head of p -/
theorem sw_in {P : Nat → Nat} {fi ne : Nat → Int32} {L1 : Nat → List Nat} {t p : Nat} (ht : t < 8) (hp : p < 16)
    (h : ∀ p, p < 16 → sw_Ch ne (fi p) (L1 p) ∧ (L1 p).Nodup ∧ ∀ j, j ∈ L1 p ↔ (j < 8 ∧ P j = p) ∧ j ≠ t) :
    sw_Cn (sw_up P t p) (upd fi p (nI t)) (upd ne t (fi p)) := by
  refine ⟨sw_up L1 p (t :: L1 p), fun q hq => ?_⟩
  have nt : ∀ q, q < 16 → t ∉ L1 q := fun q hq m => (((h q hq).2.2 t).mp m).2 rfl
  by_cases z : q = p
  · subst z
    rw [sw_ups, pk_us]
    obtain ⟨h1, h2, h3⟩ := h q hq
    refine ⟨⟨rfl, ?_⟩, List.nodup_cons.mpr ⟨nt q hq, h2⟩, fun j => ?_⟩
    · rw [pk_us]; exact sw_Ch_u (nt q hq) h1
    · rw [List.mem_cons, h3 j]
      by_cases ej : j = t
      · subst ej; rw [sw_ups]; exact ⟨fun _ => ⟨ht, rfl⟩, fun _ => Or.inl rfl⟩
      · rw [sw_upn ej]
        exact ⟨fun m => (m.resolve_left ej).1, fun m => Or.inr ⟨m, ej⟩⟩
  · rw [sw_upn z, pk_un z]
    obtain ⟨h1, h2, h3⟩ := h q hq
    refine ⟨sw_Ch_u (nt q hq) h1, h2, fun j => ?_⟩
    rw [h3 j]
    by_cases ej : j = t
    · subst ej; rw [sw_ups]; exact ⟨fun m => absurd rfl m.2, fun m => absurd m.2.symm z⟩
    · rw [sw_upn ej]
      exact ⟨fun m => m.1, fun m => ⟨m, ej⟩⟩

/-! ranks -/
def sw_b2 (b : Bool) : Nat := if b then 1 else 0
theorem sw_b2_le (b : Bool) : sw_b2 b ≤ 1 := by cases b <;> decide
/-- how many of 8 lie below x -/
def sw_below (rk : Nat → Nat) (x : Nat) : Nat → Nat
  | 0 => 0
  | n + 1 => sw_below rk x n + sw_b2 (decide (rk n < x))
theorem sw_below_le {rk : Nat → Nat} {x y : Nat} (h : x ≤ y) : ∀ n, sw_below rk x n ≤ sw_below rk y n := by
  intro n
  induction n with
  | zero => exact Nat.le_refl _
  | succ n ih =>
    show sw_below rk x n + sw_b2 _ ≤ sw_below rk y n + sw_b2 _
    have : sw_b2 (decide (rk n < x)) ≤ sw_b2 (decide (rk n < y)) := by
      by_cases z : rk n < x
      · rw [decide_eq_true z, decide_eq_true (Nat.lt_of_lt_of_le z h)]; exact Nat.le_refl _
      · rw [decide_eq_false z]; exact Nat.zero_le _
    omega
theorem sw_below_lt {rk : Nat → Nat} {t y : Nat} (h : rk t < y) : ∀ n, t < n → sw_below rk (rk t) n < sw_below rk y n := by
  intro n
  induction n with
  | zero => intro z; omega
  | succ n ih =>
    intro z
    show sw_below rk (rk t) n + sw_b2 _ < sw_below rk y n + sw_b2 _
    by_cases e : t = n
    · subst e
      have h1 := sw_below_le (rk := rk) (Nat.le_of_lt h) t
      rw [decide_eq_true h, decide_eq_false (Nat.lt_irrefl _)]
      show _ + 0 < _ + 1
      omega
    · have h1 := ih (by omega)
      have h2 : sw_b2 (decide (rk n < rk t)) ≤ sw_b2 (decide (rk n < y)) := by
        by_cases z : rk n < rk t
        · rw [decide_eq_true z, decide_eq_true (Nat.lt_trans z h)]; exact Nat.le_refl _
        · rw [decide_eq_false z]; exact Nat.zero_le _
      omega
theorem sw_below_n {rk : Nat → Nat} {x : Nat} : ∀ n, sw_below rk x n ≤ n := by
  intro n
  induction n with
  | zero => exact Nat.le_refl _
  | succ n ih =>
    show sw_below rk x n + sw_b2 _ ≤ n + 1
    have := sw_b2_le (decide (rk n < x))
    omega
theorem sw_below_n' {rk : Nat → Nat} {t : Nat} : ∀ n, t < n → sw_below rk (rk t) n < n := by
  intro n
  induction n with
  | zero => intro z; omega
  | succ n ih =>
    intro z
    show sw_below rk (rk t) n + sw_b2 _ < n + 1
    by_cases e : t = n
    · subst e
      rw [decide_eq_false (Nat.lt_irrefl _)]
      have := sw_below_n (rk := rk) (x := rk t) t
      show _ + 0 < _
      omega
    · have h1 := ih (by omega)
      have := sw_b2_le (decide (rk n < rk t))
      omega
theorem sw_rank {P : Nat → Nat} (hP : ∀ t, t < 8 → P t < 16) (h : sw_Ac P) : ∃ rk : Nat → Nat, (∀ t, t < 8 → rk t < 8) ∧ ∀ t, t < 8 → 8 ≤ P t → rk (P t - 8) < rk t := by
  obtain ⟨rk, h⟩ := h
  refine ⟨fun t => sw_below rk (rk t) 8, fun t ht => sw_below_n' 8 ht, fun t ht h8 => ?_⟩
  have := hP t ht
  exact sw_below_lt (h t ht h8) 8 (by omega)

/-! is u t, or inside it -/
def sw_wi (P : Nat → Nat) (t : Nat) : Nat → Nat → Bool
  | 0, _ => false
  | n + 1, u => decide (u = t) || (decide (8 ≤ P u) && sw_wi P t n (P u - 8))
theorem sw_wi_s (P : Nat → Nat) (t n u : Nat) : sw_wi P t (n + 1) u = (decide (u = t) || (decide (8 ≤ P u) && sw_wi P t n (P u - 8))) := rfl
theorem sw_wi_t {P : Nat → Nat} {t n : Nat} : sw_wi P t (n + 1) t = true := by rw [sw_wi_s, decide_eq_true rfl, Bool.true_or]
theorem sw_wi_o {P : Nat → Nat} {t n u : Nat} (h : u ≠ t) (h8 : ¬ 8 ≤ P u) : sw_wi P t (n + 1) u = false := by
  rw [sw_wi_s, decide_eq_false h, decide_eq_false h8]; rfl
theorem sw_wi_u {P : Nat → Nat} {t n u : Nat} (h : u ≠ t) (h8 : 8 ≤ P u) : sw_wi P t (n + 1) u = sw_wi P t n (P u - 8) := by
  rw [sw_wi_s, decide_eq_false h, decide_eq_true h8]; simp only [Bool.false_or, Bool.true_and]
theorem sw_wi_e {P : Nat → Nat} {t : Nat} {rk : Nat → Nat} (hP : ∀ t, t < 8 → P t < 16) (hr : ∀ t, t < 8 → 8 ≤ P t → rk (P t - 8) < rk t) :
    ∀ n u, u < 8 → rk u < n → sw_wi P t n u = sw_wi P t (n + 1) u := by
  intro n
  induction n with
  | zero => intro u _ h; omega
  | succ n ih =>
    intro u hu h
    by_cases e : u = t
    · subst e; rw [sw_wi_t, sw_wi_t]
    · by_cases h8 : 8 ≤ P u
      · rw [sw_wi_u e h8, sw_wi_u e h8]
        have := hr u hu h8
        have := hP u hu
        exact ih _ (by omega) (by omega)
      · rw [sw_wi_o e h8, sw_wi_o e h8]
/-- moved to where it isn't inside itself: still no circle -/
theorem sw_Ac_u {P : Nat → Nat} {t p : Nat} (hP : ∀ t, t < 8 → P t < 16) (h : sw_Ac P) (ht : t < 8) (hp : p < 16) (hw : 8 ≤ p → sw_wi P t 9 (p - 8) = false) : sw_Ac (sw_up P t p) := by
  obtain ⟨rk, h8, hr⟩ := sw_rank hP h
  refine ⟨fun u => rk u + (if sw_wi P t 9 u = true then 8 else 0), fun u hu hu8 => ?_⟩
  by_cases e : u = t
  · subst e
    rw [sw_ups] at hu8 ⊢
    show rk (p - 8) + (if sw_wi P u 9 (p - 8) = true then 8 else 0) < rk u + (if sw_wi P u 9 u = true then 8 else 0)
    rw [hw hu8, if_neg (by decide), if_pos sw_wi_t]
    have := h8 (p - 8) (by omega)
    omega
  · rw [sw_upn e] at hu8 ⊢
    show rk (P u - 8) + (if sw_wi P t 9 (P u - 8) = true then 8 else 0) < rk u + (if sw_wi P t 9 u = true then 8 else 0)
    have h1 := hr u hu hu8
    have h2 := hP u hu
    have h3 := h8 (P u - 8) (by omega)
    have e1 : sw_wi P t 9 (P u - 8) = sw_wi P t 9 u := by
      rw [sw_wi_u (n := 8) e hu8]
      exact (sw_wi_e hP hr 8 _ (by omega) (by omega)).symm
    rw [e1]
    omega

/-! near -/
def sw_nr (P : Nat → Nat) (O : Nat → Bool) (m : Nat) : Nat → Nat → Bool
  | 0, _ => false
  | n + 1, t => decide (P t = m) || (decide (P t = 6) || (decide (8 ≤ P t) && (O (P t - 8) && sw_nr P O m n (P t - 8))))
theorem sw_nr_s (P : Nat → Nat) (O : Nat → Bool) (m n t : Nat) : sw_nr P O m (n + 1) t = (decide (P t = m) || (decide (P t = 6) || (decide (8 ≤ P t) && (O (P t - 8) && sw_nr P O m n (P t - 8))))) := rfl
theorem sw_nr_iff {P : Nat → Nat} {O : Nat → Bool} {m n t : Nat} : sw_nr P O m (n + 1) t = true ↔ (P t = m ∨ P t = 6 ∨ (8 ≤ P t ∧ O (P t - 8) = true ∧ sw_nr P O m n (P t - 8) = true)) := by
  rw [sw_nr_s]
  simp only [Bool.or_eq_true, Bool.and_eq_true, decide_eq_true_eq]
/-- a set that answers as one looks is the near one -/
theorem sw_nr_fix {P : Nat → Nat} {O : Nat → Bool} {m : Nat} {rk : Nat → Nat} {D : Nat → Bool} (hP : ∀ t, t < 8 → P t < 16)
    (hr : ∀ t, t < 8 → 8 ≤ P t → rk (P t - 8) < rk t)
    (hD : ∀ t, t < 8 → (D t = true ↔ (P t = m ∨ P t = 6 ∨ (8 ≤ P t ∧ O (P t - 8) = true ∧ D (P t - 8) = true)))) :
    ∀ n t, t < 8 → rk t < n → D t = sw_nr P O m n t := by
  intro n
  induction n with
  | zero => intro t _ h; omega
  | succ n ih =>
    intro t ht h
    have key : D t = true ↔ sw_nr P O m (n + 1) t = true := by
      rw [hD t ht, sw_nr_iff]
      by_cases h8 : 8 ≤ P t
      · have := hr t ht h8
        have := hP t ht
        rw [ih (P t - 8) (by omega) (by omega)]
      · constructor
        · rintro (z | z | z)
          · exact Or.inl z
          · exact Or.inr (Or.inl z)
          · exact absurd z.1 h8
        · rintro (z | z | z)
          · exact Or.inl z
          · exact Or.inr (Or.inl z)
          · exact absurd z.1 h8
    exact Bool.eq_iff_iff.mpr key

/-! counting what is in a place -/
def sw_cn (P : Nat → Nat) (p : Nat) : Nat → Nat
  | 0 => 0
  | n + 1 => sw_cn P p n + (if P n = p then 1 else 0)
theorem sw_cn_len {P : Nat → Nat} {p : Nat} : ∀ (n : Nat) (l : List Nat), l.Nodup → (∀ t, t ∈ l ↔ t < n ∧ P t = p) → l.length = sw_cn P p n := by
  intro n
  induction n with
  | zero =>
    intro l _ h
    cases l with
    | nil => rfl
    | cons a l => exact absurd ((h a).mp List.mem_cons_self).1 (Nat.not_lt_zero a)
  | succ n ih =>
    intro l hn h
    show l.length = sw_cn P p n + (if P n = p then 1 else 0)
    by_cases z : P n = p
    · rw [if_pos z]
      have hm : n ∈ l := (h n).mpr ⟨by omega, z⟩
      have h1 := ih (l.erase n) (hn.erase n) (fun t => by
        rw [hn.mem_erase_iff, h t]
        constructor
        · rintro ⟨a, b, c⟩; exact ⟨by omega, c⟩
        · rintro ⟨a, b⟩; exact ⟨by omega, by omega, b⟩)
      have h2 := List.length_erase_of_mem hm
      have h3 := List.length_pos_of_mem hm
      omega
    · rw [if_neg z, Nat.add_zero]
      exact ih l hn (fun t => by
        rw [h t]
        constructor
        · rintro ⟨a, b⟩
          refine ⟨?_, b⟩
          rcases Nat.lt_or_ge t n with y | y
          · exact y
          · have : t = n := by omega
            subst this
            exact absurd b z
        · rintro ⟨a, b⟩; exact ⟨by omega, b⟩)
theorem sw_nodup_len : ∀ (n : Nat) (l : List Nat), l.Nodup → (∀ t, t ∈ l → t < n) → l.length ≤ n := by
  intro n
  induction n with
  | zero =>
    intro l _ h
    cases l with
    | nil => exact Nat.le_refl _
    | cons a l => exact absurd (h a List.mem_cons_self) (Nat.not_lt_zero a)
  | succ n ih =>
    intro l hn h
    by_cases hm : n ∈ l
    · have h1 := ih (l.erase n) (hn.erase n) (fun t ht => by
        have := (hn.mem_erase_iff).mp ht
        have := h t this.2
        omega)
      have h2 := List.length_erase_of_mem hm
      have h3 := List.length_pos_of_mem hm
      omega
    · have h1 := ih l hn (fun t ht => by
        have := h t ht
        rcases Nat.lt_or_ge t n with y | y
        · exact y
        · have : t = n := by omega
          subst this
          exact absurd ht hm)
      omega
theorem sw_nrev {l : List Nat} (h : l.Nodup) : l.reverse.Nodup := List.pairwise_reverse.mpr (List.Pairwise.imp (fun e => Ne.symm e) h)
end
section
/-! the world's methods: move, wouldLoop, countIn; isWithin, canBe, inside -/
section
variable {rm nt sc rc nc wc tc mc sd : Int32} {dk ex tr pl fi ne ct sk rv rs rn re fr lr nr lo mo fc bh ty mt sl : Nat → Int32} {yl ym : Nat → Int32}
theorem sw_mv76 {post : SX → Prop} {t p : Nat} (ht : t < 8) (hp : p < 16) (e3 : vp_nar .byte (fi p) = fi p)
    (K : post (rm, nt, sc, rc, nc, wc, tc, mc, sd, dk, ex, tr, upd pl t (nI p), upd fi p (nI t), upd ne t (fi p), ct, sk, rv, rs, rn, re, fr, lr, nr, lo, mo, fc, bh, ty, mt, sl)) : wX_move_76 post (nI t) (nI p) rm nt sc rc nc wc tc mc sd dk ex tr pl fi ne ct sk rv rs rn re fr lr nr lo mo fc bh ty mt sl := by
  have i1 : vp_in (nI t) 8 := vp_in_nI ht (by omega)
  have i2 : vp_in (nI p) 16 := vp_in_nI hp (by omega)
  have e1 : (nI t).toNatClampNeg = t := nI_clamp (by omega)
  have e2 : (nI p).toNatClampNeg = p := nI_clamp (by omega)
  unfold wX_move_76
  rw [e1, e2, sw_vb2 (n := p) (by omega), sw_vb2 (n := t) (by omega), e3]
  exact ⟨i1, nm_e ⟨i2, i1, nm_e ⟨i2, nm_e K⟩⟩⟩
theorem sw_mv40 {post : SX → Prop} {t b : Nat} {p : Int32} {B : List Nat} (ht : t < 8) (hb : b < 8)
    (K : wX_move_76 post (nI t) p rm nt sc rc nc wc tc mc sd dk ex tr pl fi (upd ne b (ne t)) ct sk rv rs rn re fr lr nr lo mo fc bh ty mt sl) (hB : sw_Ch ne (ne t) B) (hB8 : ∀ j, j ∈ B → j < 8) : ∀ (A : List Nat) (h : Int32) (n : Nat), A.length < n → sw_Ch ne h (A ++ b :: t :: B) → (∀ j, j ∈ A → j < 8 ∧ j ≠ t) → b ≠ t → wX_move_40 post (nI t) p rm nt sc rc nc wc tc mc sd dk ex tr pl fi ne ct sk rv rs rn re fr lr nr lo mo fc bh ty mt sl n h := by
  have e1 : (nI t).toNatClampNeg = t := nI_clamp (by omega)
  have e3 : vp_nar .byte (ne t) = ne t := sw_Ch_b hB (fun j m => by have := hB8 j m; omega)
  intro A
  induction A with
  | nil =>
    intro h n hn c _ _
    cases n with
    | zero => exact absurd hn (Nat.not_lt_zero _)
    | succ n =>
      obtain ⟨c1, c2, c3⟩ := c
      subst c1
      have eb : (nI b).toNatClampNeg = b := nI_clamp (by omega)
      have ib : vp_in (nI b) 8 := vp_in_nI hb (by omega)
      unfold wX_move_40
      rw [eb, e1, e3]
      exact ⟨ib, br_t c2 ⟨vp_in_nI ht (by omega), ib, nm_e K⟩⟩
  | cons a A ih =>
    intro h n hn c hA hbt
    cases n with
    | zero => exact absurd hn (Nat.not_lt_zero _)
    | succ n =>
      obtain ⟨c1, c2⟩ := c
      subst c1
      have ha := hA a List.mem_cons_self
      have ea : (nI a).toNatClampNeg = a := nI_clamp (by omega)
      have ia : vp_in (nI a) 8 := vp_in_nI ha.1 (by omega)
      have hx : ¬ ne a = nI t := by
        cases A with
        | nil =>
          rw [c2.1]
          intro e
          exact hbt (sw_inj e (by omega) (by omega))
        | cons a' A' =>
          rw [c2.1]
          have h' := hA a' (List.mem_cons_of_mem _ List.mem_cons_self)
          intro e
          exact h'.2 (sw_inj e (by omega) (by omega))
      have hi := ih (ne a) n (by simp only [List.length_cons] at hn; omega) c2 (fun j m => hA j (List.mem_cons_of_mem _ m)) hbt
      unfold wX_move_40
      rw [ea]
      exact ⟨ia, br_f hx ⟨ia, nm_e hi⟩⟩
theorem sw_move {P : Nat → Nat} {t p : Nat} (ht : t < 8) (hp : p < 16) (hP : sw_Pl P pl) (hC : sw_Cn P fi ne) :
    ∃ fi' ne', sw_Cn (sw_up P t p) fi' ne' ∧ ∀ post : SX → Prop, post (rm, nt, sc, rc, nc, wc, tc, mc, sd, dk, ex, tr, upd pl t (nI p), fi', ne', ct, sk, rv, rs, rn, re, fr, lr, nr, lo, mo, fc, bh, ty, mt, sl) → wpX_move post (rm, nt, sc, rc, nc, wc, tc, mc, sd, dk, ex, tr, pl, fi, ne, ct, sk, rv, rs, rn, re, fr, lr, nr, lo, mo, fc, bh, ty, mt, sl) (nI t) (nI p) := by
  obtain ⟨L, hL⟩ := hC
  obtain ⟨hf, hpl⟩ := hP t ht
  have i1 : vp_in (nI t) 8 := vp_in_nI ht (by omega)
  have e1 : (nI t).toNatClampNeg = t := nI_clamp (by omega)
  have i2 : vp_in (nI (P t)) 16 := vp_in_nI hf (by omega)
  have e2 : (nI (P t)).toNatClampNeg = P t := nI_clamp (by omega)
  have hm : t ∈ L (P t) := ((hL _ hf).2.2 t).mpr ⟨ht, rfl⟩
  obtain ⟨A, B, hAB⟩ := List.append_of_mem hm
  have c0 := (hL _ hf).1
  have n0 := (hL _ hf).2.1
  have m0 := (hL _ hf).2.2
  rcases List.eq_nil_or_concat A with eA | ⟨A', b, eA⟩
  · subst eA
    rw [List.nil_append] at hAB
    rw [hAB] at c0 m0
    have e3 : vp_nar .byte (ne t) = ne t := sw_Ch_b c0.2 (fun j m => by have := (m0 j).mp (List.mem_cons_of_mem _ m); omega)
    obtain ⟨L1, h1⟩ := sw_un0 hL hf hAB
    have e4 : vp_nar .byte (upd fi (P t) (ne t) p) = upd fi (P t) (ne t) p := sw_Ch_b (h1 p hp).1 (fun j m => by have := ((h1 p hp).2.2 j).mp m; omega)
    refine ⟨_, _, sw_in ht hp h1, fun post K => ?_⟩
    unfold wpX_move
    dsimp only
    rw [e1]
    refine ⟨i1, nm_r hpl ?_⟩
    rw [e2, e3]
    exact ⟨i2, br_t c0.1 ⟨i1, i2, nm_e (sw_mv76 ht hp e4 K)⟩⟩
  · rw [List.concat_eq_append] at eA
    subst eA
    rw [List.append_assoc] at hAB
    have hAB' : L (P t) = A' ++ b :: t :: B := hAB
    rw [hAB'] at c0 n0 m0
    obtain ⟨L1, h1⟩ := sw_un1 hL hf hAB'
    have e4 : vp_nar .byte (fi p) = fi p := sw_Ch_b (h1 p hp).1 (fun j m => by have := ((h1 p hp).2.2 j).mp m; omega)
    obtain ⟨nA, nB, nAB⟩ := List.nodup_append.mp n0
    obtain ⟨nb, nB2⟩ := List.nodup_cons.mp nB
    have hb8 := (m0 b).mp (List.mem_append_right _ List.mem_cons_self)
    have hbt : b ≠ t := fun e => nb (by rw [e]; exact List.mem_cons_self)
    have hx : ¬ fi (P t) = nI t := by
      cases A' with
      | nil =>
        rw [c0.1]
        intro e
        exact hbt (sw_inj e (by omega) (by omega))
      | cons a' A' =>
        rw [c0.1]
        have h' := (m0 a').mp (List.mem_append_left _ List.mem_cons_self)
        intro e
        exact nAB a' List.mem_cons_self t (List.mem_cons_of_mem _ List.mem_cons_self) (sw_inj e (by omega) (by omega))
    have hBc : sw_Ch ne (ne t) B := by
      have : ∀ (A : List Nat) (h : Int32), sw_Ch ne h (A ++ b :: t :: B) → sw_Ch ne (ne t) B := by
        intro A
        induction A with
        | nil => intro h c; exact c.2.2
        | cons a A ih => intro h c; exact ih _ c.2
      exact this A' _ c0
    refine ⟨_, _, sw_in ht hp h1, fun post K => ?_⟩
    unfold wpX_move
    dsimp only
    rw [e1]
    refine ⟨i1, nm_r hpl ?_⟩
    rw [e2]
    refine ⟨i2, br_f hx ⟨i2, nm_e ⟨A'.length + 1, ?_⟩⟩⟩
    refine sw_mv40 ht hb8.1 (sw_mv76 ht hp e4 K) hBc (fun j m => ?_) A' _ _ (by omega) c0 (fun j m => ?_) hbt
    · exact ((m0 j).mp (List.mem_append_right _ (List.mem_cons_of_mem _ (List.mem_cons_of_mem _ m)))).1
    · exact ⟨((m0 j).mp (List.mem_append_left _ m)).1, fun e => nAB j m t (List.mem_cons_of_mem _ List.mem_cons_self) e⟩
theorem sw_wl2 {post : Int32 → Prop} {P : Nat → Nat} {t : Nat} {rk : Nat → Nat} (ht : t < 8) (hP : sw_Pl P pl) (hr : ∀ t, t < 8 → 8 ≤ P t → rk (P t - 8) < rk t) :
    ∀ n u, u < 8 → rk u < n → (sw_wi P t n u = true → post 1) → (sw_wi P t n u = false → post 0) → wX_wouldLoop_2 post (nI t) rm nt sc rc nc wc tc mc sd dk ex tr pl fi ne ct sk rv rs rn re fr lr nr lo mo fc bh ty mt sl (n + 1) (nI (8 + u)) := by
  intro n
  induction n with
  | zero => intro u _ h; omega
  | succ n ih =>
    intro u hu h h1 h0
    obtain ⟨hf, hpl⟩ := hP u hu
    have e8 : nI (8 + u) - 8 = nI u := by rw [sw_s8 (by omega)]; exact congrArg nI (by omega)
    have eu : (nI u).toNatClampNeg = u := nI_clamp (by omega)
    unfold wX_wouldLoop_2
    rw [e8, eu]
    refine pk_lt (8 + u) 8 (fun z => by omega) fun _ => pk_eq u t (fun e => ?_) fun e => ⟨vp_in_nI hu (by omega), nm_r hpl ?_⟩
    · subst e; exact h1 sw_wi_t
    · by_cases h8 : 8 ≤ P u
      · obtain ⟨w, hw⟩ : ∃ w, P u = 8 + w := ⟨P u - 8, by omega⟩
        have := hr u hu h8
        rw [sw_wi_u e h8] at h1 h0
        rw [hw] at h1 h0 this hf ⊢
        rw [show 8 + w - 8 = w from by omega] at h1 h0 this
        exact ih w (by omega) (by omega) h1 h0
      · rw [sw_wi_o e h8] at h0
        cases n with
        | zero =>
          unfold wX_wouldLoop_2
          exact br_t (nI_lt (a := P u) (b := 8) (by omega) (by omega)) (h0 rfl)
        | succ n =>
          unfold wX_wouldLoop_2
          exact br_t (nI_lt (a := P u) (b := 8) (by omega) (by omega)) (h0 rfl)
/-- whether a place is in the thing itself, or inside it -/
def sw_wo (P : Nat → Nat) (t p : Nat) : Bool := decide (8 ≤ p) && sw_wi P t 9 (p - 8)
theorem sw_wo_f {P : Nat → Nat} {t p : Nat} (h : sw_wo P t p = false) : 8 ≤ p → sw_wi P t 9 (p - 8) = false := by
  intro h8
  unfold sw_wo at h
  rw [decide_eq_true h8, Bool.true_and] at h
  exact h
theorem sw_xwl {post : Int32 → Prop} {P : Nat → Nat} {t p : Nat} (ht : t < 8) (hp : p < 16) (hP : sw_Pl P pl) (hA : sw_Ac P)
    (h1 : sw_wo P t p = true → post 1) (h0 : sw_wo P t p = false → post 0) : wpX_wouldLoop post (rm, nt, sc, rc, nc, wc, tc, mc, sd, dk, ex, tr, pl, fi, ne, ct, sk, rv, rs, rn, re, fr, lr, nr, lo, mo, fc, bh, ty, mt, sl) (nI t) (nI p) := by
  obtain ⟨rk, hk, hr⟩ := sw_rank (fun t ht => (hP t ht).1) hA
  unfold sw_wo at h1 h0
  unfold wpX_wouldLoop
  by_cases h8 : 8 ≤ p
  · obtain ⟨w, hw⟩ : ∃ w, p = 8 + w := ⟨p - 8, by omega⟩
    rw [decide_eq_true h8, Bool.true_and] at h1 h0
    subst hw
    rw [show 8 + w - 8 = w from by omega] at h1 h0
    have := hk w (by omega)
    exact ⟨10, sw_wl2 ht hP hr 9 w (by omega) (by omega) h1 h0⟩
  · rw [decide_eq_false h8, Bool.false_and] at h0
    refine ⟨1, ?_⟩
    unfold wX_wouldLoop_2
    exact br_t (nI_lt (a := p) (b := 8) (by omega) (by omega)) (h0 rfl)
theorem sw_ci9 {post : Int32 → Prop} : ∀ (l : List Nat) (k n : Nat) (h : Int32), l.length < n → sw_Ch ne h l → (∀ t, t ∈ l → t < 8) → post (nI (k + l.length)) → wX_countIn_9 post rm nt sc rc nc wc tc mc sd dk ex tr pl fi ne ct sk rv rs rn re fr lr nr lo mo fc bh ty mt sl n (nI k) h := by
  intro l
  induction l with
  | nil =>
    intro k n h hn c _ hp
    cases n with
    | zero => exact absurd hn (Nat.not_lt_zero _)
    | succ n =>
      unfold wX_countIn_9
      have c' : h = -1 := c
      subst c'
      exact br_t sw_m1lt hp
  | cons t l ih =>
    intro k n h hn c hl hp
    cases n with
    | zero => exact absurd hn (Nat.not_lt_zero _)
    | succ n =>
      obtain ⟨c1, c2⟩ := c
      subst c1
      have ht := hl t List.mem_cons_self
      have hi := ih (k + 1) n (ne t) (by simp only [List.length_cons] at hn; omega) c2 (fun j m => hl j (List.mem_cons_of_mem _ m)) (by
        simp only [List.length_cons] at hp
        rw [show k + 1 + l.length = k + (l.length + 1) from by omega]
        exact hp)
      unfold wX_countIn_9
      rw [sw_cl (a := t) (by omega)]
      exact br_f (nI_pos (by omega)) (nm_r (nI_1 k) ⟨vp_in_nI ht (by omega), nm_e hi⟩)
theorem sw_xci {post : Int32 → Prop} {P : Nat → Nat} {p : Nat} (hp : p < 16) (hC : sw_Cn P fi ne) (h : post (nI (sw_cn P p 8))) : wpX_countIn post (rm, nt, sc, rc, nc, wc, tc, mc, sd, dk, ex, tr, pl, fi, ne, ct, sk, rv, rs, rn, re, fr, lr, nr, lo, mo, fc, bh, ty, mt, sl) (nI p) := by
  obtain ⟨L, hL⟩ := hC
  obtain ⟨c, n0, m0⟩ := hL p hp
  unfold wpX_countIn
  dsimp only
  rw [sw_cl (a := p) (by omega)]
  refine ⟨vp_in_nI hp (by omega), nm_e ⟨(L p).length + 1, ?_⟩⟩
  refine sw_ci9 (L p) 0 _ _ (by omega) c (fun t m => ((m0 t).mp m).1) ?_
  rw [Nat.zero_add, sw_cn_len 8 (L p) n0 m0]
  exact h
end
section
variable {rm rc wc tc sd : Int32} {dk ex tr pl ct rv rs rn re yl ym ty sl : Nat → Int32}
theorem sw_yiw {post : Int32 → Prop} {P : Nat → Nat} {t : Nat} (ht : t < 8) (hP : sw_Pl P pl) :
    ∀ d n k u, d + k = 9 → d < n → u < 8 → (sw_wi P t d u = true → post 1) → (sw_wi P t d u = false → post 0) → wY_isWithin_5 post (nI t) rm rc wc tc sd dk ex tr pl ct rv rs rn re yl ym ty sl n (nI u) (nI k) := by
  intro d
  induction d with
  | zero =>
    intro n k u hk hn hu _ h0
    cases n with
    | zero => exact absurd hn (Nat.not_lt_zero _)
    | succ n =>
      unfold wY_isWithin_5
      exact pk_le 9 k (fun _ => h0 rfl) (fun z => by omega)
  | succ d ih =>
    intro n k u hk hn hu h1 h0
    obtain ⟨hf, hpl⟩ := hP u hu
    cases n with
    | zero => exact absurd hn (Nat.not_lt_zero _)
    | succ n =>
      unfold wY_isWithin_5
      rw [sw_cl (a := u) (by omega), hpl]
      refine pk_le 9 k (fun z => by omega) fun _ => pk_eq u t (fun e => ?_) fun e => ⟨vp_in_nI hu (by omega), pk_le 8 (P u) (fun h8 => ⟨vp_in_nI hu (by omega), nm_r (e' := nI (P u - 8)) (sw_s8 h8) (nm_r (nI_1 k) ?_)⟩) fun h8 => ?_⟩
      · subst e; exact h1 sw_wi_t
      · rw [sw_wi_u e h8] at h1 h0
        exact ih n (k + 1) (P u - 8) (by omega) (by omega) (by omega) h1 h0
      · rw [sw_wi_o e (by omega)] at h0
        exact h0 rfl
theorem sw_ywi {post : Int32 → Prop} {P : Nat → Nat} {t u : Nat} (ht : t < 8) (hu : u < 8) (hP : sw_Pl P pl)
    (h1 : sw_wi P t 9 u = true → post 1) (h0 : sw_wi P t 9 u = false → post 0) : wpY_isWithin post (rm, rc, wc, tc, sd, dk, ex, tr, pl, ct, rv, rs, rn, re, yl, ym, ty, sl) (nI u) (nI t) := by
  unfold wpY_isWithin
  exact ⟨10, sw_yiw ht hP 9 10 0 u (by omega) (by omega) hu h1 h0⟩
theorem sw_ycb {post : Int32 → Prop} {P : Nat → Nat} {t p : Nat} (ht : t < 8) (hp : p < 16) (hP : sw_Pl P pl)
    (h1 : sw_wo P t p = true → post 0) (h0 : sw_wo P t p = false → post 1) : wpY_canBe post (rm, rc, wc, tc, sd, dk, ex, tr, pl, ct, rv, rs, rn, re, yl, ym, ty, sl) (nI t) (nI p) := by
  unfold wpY_canBe
  dsimp only
  unfold sw_wo at h1 h0
  refine pk_lt p 8 (fun h8 => ?_) fun h8 => ?_
  · rw [decide_eq_false (by omega), Bool.false_and] at h0
    exact h0 rfl
  · rw [sw_s8 h8]
    rw [decide_eq_true h8, Bool.true_and] at h1 h0
    refine sw_ywi ht (by omega) hP (fun z => ?_) fun z => ?_
    · exact br_f (by decide) (h1 z)
    · exact br_t rfl (h0 z)
theorem sw_yin4 {post : Int32 → Prop} {P : Nat → Nat} {p : Nat} (hp : p < 16) (hP : sw_Pl P pl) (h : post (nI (sw_cn P p 8))) :
    ∀ d n k, d + k = 8 → d < n → wY_inside_4 post (nI p) rm rc wc tc sd dk ex tr pl ct rv rs rn re yl ym ty sl n (nI (sw_cn P p k)) (nI k) := by
  intro d
  induction d with
  | zero =>
    intro n k hk hn
    cases n with
    | zero => exact absurd hn (Nat.not_lt_zero _)
    | succ n =>
      have : k = 8 := by omega
      subst this
      unfold wY_inside_4
      exact br_t (by decide) h
  | succ d ih =>
    intro n k hk hn
    obtain ⟨hf, hpl⟩ := hP k (by omega)
    cases n with
    | zero => exact absurd hn (Nat.not_lt_zero _)
    | succ n =>
      have hi := ih n (k + 1) (by omega) (by omega)
      unfold wY_inside_4
      rw [sw_cl (a := k) (by omega), hpl]
      refine pk_le 8 k (fun z => by omega) fun _ => ⟨vp_in_nI (by omega) (by omega), pk_eq (P k) p (fun e => nm_r (nI_1 _) (nm_r (nI_1 k) ?_)) fun e => nm_r (nI_1 k) ?_⟩
      · have : sw_cn P p (k + 1) = sw_cn P p k + 1 := by
          show sw_cn P p k + (if P k = p then 1 else 0) = _
          rw [if_pos e]
        rw [this] at hi
        exact hi
      · have : sw_cn P p (k + 1) = sw_cn P p k := by
          show sw_cn P p k + (if P k = p then 1 else 0) = _
          rw [if_neg e]; rfl
        rw [this] at hi
        exact hi
theorem sw_yin {post : Int32 → Prop} {P : Nat → Nat} {p : Nat} (hp : p < 16) (hP : sw_Pl P pl) (h : post (nI (sw_cn P p 8))) : wpY_inside post (rm, rc, wc, tc, sd, dk, ex, tr, pl, ct, rv, rs, rn, re, yl, ym, ty, sl) (nI p) := by
  unfold wpY_inside
  exact ⟨9, sw_yin4 hp hP h 8 9 0 (by omega) (by omega)⟩
end
end
section
/-! what is near, what is visible -/
def sw_St (sk : Nat → Int32) : List Nat → Prop
  | [] => True
  | x :: S => sk S.length = nI x ∧ sw_St sk S
theorem sw_St_u {sk : Nat → Int32} {k : Nat} {x : Int32} : ∀ {S : List Nat}, S.length ≤ k → sw_St sk S → sw_St (upd sk k x) S := by
  intro S
  induction S with
  | nil => intro _ _; exact trivial
  | cons a S ih =>
    intro h c
    simp only [List.length_cons] at h
    refine ⟨?_, ih (by omega) c.2⟩
    rw [pk_un (by omega)]
    exact c.1
def sw_op (tr : Nat → Int32) (t : Nat) : Bool := decide ((tr t &&& 6) = 6)
def sw_NI (P : Nat → Nat) (O : Nat → Bool) (m D : Nat) (S : List Nat) : Prop :=
  S.Nodup ∧ (∀ t, t ∈ S → t < 8 ∧ D.testBit t = false) ∧ D < 256 ∧
  ∀ t, t < 8 → ((t ∈ S ∨ D.testBit t = true) ↔ (P t = m ∨ P t = 6 ∨ (8 ≤ P t ∧ O (P t - 8) = true ∧ D.testBit (P t - 8) = true)))
theorem sw_or_lt {D t : Nat} (h : D.testBit t = false) : D < D ||| 2 ^ t := by
  have h1 : D ≤ D ||| 2 ^ t := Nat.left_le_or
  rcases Nat.lt_or_ge D (D ||| 2 ^ t) with z | z
  · exact z
  · have e : D = D ||| 2 ^ t := by omega
    have : D.testBit t = true := by
      rw [e, Nat.testBit_or, Nat.testBit_two_pow_self, Bool.or_true]
    rw [h] at this
    exact absurd this (by decide)
theorem sw_or_bit {D t j : Nat} : (D ||| 2 ^ t).testBit j = true ↔ D.testBit j = true ∨ j = t := by
  rw [Nat.testBit_or, Nat.testBit_two_pow, Bool.or_eq_true, decide_eq_true_eq]
  constructor
  · rintro (z | z)
    · exact Or.inl z
    · exact Or.inr z.symm
  · rintro (z | z)
    · exact Or.inl z
    · exact Or.inr z.symm
theorem sw_or_bit0 {D t j : Nat} (h : D.testBit j = false) (n : j ≠ t) : (D ||| 2 ^ t).testBit j = false := by
  rw [Nat.testBit_or, h, Nat.testBit_two_pow_of_ne (fun e => n e.symm)]; rfl
/-- one is taken off the stack: a closed one -/
theorem sw_NI_c {P : Nat → Nat} {O : Nat → Bool} {m D t : Nat} {S : List Nat} (h : sw_NI P O m D (t :: S)) (ho : O t = false) : sw_NI P O m (D ||| 2 ^ t) S := by
  obtain ⟨h1, h2, h3, h4⟩ := h
  obtain ⟨nt, nS⟩ := List.nodup_cons.mp h1
  have ht := h2 t List.mem_cons_self
  refine ⟨nS, fun j hj => ⟨(h2 j (List.mem_cons_of_mem _ hj)).1, sw_or_bit0 (h2 j (List.mem_cons_of_mem _ hj)).2 (fun e => nt (e ▸ hj))⟩, ?_, fun j hj => ?_⟩
  · exact Nat.or_lt_two_pow (n := 8) h3 (Nat.pow_lt_pow_right (by omega) ht.1)
  · rw [sw_or_bit, sw_or_bit]
    have k := h4 j hj
    rw [List.mem_cons] at k
    constructor
    · intro z
      rcases k.mp (by rcases z with z | z | z <;> simp [z]) with y | y | ⟨y1, y2, y3⟩
      · exact Or.inl y
      · exact Or.inr (Or.inl y)
      · exact Or.inr (Or.inr ⟨y1, y2, Or.inl y3⟩)
    · intro z
      have : P j = m ∨ P j = 6 ∨ (8 ≤ P j ∧ O (P j - 8) = true ∧ D.testBit (P j - 8) = true) := by
        rcases z with y | y | ⟨y1, y2, y3 | y3⟩
        · exact Or.inl y
        · exact Or.inr (Or.inl y)
        · exact Or.inr (Or.inr ⟨y1, y2, y3⟩)
        · rw [y3, ho] at y2
          exact absurd y2 (by decide)
      rcases k.mpr this with (y | y) | y
      · exact Or.inr (Or.inr y)
      · exact Or.inl y
      · exact Or.inr (Or.inl y)
/-- an open one: what is in it comes on the stack -/
theorem sw_NI_o {P : Nat → Nat} {O : Nat → Bool} {m D t : Nat} {S l : List Nat} (hm : m < 6) (h : sw_NI P O m D (t :: S)) (ho : O t = true)
    (hl : l.Nodup) (hl2 : ∀ j, j ∈ l ↔ j < 8 ∧ P j = 8 + t) (ha : P t ≠ 8 + t) : sw_NI P O m (D ||| 2 ^ t) (List.reverseAux l S) := by
  obtain ⟨h1, h2, h3, h4⟩ := h
  obtain ⟨nt, nS⟩ := List.nodup_cons.mp h1
  have ht := h2 t List.mem_cons_self
  have key : ∀ j, j ∈ l → ¬ (j ∈ t :: S ∨ D.testBit j = true) := by
    intro j hj z
    obtain ⟨hj8, hPj⟩ := (hl2 j).mp hj
    rcases (h4 j hj8).mp z with y | y | ⟨y1, y2, y3⟩
    · omega
    · omega
    · rw [hPj, show 8 + t - 8 = t from by omega, ht.2] at y3
      exact absurd y3 (by decide)
  have nl : ∀ j, j ∈ l → j ≠ t := by
    intro j hj e
    exact ha (by rw [← e]; rw [((hl2 j).mp hj).2, e])
  rw [List.reverseAux_eq]
  refine ⟨?_, ?_, ?_, fun j hj => ?_⟩
  · refine List.nodup_append.mpr ⟨sw_nrev hl, nS, fun a ha b hb e => ?_⟩
    exact key a (List.mem_reverse.mp ha) (Or.inl (by rw [e]; exact List.mem_cons_of_mem _ hb))
  · intro j hj
    rcases List.mem_append.mp hj with z | z
    · have z := List.mem_reverse.mp z
      refine ⟨((hl2 j).mp z).1, sw_or_bit0 ?_ (nl j z)⟩
      cases e : D.testBit j
      · rfl
      · exact absurd (Or.inr e) (key j z)
    · exact ⟨(h2 j (List.mem_cons_of_mem _ z)).1, sw_or_bit0 (h2 j (List.mem_cons_of_mem _ z)).2 (fun e => nt (e ▸ z))⟩
  · exact Nat.or_lt_two_pow (n := 8) h3 (Nat.pow_lt_pow_right (by omega) ht.1)
  · rw [sw_or_bit, sw_or_bit, List.mem_append, List.mem_reverse, hl2 j]
    have k := h4 j hj
    rw [List.mem_cons] at k
    constructor
    · intro z
      have : (8 ≤ P j ∧ P j - 8 = t) ∨ ((j = t ∨ j ∈ S) ∨ D.testBit j = true) := by
        rcases z with (z | z) | z | z
        · exact Or.inl ⟨by omega, by omega⟩
        · exact Or.inr (Or.inl (Or.inr z))
        · exact Or.inr (Or.inr z)
        · exact Or.inr (Or.inl (Or.inl z))
      rcases this with y | y
      · exact Or.inr (Or.inr ⟨y.1, by rw [y.2]; exact ho, Or.inr y.2⟩)
      · rcases k.mp y with y | y | ⟨y1, y2, y3⟩
        · exact Or.inl y
        · exact Or.inr (Or.inl y)
        · exact Or.inr (Or.inr ⟨y1, y2, Or.inl y3⟩)
    · intro z
      have : (j < 8 ∧ P j = 8 + t) ∨ (P j = m ∨ P j = 6 ∨ (8 ≤ P j ∧ O (P j - 8) = true ∧ D.testBit (P j - 8) = true)) := by
        rcases z with y | y | ⟨y1, y2, y3 | y3⟩
        · exact Or.inr (Or.inl y)
        · exact Or.inr (Or.inr (Or.inl y))
        · exact Or.inr (Or.inr (Or.inr ⟨y1, y2, y3⟩))
        · exact Or.inl ⟨hj, by omega⟩
      rcases this with y | y
      · exact Or.inl (Or.inl y)
      · rcases k.mpr y with (y | y) | y
        · exact Or.inr (Or.inr y)
        · exact Or.inl (Or.inr y)
        · exact Or.inr (Or.inl y)
theorem sw_NI_0 {P : Nat → Nat} {O : Nat → Bool} {m : Nat} {l l6 : List Nat} (hm : m < 6) (hl : l.Nodup) (hl2 : ∀ j, j ∈ l ↔ j < 8 ∧ P j = m)
    (h6 : l6.Nodup) (h62 : ∀ j, j ∈ l6 ↔ j < 8 ∧ P j = 6) : sw_NI P O m 0 (List.reverseAux l6 (List.reverseAux l [])) := by
  rw [List.reverseAux_eq, List.reverseAux_eq, List.append_nil]
  refine ⟨?_, ?_, by omega, fun j hj => ?_⟩
  · refine List.nodup_append.mpr ⟨sw_nrev h6, sw_nrev hl, fun a ha b hb e => ?_⟩
    have h1 := (h62 a).mp (List.mem_reverse.mp ha)
    have h2 := (hl2 b).mp (List.mem_reverse.mp hb)
    rw [e] at h1
    omega
  · intro j hj
    rw [List.mem_append, List.mem_reverse, List.mem_reverse, h62, hl2] at hj
    exact ⟨by omega, Nat.zero_testBit j⟩
  · rw [List.mem_append, List.mem_reverse, List.mem_reverse, h62, hl2, Nat.zero_testBit, Nat.zero_testBit]
    constructor
    · rintro ((z | z) | z)
      · exact Or.inr (Or.inl z.2)
      · exact Or.inl z.2
      · exact absurd z (by decide)
    · rintro (z | z | z)
      · exact Or.inl (Or.inr ⟨hj, z⟩)
      · exact Or.inl (Or.inl ⟨hj, z⟩)
      · exact absurd z.2.2 (by decide)

def sw_lm (tr : Nat → Int32) (R : Nat → Bool) : Nat → Nat → Bool
  | 0, _ => false
  | d + 1, i => (R i && !decide ((tr i &&& 8) = 0)) || sw_lm tr R d (i + 1)
theorem sw_lm_s (tr : Nat → Int32) (R : Nat → Bool) (d i : Nat) : sw_lm tr R (d + 1) i = ((R i && !decide ((tr i &&& 8) = 0)) || sw_lm tr R d (i + 1)) := rfl
def sw_vis (P : Nat → Nat) (tr dk : Nat → Int32) (m t : Nat) : Bool :=
  sw_nr P (sw_op tr) m 9 t && (decide (dk m = 0) || sw_lm tr (sw_nr P (sw_op tr) m 9) 8 0)

section
variable {rm nt sc rc nc wc tc mc sd : Int32} {dk ex tr pl fi ne ct sk rv rs rn re fr lr nr lo mo fc bh ty mt sl : Nat → Int32} {yl ym : Nat → Int32}
theorem sw_lk7 : ∀ (l S : List Nat) (h : Int32) (sk : Nat → Int32), sw_Ch ne h l → (∀ t, t ∈ l → t < 8) → S.length + l.length ≤ 24 → sw_St sk S →
    ∃ sk', sw_St sk' (List.reverseAux l S) ∧ ∀ (post : SX → Prop) (n : Nat), l.length < n → post (rm, nt, nI (List.reverseAux l S).length, rc, nc, wc, tc, mc, sd, dk, ex, tr, pl, fi, ne, ct, sk', rv, rs, rn, re, fr, lr, nr, lo, mo, fc, bh, ty, mt, sl) → wX_look_7 post rm nt rc nc wc tc mc sd n h (nI S.length) dk ex tr pl fi ne ct sk rv rs rn re fr lr nr lo mo fc bh ty mt sl := by
  intro l
  induction l with
  | nil =>
    intro S h sk c _ _ hS
    refine ⟨sk, hS, fun post n hn K => ?_⟩
    cases n with
    | zero => exact absurd hn (Nat.not_lt_zero _)
    | succ n =>
      have c' : h = -1 := c
      subst c'
      unfold wX_look_7
      exact br_t sw_m1lt K
  | cons t l ih =>
    intro S h sk c hl h24 hS
    obtain ⟨c1, c2⟩ := c
    subst c1
    have ht := hl t List.mem_cons_self
    simp only [List.length_cons] at h24
    obtain ⟨sk', hs', hi⟩ := ih (t :: S) (ne t) (upd sk S.length (nI t)) c2 (fun j m => hl j (List.mem_cons_of_mem _ m)) (by simp only [List.length_cons]; omega) ⟨pk_us, sw_St_u (Nat.le_refl _) hS⟩
    refine ⟨sk', hs', fun post n hn K => ?_⟩
    cases n with
    | zero => exact absurd hn (Nat.not_lt_zero _)
    | succ n =>
      simp only [List.length_cons] at hn
      unfold wX_look_7
      rw [sw_cl (a := t) (by omega), sw_cl (a := S.length) (by omega), sw_vb2 (n := t) (by omega)]
      exact br_f (nI_pos (by omega)) ⟨vp_in_nI (by omega) (by omega), nm_e (nm_r (nI_1 S.length) ⟨vp_in_nI ht (by omega), nm_e (hi post n (by omega) K)⟩)⟩
theorem sw_look {p : Nat} {l S : List Nat} (hp : p < 16) (c : sw_Ch ne (fi p) l) (hl : ∀ t, t ∈ l → t < 8) (hS : sw_St sk S) (h24 : S.length + l.length ≤ 24) :
    ∃ sk', sw_St sk' (List.reverseAux l S) ∧ ∀ post : SX → Prop, post (rm, nt, nI (List.reverseAux l S).length, rc, nc, wc, tc, mc, sd, dk, ex, tr, pl, fi, ne, ct, sk', rv, rs, rn, re, fr, lr, nr, lo, mo, fc, bh, ty, mt, sl) → wpX_look post (rm, nt, nI S.length, rc, nc, wc, tc, mc, sd, dk, ex, tr, pl, fi, ne, ct, sk, rv, rs, rn, re, fr, lr, nr, lo, mo, fc, bh, ty, mt, sl) (nI p) := by
  obtain ⟨sk', hs', hi⟩ := sw_lk7 (rm := rm) (nt := nt) (rc := rc) (nc := nc) (wc := wc) (tc := tc) (mc := mc) (sd := sd) (dk := dk) (ex := ex) (tr := tr) (pl := pl) (fi := fi) (ct := ct) (rv := rv) (rs := rs) (rn := rn) (re := re) (fr := fr) (lr := lr) (nr := nr) (lo := lo) (mo := mo) (fc := fc) (bh := bh) (ty := ty) (mt := mt) (sl := sl) l S _ sk c hl h24 hS
  refine ⟨sk', hs', fun post K => ?_⟩
  unfold wpX_look
  dsimp only
  rw [sw_cl (a := p) (by omega)]
  exact ⟨vp_in_nI hp (by omega), nm_e ⟨l.length + 1, hi post _ (by omega) K⟩⟩
theorem sw_fn24 {P : Nat → Nat} {m : Nat} {L : Nat → List Nat} (hm : m < 6)
    (hL : ∀ p, p < 16 → sw_Ch ne (fi p) (L p) ∧ (L p).Nodup ∧ ∀ t, t ∈ L p ↔ t < 8 ∧ P t = p) (ha : ∀ t, t < 8 → P t ≠ 8 + t) :
    ∀ (k D : Nat) (S : List Nat) (sk : Nat → Int32), 256 - D ≤ k → sw_NI P (sw_op tr) m D S → sw_St sk S →
    ∃ D' sc' sk', sw_NI P (sw_op tr) m D' [] ∧ ∀ (post : SX → Prop) (n : Nat), k < n → post (rm, nI D', sc', rc, nc, wc, tc, mc, sd, dk, ex, tr, pl, fi, ne, ct, sk', rv, rs, rn, re, fr, lr, nr, lo, mo, fc, bh, ty, mt, sl) → wX_findNear_24 post n rm (nI D) (nI S.length) rc nc wc tc mc sd dk ex tr pl fi ne ct sk rv rs rn re fr lr nr lo mo fc bh ty mt sl := by
  intro k
  induction k with
  | zero => intro D S sk h hI; exact absurd hI.2.2.1 (by omega)
  | succ k ih =>
    intro D S sk hk hI hS
    cases S with
    | nil =>
      refine ⟨D, nI 0, sk, hI, fun post n hn K => ?_⟩
      cases n with
      | zero => exact absurd hn (Nat.not_lt_zero _)
      | succ n =>
        unfold wX_findNear_24
        exact br_t (by decide) K
    | cons t S =>
      obtain ⟨h1, h2, h3, h4⟩ := hI
      have ht := h2 t List.mem_cons_self
      have hlen := sw_nodup_len 8 (t :: S) h1 (fun j hj => (h2 j hj).1)
      simp only [List.length_cons] at hlen
      have hlt := sw_or_lt ht.2
      have hst : sk S.length = nI t := hS.1
      have ep : nI (t :: S).length - 1 = nI S.length := nI_pred S.length
      have hpos : ¬ nI (t :: S).length ≤ 0 := nI_nle (by simp only [List.length_cons]; omega) (by simp only [List.length_cons]; omega)
      by_cases ho : (tr t &&& 6) = 6
      · have hc := sw_NI_o hm ⟨h1, h2, h3, h4⟩ (by unfold sw_op; exact decide_eq_true ho) (hL (8 + t) (by omega)).2.1 (fun j => (hL (8 + t) (by omega)).2.2 j) (ha t ht.1)
        have hlen2 := sw_nodup_len 8 _ hc.1 (fun j hj => (hc.2.1 j hj).1)
        rw [List.reverseAux_eq, List.length_append, List.length_reverse] at hlen2
        obtain ⟨sk1, hs1, hl1⟩ := sw_look (rm := rm) (nt := nI (D ||| 2 ^ t)) (rc := rc) (nc := nc) (wc := wc) (tc := tc) (mc := mc) (sd := sd) (dk := dk) (ex := ex) (tr := tr) (pl := pl) (ct := ct) (rv := rv) (rs := rs) (rn := rn) (re := re) (fr := fr) (lr := lr) (nr := nr) (lo := lo) (mo := mo) (fc := fc) (bh := bh) (ty := ty) (mt := mt) (sl := sl) (S := S) (p := 8 + t) (by omega) (hL (8 + t) (by omega)).1 (fun j hj => (((hL (8 + t) (by omega)).2.2 j).mp hj).1) hS.2 (by omega)
        obtain ⟨D', sc', sk', hD, hi⟩ := ih _ _ sk1 (by omega) hc hs1
        refine ⟨D', sc', sk', hD, fun post n hn K => ?_⟩
        cases n with
        | zero => exact absurd hn (Nat.not_lt_zero _)
        | succ n =>
          unfold wX_findNear_24
          refine br_f hpos (nm_r ep ?_)
          rw [sw_cl (a := S.length) (by omega)]
          refine ⟨vp_in_nI (by omega) (by omega), nm_r hst (nm_r (sw_orb ht.1) ⟨vp_in_nI ht.1 (by omega), ?_⟩)⟩
          rw [sw_cl (a := t) (by omega), show (8 : Int32) + nI t = nI (8 + t) from nI_add 8 t]
          exact br_t ho (hl1 _ (hi post n (by omega) K))
      · have hc := sw_NI_c ⟨h1, h2, h3, h4⟩ (by unfold sw_op; exact decide_eq_false ho)
        obtain ⟨D', sc', sk', hD, hi⟩ := ih _ _ sk (by omega) hc hS.2
        refine ⟨D', sc', sk', hD, fun post n hn K => ?_⟩
        cases n with
        | zero => exact absurd hn (Nat.not_lt_zero _)
        | succ n =>
          unfold wX_findNear_24
          refine br_f hpos (nm_r ep ?_)
          rw [sw_cl (a := S.length) (by omega)]
          refine ⟨vp_in_nI (by omega) (by omega), nm_r hst (nm_r (sw_orb ht.1) ⟨vp_in_nI ht.1 (by omega), ?_⟩)⟩
          rw [sw_cl (a := t) (by omega)]
          exact br_f ho (hi post n (by omega) K)
theorem sw_fn {P : Nat → Nat} {m : Nat} (hm : m < 6) (hP : sw_Pl P pl) (hA : sw_Ac P) (hC : sw_Cn P fi ne) :
    ∃ D sc' sk', D < 256 ∧ (∀ t, t < 8 → D.testBit t = sw_nr P (sw_op tr) m 9 t) ∧ ∀ post : SX → Prop, post (nI m, nI D, sc', rc, nc, wc, tc, mc, sd, dk, ex, tr, pl, fi, ne, ct, sk', rv, rs, rn, re, fr, lr, nr, lo, mo, fc, bh, ty, mt, sl) → wpX_findNear post (nI m, nt, sc, rc, nc, wc, tc, mc, sd, dk, ex, tr, pl, fi, ne, ct, sk, rv, rs, rn, re, fr, lr, nr, lo, mo, fc, bh, ty, mt, sl) := by
  obtain ⟨L, hL⟩ := hC
  obtain ⟨rk, hk, hr⟩ := sw_rank (fun t ht => (hP t ht).1) hA
  have ha : ∀ t, t < 8 → P t ≠ 8 + t := by
    intro t ht e
    have := hr t ht (by omega)
    rw [e, show 8 + t - 8 = t from by omega] at this
    omega
  have hm16 := hL m (by omega)
  have h616 := hL 6 (by omega)
  have I0 := sw_NI_0 (O := sw_op tr) hm hm16.2.1 hm16.2.2 h616.2.1 h616.2.2
  have len0 := sw_nodup_len 8 _ I0.1 (fun j hj => (I0.2.1 j hj).1)
  rw [List.reverseAux_eq, List.length_append, List.length_reverse] at len0
  have len1 : (List.reverseAux (L m) []).length = (L m).length := by rw [List.reverseAux_eq, List.length_append, List.length_reverse]; rfl
  obtain ⟨sk1, hs1, hl1⟩ := sw_look (rm := nI m) (nt := 0) (rc := rc) (nc := nc) (wc := wc) (tc := tc) (mc := mc) (sd := sd) (dk := dk) (ex := ex) (tr := tr) (pl := pl) (ct := ct) (rv := rv) (rs := rs) (rn := rn) (re := re) (fr := fr) (lr := lr) (nr := nr) (lo := lo) (mo := mo) (fc := fc) (bh := bh) (ty := ty) (mt := mt) (sl := sl) (sk := sk) (S := []) (p := m) (by omega) hm16.1 (fun j hj => ((hm16.2.2 j).mp hj).1) trivial (by show 0 + _ ≤ 24; omega)
  obtain ⟨sk2, hs2, hl2⟩ := sw_look (rm := nI m) (nt := 0) (rc := rc) (nc := nc) (wc := wc) (tc := tc) (mc := mc) (sd := sd) (dk := dk) (ex := ex) (tr := tr) (pl := pl) (ct := ct) (rv := rv) (rs := rs) (rn := rn) (re := re) (fr := fr) (lr := lr) (nr := nr) (lo := lo) (mo := mo) (fc := fc) (bh := bh) (ty := ty) (mt := mt) (sl := sl) (S := List.reverseAux (L m) []) (p := 6) (by omega) h616.1 (fun j hj => ((h616.2.2 j).mp hj).1) hs1 (by omega)
  obtain ⟨D, sc', sk', hD, hi⟩ := sw_fn24 (rm := nI m) (rc := rc) (nc := nc) (wc := wc) (tc := tc) (mc := mc) (sd := sd) (dk := dk) (ex := ex) (tr := tr) (pl := pl) (ct := ct) (rv := rv) (rs := rs) (rn := rn) (re := re) (fr := fr) (lr := lr) (nr := nr) (lo := lo) (mo := mo) (fc := fc) (bh := bh) (ty := ty) (mt := mt) (sl := sl) hm hL ha 256 0 _ sk2 (by omega) I0 hs2
  refine ⟨D, sc', sk', hD.2.2.1, ?_, fun post K => ?_⟩
  · intro t ht
    have hd : ∀ t, t < 8 → (D.testBit t = true ↔ (P t = m ∨ P t = 6 ∨ (8 ≤ P t ∧ sw_op tr (P t - 8) = true ∧ D.testBit (P t - 8) = true))) := by
      intro t ht
      rw [← hD.2.2.2 t ht]
      constructor
      · intro z; exact Or.inr z
      · rintro (z | z)
        · exact absurd z List.not_mem_nil
        · exact z
    have := hk t ht
    exact sw_nr_fix (D := fun t => D.testBit t) (fun t ht => (hP t ht).1) hr hd 9 t ht (by omega)
  · unfold wpX_findNear
    dsimp only
    exact hl1 _ (hl2 _ ⟨257, hi post 257 (by omega) K⟩)
theorem sw_xv33 {post : Int32 → SX → Prop} {D : Nat} {R : Nat → Bool} (hD : D < 256) (hR : ∀ t, t < 8 → D.testBit t = R t) :
    ∀ d n i, d + i = 8 → d < n → (sw_lm tr R d i = true → post 1 (rm, nI D, sc, rc, nc, wc, tc, mc, sd, dk, ex, tr, pl, fi, ne, ct, sk, rv, rs, rn, re, fr, lr, nr, lo, mo, fc, bh, ty, mt, sl)) → (sw_lm tr R d i = false → post 0 (rm, nI D, sc, rc, nc, wc, tc, mc, sd, dk, ex, tr, pl, fi, ne, ct, sk, rv, rs, rn, re, fr, lr, nr, lo, mo, fc, bh, ty, mt, sl)) → wX_isVisible_33 post rm (nI D) sc rc nc wc tc mc sd dk ex tr pl fi ne ct sk rv rs rn re fr lr nr lo mo fc bh ty mt sl n (nI i) := by
  intro d
  induction d with
  | zero =>
    intro n i hi hn _ h0
    cases n with
    | zero => exact absurd hn (Nat.not_lt_zero _)
    | succ n =>
      have : i = 8 := by omega
      subst this
      unfold wX_isVisible_33
      exact br_t (by decide) (h0 rfl)
  | succ d ih =>
    intro n i hi hn h1 h0
    rw [sw_lm_s] at h1 h0
    cases n with
    | zero => exact absurd hn (Nat.not_lt_zero _)
    | succ n =>
      have hb := hR i (by omega)
      unfold wX_isVisible_33
      rw [sw_cl (a := i) (by omega)]
      refine pk_le 8 i (fun z => by omega) fun _ => sw_if (sw_bit0 (by omega) (by omega)) (fun z => nm_r (nI_1 i) ?_) (fun z => ⟨vp_in_nI (by omega) (by omega), br_c (fun y => nm_r (nI_1 i) ?_) (fun y => ?_)⟩)
      · rw [hb] at z
        rw [z, Bool.false_and, Bool.false_or] at h1 h0
        exact ih n (i + 1) (by omega) (by omega) h1 h0
      · rw [decide_eq_true y, Bool.not_true, Bool.and_false, Bool.false_or] at h1 h0
        exact ih n (i + 1) (by omega) (by omega) h1 h0
      · have z' : R i = true := by
          cases e : R i
          · rw [e] at hb; exact absurd hb z
          · rfl
        rw [z', decide_eq_false y] at h1
        exact h1 rfl
theorem sw_xvis {P : Nat → Nat} {m t : Nat} (hm : m < 6) (ht : t < 8) (hP : sw_Pl P pl) (hA : sw_Ac P) (hC : sw_Cn P fi ne) :
    ∃ nt' sc' sk', ∀ post : Int32 → SX → Prop, (sw_vis P tr dk m t = true → post 1 (nI m, nt', sc', rc, nc, wc, tc, mc, sd, dk, ex, tr, pl, fi, ne, ct, sk', rv, rs, rn, re, fr, lr, nr, lo, mo, fc, bh, ty, mt, sl))
    → (sw_vis P tr dk m t = false → post 0 (nI m, nt', sc', rc, nc, wc, tc, mc, sd, dk, ex, tr, pl, fi, ne, ct, sk', rv, rs, rn, re, fr, lr, nr, lo, mo, fc, bh, ty, mt, sl)) → wpX_isVisible post (nI m, nt, sc, rc, nc, wc, tc, mc, sd, dk, ex, tr, pl, fi, ne, ct, sk, rv, rs, rn, re, fr, lr, nr, lo, mo, fc, bh, ty, mt, sl) (nI t) := by
  obtain ⟨D, sc', sk', hD, hb, hw⟩ := sw_fn (nt := nt) (sc := sc) (rc := rc) (nc := nc) (wc := wc) (tc := tc) (mc := mc) (sd := sd) (dk := dk) (ex := ex) (tr := tr) (ct := ct) (sk := sk) (rv := rv) (rs := rs) (rn := rn) (re := re) (fr := fr) (lr := lr) (nr := nr) (lo := lo) (mo := mo) (fc := fc) (bh := bh) (ty := ty) (mt := mt) (sl := sl) hm hP hA hC
  refine ⟨nI D, sc', sk', fun post h1 h0 => ?_⟩
  unfold sw_vis at h1 h0
  unfold wpX_isVisible
  dsimp only
  refine hw _ ?_
  dsimp only
  have hbt := hb t ht
  rw [sw_cl (a := m) (by omega)]
  refine sw_if (sw_bit0 (by omega) (by omega)) (fun z => ?_) (fun z => ⟨vp_in_nI hm (by omega), br_c (fun y => ?_) (fun y => ⟨9, ?_⟩)⟩)
  · rw [hbt] at z
    rw [z, Bool.false_and] at h0
    exact h0 rfl
  · have z' : sw_nr P (sw_op tr) m 9 t = true := by
      cases e : sw_nr P (sw_op tr) m 9 t
      · rw [e] at hbt; exact absurd hbt z
      · rfl
    rw [z', decide_eq_true y] at h1
    exact h1 rfl
  · have z' : sw_nr P (sw_op tr) m 9 t = true := by
      cases e : sw_nr P (sw_op tr) m 9 t
      · rw [e] at hbt; exact absurd hbt z
      · rfl
    rw [z', decide_eq_false y, Bool.true_and, Bool.false_or] at h1 h0
    exact sw_xv33 hD hb 8 9 0 (by omega) (by omega) h1 h0
end
section
variable {rm rc wc tc sd : Int32} {dk ex tr pl ct rv rs rn re yl ym ty sl : Nat → Int32}
theorem sw_yn4 {post : Int32 → Prop} {P : Nat → Nat} {m : Nat} (hm : m < 6) (hP : sw_Pl P pl) :
    ∀ d n k t, d + k = 9 → d < n → t < 8 → (sw_nr P (sw_op tr) m d t = true → post 1) → (sw_nr P (sw_op tr) m d t = false → post 0) → wY_isNear_4 post (nI m) rc wc tc sd dk ex tr pl ct rv rs rn re yl ym ty sl n (nI t) (nI k) := by
  intro d
  induction d with
  | zero =>
    intro n k t hk hn _ _ h0
    cases n with
    | zero => exact absurd hn (Nat.not_lt_zero _)
    | succ n =>
      unfold wY_isNear_4
      exact pk_le 9 k (fun _ => h0 rfl) (fun z => by omega)
  | succ d ih =>
    intro n k t hk hn ht h1 h0
    obtain ⟨hf, hpl⟩ := hP t ht
    rw [sw_nr_s] at h1 h0
    cases n with
    | zero => exact absurd hn (Nat.not_lt_zero _)
    | succ n =>
      have it : vp_in (nI t) 8 := vp_in_nI ht (by omega)
      unfold wY_isNear_4
      rw [sw_cl (a := t) (by omega), hpl]
      refine pk_le 9 k (fun z => by omega) fun _ => ⟨it, pk_eq (P t) m (fun e => ?_) fun e1 => ⟨it, pk_eq (P t) 6 (fun e => ?_) fun e2 => ⟨it, pk_le 8 (P t) (fun h8 => ⟨it, nm_r (e' := nI (P t - 8)) (sw_s8 h8) ?_⟩) fun h8 => ?_⟩⟩⟩
      · rw [decide_eq_true e, Bool.true_or] at h1
        exact h1 rfl
      · rw [decide_eq_true e, Bool.true_or, Bool.or_true] at h1
        exact h1 rfl
      · rw [sw_cl (a := P t - 8) (by omega)]
        rw [decide_eq_false e1, decide_eq_false e2, decide_eq_true h8, Bool.false_or, Bool.false_or, Bool.true_and] at h1 h0
        refine ⟨vp_in_nI (by omega) (by omega), br_c (fun o => nm_r (nI_1 k) ?_) (fun o => ?_)⟩
        · have ho : sw_op tr (P t - 8) = true := decide_eq_true o
          rw [ho, Bool.true_and] at h1 h0
          exact ih n (k + 1) (P t - 8) (by omega) (by omega) (by omega) h1 h0
        · have ho : sw_op tr (P t - 8) = false := decide_eq_false o
          rw [ho, Bool.false_and] at h0
          exact h0 rfl
      · rw [decide_eq_false e1, decide_eq_false e2, decide_eq_false (by omega)] at h0
        exact h0 rfl
theorem sw_ynr {post : Int32 → Prop} {P : Nat → Nat} {m t : Nat} (hm : m < 6) (ht : t < 8) (hP : sw_Pl P pl)
    (h1 : sw_nr P (sw_op tr) m 9 t = true → post 1) (h0 : sw_nr P (sw_op tr) m 9 t = false → post 0) : wpY_isNear post (nI m, rc, wc, tc, sd, dk, ex, tr, pl, ct, rv, rs, rn, re, yl, ym, ty, sl) (nI t) := by
  unfold wpY_isNear
  exact ⟨10, sw_yn4 hm hP 9 10 0 t (by omega) (by omega) ht h1 h0⟩
theorem sw_yv34 {post : Int32 → Prop} {P : Nat → Nat} {m : Nat} (hm : m < 6) (hP : sw_Pl P pl) :
    ∀ d n i, d + i = 8 → d < n → (sw_lm tr (sw_nr P (sw_op tr) m 9) d i = true → post 1) → (sw_lm tr (sw_nr P (sw_op tr) m 9) d i = false → post 0) → wY_visible_34 post (nI m) rc wc tc sd dk ex tr pl ct rv rs rn re yl ym ty sl n (nI i) := by
  intro d
  induction d with
  | zero =>
    intro n i hi hn _ h0
    cases n with
    | zero => exact absurd hn (Nat.not_lt_zero _)
    | succ n =>
      have : i = 8 := by omega
      subst this
      unfold wY_visible_34
      exact br_t (by decide) (h0 rfl)
  | succ d ih =>
    intro n i hi hn h1 h0
    rw [sw_lm_s] at h1 h0
    cases n with
    | zero => exact absurd hn (Nat.not_lt_zero _)
    | succ n =>
      unfold wY_visible_34
      rw [sw_cl (a := i) (by omega)]
      refine pk_le 8 i (fun z => by omega) fun _ => ⟨vp_in_nI (by omega) (by omega), br_c (fun y => nm_r (nI_1 i) ?_) (fun y => ?_)⟩
      · rw [decide_eq_true y, Bool.not_true, Bool.and_false, Bool.false_or] at h1 h0
        exact ih n (i + 1) (by omega) (by omega) h1 h0
      · rw [decide_eq_false y, Bool.not_false, Bool.and_true] at h1 h0
        refine sw_ynr hm (by omega) hP (fun z => ?_) (fun z => ?_)
        · rw [z, Bool.true_or] at h1
          exact br_f (by decide) (h1 rfl)
        · rw [z, Bool.false_or] at h1 h0
          exact br_t rfl (nm_r (nI_1 i) (ih n (i + 1) (by omega) (by omega) h1 h0))
theorem sw_yth {post : Int32 → Prop} {t : Nat} (ht : t < 8) (h : post 1) : wpY_isThing post (rm, rc, wc, tc, sd, dk, ex, tr, pl, ct, rv, rs, rn, re, yl, ym, ty, sl) (nI t) := by
  unfold wpY_isThing
  dsimp only
  unfold wpY_in
  dsimp only
  exact br_f (nI_pos (by omega)) (br_f (nI_nlt (a := 7) (by omega) (by omega)) ⟨rfl, h⟩)
theorem sw_yvis {post : Int32 → Prop} {P : Nat → Nat} {m t : Nat} (hm : m < 6) (ht : t < 8) (hP : sw_Pl P pl)
    (h1 : sw_vis P tr dk m t = true → post 1) (h0 : sw_vis P tr dk m t = false → post 0) : wpY_visible post (nI m, rc, wc, tc, sd, dk, ex, tr, pl, ct, rv, rs, rn, re, yl, ym, ty, sl) (nI t) := by
  unfold sw_vis at h1 h0
  unfold wpY_visible
  dsimp only
  refine sw_yth ht (br_f (by decide) ?_)
  rw [sw_cl (a := m) (by omega)]
  refine sw_ynr hm ht hP (fun z => br_f (by decide) ⟨vp_in_nI hm (by omega), br_c (fun y => ?_) (fun y => ⟨9, ?_⟩)⟩) (fun z => br_t rfl ?_)
  · rw [z, decide_eq_true y] at h1
    exact h1 rfl
  · rw [z, decide_eq_false y, Bool.true_and, Bool.false_or] at h1 h0
    exact sw_yv34 hm hP 8 9 0 (by omega) (by omega) h1 h0
  · rw [z, Bool.false_and] at h0
    exact h0 rfl
end
end
section
/-! conditions and effects -/
def sw_cd (c : Nat) : Prop := c < 1024 ∧ (c % 4 = 0 ∨ (c % 4 = 1 ∧ c / 4 % 16 < 4) ∨ (c % 4 = 2 ∧ c / 4 % 16 < 8) ∨ (c % 4 = 3 ∧ c / 4 % 16 < 8 ∧ c / 64 < 4))
def sw_ef (e : Nat) : Prop := e < 2048 ∧ (e % 4 = 0 ∨ (e % 4 = 1 ∧ e / 4 % 16 < 8) ∨ (e % 4 = 2 ∧ e / 4 % 16 < 4) ∨ (e % 4 = 3 ∧ e / 4 % 16 < 6))
def sw_Tr (tr : Nat → Int32) : Prop := ∀ t, t < 8 → ∃ x, x < 16 ∧ tr t = nI x
def sw_Wo (pl fi ne : Nat → Int32) : Prop := ∃ P : Nat → Nat, sw_Pl P pl ∧ sw_Ac P ∧ sw_Cn P fi ne
section
variable {rm nt sc rc nc wc tc mc sd : Int32} {dk ex tr pl fi ne ct sk rv rs rn re fr lr nr lo mo fc bh ty mt sl : Nat → Int32} {yl ym : Nat → Int32}
theorem sw_xcdN {post : Int32 → Prop} {c : Nat} (hc : c < 1024) (h1 : sw_cd c → post 1) (h0 : ¬ sw_cd c → post 0) : wpX_isCondition post (rm, nt, sc, rc, nc, wc, tc, mc, sd, dk, ex, tr, pl, fi, ne, ct, sk, rv, rs, rn, re, fr, lr, nr, lo, mo, fc, bh, ty, mt, sl) (nI c) := by
  unfold sw_cd at h1 h0
  unfold wpX_isCondition
  dsimp only
  refine br_f (nI_pos (by omega)) (pk_le c 1023 (fun _ => nm_r (sw_fa (by omega)) (nm_r (sw_s6 (by omega)) (nm_r (sw_a3 (by omega)) ?_))) (fun z => by omega))
  refine pk_eq (c % 4) 0 (fun z => h1 (by omega)) fun z0 => pk_eq (c % 4) 1 (fun z => pk_lt 3 (c / 4 % 16) (fun y => h0 (by omega)) fun y => h1 (by omega)) fun z1 => pk_lt 7 (c / 4 % 16) (fun y => h0 (by omega)) fun y => pk_eq (c % 4) 2 (fun z => h1 (by omega)) fun z2 => pk_lt 3 (c / 64) (fun y => h0 (by omega)) fun y => h1 (by omega)
theorem sw_xcd {post : Int32 → Prop} {p : Int32} (hn : ¬ ∃ c, c < 1024 ∧ p = nI c) (h0 : post 0) : wpX_isCondition post (rm, nt, sc, rc, nc, wc, tc, mc, sd, dk, ex, tr, pl, fi, ne, ct, sk, rv, rs, rn, re, fr, lr, nr, lo, mo, fc, bh, ty, mt, sl) p := by
  unfold wpX_isCondition
  dsimp only
  refine br_c (fun _ => h0) fun z => br_f (fun y => ?_) h0
  obtain ⟨c, hc, e⟩ := sw_of' 1023 rfl (by omega) z y
  exact hn ⟨c, by omega, e⟩
theorem sw_xefN {post : Int32 → Prop} {c : Nat} (hc : c < 2048) (h1 : sw_ef c → post 1) (h0 : ¬ sw_ef c → post 0) : wpX_isEffect post (rm, nt, sc, rc, nc, wc, tc, mc, sd, dk, ex, tr, pl, fi, ne, ct, sk, rv, rs, rn, re, fr, lr, nr, lo, mo, fc, bh, ty, mt, sl) (nI c) := by
  unfold sw_ef at h1 h0
  unfold wpX_isEffect
  dsimp only
  refine br_f (nI_pos (by omega)) (pk_le c 2047 (fun _ => nm_r (sw_fa (by omega)) (nm_r (sw_a3 (by omega)) ?_)) (fun z => by omega))
  unfold wX_isEffect_49
  refine pk_eq (c % 4) 0 (fun z => h1 (by omega)) fun z0 => pk_eq (c % 4) 1 (fun z => pk_lt 7 (c / 4 % 16) (fun y => h0 (by omega)) fun y => h1 (by omega)) fun z1 => pk_eq (c % 4) 2 (fun z => pk_lt 3 (c / 4 % 16) (fun y => h0 (by omega)) fun y => h1 (by omega)) fun z2 => pk_lt 5 (c / 4 % 16) (fun y => h0 (by omega)) fun y => h1 (by omega)
theorem sw_xef {post : Int32 → Prop} {p : Int32} (hn : ¬ ∃ c, c < 2048 ∧ p = nI c) (h0 : post 0) : wpX_isEffect post (rm, nt, sc, rc, nc, wc, tc, mc, sd, dk, ex, tr, pl, fi, ne, ct, sk, rv, rs, rn, re, fr, lr, nr, lo, mo, fc, bh, ty, mt, sl) p := by
  unfold wpX_isEffect
  dsimp only
  refine br_c (fun _ => h0) fun z => br_f (fun y => ?_) h0
  obtain ⟨c, hc, e⟩ := sw_of' 2047 rfl (by omega) z y
  exact hn ⟨c, by omega, e⟩
end
section
variable {rm rc wc tc sd : Int32} {dk ex tr pl ct rv rs rn re yl ym ty sl : Nat → Int32}
theorem sw_yi {post : Int32 → Prop} {p a b : Int32} (h1 : ¬ p < a → ¬ b < p → post 1) (h0 : (p < a ∨ b < p) → post 0) : wpY_in post (rm, rc, wc, tc, sd, dk, ex, tr, pl, ct, rv, rs, rn, re, yl, ym, ty, sl) p a b := by
  unfold wpY_in
  dsimp only
  exact br_c (fun z => h0 (Or.inl z)) fun z => br_c (fun y => h0 (Or.inr y)) fun y => h1 z y
theorem sw_yi1 {post : Int32 → Prop} {p a b : Int32} (ha : ¬ p < a) (hb : ¬ b < p) (h : post 1) : wpY_in post (rm, rc, wc, tc, sd, dk, ex, tr, pl, ct, rv, rs, rn, re, yl, ym, ty, sl) p a b := sw_yi (fun _ _ => h) (fun z => absurd z (fun w => w.elim ha hb))
theorem sw_yi0 {post : Int32 → Prop} {p a b : Int32} (ha : p < a ∨ b < p) (h : post 0) : wpY_in post (rm, rc, wc, tc, sd, dk, ex, tr, pl, ct, rv, rs, rn, re, yl, ym, ty, sl) p a b := sw_yi (fun x y => absurd ha (fun w => w.elim x y)) (fun _ => h)
theorem sw_ycdN {post : Int32 → Prop} {c : Nat} (hc : c < 1024) (h1 : sw_cd c → post 1) (h0 : ¬ sw_cd c → post 0) : wpY_isCondition post (rm, rc, wc, tc, sd, dk, ex, tr, pl, ct, rv, rs, rn, re, yl, ym, ty, sl) (nI c) := by
  unfold sw_cd at h1 h0
  unfold wpY_isCondition
  dsimp only
  refine sw_yi1 (nI_pos (by omega)) (nI_nlt (a := 1023) (by omega) (by omega)) (br_f (by decide) (nm_r (sw_a3 (by omega)) (nm_r (sw_fa (by omega)) (nm_r (sw_s6 (by omega)) ?_))))
  unfold wY_isCondition_45 wY_isCondition_56
  have e3 : c % 4 ≠ 3 → ¬ nI (c % 4) = 3 := fun z y => z (sw_inj (b := 3) y (by omega) (by omega))
  have e2 : c % 4 ≠ 2 → ¬ nI (c % 4) = 2 := fun z y => z (sw_inj (b := 2) y (by omega) (by omega))
  have e1 : c % 4 ≠ 1 → ¬ nI (c % 4) = 1 := fun z y => z (sw_inj (b := 1) y (by omega) (by omega))
  refine pk_eq (c % 4) 0 (fun z => h1 (by omega)) fun z0 => ?_
  refine pk_eq (c % 4) 1 (fun z => pk_lt (c / 4 % 16) 4 (fun y => h1 (by omega)) fun y => br_f (e2 (by omega)) (br_f (e3 (by omega)) (h0 (by omega)))) fun z1 => ?_
  refine pk_eq (c % 4) 2 (fun z => pk_lt (c / 4 % 16) 8 (fun y => h1 (by omega)) fun y => br_f (e3 (by omega)) (h0 (by omega))) fun z2 => ?_
  refine pk_eq (c % 4) 3 (fun z => pk_le 8 (c / 4 % 16) (fun y => h0 (by omega)) fun y => pk_le 4 (c / 64) (fun y => h0 (by omega)) fun y => h1 (by omega)) fun z3 => by omega
theorem sw_ycd {post : Int32 → Prop} {p : Int32} (hn : ¬ ∃ c, c < 1024 ∧ p = nI c) (h0 : post 0) : wpY_isCondition post (rm, rc, wc, tc, sd, dk, ex, tr, pl, ct, rv, rs, rn, re, yl, ym, ty, sl) p := by
  unfold wpY_isCondition
  dsimp only
  refine sw_yi (fun z y => ?_) (fun _ => br_t rfl h0)
  obtain ⟨c, hc, e⟩ := sw_of 1023 rfl (by omega) z y
  exact absurd ⟨c, by omega, e⟩ hn
theorem sw_yefN {post : Int32 → Prop} {c : Nat} (hc : c < 2048) (h1 : sw_ef c → post 1) (h0 : ¬ sw_ef c → post 0) : wpY_isEffect post (rm, rc, wc, tc, sd, dk, ex, tr, pl, ct, rv, rs, rn, re, yl, ym, ty, sl) (nI c) := by
  unfold sw_ef at h1 h0
  unfold wpY_isEffect
  dsimp only
  refine sw_yi1 (nI_pos (by omega)) (nI_nlt (a := 2047) (by omega) (by omega)) (br_f (by decide) (nm_r (sw_a3 (by omega)) (nm_r (sw_fa (by omega)) ?_)))
  unfold wY_isEffect_40 wY_isEffect_50
  have e3 : c % 4 ≠ 3 → ¬ nI (c % 4) = 3 := fun z y => z (sw_inj (b := 3) y (by omega) (by omega))
  have e2 : c % 4 ≠ 2 → ¬ nI (c % 4) = 2 := fun z y => z (sw_inj (b := 2) y (by omega) (by omega))
  refine pk_eq (c % 4) 0 (fun z => h1 (by omega)) fun z0 => ?_
  refine pk_eq (c % 4) 1 (fun z => pk_lt (c / 4 % 16) 8 (fun y => h1 (by omega)) fun y => br_f (e2 (by omega)) (br_f (e3 (by omega)) (h0 (by omega)))) fun z1 => ?_
  refine pk_eq (c % 4) 2 (fun z => pk_lt (c / 4 % 16) 4 (fun y => h1 (by omega)) fun y => br_f (e3 (by omega)) (h0 (by omega))) fun z2 => ?_
  refine pk_eq (c % 4) 3 (fun z => pk_le 6 (c / 4 % 16) (fun y => h0 (by omega)) fun y => h1 (by omega)) fun z3 => by omega
theorem sw_yef {post : Int32 → Prop} {p : Int32} (hn : ¬ ∃ c, c < 2048 ∧ p = nI c) (h0 : post 0) : wpY_isEffect post (rm, rc, wc, tc, sd, dk, ex, tr, pl, ct, rv, rs, rn, re, yl, ym, ty, sl) p := by
  unfold wpY_isEffect
  dsimp only
  refine sw_yi (fun z y => ?_) (fun _ => br_t rfl h0)
  obtain ⟨c, hc, e⟩ := sw_of 2047 rfl (by omega) z y
  exact absurd ⟨c, by omega, e⟩ hn
end
section
variable {km kr kn kw kt ks : Nat} {nt sc mc rm rc nc wc tc sd : Int32} {dk ex tr pl fi ne ct sk rv rs rn re fr lr nr lo mo fc bh ty mt sl yl ym : Nat → Int32}
/-- both sides answer alike whether a condition holds -/
theorem sw_hold {c : Nat} (hc : sw_cd c) (hT : sw_Tr tr) : ∃ r : Int32, (∀ post : Int32 → Prop, post r → wpX_holds post (rm, nt, sc, rc, nc, wc, tc, mc, sd, dk, ex, tr, pl, fi, ne, ct, sk, rv, rs, rn, re, fr, lr, nr, lo, mo, fc, bh, ty, mt, sl) (nI c)) ∧ (∀ post : Int32 → Prop, post r → wpY_holds post (rm, rc, wc, tc, sd, dk, ex, tr, pl, ct, rv, rs, rn, re, yl, ym, ty, sl) (nI c)) := by
  obtain ⟨hb, hc⟩ := hc
  have ea := sw_fa (n := c) (by omega)
  have eb := sw_s6 (n := c) (by omega)
  have ek := sw_a3 (n := c) (by omega)
  have cla : (nI (c / 4 % 16)).toNatClampNeg = c / 4 % 16 := nI_clamp (by omega)
  rcases hc with h | ⟨h, ha⟩ | ⟨h, ha⟩ | ⟨h, ha, hbb⟩
  · rw [h] at ek
    refine ⟨1, fun post K => ?_, fun post K => ?_⟩
    · unfold wpX_holds
      dsimp only
      exact nm_r ea (nm_r eb (nm_r ek (br_f (by decide) (br_f (by decide) (br_t rfl K)))))
    · unfold wpY_holds
      dsimp only
      exact nm_r ek (nm_r ea (nm_r eb (br_f (by decide) (br_f (by decide) (br_t rfl K)))))
  · rw [h] at ek
    have e3 : nI (c / 4 % 16) &&& 3 = nI (c / 4 % 16) := by rw [sw_a3 (by omega)]; exact congrArg nI (by omega)
    have i4 : vp_in (nI (c / 4 % 16)) 4 := vp_in_nI ha (by omega)
    by_cases z : ct (c / 4 % 16) < nI (c / 64)
    · refine ⟨0, fun post K => ?_, fun post K => ?_⟩
      · unfold wpX_holds
        dsimp only
        refine nm_r ea (nm_r eb (nm_r ek (br_t rfl ⟨i4, ?_⟩)))
        rw [cla]
        exact br_t z K
      · unfold wpY_holds
        dsimp only
        refine nm_r ek (nm_r ea (nm_r eb (br_t rfl ?_)))
        rw [e3, cla]
        exact ⟨i4, br_t z K⟩
    · refine ⟨1, fun post K => ?_, fun post K => ?_⟩
      · unfold wpX_holds
        dsimp only
        refine nm_r ea (nm_r eb (nm_r ek (br_t rfl ⟨i4, ?_⟩)))
        rw [cla]
        exact br_f z K
      · unfold wpY_holds
        dsimp only
        refine nm_r ek (nm_r ea (nm_r eb (br_t rfl ?_)))
        rw [e3, cla]
        exact ⟨i4, br_f z K⟩
  · rw [h] at ek
    have e3 : nI (c / 4 % 16) &&& 7 = nI (c / 4 % 16) := by rw [sw_a7 (by omega)]; exact congrArg nI (by omega)
    have i8 : vp_in (nI (c / 4 % 16)) 8 := vp_in_nI ha (by omega)
    by_cases z : pl (c / 4 % 16) = nI (c / 64)
    · refine ⟨1, fun post K => ?_, fun post K => ?_⟩
      · unfold wpX_holds
        dsimp only
        refine nm_r ea (nm_r eb (nm_r ek (br_f (by decide) (br_t rfl ⟨i8, ?_⟩))))
        rw [cla]
        exact br_t z K
      · unfold wpY_holds
        dsimp only
        refine nm_r ek (nm_r ea (nm_r eb (br_f (by decide) (br_t rfl ?_))))
        rw [e3, cla]
        exact ⟨i8, br_t z K⟩
    · refine ⟨0, fun post K => ?_, fun post K => ?_⟩
      · unfold wpX_holds
        dsimp only
        refine nm_r ea (nm_r eb (nm_r ek (br_f (by decide) (br_t rfl ⟨i8, ?_⟩))))
        rw [cla]
        exact br_f z K
      · unfold wpY_holds
        dsimp only
        refine nm_r ek (nm_r ea (nm_r eb (br_f (by decide) (br_t rfl ?_))))
        rw [e3, cla]
        exact ⟨i8, br_f z K⟩
  · rw [h] at ek
    have e3 : nI (c / 4 % 16) &&& 7 = nI (c / 4 % 16) := by rw [sw_a7 (by omega)]; exact congrArg nI (by omega)
    have i8 : vp_in (nI (c / 4 % 16)) 8 := vp_in_nI ha (by omega)
    obtain ⟨x, hx, et⟩ := hT (c / 4 % 16) ha
    have b0 := sw_bit0 (m := x) (t := c / 64) (by omega) (by omega)
    have b1 := sw_bit1 (m := x) (t := c / 64) (by omega) (by omega)
    cases z : x.testBit (c / 64)
    · refine ⟨0, fun post K => ?_, fun post K => ?_⟩
      · unfold wpX_holds
        dsimp only
        refine nm_r ea (nm_r eb (nm_r ek (br_f (by decide) (br_f (by decide) (br_f (by decide) ⟨i8, ?_⟩)))))
        rw [cla, et]
        exact br_t (b0.mpr z) K
      · unfold wpY_holds
        dsimp only
        refine nm_r ek (nm_r ea (nm_r eb (br_f (by decide) (br_f (by decide) (br_f (by decide) ?_)))))
        rw [e3, cla, et]
        exact ⟨i8, br_f (fun y => by rw [b1.mp y] at z; exact absurd z (by decide)) K⟩
    · refine ⟨1, fun post K => ?_, fun post K => ?_⟩
      · unfold wpX_holds
        dsimp only
        refine nm_r ea (nm_r eb (nm_r ek (br_f (by decide) (br_f (by decide) (br_f (by decide) ⟨i8, ?_⟩)))))
        rw [cla, et]
        exact br_f (fun y => by rw [b0.mp y] at z; exact absurd z (by decide)) K
      · unfold wpY_holds
        dsimp only
        refine nm_r ek (nm_r ea (nm_r eb (br_f (by decide) (br_f (by decide) (br_f (by decide) ?_)))))
        rw [e3, cla, et]
        exact ⟨i8, br_t (b1.mpr z) K⟩
/-- an effect, brought about on both sides -/
def sw_ActO (km ks : Nat) (pl fi ne ct sl : Nat → Int32) (WX : (SX → Prop) → Prop) (WY : (SY → Prop) → Prop) (FX : Nat → Nat → (Nat → Int32) → (Nat → Int32) → (Nat → Int32) → (Nat → Int32) → (Nat → Int32) → SX) (FY : Nat → Nat → (Nat → Int32) → (Nat → Int32) → (Nat → Int32) → SY) : Prop :=
  ∃ km' ks' pl' fi' ne' ct' sl', km' < 6 ∧ ks' ≤ ks + 1 ∧ sw_Wo pl' fi' ne' ∧ (∀ post : SX → Prop, post (FX km' ks' pl' fi' ne' ct' sl') → WX post) ∧ (∀ post : SY → Prop, post (FY km' ks' pl' ct' sl') → WY post)
theorem sw_act {e : Nat} (he : sw_ef e) (hm : km < 6) (hs : ks < 1000000) (hW : sw_Wo pl fi ne) :
    sw_ActO km ks pl fi ne ct sl (fun post => wpX_bringAbout post (nI km, nt, sc, nI kr, nI kn, nI kw, nI kt, mc, nI ks, dk, ex, tr, pl, fi, ne, ct, sk, rv, rs, rn, re, fr, lr, nr, lo, mo, fc, bh, ty, mt, sl) (nI e)) (fun post => wpY_act post (nI km, nI kr, nI kw, nI kt, nI ks, dk, ex, tr, pl, ct, rv, rs, rn, re, yl, ym, ty, sl) (nI e))
      (fun km ks pl fi ne ct sl => (nI km, nt, sc, nI kr, nI kn, nI kw, nI kt, mc, nI ks, dk, ex, tr, pl, fi, ne, ct, sk, rv, rs, rn, re, fr, lr, nr, lo, mo, fc, bh, ty, mt, sl)) (fun km ks pl ct sl => (nI km, nI kr, nI kw, nI kt, nI ks, dk, ex, tr, pl, ct, rv, rs, rn, re, yl, ym, ty, sl)) := by
  obtain ⟨hb, hc⟩ := he
  have ea := sw_fa (n := e) (by omega)
  have eb := sw_fb (n := e) (by omega)
  have ek := sw_a3 (n := e) (by omega)
  have cla : (nI (e / 4 % 16)).toNatClampNeg = e / 4 % 16 := nI_clamp (by omega)
  rcases hc with h | ⟨h, ha⟩ | ⟨h, ha⟩ | ⟨h, ha⟩
  · rw [h] at ek
    have e16 : nI (e / 4 % 16) + 16 * nI (e / 64 % 16) = nI (e / 4 % 16 + 16 * (e / 64 % 16)) := by
      rw [show (16 : Int32) = nI 16 from rfl, pk_mul, nI_add]
    have cls : (nI ks).toNatClampNeg = ks := nI_clamp (by omega)
    by_cases z : 40 ≤ ks
    · refine ⟨km, ks + 1, pl, fi, ne, ct, sl, hm, by omega, hW, fun post K => ?_, fun post K => ?_⟩
      · unfold wpX_bringAbout
        dsimp only
        refine nm_r ea (nm_r eb (nm_r ek (br_t rfl ?_)))
        unfold wpX_say
        dsimp only
        exact br_t (nI_le (a := 40) (by omega) (by omega)) (nm_r (nI_1 ks) K)
      · unfold wpY_act
        dsimp only
        refine nm_r ek (nm_r ea (nm_r eb (br_t rfl (br_t (nI_le (a := 40) (by omega) (by omega)) ?_))))
        unfold wY_act_49 wY_act_59 wY_act_88 wY_act_109
        exact nm_r (nI_1 ks) (br_f (by decide) (br_f (by decide) (br_f (by decide) K)))
    · refine ⟨km, ks + 1, pl, fi, ne, ct, upd sl ks (nI (e / 4 % 16 + 16 * (e / 64 % 16))), hm, by omega, hW, fun post K => ?_, fun post K => ?_⟩
      · unfold wpX_bringAbout
        dsimp only
        refine nm_r ea (nm_r eb (nm_r ek (br_t rfl ?_)))
        unfold wpX_say
        dsimp only
        rw [e16, cls, sw_vs2 (by omega)]
        exact br_f (nI_ge (b := 40) (by omega) (by omega)) ⟨vp_in_nI (by omega) (by omega), nm_e (nm_r (nI_1 ks) K)⟩
      · unfold wpY_act
        dsimp only
        refine nm_r ek (nm_r ea (nm_r eb (br_t rfl (br_f (nI_ge (b := 40) (by omega) (by omega)) ⟨vp_in_nI (by omega) (by omega), ?_⟩))))
        rw [e16, cls]
        unfold wY_act_49 wY_act_59 wY_act_88 wY_act_109
        exact nm_e (nm_r (nI_1 ks) (br_f (by decide) (br_f (by decide) (br_f (by decide) K))))
  · rw [h] at ek
    have e3 : nI (e / 4 % 16) &&& 7 = nI (e / 4 % 16) := by rw [sw_a7 (by omega)]; exact congrArg nI (by omega)
    have i8 : vp_in (nI (e / 4 % 16)) 8 := vp_in_nI ha (by omega)
    obtain ⟨P, hP, hA, hC⟩ := hW
    cases z : sw_wo P (e / 4 % 16) (e / 64 % 16)
    · obtain ⟨fi', ne', hC', hX⟩ := sw_move (rm := nI km) (nt := nt) (sc := sc) (rc := nI kr) (nc := nI kn) (wc := nI kw) (tc := nI kt) (mc := mc) (sd := nI ks) (dk := dk) (ex := ex) (tr := tr) (pl := pl) (fi := fi) (ne := ne) (ct := ct) (sk := sk) (rv := rv) (rs := rs) (rn := rn) (re := re) (fr := fr) (lr := lr) (nr := nr) (lo := lo) (mo := mo) (fc := fc) (bh := bh) (ty := ty) (mt := mt) (sl := sl) (p := e / 64 % 16) ha (by omega) hP hC
      refine ⟨km, ks, _, fi', ne', ct, sl, hm, by omega, ⟨_, sw_Pl_u (t := e / 4 % 16) hP (show e / 64 % 16 < 16 by omega), sw_Ac_u (fun t ht => (hP t ht).1) hA ha (by omega) (sw_wo_f z), hC'⟩, fun post K => ?_, fun post K => ?_⟩
      · unfold wpX_bringAbout
        dsimp only
        refine nm_r ea (nm_r eb (nm_r ek (br_f (by decide) (br_t rfl ?_))))
        exact sw_xwl ha (by omega) hP hA (fun y => by rw [z] at y; exact absurd y (by decide)) (fun _ => br_t rfl (hX _ K))
      · unfold wpY_act
        dsimp only
        refine nm_r ek (nm_r ea (nm_r eb (br_f (by decide) ?_)))
        unfold wY_act_59 wY_act_88 wY_act_109
        rw [e3, cla]
        refine br_t rfl (sw_ycb ha (by omega) hP (fun y => by rw [z] at y; exact absurd y (by decide)) (fun _ => br_f (by decide) ⟨i8, nm_e (br_f (by decide) (br_f (by decide) K))⟩))
    · refine ⟨km, ks, pl, fi, ne, ct, sl, hm, by omega, ⟨P, hP, hA, hC⟩, fun post K => ?_, fun post K => ?_⟩
      · unfold wpX_bringAbout
        dsimp only
        refine nm_r ea (nm_r eb (nm_r ek (br_f (by decide) (br_t rfl ?_))))
        exact sw_xwl ha (by omega) hP hA (fun _ => br_f (by decide) K) (fun y => by rw [z] at y; exact absurd y (by decide))
      · unfold wpY_act
        dsimp only
        refine nm_r ek (nm_r ea (nm_r eb (br_f (by decide) ?_)))
        unfold wY_act_59 wY_act_88 wY_act_109
        rw [e3, cla]
        refine br_t rfl (sw_ycb ha (by omega) hP (fun _ => br_t rfl (br_f (by decide) (br_f (by decide) K))) (fun y => by rw [z] at y; exact absurd y (by decide)))
  · rw [h] at ek
    have e3 : nI (e / 4 % 16) &&& 3 = nI (e / 4 % 16) := by rw [sw_a3 (by omega)]; exact congrArg nI (by omega)
    have i4 : vp_in (nI (e / 4 % 16)) 4 := vp_in_nI ha (by omega)
    refine ⟨km, ks, pl, fi, ne, upd ct (e / 4 % 16) (ct (e / 4 % 16) + (nI (e / 64 % 16) - 8)), sl, hm, by omega, hW, fun post K => ?_, fun post K => ?_⟩
    · unfold wpX_bringAbout
      dsimp only
      refine nm_r ea (nm_r eb (nm_r ek (br_f (by decide) (br_f (by decide) (br_t rfl ?_)))))
      rw [cla]
      exact ⟨i4, i4, nm_e K⟩
    · unfold wpY_act
      dsimp only
      refine nm_r ek (nm_r ea (nm_r eb (br_f (by decide) ?_)))
      unfold wY_act_59 wY_act_88 wY_act_109
      rw [e3, cla]
      exact br_f (by decide) (br_t rfl ⟨i4, i4, nm_e (br_f (by decide) K)⟩)
  · rw [h] at ek
    refine ⟨e / 4 % 16, ks, pl, fi, ne, ct, sl, ha, by omega, hW, fun post K => ?_, fun post K => ?_⟩
    · unfold wpX_bringAbout
      dsimp only
      exact nm_r ea (nm_r eb (nm_r ek (br_f (by decide) (br_f (by decide) (br_f (by decide) K)))))
    · unfold wpY_act
      dsimp only
      refine nm_r ek (nm_r ea (nm_r eb (br_f (by decide) ?_)))
      unfold wY_act_59 wY_act_88 wY_act_109
      exact br_f (by decide) (br_f (by decide) (br_t rfl K))
end
end
section
/-! the relation -/
def sw_Ex (ex : Nat → Int32) : Prop := ∀ j, j < 24 → ex j = -1 ∨ ∃ m, m < 6 ∧ ex j = nI m
/-- the rules of a verb, from i on, d of them looked at -/
def sw_F (rv : Nat → Int32) (v : Int32) : Nat → Nat → List Nat
  | 0, _ => []
  | d + 1, i => if rv i = v then i :: sw_F rv v d (i + 1) else sw_F rv v d (i + 1)
def sw_La (x : Int32) (l : List Nat) : Prop := (l = [] ∧ x = -1) ∨ ∃ A b, l = A ++ [b] ∧ x = nI b
def sw_Ru (c : Nat) (rv rn re fr lr nr : Nat → Int32) : Prop :=
  c ≤ 16 ∧ (∀ r, r < c → ∃ v, v < 6 ∧ rv r = nI v) ∧ (∀ r, r < c → ∃ x, sw_cd x ∧ rn r = nI x) ∧ (∀ r, r < c → ∃ x, sw_ef x ∧ re r = nI x) ∧
  ∀ v, v < 6 → sw_Ch nr (fr v) (sw_F rv (nI v) c 0) ∧ sw_La (lr v) (sw_F rv (nI v) c 0)
def sw_Ty (t : Nat) (ty : Nat → Int32) : Prop := t ≤ 30 ∧ ∀ j, j < t → ∃ c, ty j = nI c ∧ (c = 32 ∨ (97 ≤ c ∧ c ≤ 122))
/-- the tree of letters: pa n is the way to n, the last letter first -/
def sw_T (q : Nat) (lo fc bh : Nat → Int32) (pa : Nat → List Nat) : Prop :=
  1 ≤ q ∧ pa 0 = [] ∧ (∀ n n', n < q → n' < q → pa n = pa n' → n = n') ∧
  (∀ n, n < q → ∃ C, sw_Ch bh (fc n) C ∧ ∀ c, c ∈ C ↔ c < q ∧ ∃ l, pa c = l :: pa n) ∧
  (∀ c, c < q → 0 < c → ∃ n l, n < q ∧ pa c = l :: pa n ∧ lo c = nI l ∧ 0 < l ∧ l < 27)
/-- words: wn i is the node of word i -/
def sw_Wn (q w : Nat) (mo yl ym : Nat → Int32) (pa : Nat → List Nat) (wn : Nat → Nat) : Prop :=
  (∀ i, i < w → wn i < q ∧ (∃ m, m < 31 ∧ ym i = nI m) ∧ mo (wn i) = ym i ∧ ∀ j, j < 4 → yl (4 * i + j) = nI ((pa (wn i)).reverse.getD j 0)) ∧
  (∀ i i', i < w → i' < w → wn i = wn i' → i = i') ∧ (∀ n, n < q → mo n = -1 ∨ ∃ i, i < w ∧ wn i = n)
def sw_Wd (q w : Nat) (lo mo fc bh yl ym : Nat → Int32) : Prop :=
  ∃ (pa : Nat → List Nat) (wn : Nat → Nat), sw_T q lo fc bh pa ∧ w ≤ 24 ∧ q ≤ 1 + 4 * w ∧ (∀ n, n < q → (pa n).length ≤ 4) ∧ sw_Wn q w mo yl ym pa wn
def sw_Fa (B km kr kn kw kt ks : Nat) (ex tr pl fi ne rv rn re fr lr nr lo mo fc bh ty yl ym : Nat → Int32) : Prop :=
  km < 6 ∧ ks ≤ B ∧ sw_Ex ex ∧ sw_Tr tr ∧ sw_Wo pl fi ne ∧ sw_Ru kr rv rn re fr lr nr ∧ sw_Wd kn kw lo mo fc bh yl ym ∧ sw_Ty kt ty
def sw_Re (B : Nat) (u : SX) (v : SY) : Prop :=
  ∃ (km kr kn kw kt ks : Nat) (nt sc mc : Int32) (dk ex tr pl fi ne ct sk rv rs rn re fr lr nr lo mo fc bh ty mt sl yl ym : Nat → Int32),
    u = (nI km, nt, sc, nI kr, nI kn, nI kw, nI kt, mc, nI ks, dk, ex, tr, pl, fi, ne, ct, sk, rv, rs, rn, re, fr, lr, nr, lo, mo, fc, bh, ty, mt, sl) ∧ v = (nI km, nI kr, nI kw, nI kt, nI ks, dk, ex, tr, pl, ct, rv, rs, rn, re, yl, ym, ty, sl) ∧ sw_Fa B km kr kn kw kt ks ex tr pl fi ne rv rn re fr lr nr lo mo fc bh ty yl ym
theorem sw_Re_i {B : Nat} {km kr kn kw kt ks : Nat} {nt sc mc : Int32} {dk ex tr pl fi ne ct sk rv rs rn re fr lr nr lo mo fc bh ty mt sl yl ym : Nat → Int32} (h : sw_Fa B km kr kn kw kt ks ex tr pl fi ne rv rn re fr lr nr lo mo fc bh ty yl ym) : sw_Re B (nI km, nt, sc, nI kr, nI kn, nI kw, nI kt, mc, nI ks, dk, ex, tr, pl, fi, ne, ct, sk, rv, rs, rn, re, fr, lr, nr, lo, mo, fc, bh, ty, mt, sl) (nI km, nI kr, nI kw, nI kt, nI ks, dk, ex, tr, pl, ct, rv, rs, rn, re, yl, ym, ty, sl) :=
  ⟨km, kr, kn, kw, kt, ks, nt, sc, mc, dk, ex, tr, pl, fi, ne, ct, sk, rv, rs, rn, re, fr, lr, nr, lo, mo, fc, bh, ty, mt, sl, yl, ym, rfl, rfl, h⟩
theorem sw_el {B : Nat} {Q : SX → SY → Prop} (h : ∀ (km kr kn kw kt ks : Nat) (nt sc mc : Int32) (dk ex tr pl fi ne ct sk rv rs rn re fr lr nr lo mo fc bh ty mt sl yl ym : Nat → Int32), sw_Fa B km kr kn kw kt ks ex tr pl fi ne rv rn re fr lr nr lo mo fc bh ty yl ym → Q (nI km, nt, sc, nI kr, nI kn, nI kw, nI kt, mc, nI ks, dk, ex, tr, pl, fi, ne, ct, sk, rv, rs, rn, re, fr, lr, nr, lo, mo, fc, bh, ty, mt, sl) (nI km, nI kr, nI kw, nI kt, nI ks, dk, ex, tr, pl, ct, rv, rs, rn, re, yl, ym, ty, sl)) {u : SX} {v : SY} (I : sw_Re B u v) : Q u v :=
  Exists.elim I fun km I => Exists.elim I fun kr I => Exists.elim I fun kn I => Exists.elim I fun kw I => Exists.elim I fun kt I => Exists.elim I fun ks I => Exists.elim I fun nt I => Exists.elim I fun sc I => Exists.elim I fun mc I =>
  Exists.elim I fun dk I => Exists.elim I fun ex I => Exists.elim I fun tr I => Exists.elim I fun pl I => Exists.elim I fun fi I => Exists.elim I fun ne I => Exists.elim I fun ct I => Exists.elim I fun sk I => Exists.elim I fun rv I => Exists.elim I fun rs I => Exists.elim I fun rn I => Exists.elim I fun re I => Exists.elim I fun fr I => Exists.elim I fun lr I => Exists.elim I fun nr I => Exists.elim I fun lo I => Exists.elim I fun mo I => Exists.elim I fun fc I => Exists.elim I fun bh I => Exists.elim I fun ty I => Exists.elim I fun mt I => Exists.elim I fun sl I => Exists.elim I fun yl I => Exists.elim I fun ym I =>
  I.1 ▸ I.2.1 ▸ h km kr kn kw kt ks nt sc mc dk ex tr pl fi ne ct sk rv rs rn re fr lr nr lo mo fc bh ty mt sl yl ym I.2.2
/-- one outcome for both sides -/
def sw_O (R : SX → SY → Prop) (WX : (Int32 → SX → Prop) → Prop) (WY : (Int32 → SY → Prop) → Prop) : Prop :=
  ∃ r u' v', R u' v' ∧ (∀ post : Int32 → SX → Prop, post r u' → WX post) ∧ (∀ post : Int32 → SY → Prop, post r v' → WY post)
def sw_P (WX : (Int32 → Prop) → Prop) (WY : (Int32 → Prop) → Prop) : Prop :=
  ∃ r, (∀ post : Int32 → Prop, post r → WX post) ∧ (∀ post : Int32 → Prop, post r → WY post)
theorem sw_F_lt {rv : Nat → Int32} {v : Int32} : ∀ d i r, r ∈ sw_F rv v d i → i ≤ r ∧ r < i + d ∧ rv r = v := by
  intro d
  induction d with
  | zero => intro i r h; exact absurd h List.not_mem_nil
  | succ d ih =>
    intro i r h
    have h' : r ∈ (if rv i = v then i :: sw_F rv v d (i + 1) else sw_F rv v d (i + 1)) := h
    by_cases z : rv i = v
    · rw [if_pos z] at h'
      rcases List.mem_cons.mp h' with e | m
      · subst e; exact ⟨by omega, by omega, z⟩
      · have := ih (i + 1) r m; exact ⟨by omega, by omega, this.2.2⟩
    · rw [if_neg z] at h'
      have := ih (i + 1) r h'; exact ⟨by omega, by omega, this.2.2⟩
theorem sw_F_t {rv : Nat → Int32} {v : Int32} {d i : Nat} (h : rv i = v) : sw_F rv v (d + 1) i = i :: sw_F rv v d (i + 1) := if_pos h
theorem sw_F_f {rv : Nat → Int32} {v : Int32} {d i : Nat} (h : ¬ rv i = v) : sw_F rv v (d + 1) i = sw_F rv v d (i + 1) := if_neg h
/-- one more at the end -/
theorem sw_F_e {rv : Nat → Int32} {v : Int32} : ∀ d i, sw_F rv v (d + 1) i = sw_F rv v d i ++ (if rv (i + d) = v then [i + d] else []) := by
  intro d
  induction d with
  | zero =>
    intro i
    show _ = sw_F rv v 0 i ++ (if rv i = v then [i] else [])
    by_cases z : rv i = v
    · rw [sw_F_t z, if_pos z]; rfl
    · rw [sw_F_f z, if_neg z]; rfl
  | succ d ih =>
    intro i
    have e : i + 1 + d = i + (d + 1) := by omega
    by_cases z : rv i = v
    · rw [sw_F_t z, ih (i + 1), sw_F_t z, e]; rfl
    · rw [sw_F_f z, ih (i + 1), sw_F_f z, e]
theorem sw_F_c {rv rv' : Nat → Int32} {v : Int32} : ∀ d i, (∀ r, i ≤ r → r < i + d → rv' r = rv r) → sw_F rv' v d i = sw_F rv v d i := by
  intro d
  induction d with
  | zero => intro i _; rfl
  | succ d ih =>
    intro i h
    have hi := ih (i + 1) (fun r h1 h2 => h r (by omega) (by omega))
    have e := h i (by omega) (by omega)
    by_cases z : rv i = v
    · rw [sw_F_t z, sw_F_t (by rw [e]; exact z), hi]
    · rw [sw_F_f z, sw_F_f (by rw [e]; exact z), hi]
end
section
/-! what a verb does when no rule stops it -/
section
variable {km kr kn kw kt ks : Nat} {nt sc mc : Int32} {dk ex tr pl fi ne ct sk rv rs rn re fr lr nr lo mo fc bh ty mt sl yl ym : Nat → Int32}
theorem sw_go {x : Nat} (hm : km < 6) (hx : x < 4) (hE : sw_Ex ex) : ∃ r km', km' < 6 ∧ (∀ post : Int32 → SX → Prop, post r (nI km', nt, sc, nI kr, nI kn, nI kw, nI kt, mc, nI ks, dk, ex, tr, pl, fi, ne, ct, sk, rv, rs, rn, re, fr, lr, nr, lo, mo, fc, bh, ty, mt, sl) → wpX_go post (nI km, nt, sc, nI kr, nI kn, nI kw, nI kt, mc, nI ks, dk, ex, tr, pl, fi, ne, ct, sk, rv, rs, rn, re, fr, lr, nr, lo, mo, fc, bh, ty, mt, sl) (nI x)) ∧ (∀ post : Int32 → SY → Prop, post r (nI km', nI kr, nI kw, nI kt, nI ks, dk, ex, tr, pl, ct, rv, rs, rn, re, yl, ym, ty, sl) → wpY_go post (nI km, nI kr, nI kw, nI kt, nI ks, dk, ex, tr, pl, ct, rv, rs, rn, re, yl, ym, ty, sl) (nI x)) := by
  have e4 : (4 : Int32) * nI km + nI x = nI (4 * km + x) := by rw [show (4 : Int32) = nI 4 from rfl, pk_mul, nI_add]
  have cl : (nI (4 * km + x)).toNatClampNeg = 4 * km + x := nI_clamp (by omega)
  have ii : vp_in (nI (4 * km + x)) 24 := vp_in_nI (by omega) (by omega)
  rcases hE (4 * km + x) (by omega) with h | ⟨m, hm', h⟩
  · refine ⟨9, km, hm, fun post K => ?_, fun post K => ?_⟩
    · unfold wpX_go
      dsimp only
      rw [e4, cl]
      exact ⟨ii, nm_r h (br_f sw_m1le K)⟩
    · unfold wpY_go
      dsimp only
      rw [e4, cl]
      exact ⟨ii, nm_r h (br_f sw_m1le K)⟩
  · refine ⟨0, m, hm', fun post K => ?_, fun post K => ?_⟩
    · unfold wpX_go
      dsimp only
      rw [e4, cl]
      exact ⟨ii, nm_r h (br_t (nI_pos' (by omega)) K)⟩
    · unfold wpY_go
      dsimp only
      rw [e4, cl]
      exact ⟨ii, nm_r h (br_t (nI_pos' (by omega)) K)⟩
theorem sw_tf {b : Bool} (h : ¬ b = true) : b = false := by cases b <;> simp_all
theorem sw_ft {b : Bool} {A : Prop} (h : b = true) (z : b = false) : A := by rw [h] at z; exact absurd z (by decide)
theorem sw_take {x : Nat} (hm : km < 6) (hx : x < 8) (hT : sw_Tr tr) (hW : sw_Wo pl fi ne) :
    ∃ r nt' sc' sk' pl' fi' ne', sw_Wo pl' fi' ne' ∧ (∀ post : Int32 → SX → Prop, post r (nI km, nt', sc', nI kr, nI kn, nI kw, nI kt, mc, nI ks, dk, ex, tr, pl', fi', ne', ct, sk', rv, rs, rn, re, fr, lr, nr, lo, mo, fc, bh, ty, mt, sl) → wpX_take post (nI km, nt, sc, nI kr, nI kn, nI kw, nI kt, mc, nI ks, dk, ex, tr, pl, fi, ne, ct, sk, rv, rs, rn, re, fr, lr, nr, lo, mo, fc, bh, ty, mt, sl) (nI x)) ∧ (∀ post : Int32 → SY → Prop, post r (nI km, nI kr, nI kw, nI kt, nI ks, dk, ex, tr, pl', ct, rv, rs, rn, re, yl, ym, ty, sl) → wpY_take post (nI km, nI kr, nI kw, nI kt, nI ks, dk, ex, tr, pl, ct, rv, rs, rn, re, yl, ym, ty, sl) (nI x)) := by
  obtain ⟨P, hP, hA, hC⟩ := hW
  obtain ⟨nt', sc', sk', hV⟩ := sw_xvis (nt := nt) (sc := sc) (rc := nI kr) (nc := nI kn) (wc := nI kw) (tc := nI kt) (mc := mc) (sd := nI ks) (dk := dk) (ex := ex) (tr := tr) (ct := ct) (sk := sk) (rv := rv) (rs := rs) (rn := rn) (re := re) (fr := fr) (lr := lr) (nr := nr) (lo := lo) (mo := mo) (fc := fc) (bh := bh) (ty := ty) (mt := mt) (sl := sl) hm hx hP hA hC
  have hVY := fun (post : Int32 → Prop) => sw_yvis (post := post) (tr := tr) (dk := dk) (rc := nI kr) (wc := nI kw) (tc := nI kt) (sd := nI ks) (ex := ex) (ct := ct) (rv := rv) (rs := rs) (rn := rn) (re := re) (yl := yl) (ym := ym) (ty := ty) (sl := sl) hm hx hP
  have cl : (nI x).toNatClampNeg = x := nI_clamp (by omega)
  have ix : vp_in (nI x) 8 := vp_in_nI hx (by omega)
  obtain ⟨hf, hpl⟩ := hP x hx
  obtain ⟨y, hy, ey⟩ := hT x hx
  have h1 := sw_tr1 y hy
  rw [← ey] at h1
  by_cases v : sw_vis P tr dk km x = true
  · by_cases p6 : pl x = 6
    · refine ⟨3, nt', sc', sk', pl, fi, ne, ⟨P, hP, hA, hC⟩, fun post K => ?_, fun post K => ?_⟩
      · unfold wpX_take
        dsimp only
        refine hV _ (fun _ => br_f (by decide) ?_) (fun z => sw_ft v z)
        rw [cl]
        exact ⟨ix, br_t p6 K⟩
      · unfold wpY_take
        dsimp only
        refine hVY _ (fun _ => br_f (by decide) ?_) (fun z => sw_ft v z)
        rw [cl]
        exact ⟨ix, br_t p6 K⟩
    · by_cases f : (tr x &&& 1) = 0
      · by_cases c4 : sw_cn P 6 8 < 4
        · obtain ⟨fi', ne', hC', hX⟩ := sw_move (rm := nI km) (nt := nt') (sc := sc') (rc := nI kr) (nc := nI kn) (wc := nI kw) (tc := nI kt) (mc := mc) (sd := nI ks) (dk := dk) (ex := ex) (tr := tr) (pl := pl) (fi := fi) (ne := ne) (ct := ct) (sk := sk') (rv := rv) (rs := rs) (rn := rn) (re := re) (fr := fr) (lr := lr) (nr := nr) (lo := lo) (mo := mo) (fc := fc) (bh := bh) (ty := ty) (mt := mt) (sl := sl) (t := x) (p := 6) hx (by omega) hP hC
          refine ⟨0, nt', sc', sk', upd pl x (nI 6), fi', ne', ⟨_, sw_Pl_u hP (by omega), sw_Ac_u (fun t ht => (hP t ht).1) hA hx (by omega) (fun z => by omega), hC'⟩, fun post K => ?_, fun post K => ?_⟩
          · unfold wpX_take
            dsimp only
            refine hV _ (fun _ => br_f (by decide) ?_) (fun z => sw_ft v z)
            rw [cl]
            exact ⟨ix, br_f p6 ⟨ix, br_t f (sw_xci (p := 6) (by omega) hC (br_t (nI_lt (b := 4) c4 (by omega)) (hX _ K)))⟩⟩
          · unfold wpY_take
            dsimp only
            refine hVY _ (fun _ => br_f (by decide) ?_) (fun z => sw_ft v z)
            rw [cl]
            exact ⟨ix, br_f p6 ⟨ix, br_f (h1.mp f) (sw_yin (p := 6) (by omega) hP (br_t (nI_lt (b := 4) c4 (by omega)) ⟨ix, nm_e K⟩))⟩⟩
        · have c4' : ¬ nI (sw_cn P 6 8) < 4 := by
            have : ∀ n, sw_cn P 6 n ≤ n := by
              intro n
              induction n with
              | zero => exact Nat.le_refl _
              | succ n ih =>
                show sw_cn P 6 n + (if P n = 6 then 1 else 0) ≤ n + 1
                by_cases z : P n = 6
                · rw [if_pos z]; omega
                · rw [if_neg z]; omega
            exact nI_nlt (b := 4) (by omega) (by have := this 8; omega)
          refine ⟨5, nt', sc', sk', pl, fi, ne, ⟨P, hP, hA, hC⟩, fun post K => ?_, fun post K => ?_⟩
          · unfold wpX_take
            dsimp only
            refine hV _ (fun _ => br_f (by decide) ?_) (fun z => sw_ft v z)
            rw [cl]
            exact ⟨ix, br_f p6 ⟨ix, br_t f (sw_xci (p := 6) (by omega) hC (br_f c4' K))⟩⟩
          · unfold wpY_take
            dsimp only
            refine hVY _ (fun _ => br_f (by decide) ?_) (fun z => sw_ft v z)
            rw [cl]
            exact ⟨ix, br_f p6 ⟨ix, br_f (h1.mp f) (sw_yin (p := 6) (by omega) hP (br_f c4' K))⟩⟩
      · refine ⟨4, nt', sc', sk', pl, fi, ne, ⟨P, hP, hA, hC⟩, fun post K => ?_, fun post K => ?_⟩
        · unfold wpX_take
          dsimp only
          refine hV _ (fun _ => br_f (by decide) ?_) (fun z => sw_ft v z)
          rw [cl]
          exact ⟨ix, br_f p6 ⟨ix, br_f f K⟩⟩
        · unfold wpY_take
          dsimp only
          refine hVY _ (fun _ => br_f (by decide) ?_) (fun z => sw_ft v z)
          rw [cl]
          exact ⟨ix, br_f p6 ⟨ix, br_t (Decidable.of_not_not (fun z => f (h1.mpr z))) K⟩⟩
  · have v := sw_tf v
    refine ⟨2, nt', sc', sk', pl, fi, ne, ⟨P, hP, hA, hC⟩, fun post K => ?_, fun post K => ?_⟩
    · unfold wpX_take
      dsimp only
      exact hV _ (fun z => sw_ft z v) (fun _ => br_t rfl K)
    · unfold wpY_take
      dsimp only
      exact hVY _ (fun z => sw_ft z v) (fun _ => br_t rfl K)
theorem sw_cn_le (P : Nat → Nat) (p : Nat) : ∀ n, sw_cn P p n ≤ n := by
  intro n
  induction n with
  | zero => exact Nat.le_refl _
  | succ n ih =>
    show sw_cn P p n + (if P n = p then 1 else 0) ≤ n + 1
    by_cases z : P n = p
    · rw [if_pos z]; omega
    · rw [if_neg z]; omega
theorem sw_put {x b : Nat} (hm : km < 6) (hx : x < 8) (hb : b < 8) (hW : sw_Wo pl fi ne) :
    ∃ r nt' sc' sk' pl' fi' ne', sw_Wo pl' fi' ne' ∧ (∀ post : Int32 → SX → Prop, post r (nI km, nt', sc', nI kr, nI kn, nI kw, nI kt, mc, nI ks, dk, ex, tr, pl', fi', ne', ct, sk', rv, rs, rn, re, fr, lr, nr, lo, mo, fc, bh, ty, mt, sl) → wpX_putIn post (nI km, nt, sc, nI kr, nI kn, nI kw, nI kt, mc, nI ks, dk, ex, tr, pl, fi, ne, ct, sk, rv, rs, rn, re, fr, lr, nr, lo, mo, fc, bh, ty, mt, sl) (nI x) (nI b)) ∧ (∀ post : Int32 → SY → Prop, post r (nI km, nI kr, nI kw, nI kt, nI ks, dk, ex, tr, pl', ct, rv, rs, rn, re, yl, ym, ty, sl) → wpY_put post (nI km, nI kr, nI kw, nI kt, nI ks, dk, ex, tr, pl, ct, rv, rs, rn, re, yl, ym, ty, sl) (nI x) (nI b)) := by
  obtain ⟨P, hP, hA, hC⟩ := hW
  obtain ⟨nt', sc', sk', hV⟩ := sw_xvis (nt := nt) (sc := sc) (rc := nI kr) (nc := nI kn) (wc := nI kw) (tc := nI kt) (mc := mc) (sd := nI ks) (dk := dk) (ex := ex) (tr := tr) (ct := ct) (sk := sk) (rv := rv) (rs := rs) (rn := rn) (re := re) (fr := fr) (lr := lr) (nr := nr) (lo := lo) (mo := mo) (fc := fc) (bh := bh) (ty := ty) (mt := mt) (sl := sl) hm hb hP hA hC
  have hVY := fun (post : Int32 → Prop) => sw_yvis (post := post) (tr := tr) (dk := dk) (rc := nI kr) (wc := nI kw) (tc := nI kt) (sd := nI ks) (ex := ex) (ct := ct) (rv := rv) (rs := rs) (rn := rn) (re := re) (yl := yl) (ym := ym) (ty := ty) (sl := sl) hm hb hP
  have cl : (nI x).toNatClampNeg = x := nI_clamp (by omega)
  have ix : vp_in (nI x) 8 := vp_in_nI hx (by omega)
  have clb : (nI b).toNatClampNeg = b := nI_clamp (by omega)
  have ib : vp_in (nI b) 8 := vp_in_nI hb (by omega)
  have e8 : (8 : Int32) + nI b = nI (8 + b) := nI_add 8 b
  have w8 : sw_wo P x (8 + b) = sw_wi P x 9 b := by
    unfold sw_wo
    rw [decide_eq_true (by omega), Bool.true_and, show 8 + b - 8 = b from by omega]
  by_cases p6 : pl x = 6
  · by_cases v : sw_vis P tr dk km b = true
    · by_cases f2 : (tr b &&& 2) = 0
      · refine ⟨7, nt', sc', sk', pl, fi, ne, ⟨P, hP, hA, hC⟩, fun post K => ?_, fun post K => ?_⟩
        · unfold wpX_putIn
          dsimp only
          rw [cl, clb]
          exact ⟨ix, br_t p6 (hV _ (fun _ => br_f (by decide) ⟨ib, br_t f2 K⟩) (fun z => sw_ft v z))⟩
        · unfold wpY_put
          dsimp only
          rw [cl, clb]
          exact ⟨ix, br_t p6 (hVY _ (fun _ => br_f (by decide) ⟨ib, br_t f2 K⟩) (fun z => sw_ft v z))⟩
      · by_cases w : sw_wi P x 9 b = true
        · refine ⟨7, nt', sc', sk', pl, fi, ne, ⟨P, hP, hA, hC⟩, fun post K => ?_, fun post K => ?_⟩
          · unfold wpX_putIn
            dsimp only
            rw [cl, clb, e8]
            exact ⟨ix, br_t p6 (hV _ (fun _ => br_f (by decide) ⟨ib, br_f f2 (sw_xwl hx (by omega) hP hA (fun _ => br_f (by decide) K) (fun z => sw_ft w (w8 ▸ z)))⟩) (fun z => sw_ft v z))⟩
          · unfold wpY_put
            dsimp only
            rw [cl, clb]
            exact ⟨ix, br_t p6 (hVY _ (fun _ => br_f (by decide) ⟨ib, br_f f2 (sw_ywi hx hb hP (fun _ => br_f (by decide) K) (fun z => sw_ft w z))⟩) (fun z => sw_ft v z))⟩
        · have w := sw_tf w
          by_cases f4 : (tr b &&& 4) = 0
          · refine ⟨8, nt', sc', sk', pl, fi, ne, ⟨P, hP, hA, hC⟩, fun post K => ?_, fun post K => ?_⟩
            · unfold wpX_putIn
              dsimp only
              rw [cl, clb, e8]
              exact ⟨ix, br_t p6 (hV _ (fun _ => br_f (by decide) ⟨ib, br_f f2 (sw_xwl hx (by omega) hP hA (fun z => sw_ft (w8 ▸ z) w) (fun _ => br_t rfl ⟨ib, br_t f4 K⟩))⟩) (fun z => sw_ft v z))⟩
            · unfold wpY_put
              dsimp only
              rw [cl, clb]
              exact ⟨ix, br_t p6 (hVY _ (fun _ => br_f (by decide) ⟨ib, br_f f2 (sw_ywi hx hb hP (fun z => sw_ft z w) (fun _ => br_t rfl ⟨ib, br_t f4 K⟩))⟩) (fun z => sw_ft v z))⟩
          · by_cases c3 : sw_cn P (8 + b) 8 < 3
            · obtain ⟨fi', ne', hC', hX⟩ := sw_move (rm := nI km) (nt := nt') (sc := sc') (rc := nI kr) (nc := nI kn) (wc := nI kw) (tc := nI kt) (mc := mc) (sd := nI ks) (dk := dk) (ex := ex) (tr := tr) (pl := pl) (fi := fi) (ne := ne) (ct := ct) (sk := sk') (rv := rv) (rs := rs) (rn := rn) (re := re) (fr := fr) (lr := lr) (nr := nr) (lo := lo) (mo := mo) (fc := fc) (bh := bh) (ty := ty) (mt := mt) (sl := sl) (t := x) (p := 8 + b) hx (by omega) hP hC
              refine ⟨0, nt', sc', sk', upd pl x (nI (8 + b)), fi', ne', ⟨_, sw_Pl_u hP (by omega), sw_Ac_u (fun t ht => (hP t ht).1) hA hx (by omega) (sw_wo_f (w8.trans w)), hC'⟩, fun post K => ?_, fun post K => ?_⟩
              · unfold wpX_putIn
                dsimp only
                rw [cl, clb, e8]
                exact ⟨ix, br_t p6 (hV _ (fun _ => br_f (by decide) ⟨ib, br_f f2 (sw_xwl hx (by omega) hP hA (fun z => sw_ft (w8 ▸ z) w) (fun _ => br_t rfl ⟨ib, br_f f4 (sw_xci (by omega) hC (br_t (nI_lt (b := 3) c3 (by omega)) (hX _ K)))⟩))⟩) (fun z => sw_ft v z))⟩
              · unfold wpY_put
                dsimp only
                rw [cl, clb, e8]
                exact ⟨ix, br_t p6 (hVY _ (fun _ => br_f (by decide) ⟨ib, br_f f2 (sw_ywi hx hb hP (fun z => sw_ft z w) (fun _ => br_t rfl ⟨ib, br_f f4 (sw_yin (by omega) hP (br_t (nI_lt (b := 3) c3 (by omega)) ⟨ix, nm_e K⟩))⟩))⟩) (fun z => sw_ft v z))⟩
            · have c3' : ¬ nI (sw_cn P (8 + b) 8) < 3 := nI_nlt (b := 3) (by omega) (by have := sw_cn_le P (8 + b) 8; omega)
              refine ⟨5, nt', sc', sk', pl, fi, ne, ⟨P, hP, hA, hC⟩, fun post K => ?_, fun post K => ?_⟩
              · unfold wpX_putIn
                dsimp only
                rw [cl, clb, e8]
                exact ⟨ix, br_t p6 (hV _ (fun _ => br_f (by decide) ⟨ib, br_f f2 (sw_xwl hx (by omega) hP hA (fun z => sw_ft (w8 ▸ z) w) (fun _ => br_t rfl ⟨ib, br_f f4 (sw_xci (by omega) hC (br_f c3' K))⟩))⟩) (fun z => sw_ft v z))⟩
              · unfold wpY_put
                dsimp only
                rw [cl, clb, e8]
                exact ⟨ix, br_t p6 (hVY _ (fun _ => br_f (by decide) ⟨ib, br_f f2 (sw_ywi hx hb hP (fun z => sw_ft z w) (fun _ => br_t rfl ⟨ib, br_f f4 (sw_yin (by omega) hP (br_f c3' K))⟩))⟩) (fun z => sw_ft v z))⟩
    · have v := sw_tf v
      refine ⟨2, nt', sc', sk', pl, fi, ne, ⟨P, hP, hA, hC⟩, fun post K => ?_, fun post K => ?_⟩
      · unfold wpX_putIn
        dsimp only
        rw [cl]
        exact ⟨ix, br_t p6 (hV _ (fun z => sw_ft z v) (fun _ => br_t rfl K))⟩
      · unfold wpY_put
        dsimp only
        rw [cl]
        exact ⟨ix, br_t p6 (hVY _ (fun z => sw_ft z v) (fun _ => br_t rfl K))⟩
  · refine ⟨6, nt, sc, sk, pl, fi, ne, ⟨P, hP, hA, hC⟩, fun post K => ?_, fun post K => ?_⟩
    · unfold wpX_putIn
      dsimp only
      rw [cl]
      exact ⟨ix, br_f p6 K⟩
    · unfold wpY_put
      dsimp only
      rw [cl]
      exact ⟨ix, br_f p6 K⟩
theorem sw_turn {x : Nat} {o : Int32} (hm : km < 6) (hx : x < 8) (ho : o = 0 ∨ o = 1) (hT : sw_Tr tr) (hW : sw_Wo pl fi ne) :
    ∃ r nt' sc' sk' tr', sw_Tr tr' ∧ (∀ post : Int32 → SX → Prop, post r (nI km, nt', sc', nI kr, nI kn, nI kw, nI kt, mc, nI ks, dk, ex, tr', pl, fi, ne, ct, sk', rv, rs, rn, re, fr, lr, nr, lo, mo, fc, bh, ty, mt, sl) → wpX_turn post (nI km, nt, sc, nI kr, nI kn, nI kw, nI kt, mc, nI ks, dk, ex, tr, pl, fi, ne, ct, sk, rv, rs, rn, re, fr, lr, nr, lo, mo, fc, bh, ty, mt, sl) (nI x) o) ∧ (∀ post : Int32 → SY → Prop, post r (nI km, nI kr, nI kw, nI kt, nI ks, dk, ex, tr', pl, ct, rv, rs, rn, re, yl, ym, ty, sl) → wpY_open post (nI km, nI kr, nI kw, nI kt, nI ks, dk, ex, tr, pl, ct, rv, rs, rn, re, yl, ym, ty, sl) (nI x) o) := by
  obtain ⟨P, hP, hA, hC⟩ := hW
  obtain ⟨nt', sc', sk', hV⟩ := sw_xvis (nt := nt) (sc := sc) (rc := nI kr) (nc := nI kn) (wc := nI kw) (tc := nI kt) (mc := mc) (sd := nI ks) (dk := dk) (ex := ex) (tr := tr) (ct := ct) (sk := sk) (rv := rv) (rs := rs) (rn := rn) (re := re) (fr := fr) (lr := lr) (nr := nr) (lo := lo) (mo := mo) (fc := fc) (bh := bh) (ty := ty) (mt := mt) (sl := sl) hm hx hP hA hC
  have hVY := fun (post : Int32 → Prop) => sw_yvis (post := post) (tr := tr) (dk := dk) (rc := nI kr) (wc := nI kw) (tc := nI kt) (sd := nI ks) (ex := ex) (ct := ct) (rv := rv) (rs := rs) (rn := rn) (re := re) (yl := yl) (ym := ym) (ty := ty) (sl := sl) hm hx hP
  have cl : (nI x).toNatClampNeg = x := nI_clamp (by omega)
  have ix : vp_in (nI x) 8 := vp_in_nI hx (by omega)
  by_cases v : sw_vis P tr dk km x = true
  · by_cases f2 : (tr x &&& 2) = 0
    · refine ⟨7, nt', sc', sk', tr, hT, fun post K => ?_, fun post K => ?_⟩
      · unfold wpX_turn
        dsimp only
        rw [cl]
        exact hV _ (fun _ => br_f (by decide) ⟨ix, br_t f2 K⟩) (fun z => sw_ft v z)
      · unfold wpY_open
        dsimp only
        rw [cl]
        exact hVY _ (fun _ => br_f (by decide) ⟨ix, br_t f2 K⟩) (fun z => sw_ft v z)
    · obtain ⟨y, hy, ey⟩ := hT x hx
      obtain ⟨n4, y', hy', ey'⟩ := sw_tr4 y hy
      rw [← ey] at n4 ey'
      have hT' : sw_Tr (upd tr x (tr x ^^^ 4)) := by
        intro j hj
        by_cases e : j = x
        · subst e; rw [pk_us]; exact ⟨y', hy', ey'⟩
        · rw [pk_un e]; exact hT j hj
      have key : ∀ zz : Int32, ∃ r tr', sw_Tr tr' ∧ (∀ post : Int32 → SX → Prop, post r (nI km, nt', sc', nI kr, nI kn, nI kw, nI kt, mc, nI ks, dk, ex, tr', pl, fi, ne, ct, sk', rv, rs, rn, re, fr, lr, nr, lo, mo, fc, bh, ty, mt, sl) → wX_turn_40 post (nI x) o zz (nI km) nt' sc' (nI kr) (nI kn) (nI kw) (nI kt) mc (nI ks) dk ex tr pl fi ne ct sk' rv rs rn re fr lr nr lo mo fc bh ty mt sl) ∧ (∀ post : Int32 → SY → Prop, post r (nI km, nI kr, nI kw, nI kt, nI ks, dk, ex, tr', pl, ct, rv, rs, rn, re, yl, ym, ty, sl) → wY_open_40 post (nI x) o zz (nI km) (nI kr) (nI kw) (nI kt) (nI ks) dk ex tr pl ct rv rs rn re yl ym ty sl) := by
        intro zz
        by_cases e : zz = o
        · refine ⟨10, tr, hT, fun post K => ?_, fun post K => ?_⟩
          · unfold wX_turn_40
            exact br_t e K
          · unfold wY_open_40
            exact br_t e K
        · refine ⟨0, upd tr x (tr x ^^^ 4), hT', fun post K => ?_, fun post K => ?_⟩
          · unfold wX_turn_40
            rw [cl, n4]
            exact br_f e ⟨ix, ix, nm_e K⟩
          · unfold wY_open_40
            rw [cl]
            exact br_f e ⟨ix, ix, nm_e K⟩
      by_cases f4 : (tr x &&& 4) = 0
      · obtain ⟨r, tr', h1, h2, h3⟩ := key 0
        refine ⟨r, nt', sc', sk', tr', h1, fun post K => ?_, fun post K => ?_⟩
        · unfold wpX_turn
          dsimp only
          rw [cl]
          exact hV _ (fun _ => br_f (by decide) ⟨ix, br_f f2 ⟨ix, br_t f4 (h2 _ K)⟩⟩) (fun z => sw_ft v z)
        · unfold wpY_open
          dsimp only
          rw [cl]
          exact hVY _ (fun _ => br_f (by decide) ⟨ix, br_f f2 ⟨ix, br_t f4 (h3 _ K)⟩⟩) (fun z => sw_ft v z)
      · obtain ⟨r, tr', h1, h2, h3⟩ := key 1
        refine ⟨r, nt', sc', sk', tr', h1, fun post K => ?_, fun post K => ?_⟩
        · unfold wpX_turn
          dsimp only
          rw [cl]
          exact hV _ (fun _ => br_f (by decide) ⟨ix, br_f f2 ⟨ix, br_f f4 (h2 _ K)⟩⟩) (fun z => sw_ft v z)
        · unfold wpY_open
          dsimp only
          rw [cl]
          exact hVY _ (fun _ => br_f (by decide) ⟨ix, br_f f2 ⟨ix, br_f f4 (h3 _ K)⟩⟩) (fun z => sw_ft v z)
  · have v := sw_tf v
    refine ⟨2, nt', sc', sk', tr, hT, fun post K => ?_, fun post K => ?_⟩
    · unfold wpX_turn
      dsimp only
      exact hV _ (fun z => sw_ft z v) (fun _ => br_t rfl K)
    · unfold wpY_open
      dsimp only
      exact hVY _ (fun z => sw_ft z v) (fun _ => br_t rfl K)
end
end
section
/-! carryOut: both sides go through the rules in step -/
section
variable {km kr kn kw kt ks : Nat} {nt sc mc : Int32} {dk ex tr pl fi ne ct sk rv rs rn re fr lr nr lo mo fc bh ty mt sl yl ym : Nat → Int32}
/-- one rule that fits by its subject -/
theorem sw_step {i x v : Nat} {y z : Int32} (hz : z = 0 ∨ z = 1) (hm : km < 6) (hs : ks < 1000000) (hT : sw_Tr tr) (hW : sw_Wo pl fi ne) (hR : sw_Ru kr rv rn re fr lr nr) (hi : i < kr) :
    ∃ (z' : Int32) (km' ks' : Nat) (pl' fi' ne' ct' sl' : Nat → Int32), (z' = 0 ∨ z' = 1) ∧ km' < 6 ∧ ks' ≤ ks + 1 ∧ sw_Wo pl' fi' ne' ∧
    (∀ (post : Int32 → SX → Prop) (J : Int32 → Int32 → Int32 → Int32 → Int32 → Int32 → Int32 → Int32 → Int32 → Int32 → Int32 → (Nat → Int32) → (Nat → Int32) → (Nat → Int32) → (Nat → Int32) → (Nat → Int32) → (Nat → Int32) → (Nat → Int32) → (Nat → Int32) → (Nat → Int32) → (Nat → Int32) → (Nat → Int32) → (Nat → Int32) → (Nat → Int32) → (Nat → Int32) → (Nat → Int32) → (Nat → Int32) → (Nat → Int32) → (Nat → Int32) → (Nat → Int32) → (Nat → Int32) → (Nat → Int32) → (Nat → Int32) → Prop),
      J z' (nr i) (nI km') nt sc (nI kr) (nI kn) (nI kw) (nI kt) mc (nI ks') dk ex tr pl' fi' ne' ct' sk rv rs rn re fr lr nr lo mo fc bh ty mt sl' → wX_carryOut_38 post J (nI v) (nI x) y z (nI i) (nI km) nt sc (nI kr) (nI kn) (nI kw) (nI kt) mc (nI ks) dk ex tr pl fi ne ct sk rv rs rn re fr lr nr lo mo fc bh ty mt sl) ∧
    (∀ (post : Int32 → SY → Prop) (J : Int32 → Int32 → Int32 → Int32 → Int32 → Int32 → Int32 → (Nat → Int32) → (Nat → Int32) → (Nat → Int32) → (Nat → Int32) → (Nat → Int32) → (Nat → Int32) → (Nat → Int32) → (Nat → Int32) → (Nat → Int32) → (Nat → Int32) → (Nat → Int32) → (Nat → Int32) → (Nat → Int32) → Prop),
      J z' (nI (i + 1)) (nI km') (nI kr) (nI kw) (nI kt) (nI ks') dk ex tr pl' ct' rv rs rn re yl ym ty sl' → wY_carryOut_48 post J (nI v) (nI x) y z (nI i) (nI km) (nI kr) (nI kw) (nI kt) (nI ks) dk ex tr pl ct rv rs rn re yl ym ty sl) := by
  obtain ⟨hc, -, hcd, hef, -⟩ := hR
  obtain ⟨cc, hcc, ecc⟩ := hcd i hi
  obtain ⟨e, he, ee⟩ := hef i hi
  have cl : (nI i).toNatClampNeg = i := nI_clamp (by omega)
  have ii : vp_in (nI i) 16 := vp_in_nI (by omega) (by omega)
  obtain ⟨r, hX, hY⟩ := sw_hold (yl := yl) (ym := ym) (rm := nI km) (nt := nt) (sc := sc) (rc := nI kr) (nc := nI kn) (wc := nI kw) (tc := nI kt) (mc := mc) (sd := nI ks) (dk := dk) (ex := ex) (tr := tr) (pl := pl) (fi := fi) (ne := ne) (ct := ct) (sk := sk) (rv := rv) (rs := rs) (rn := rn) (re := re) (fr := fr) (lr := lr) (nr := nr) (lo := lo) (mo := mo) (fc := fc) (bh := bh) (ty := ty) (mt := mt) (sl := sl) hcc hT
  by_cases r0 : r = 0
  · refine ⟨z, km, ks, pl, fi, ne, ct, sl, hz, hm, by omega, hW, fun post J K => ?_, fun post J K => ?_⟩
    · unfold wX_carryOut_38
      rw [cl, ecc]
      exact ⟨ii, hX _ (br_t r0 ⟨ii, nm_e K⟩)⟩
    · unfold wY_carryOut_48
      rw [cl, ecc]
      exact ⟨ii, hY _ (br_t r0 (nm_r (nI_1 i) K))⟩
  · obtain ⟨km', ks', pl', fi', ne', ct', sl', h1, h2, h3, aX, aY⟩ := sw_act (yl := yl) (ym := ym) (km := km) (kr := kr) (kn := kn) (kw := kw) (kt := kt) (ks := ks) (nt := nt) (sc := sc) (mc := mc) (dk := dk) (ex := ex) (tr := tr) (pl := pl) (fi := fi) (ne := ne) (ct := ct) (sk := sk) (rv := rv) (rs := rs) (rn := rn) (re := re) (fr := fr) (lr := lr) (nr := nr) (lo := lo) (mo := mo) (fc := fc) (bh := bh) (ty := ty) (mt := mt) (sl := sl) he hm hs hW
    have st := sw_stop e he.1
    by_cases s : e < 1024
    · refine ⟨z, km', ks', pl', fi', ne', ct', sl', hz, h1, h2, h3, fun post J K => ?_, fun post J K => ?_⟩
      · unfold wX_carryOut_38
        rw [cl, ecc, ee]
        refine ⟨ii, hX _ (br_f r0 ⟨ii, aX _ ?_⟩)⟩
        dsimp only
        rw [ee]
        exact ⟨ii, br_t (st.mpr s) ⟨ii, nm_e K⟩⟩
      · unfold wY_carryOut_48
        rw [cl, ecc, ee]
        refine ⟨ii, hY _ (br_f r0 ⟨ii, aY _ ?_⟩)⟩
        dsimp only
        rw [ee]
        exact ⟨ii, br_t (nI_lt (b := 1024) s (by omega)) (nm_r (nI_1 i) K)⟩
    · refine ⟨1, km', ks', pl', fi', ne', ct', sl', Or.inr rfl, h1, h2, h3, fun post J K => ?_, fun post J K => ?_⟩
      · unfold wX_carryOut_38
        rw [cl, ecc, ee]
        refine ⟨ii, hX _ (br_f r0 ⟨ii, aX _ ?_⟩)⟩
        dsimp only
        rw [ee]
        exact ⟨ii, br_f (fun q => s (st.mp q)) ⟨ii, nm_e K⟩⟩
      · unfold wY_carryOut_48
        rw [cl, ecc, ee]
        refine ⟨ii, hY _ (br_f r0 ⟨ii, aY _ ?_⟩)⟩
        dsimp only
        rw [ee]
        exact ⟨ii, br_f (nI_nlt (b := 1024) (by omega) (by have := he.1; omega)) (nm_r (nI_1 i) K)⟩
/-- behind the last rule -/
theorem sw_end {B x v : Nat} {y z : Int32} (hz : z = 0 ∨ z = 1) (hv : v < 6) (hx : x < 8) (hx0 : v = 0 → x < 4) (hy : v = 3 → ∃ b, b < 8 ∧ y = nI b)
    (F : sw_Fa B km kr kn kw kt ks ex tr pl fi ne rv rn re fr lr nr lo mo fc bh ty yl ym) :
    ∃ r u' v', sw_Re B u' v' ∧ (∀ (post : Int32 → SX → Prop) (n : Nat), post r u' → wX_carryOut_11 post (nI v) (nI x) y (n + 1) z (-1) (nI km) nt sc (nI kr) (nI kn) (nI kw) (nI kt) mc (nI ks) dk ex tr pl fi ne ct sk rv rs rn re fr lr nr lo mo fc bh ty mt sl) ∧ (∀ (post : Int32 → SY → Prop) (n : Nat), post r v' → wY_carryOut_6 post (nI v) (nI x) y (n + 1) z (nI kr) (nI km) (nI kr) (nI kw) (nI kt) (nI ks) dk ex tr pl ct rv rs rn re yl ym ty sl) := by
  have F' := F
  obtain ⟨hm, hs, hE, hT, hW, hR, hD, hY⟩ := F
  have lk : nI kr ≤ nI kr := Int32.le_refl _
  rcases hz with rfl | rfl
  · have hvv : v = 0 ∨ v = 1 ∨ v = 2 ∨ v = 3 ∨ v = 4 ∨ v = 5 := by omega
    rcases hvv with rfl | rfl | rfl | rfl | rfl | rfl
    · obtain ⟨r, km', h1, hX, hY'⟩ := sw_go (yl := yl) (ym := ym) (kr := kr) (kn := kn) (kw := kw) (kt := kt) (ks := ks) (nt := nt) (sc := sc) (mc := mc) (dk := dk) (ex := ex) (tr := tr) (pl := pl) (fi := fi) (ne := ne) (ct := ct) (sk := sk) (rv := rv) (rs := rs) (rn := rn) (re := re) (fr := fr) (lr := lr) (nr := nr) (lo := lo) (mo := mo) (fc := fc) (bh := bh) (ty := ty) (mt := mt) (sl := sl) hm (hx0 rfl) hE
      refine ⟨r, _, _, sw_Re_i (kr := kr) (kn := kn) (kw := kw) (kt := kt) (nt := nt) (sc := sc) (mc := mc) (dk := dk) (ex := ex) (tr := tr) (pl := pl) (fi := fi) (ne := ne) (ct := ct) (sk := sk) (rv := rv) (rs := rs) (rn := rn) (re := re) (fr := fr) (lr := lr) (nr := nr) (lo := lo) (mo := mo) (fc := fc) (bh := bh) (ty := ty) (mt := mt) (sl := sl) (km := km') (ks := ks) (yl := yl) (ym := ym) ⟨h1, hs, hE, hT, hW, hR, hD, hY⟩, fun post n K => ?_, fun post n K => ?_⟩
      · unfold wX_carryOut_11
        exact br_t sw_m1lt (br_t rfl (br_t rfl (hX _ K)))
      · unfold wY_carryOut_6
        exact br_t lk (br_t rfl (br_t rfl (hY' _ K)))
    · obtain ⟨r, nt', sc', sk', pl', fi', ne', h1, hX, hY'⟩ := sw_take (yl := yl) (ym := ym) (km := km) (kr := kr) (kn := kn) (kw := kw) (kt := kt) (ks := ks) (nt := nt) (sc := sc) (mc := mc) (dk := dk) (ex := ex) (tr := tr) (pl := pl) (fi := fi) (ne := ne) (ct := ct) (sk := sk) (rv := rv) (rs := rs) (rn := rn) (re := re) (fr := fr) (lr := lr) (nr := nr) (lo := lo) (mo := mo) (fc := fc) (bh := bh) (ty := ty) (mt := mt) (sl := sl) hm hx hT hW
      refine ⟨r, _, _, sw_Re_i (km := km) (kr := kr) (kn := kn) (kw := kw) (kt := kt) (ks := ks) (nt := nt') (sc := sc') (mc := mc) (dk := dk) (ex := ex) (tr := tr) (pl := pl') (fi := fi') (ne := ne') (ct := ct) (sk := sk') (rv := rv) (rs := rs) (rn := rn) (re := re) (fr := fr) (lr := lr) (nr := nr) (lo := lo) (mo := mo) (fc := fc) (bh := bh) (ty := ty) (mt := mt) (sl := sl) (yl := yl) (ym := ym) ⟨hm, hs, hE, hT, h1, hR, hD, hY⟩, fun post n K => ?_, fun post n K => ?_⟩
      · unfold wX_carryOut_11
        exact br_t sw_m1lt (br_t rfl (br_f (by decide) (br_t rfl (hX _ K))))
      · unfold wY_carryOut_6
        exact br_t lk (br_t rfl (br_f (by decide) (br_t rfl (hY' _ K))))
    · obtain ⟨P, hP, hA, hC⟩ := hW
      have cl : (nI x).toNatClampNeg = x := nI_clamp (by omega)
      have ix : vp_in (nI x) 8 := vp_in_nI hx (by omega)
      by_cases p6 : pl x = 6
      · obtain ⟨fi', ne', hC', hX⟩ := sw_move (rm := nI km) (nt := nt) (sc := sc) (rc := nI kr) (nc := nI kn) (wc := nI kw) (tc := nI kt) (mc := mc) (sd := nI ks) (dk := dk) (ex := ex) (tr := tr) (pl := pl) (fi := fi) (ne := ne) (ct := ct) (sk := sk) (rv := rv) (rs := rs) (rn := rn) (re := re) (fr := fr) (lr := lr) (nr := nr) (lo := lo) (mo := mo) (fc := fc) (bh := bh) (ty := ty) (mt := mt) (sl := sl) (t := x) (p := km) hx (by omega) hP hC
        refine ⟨0, _, _, sw_Re_i (km := km) (kr := kr) (kn := kn) (kw := kw) (kt := kt) (ks := ks) (nt := nt) (sc := sc) (mc := mc) (dk := dk) (ex := ex) (tr := tr) (pl := upd pl x (nI km)) (fi := fi') (ne := ne') (ct := ct) (sk := sk) (rv := rv) (rs := rs) (rn := rn) (re := re) (fr := fr) (lr := lr) (nr := nr) (lo := lo) (mo := mo) (fc := fc) (bh := bh) (ty := ty) (mt := mt) (sl := sl) (yl := yl) (ym := ym) ⟨hm, hs, hE, hT, ⟨_, sw_Pl_u hP (by omega), sw_Ac_u (fun t ht => (hP t ht).1) hA hx (by omega) (fun q => by omega), hC'⟩, hR, hD, hY⟩, fun post n K => ?_, fun post n K => ?_⟩
        · unfold wX_carryOut_11
          refine br_t sw_m1lt (br_t rfl (br_f (by decide) (br_f (by decide) (br_t rfl ?_))))
          unfold wpX_drop
          dsimp only
          rw [cl]
          exact ⟨ix, br_t p6 (hX _ K)⟩
        · unfold wY_carryOut_6
          rw [cl]
          exact br_t lk (br_t rfl (br_f (by decide) (br_f (by decide) (br_t rfl ⟨ix, br_t p6 ⟨ix, nm_e K⟩⟩))))
      · refine ⟨6, _, _, sw_Re_i (km := km) (kr := kr) (kn := kn) (kw := kw) (kt := kt) (ks := ks) (nt := nt) (sc := sc) (mc := mc) (dk := dk) (ex := ex) (tr := tr) (pl := pl) (fi := fi) (ne := ne) (ct := ct) (sk := sk) (rv := rv) (rs := rs) (rn := rn) (re := re) (fr := fr) (lr := lr) (nr := nr) (lo := lo) (mo := mo) (fc := fc) (bh := bh) (ty := ty) (mt := mt) (sl := sl) (yl := yl) (ym := ym) F', fun post n K => ?_, fun post n K => ?_⟩
        · unfold wX_carryOut_11
          refine br_t sw_m1lt (br_t rfl (br_f (by decide) (br_f (by decide) (br_t rfl ?_))))
          unfold wpX_drop
          dsimp only
          rw [cl]
          exact ⟨ix, br_f p6 K⟩
        · unfold wY_carryOut_6
          rw [cl]
          exact br_t lk (br_t rfl (br_f (by decide) (br_f (by decide) (br_t rfl ⟨ix, br_f p6 K⟩))))
    · obtain ⟨b, hb, rfl⟩ := hy rfl
      obtain ⟨r, nt', sc', sk', pl', fi', ne', h1, hX, hY'⟩ := sw_put (yl := yl) (ym := ym) (km := km) (kr := kr) (kn := kn) (kw := kw) (kt := kt) (ks := ks) (nt := nt) (sc := sc) (mc := mc) (dk := dk) (ex := ex) (tr := tr) (pl := pl) (fi := fi) (ne := ne) (ct := ct) (sk := sk) (rv := rv) (rs := rs) (rn := rn) (re := re) (fr := fr) (lr := lr) (nr := nr) (lo := lo) (mo := mo) (fc := fc) (bh := bh) (ty := ty) (mt := mt) (sl := sl) hm hx hb hW
      refine ⟨r, _, _, sw_Re_i (km := km) (kr := kr) (kn := kn) (kw := kw) (kt := kt) (ks := ks) (nt := nt') (sc := sc') (mc := mc) (dk := dk) (ex := ex) (tr := tr) (pl := pl') (fi := fi') (ne := ne') (ct := ct) (sk := sk') (rv := rv) (rs := rs) (rn := rn) (re := re) (fr := fr) (lr := lr) (nr := nr) (lo := lo) (mo := mo) (fc := fc) (bh := bh) (ty := ty) (mt := mt) (sl := sl) (yl := yl) (ym := ym) ⟨hm, hs, hE, hT, h1, hR, hD, hY⟩, fun post n K => ?_, fun post n K => ?_⟩
      · unfold wX_carryOut_11
        exact br_t sw_m1lt (br_t rfl (br_f (by decide) (br_f (by decide) (br_f (by decide) (br_t rfl (hX _ K))))))
      · unfold wY_carryOut_6
        exact br_t lk (br_t rfl (br_f (by decide) (br_f (by decide) (br_f (by decide) (br_t rfl (hY' _ K))))))
    · obtain ⟨r, nt', sc', sk', tr', h1, hX, hY'⟩ := sw_turn (yl := yl) (ym := ym) (km := km) (kr := kr) (kn := kn) (kw := kw) (kt := kt) (ks := ks) (nt := nt) (sc := sc) (mc := mc) (dk := dk) (ex := ex) (tr := tr) (pl := pl) (fi := fi) (ne := ne) (ct := ct) (sk := sk) (rv := rv) (rs := rs) (rn := rn) (re := re) (fr := fr) (lr := lr) (nr := nr) (lo := lo) (mo := mo) (fc := fc) (bh := bh) (ty := ty) (mt := mt) (sl := sl) hm hx (Or.inr rfl) hT hW
      refine ⟨r, _, _, sw_Re_i (km := km) (kr := kr) (kn := kn) (kw := kw) (kt := kt) (ks := ks) (nt := nt') (sc := sc') (mc := mc) (dk := dk) (ex := ex) (tr := tr') (pl := pl) (fi := fi) (ne := ne) (ct := ct) (sk := sk') (rv := rv) (rs := rs) (rn := rn) (re := re) (fr := fr) (lr := lr) (nr := nr) (lo := lo) (mo := mo) (fc := fc) (bh := bh) (ty := ty) (mt := mt) (sl := sl) (yl := yl) (ym := ym) ⟨hm, hs, hE, h1, hW, hR, hD, hY⟩, fun post n K => ?_, fun post n K => ?_⟩
      · unfold wX_carryOut_11 wX_carryOut_160
        exact br_t sw_m1lt (br_t rfl (br_f (by decide) (br_f (by decide) (br_f (by decide) (br_f (by decide) (br_t rfl (hX _ K)))))))
      · unfold wY_carryOut_6 wY_carryOut_180
        exact br_t lk (br_t rfl (br_f (by decide) (br_f (by decide) (br_f (by decide) (br_f (by decide) (br_t rfl (hY' _ K)))))))
    · obtain ⟨r, nt', sc', sk', tr', h1, hX, hY'⟩ := sw_turn (yl := yl) (ym := ym) (km := km) (kr := kr) (kn := kn) (kw := kw) (kt := kt) (ks := ks) (nt := nt) (sc := sc) (mc := mc) (dk := dk) (ex := ex) (tr := tr) (pl := pl) (fi := fi) (ne := ne) (ct := ct) (sk := sk) (rv := rv) (rs := rs) (rn := rn) (re := re) (fr := fr) (lr := lr) (nr := nr) (lo := lo) (mo := mo) (fc := fc) (bh := bh) (ty := ty) (mt := mt) (sl := sl) hm hx (Or.inl rfl) hT hW
      refine ⟨r, _, _, sw_Re_i (km := km) (kr := kr) (kn := kn) (kw := kw) (kt := kt) (ks := ks) (nt := nt') (sc := sc') (mc := mc) (dk := dk) (ex := ex) (tr := tr') (pl := pl) (fi := fi) (ne := ne) (ct := ct) (sk := sk') (rv := rv) (rs := rs) (rn := rn) (re := re) (fr := fr) (lr := lr) (nr := nr) (lo := lo) (mo := mo) (fc := fc) (bh := bh) (ty := ty) (mt := mt) (sl := sl) (yl := yl) (ym := ym) ⟨hm, hs, hE, h1, hW, hR, hD, hY⟩, fun post n K => ?_, fun post n K => ?_⟩
      · unfold wX_carryOut_11 wX_carryOut_160
        exact br_t sw_m1lt (br_t rfl (br_f (by decide) (br_f (by decide) (br_f (by decide) (br_f (by decide) (br_f (by decide) (hX _ K)))))))
      · unfold wY_carryOut_6 wY_carryOut_180
        exact br_t lk (br_t rfl (br_f (by decide) (br_f (by decide) (br_f (by decide) (br_f (by decide) (br_f (by decide) (hY' _ K)))))))
  · refine ⟨1, _, _, sw_Re_i (km := km) (kr := kr) (kn := kn) (kw := kw) (kt := kt) (ks := ks) (nt := nt) (sc := sc) (mc := mc) (dk := dk) (ex := ex) (tr := tr) (pl := pl) (fi := fi) (ne := ne) (ct := ct) (sk := sk) (rv := rv) (rs := rs) (rn := rn) (re := re) (fr := fr) (lr := lr) (nr := nr) (lo := lo) (mo := mo) (fc := fc) (bh := bh) (ty := ty) (mt := mt) (sl := sl) (yl := yl) (ym := ym) F', fun post n K => ?_, fun post n K => ?_⟩
    · unfold wX_carryOut_11
      exact br_t sw_m1lt (br_f (by decide) K)
    · unfold wY_carryOut_6
      exact br_t lk (br_f (by decide) K)
/-- from rule i on -/
theorem sw_loop {B x v : Nat} {y : Int32} (hB : B < 1000000) (hv : v < 6) (hx : x < 8) (hx0 : v = 0 → x < 4) (hy : v = 3 → ∃ b, b < 8 ∧ y = nI b)
    (hE : sw_Ex ex) (hT : sw_Tr tr) (hR : sw_Ru kr rv rn re fr lr nr) (hD : sw_Wd kn kw lo mo fc bh yl ym) (hY : sw_Ty kt ty) :
    ∀ (d i : Nat) (z h : Int32) (km ks : Nat) (pl fi ne ct sl : Nat → Int32), d + i = kr → (z = 0 ∨ z = 1) → km < 6 → ks + d ≤ B → sw_Wo pl fi ne → sw_Ch nr h (sw_F rv (nI v) d i) →
    ∃ r u' v', sw_Re B u' v' ∧ (∀ (post : Int32 → SX → Prop) (n : Nat), d < n → post r u' → wX_carryOut_11 post (nI v) (nI x) y n z h (nI km) nt sc (nI kr) (nI kn) (nI kw) (nI kt) mc (nI ks) dk ex tr pl fi ne ct sk rv rs rn re fr lr nr lo mo fc bh ty mt sl) ∧ (∀ (post : Int32 → SY → Prop) (n : Nat), d < n → post r v' → wY_carryOut_6 post (nI v) (nI x) y n z (nI i) (nI km) (nI kr) (nI kw) (nI kt) (nI ks) dk ex tr pl ct rv rs rn re yl ym ty sl) := by
  intro d
  induction d with
  | zero =>
    intro i z h km ks pl fi ne ct sl hi hz hm hs hW hc
    have hc' : h = -1 := hc
    have hi' : i = kr := by omega
    subst hc' hi'
    obtain ⟨r, u', v', h1, hX, hYY⟩ := sw_end (km := km) (kn := kn) (kw := kw) (kt := kt) (ks := ks) (nt := nt) (sc := sc) (mc := mc) (dk := dk) (ex := ex) (tr := tr) (pl := pl) (fi := fi) (ne := ne) (ct := ct) (sk := sk) (rv := rv) (rs := rs) (rn := rn) (re := re) (fr := fr) (lr := lr) (nr := nr) (lo := lo) (mo := mo) (fc := fc) (bh := bh) (ty := ty) (mt := mt) (sl := sl) (kr := i) (yl := yl) (ym := ym) (y := y) hz hv hx hx0 hy ⟨hm, by omega, hE, hT, hW, hR, hD, hY⟩
    refine ⟨r, u', v', h1, fun post n hn K => ?_, fun post n hn K => ?_⟩
    · cases n with
      | zero => exact absurd hn (Nat.not_lt_zero _)
      | succ n => exact hX post n K
    · cases n with
      | zero => exact absurd hn (Nat.not_lt_zero _)
      | succ n => exact hYY post n K
  | succ d ih =>
    intro i z h km ks pl fi ne ct sl hi hz hm hs hW hc
    have k16 := hR.1
    have cl : (nI i).toNatClampNeg = i := nI_clamp (by omega)
    have ii : vp_in (nI i) 16 := vp_in_nI (by omega) (by omega)
    have nl : ¬ nI kr ≤ nI i := nI_ge (by omega) (by omega)
    by_cases ev : rv i = nI v
    · rw [sw_F_t ev] at hc
      obtain ⟨hc1, hc2⟩ := hc
      subst hc1
      by_cases es : rs i = nI x ∨ rs i = -1
      · obtain ⟨z', km', ks', pl', fi', ne', ct', sl', g1, g2, g3, g4, sX, sY⟩ := sw_step (x := x) (v := v) (y := y) (yl := yl) (ym := ym) (km := km) (kr := kr) (kn := kn) (kw := kw) (kt := kt) (ks := ks) (nt := nt) (sc := sc) (mc := mc) (dk := dk) (ex := ex) (tr := tr) (pl := pl) (fi := fi) (ne := ne) (ct := ct) (sk := sk) (rv := rv) (rs := rs) (rn := rn) (re := re) (fr := fr) (lr := lr) (nr := nr) (lo := lo) (mo := mo) (fc := fc) (bh := bh) (ty := ty) (mt := mt) (sl := sl) hz hm (by omega) hT hW hR (i := i) (by omega)
        obtain ⟨r, u', v', h1, hX, hYY⟩ := ih (i + 1) z' (nr i) km' ks' pl' fi' ne' ct' sl' (by omega) g1 g2 (by omega) g4 hc2
        refine ⟨r, u', v', h1, fun post n hn K => ?_, fun post n hn K => ?_⟩
        · cases n with
          | zero => exact absurd hn (Nat.not_lt_zero _)
          | succ n =>
            have st := sX post (wX_carryOut_11 post (nI v) (nI x) y n) (hX post n (by omega) K)
            unfold wX_carryOut_11
            rw [cl]
            refine br_f (nI_pos (by omega)) ⟨ii, br_c (fun _ => st) fun e1 => ⟨ii, br_t (es.resolve_left e1) st⟩⟩
        · cases n with
          | zero => exact absurd hn (Nat.not_lt_zero _)
          | succ n =>
            have st := sY post (wY_carryOut_6 post (nI v) (nI x) y n) (hYY post n (by omega) K)
            unfold wY_carryOut_6
            rw [cl]
            refine br_f nl ⟨ii, br_t ev ⟨ii, br_c (fun _ => st) fun e1 => ⟨ii, br_t (es.resolve_left e1) st⟩⟩⟩
      · have e1 : ¬ rs i = nI x := fun q => es (Or.inl q)
        have e2 : ¬ rs i = -1 := fun q => es (Or.inr q)
        obtain ⟨r, u', v', h1, hX, hYY⟩ := ih (i + 1) z (nr i) km ks pl fi ne ct sl (by omega) hz hm (by omega) hW hc2
        refine ⟨r, u', v', h1, fun post n hn K => ?_, fun post n hn K => ?_⟩
        · cases n with
          | zero => exact absurd hn (Nat.not_lt_zero _)
          | succ n =>
            have st := hX post n (by omega) K
            unfold wX_carryOut_11
            rw [cl]
            exact br_f (nI_pos (by omega)) ⟨ii, br_f e1 ⟨ii, br_f e2 ⟨ii, nm_e st⟩⟩⟩
        · cases n with
          | zero => exact absurd hn (Nat.not_lt_zero _)
          | succ n =>
            have st := hYY post n (by omega) K
            unfold wY_carryOut_6
            rw [cl]
            exact br_f nl ⟨ii, br_t ev ⟨ii, br_f e1 ⟨ii, br_f e2 (nm_r (nI_1 i) st)⟩⟩⟩
    · rw [sw_F_f ev] at hc
      obtain ⟨r, u', v', h1, hX, hYY⟩ := ih (i + 1) z h km ks pl fi ne ct sl (by omega) hz hm (by omega) hW hc
      refine ⟨r, u', v', h1, fun post n hn K => hX post n (by omega) K, fun post n hn K => ?_⟩
      cases n with
      | zero => exact absurd hn (Nat.not_lt_zero _)
      | succ n =>
        have st := hYY post n (by omega) K
        unfold wY_carryOut_6
        rw [cl]
        exact br_f nl ⟨ii, br_f ev (nm_r (nI_1 i) st)⟩
theorem sw_carry {B x v : Nat} {y : Int32} (hB : B < 100000) (hv : v < 6) (hx : x < 8) (hx0 : v = 0 → x < 4) (hy : v = 3 → ∃ b, b < 8 ∧ y = nI b)
    (F : sw_Fa B km kr kn kw kt ks ex tr pl fi ne rv rn re fr lr nr lo mo fc bh ty yl ym) :
    sw_O (sw_Re (B + 16)) (fun post => wpX_carryOut post (nI km, nt, sc, nI kr, nI kn, nI kw, nI kt, mc, nI ks, dk, ex, tr, pl, fi, ne, ct, sk, rv, rs, rn, re, fr, lr, nr, lo, mo, fc, bh, ty, mt, sl) (nI v) (nI x) y) (fun post => wpY_carryOut post (nI km, nI kr, nI kw, nI kt, nI ks, dk, ex, tr, pl, ct, rv, rs, rn, re, yl, ym, ty, sl) (nI v) (nI x) y) := by
  obtain ⟨hm, hs, hE, hT, hW, hR, hD, hY⟩ := F
  have k16 := hR.1
  have cl : (nI v).toNatClampNeg = v := nI_clamp (by omega)
  obtain ⟨r, u', v', h1, hX, hYY⟩ := sw_loop (B := B + 16) (x := x) (y := y) (yl := yl) (ym := ym) (nt := nt) (sc := sc) (mc := mc) (dk := dk) (sk := sk) (rs := rs) (mt := mt) (by omega) hv hx hx0 hy hE hT hR hD hY kr 0 0 (fr v) km ks pl fi ne ct sl (by omega) (Or.inl rfl) hm (by omega) hW (hR.2.2.2.2 v hv).1
  refine ⟨r, u', v', h1, fun post K => ?_, fun post K => ?_⟩
  · unfold wpX_carryOut
    dsimp only
    rw [cl]
    exact ⟨vp_in_nI hv (by omega), nm_e ⟨kr + 1, hX post _ (by omega) K⟩⟩
  · unfold wpY_carryOut
    exact ⟨kr + 1, hYY post _ (by omega) K⟩
end
end
section
/-! the tree of letters: pure -/
theorem sw_T_pre {q : Nat} {lo fc bh : Nat → Int32} {pa : Nat → List Nat} (h : sw_T q lo fc bh pa) : ∀ s p, (∃ c, c < q ∧ pa c = s ++ p) → ∃ m, m < q ∧ pa m = p := by
  intro s
  induction s with
  | nil => rintro p ⟨c, hc, e⟩; exact ⟨c, hc, e⟩
  | cons x s ih =>
    rintro p ⟨c, hc, e⟩
    obtain ⟨h1, h2, h3, h4, h5⟩ := h
    have c0 : 0 < c := by
      rcases Nat.eq_zero_or_pos c with z | z
      · subst z; rw [h2] at e; exact absurd e (by simp)
      · exact z
    obtain ⟨n, l, hn, e2, -⟩ := h5 c hc c0
    rw [e, List.cons_append] at e2
    exact ih p ⟨n, hn, (List.cons.inj e2).2.symm⟩
theorem sw_T_let {q : Nat} {lo fc bh : Nat → Int32} {pa : Nat → List Nat} (h : sw_T q lo fc bh pa) : ∀ k n, n < q → (pa n).length ≤ k → ∀ x, x ∈ pa n → 0 < x ∧ x < 27 := by
  intro k
  induction k with
  | zero =>
    intro n _ hl x hx
    have := List.length_pos_of_mem hx
    omega
  | succ k ih =>
    intro n hn hl x hx
    have h2 := h.2.1
    have c0 : 0 < n := by
      rcases Nat.eq_zero_or_pos n with z | z
      · subst z; rw [h2] at hx; exact absurd hx List.not_mem_nil
      · exact z
    obtain ⟨m, l, hm, e2, -, l0, l27⟩ := h.2.2.2.2 n hn c0
    rw [e2] at hx hl
    simp only [List.length_cons] at hl
    rcases List.mem_cons.mp hx with e | m'
    · subst e; exact ⟨l0, l27⟩
    · exact ih m hm (by omega) x m'
/-- a letter hung in -/
theorem sw_T_h {q n l : Nat} {lo fc bh : Nat → Int32} {pa : Nat → List Nat} (h : sw_T q lo fc bh pa) (hn : n < q) (l0 : 0 < l) (l27 : l < 27) (hno : ∀ c, c < q → pa c ≠ l :: pa n) :
    sw_T (q + 1) (upd lo q (nI l)) (upd (upd fc q (-1)) n (nI q)) (upd bh q (fc n)) (sw_up pa q (l :: pa n)) := by
  obtain ⟨h1, h2, h3, h4, h5⟩ := h
  have pq : sw_up pa q (l :: pa n) q = l :: pa n := sw_ups
  have pn : ∀ j, j < q → sw_up pa q (l :: pa n) j = pa j := fun j hj => sw_upn (by omega)
  have hpar : ∀ c, c < q → ∀ l' p, pa c = l' :: p → ∃ m, m < q ∧ pa m = p := by
    intro c hc l' p e
    exact sw_T_pre ⟨h1, h2, h3, h4, h5⟩ [l'] p ⟨c, hc, e⟩
  refine ⟨by omega, ?_, ?_, ?_, ?_⟩
  · rw [pn 0 (by omega)]; exact h2
  · intro a b ha hb e
    by_cases za : a = q
    · by_cases zb : b = q
      · omega
      · rw [za, pq, pn b (by omega)] at e
        exact absurd e.symm (hno b (by omega))
    · by_cases zb : b = q
      · rw [zb, pq, pn a (by omega)] at e
        exact absurd e (hno a (by omega))
      · rw [pn a (by omega), pn b (by omega)] at e
        exact h3 a b (by omega) (by omega) e
  · intro j hj
    by_cases zj : j = q
    · subst zj
      refine ⟨[], ?_, fun c => ⟨fun m => absurd m List.not_mem_nil, ?_⟩⟩
      · rw [pk_un (by omega), pk_us]; exact rfl
      · rintro ⟨hc, l', e⟩
        rw [pq] at e
        by_cases zc : c = j
        · rw [zc, pq] at e
          have := congrArg List.length e
          simp only [List.length_cons] at this
          omega
        · rw [pn c (by omega)] at e
          obtain ⟨m, hm, em⟩ := hpar c (by omega) _ _ e
          exact absurd em (hno m hm)
    · obtain ⟨C, hC, hm⟩ := h4 j (by omega)
      have qC : q ∉ C := fun m => by have := ((hm q).mp m).1; omega
      rw [pn j (by omega)]
      by_cases zn : j = n
      · subst zn
        refine ⟨q :: C, ⟨?_, ?_⟩, fun c => ?_⟩
        · rw [pk_us]
        · rw [pk_us]; exact sw_Ch_u qC hC
        · rw [List.mem_cons, hm c]
          constructor
          · rintro (e | ⟨hc, l', e⟩)
            · subst e; exact ⟨by omega, l, pq⟩
            · exact ⟨by omega, l', by rw [pn c hc]; exact e⟩
          · rintro ⟨hc, l', e⟩
            by_cases zc : c = q
            · exact Or.inl zc
            · rw [pn c (by omega)] at e
              exact Or.inr ⟨by omega, l', e⟩
      · refine ⟨C, ?_, fun c => ?_⟩
        · rw [pk_un zn, pk_un zj]; exact sw_Ch_u qC hC
        · rw [hm c]
          constructor
          · rintro ⟨hc, l', e⟩
            exact ⟨by omega, l', by rw [pn c hc]; exact e⟩
          · rintro ⟨hc, l', e⟩
            by_cases zc : c = q
            · rw [zc, pq] at e
              have := h3 n j hn (by omega) (List.cons.inj e).2
              omega
            · rw [pn c (by omega)] at e
              exact ⟨by omega, l', e⟩
  · intro c hc c0
    by_cases zc : c = q
    · subst zc
      refine ⟨n, l, by omega, ?_, pk_us, l0, l27⟩
      rw [pq, pn n hn]
    · obtain ⟨m, l', hm, e, el, r⟩ := h5 c (by omega) c0
      refine ⟨m, l', by omega, ?_, ?_, r⟩
      · rw [pn c (by omega), pn m hm]; exact e
      · rw [pk_un zc]; exact el
/-- padded lists that agree are one -/
theorem sw_ext : ∀ f g : List Nat, (∀ x, x ∈ f → 0 < x) → (∀ x, x ∈ g → 0 < x) → (∀ j, f.getD j 0 = g.getD j 0) → f = g := by
  intro f
  induction f with
  | nil =>
    intro g _ hg h
    cases g with
    | nil => rfl
    | cons b g =>
      have h0 : 0 = b := h 0
      have := hg b List.mem_cons_self
      omega
  | cons a f ih =>
    intro g hf hg h
    cases g with
    | nil =>
      have h0 : a = 0 := h 0
      have := hf a List.mem_cons_self
      omega
    | cons b g =>
      have h0 : a = b := h 0
      have h1 : f = g := ih g (fun x m => hf x (List.mem_cons_of_mem _ m)) (fun x m => hg x (List.mem_cons_of_mem _ m)) (fun j => h (j + 1))
      rw [h0, h1]
theorem sw_getD_out : ∀ (l : List Nat) (j : Nat), l.length ≤ j → l.getD j 0 = 0 := by
  intro l
  induction l with
  | nil => intro j _; rfl
  | cons a l ih =>
    intro j h
    cases j with
    | zero => simp only [List.length_cons] at h; omega
    | succ j => exact ih j (by simp only [List.length_cons] at h; omega)
theorem sw_getD_b : ∀ (l : List Nat) (j : Nat), (∀ x, x ∈ l → x < 27) → l.getD j 0 < 27 := by
  intro l
  induction l with
  | nil => intro j _; exact (by decide : 0 < 27)
  | cons a l ih =>
    intro j h
    cases j with
    | zero => exact h a List.mem_cons_self
    | succ j => exact ih j (fun x m => h x (List.mem_cons_of_mem _ m))
/-- a word of the list is the word looked for if its node's way is -/
theorem sw_same {q w i : Nat} {lo fc bh mo yl ym : Nat → Int32} {pa : Nat → List Nat} {wn : Nat → Nat} {ds : List Nat} (hT : sw_T q lo fc bh pa) (hl : ∀ n, n < q → (pa n).length ≤ 4) (hW : sw_Wn q w mo yl ym pa wn)
    (d4 : ds.length ≤ 4) (dp : ∀ x, x ∈ ds → 0 < x ∧ x < 27) (hi : i < w) :
    (yl (4 * i) = nI (ds.getD 0 0) ∧ yl (4 * i + 1) = nI (ds.getD 1 0) ∧ yl (4 * i + 2) = nI (ds.getD 2 0) ∧ yl (4 * i + 3) = nI (ds.getD 3 0)) ↔ pa (wn i) = ds.reverse := by
  obtain ⟨hn, -, -, hy⟩ := hW.1 i hi
  have hlen := hl _ hn
  have hlet := sw_T_let hT 4 _ hn hlen
  have y0 : yl (4 * i) = nI ((pa (wn i)).reverse.getD 0 0) := hy 0 (by omega)
  have y1 := hy 1 (by omega)
  have y2 := hy 2 (by omega)
  have y3 := hy 3 (by omega)
  rw [y0, y1, y2, y3]
  constructor
  · rintro ⟨e0, e1, e2, e3⟩
    have b1 : ∀ j, (pa (wn i)).reverse.getD j 0 < 27 := fun j => sw_getD_b _ j (fun x m => (hlet x (List.mem_reverse.mp m)).2)
    have b2 : ∀ j, ds.getD j 0 < 27 := fun j => sw_getD_b _ j (fun x m => (dp x m).2)
    have inj : ∀ j, nI ((pa (wn i)).reverse.getD j 0) = nI (ds.getD j 0) → (pa (wn i)).reverse.getD j 0 = ds.getD j 0 := by
      intro j e
      have := b1 j
      have := b2 j
      exact sw_inj e (by omega) (by omega)
    have key : (pa (wn i)).reverse = ds := by
      refine sw_ext _ _ (fun x m => (hlet x (List.mem_reverse.mp m)).1) (fun x m => (dp x m).1) (fun j => ?_)
      rcases Nat.lt_or_ge j 4 with z | z
      · have : j = 0 ∨ j = 1 ∨ j = 2 ∨ j = 3 := by omega
        rcases this with rfl | rfl | rfl | rfl
        · exact inj 0 e0
        · exact inj 1 e1
        · exact inj 2 e2
        · exact inj 3 e3
      · rw [sw_getD_out _ j (by rw [List.length_reverse]; omega), sw_getD_out ds j (by omega)]
    rw [← key, List.reverse_reverse]
  · intro e
    rw [e, List.reverse_reverse]
    exact ⟨rfl, rfl, rfl, rfl⟩
/-! digits -/
def sw_dg : Nat → Nat → List Nat
  | 0, _ => []
  | f + 1, r => if r = 0 then [] else r % 27 :: sw_dg f (r / 27)
theorem sw_dg_0 (f : Nat) : sw_dg f 0 = [] := by cases f <;> rfl
theorem sw_dg_s {f r : Nat} (h : r ≠ 0) : sw_dg (f + 1) r = r % 27 :: sw_dg f (r / 27) := if_neg h
theorem sw_dg_len : ∀ f r, (sw_dg f r).length ≤ f := by
  intro f
  induction f with
  | zero => intro r; exact Nat.le_refl _
  | succ f ih =>
    intro r
    by_cases z : r = 0
    · subst z; rw [sw_dg_0]; exact Nat.zero_le _
    · rw [sw_dg_s z, List.length_cons]
      have := ih (r / 27)
      omega
theorem sw_dg_lt : ∀ f r x, x ∈ sw_dg f r → x < 27 := by
  intro f
  induction f with
  | zero => intro r x h; exact absurd h List.not_mem_nil
  | succ f ih =>
    intro r x h
    by_cases z : r = 0
    · subst z; rw [sw_dg_0] at h; exact absurd h List.not_mem_nil
    · rw [sw_dg_s z] at h
      rcases List.mem_cons.mp h with e | m
      · subst e; exact Nat.mod_lt _ (by omega)
      · exact ih _ x m
theorem sw_dg_get : ∀ f r j, j < f → (sw_dg f r).getD j 0 = r / 27 ^ j % 27 := by
  intro f
  induction f with
  | zero => intro r j h; omega
  | succ f ih =>
    intro r j h
    by_cases z : r = 0
    · subst z; rw [sw_dg_0, Nat.zero_div]; rfl
    · rw [sw_dg_s z]
      cases j with
      | zero => rw [Nat.pow_zero, Nat.div_one]; rfl
      | succ j =>
        show (sw_dg f (r / 27)).getD j 0 = _
        rw [ih (r / 27) j (by omega), Nat.div_div_eq_div_mul, Nat.pow_succ, Nat.mul_comm 27]
/-- no letter behind an end -/
def sw_gd : Nat → Nat → Bool
  | 0, _ => true
  | d + 1, r => if r % 27 = 0 then decide (r / 27 = 0) else sw_gd d (r / 27)
theorem sw_gd_z {d r : Nat} (h : r % 27 = 0) : sw_gd (d + 1) r = decide (r / 27 = 0) := if_pos h
theorem sw_gd_n {d r : Nat} (h : ¬ r % 27 = 0) : sw_gd (d + 1) r = sw_gd d (r / 27) := if_neg h
theorem sw_gd_pos : ∀ f r, sw_gd f r = true → ∀ x, x ∈ sw_dg f r → 0 < x := by
  intro f
  induction f with
  | zero => intro r _ x h; exact absurd h List.not_mem_nil
  | succ f ih =>
    intro r h x hx
    by_cases z : r = 0
    · subst z; rw [sw_dg_0] at hx; exact absurd hx List.not_mem_nil
    · rw [sw_dg_s z] at hx
      by_cases y : r % 27 = 0
      · rw [sw_gd_z y, decide_eq_true_eq] at h
        omega
      · rw [sw_gd_n y] at h
        rcases List.mem_cons.mp hx with e | m
        · omega
        · exact ih _ h x m
/-- the walk of a word's digits -/
def sw_ok (v : Nat) : Prop := ¬ v % 27 = 0 ∧ sw_gd 3 (v / 27) = true
theorem sw_ok_pos {v : Nat} (h : sw_ok v) : ∀ x, x ∈ sw_dg 4 v → 0 < x ∧ x < 27 := by
  intro x hx
  refine ⟨sw_gd_pos 4 v ?_ x hx, sw_dg_lt 4 v x hx⟩
  rw [sw_gd_n h.1]
  exact h.2
theorem sw_rem {r : Nat} (h : r < 2 ^ 31) : nI r - nI r / 27 * 27 = nI (r % 27) := pk_rem (d := 27) h (by omega) (by omega)
theorem sw_div {r : Nat} (h : r < 2 ^ 31) : nI r / 27 = nI (r / 27) := pk_div (d := 27) h (by omega) (by omega)
theorem sw_27 : ¬ (27 : Int32) = 0 := by decide
end
section
/-! words: the walks -/
section
variable {rm nt sc rc nc wc tc mc sd : Int32} {dk ex tr pl fi ne ct sk rv rs rn re fr lr nr lo mo fc bh ty mt sl : Nat → Int32} {yl ym : Nat → Int32}
theorem sw_xch7 {post : Int32 → Prop} {l : Nat} : ∀ (C : List Nat) (h : Int32) (n : Nat), C.length < n → sw_Ch bh h C → (∀ c, c ∈ C → c < 100) →
    (∀ c, c ∈ C → lo c = nI l → post (nI c)) → ((∀ c, c ∈ C → ¬ lo c = nI l) → post (-1)) → wX_childOf_7 post (nI l) rm nt sc rc nc wc tc mc sd dk ex tr pl fi ne ct sk rv rs rn re fr lr nr lo mo fc bh ty mt sl n h := by
  intro C
  induction C with
  | nil =>
    intro h n hn c _ _ h0
    cases n with
    | zero => exact absurd hn (Nat.not_lt_zero _)
    | succ n =>
      have c' : h = -1 := c
      subst c'
      unfold wX_childOf_7
      exact br_t sw_m1lt (h0 (fun c m => absurd m List.not_mem_nil))
  | cons t C ih =>
    intro h n hn c hC h1 h0
    cases n with
    | zero => exact absurd hn (Nat.not_lt_zero _)
    | succ n =>
      obtain ⟨c1, c2⟩ := c
      subst c1
      simp only [List.length_cons] at hn
      have ht := hC t List.mem_cons_self
      have it : vp_in (nI t) 100 := vp_in_nI ht (by omega)
      unfold wX_childOf_7
      rw [sw_cl (a := t) (by omega)]
      refine br_f (nI_pos (by omega)) ⟨it, br_c (fun e => h1 t List.mem_cons_self e) (fun e => ⟨it, nm_e ?_⟩)⟩
      refine ih (bh t) n (by omega) c2 (fun c m => hC c (List.mem_cons_of_mem _ m)) (fun c m => h1 c (List.mem_cons_of_mem _ m)) (fun hh => h0 (fun c m => ?_))
      rcases List.mem_cons.mp m with e' | m'
      · rw [e']; exact e
      · exact hh c m'
theorem sw_xch {post : Int32 → Prop} {q n l : Nat} {pa : Nat → List Nat} (hT : sw_T q lo fc bh pa) (hq : q ≤ 100) (hn : n < q) (hl : l < 27)
    (h1 : ∀ c, c < q → pa c = l :: pa n → post (nI c)) (h0 : (∀ c, c < q → pa c ≠ l :: pa n) → post (-1)) : wpX_childOf post (rm, nt, sc, rc, nc, wc, tc, mc, sd, dk, ex, tr, pl, fi, ne, ct, sk, rv, rs, rn, re, fr, lr, nr, lo, mo, fc, bh, ty, mt, sl) (nI n) (nI l) := by
  obtain ⟨C, hC, hm⟩ := hT.2.2.2.1 n hn
  have key : ∀ c, c ∈ C → ∃ l', pa c = l' :: pa n ∧ lo c = nI l' ∧ l' < 27 := by
    intro c m
    obtain ⟨hc, l', e⟩ := (hm c).mp m
    have c0 : 0 < c := by
      rcases Nat.eq_zero_or_pos c with z | z
      · subst z; rw [hT.2.1] at e; exact absurd e (by simp)
      · exact z
    obtain ⟨n2, l2, -, e2, e3, -, e5⟩ := hT.2.2.2.2 c hc c0
    rw [e] at e2
    exact ⟨l2, by rw [e, (List.cons.inj e2).1], e3, e5⟩
  unfold wpX_childOf
  dsimp only
  rw [sw_cl (a := n) (by omega)]
  refine ⟨vp_in_nI (by omega) (by omega), nm_e ⟨C.length + 1, ?_⟩⟩
  refine sw_xch7 C _ _ (by omega) hC (fun c m => by have := ((hm c).mp m).1; omega) (fun c m e => ?_) (fun hh => h0 (fun c hc e => ?_))
  · obtain ⟨l', e1, e2, e3⟩ := key c m
    rw [e2] at e
    have := sw_inj e (by omega) (by omega)
    subst this
    exact h1 c ((hm c).mp m).1 e1
  · have m := (hm c).mpr ⟨hc, l, e⟩
    obtain ⟨l', e1, e2, e3⟩ := key c m
    rw [e] at e1
    rw [← (List.cons.inj e1).1] at e2
    exact hh c m e2
theorem sw_xw23 {post : Int32 → SX → Prop} {x1 x2 : Int32} {q : Nat} {pa : Nat → List Nat} (hT : sw_T q lo fc bh pa) (hq : q ≤ 100) :
    ∀ (f r n k : Nat), f + 1 < k → r < 27 ^ f → r < 2 ^ 31 → n < q →
    (∀ m, m < q → pa m = List.reverseAux (sw_dg f r) (pa n) → wX_word_53 post x1 x2 (nI m) rm nt sc rc nc wc tc mc sd dk ex tr pl fi ne ct sk rv rs rn re fr lr nr lo mo fc bh ty mt sl) →
    ((∀ m, m < q → pa m ≠ List.reverseAux (sw_dg f r) (pa n)) → wX_word_53 post x1 x2 (-1) rm nt sc rc nc wc tc mc sd dk ex tr pl fi ne ct sk rv rs rn re fr lr nr lo mo fc bh ty mt sl) → wX_word_23 post x1 x2 rm nt sc rc nc wc tc mc sd dk ex tr pl fi ne ct sk rv rs rn re fr lr nr lo mo fc bh ty mt sl k (nI n) (nI r) := by
  intro f
  induction f with
  | zero =>
    intro r n k hk hr _ hn h1 _
    cases k with
    | zero => omega
    | succ k =>
      have : r = 0 := by rw [Nat.pow_zero] at hr; omega
      subst this
      unfold wX_word_23
      exact br_t (by decide) (h1 n hn rfl)
  | succ f ih =>
    intro r n k hk hr hr2 hn h1 h0
    cases k with
    | zero => omega
    | succ k =>
      by_cases z : r = 0
      · subst z
        unfold wX_word_23
        exact br_t (by decide) (h1 n hn rfl)
      · rw [sw_dg_s z] at h1 h0
        have hr' : r / 27 < 27 ^ f := by
          rw [Nat.pow_succ] at hr
          exact Nat.div_lt_of_lt_mul (by rw [Nat.mul_comm]; exact hr)
        unfold wX_word_23
        rw [sw_rem hr2, sw_div hr2]
        refine br_f (nI_nle (by omega) hr2) (br_f (nI_pos (by omega)) ⟨sw_27, ?_⟩)
        refine sw_xch hT hq hn (Nat.mod_lt _ (by omega)) (fun c hc e => ⟨sw_27, nm_e ?_⟩) (fun hno => ⟨sw_27, nm_e ?_⟩)
        · refine ih (r / 27) c k (by omega) hr' (by omega) hc (fun m hm em => h1 m hm ?_) (fun hno => h0 (fun m hm em => hno m hm ?_))
          · rw [em, e]; rfl
          · rw [em, e]; rfl
        · have h0' := h0 (fun m hm em => by
            have em' : pa m = (sw_dg f (r / 27)).reverse ++ (r % 27 :: pa n) := by
              rw [em]
              show List.reverseAux (sw_dg f (r / 27)) (r % 27 :: pa n) = _
              rw [List.reverseAux_eq]
            obtain ⟨m2, hm2, e2⟩ := sw_T_pre hT _ _ ⟨m, hm, em'⟩
            exact hno m2 hm2 e2)
          cases k with
          | zero => omega
          | succ k =>
            unfold wX_word_23
            exact br_c (fun _ => h0') fun _ => br_t sw_m1lt h0'
/-- the node is there: nothing is hung in -/
theorem sw_xpw1 {post : Int32 → SX → Prop} {q : Nat} {pa : Nat → List Nat} (hT : sw_T q lo fc bh pa) (hq : q ≤ 100) :
    ∀ (f r n k : Nat), f < k → r < 27 ^ f → r < 2 ^ 31 → n < q → ∀ m, m < q → pa m = List.reverseAux (sw_dg f r) (pa n) → post (nI m) (rm, nt, sc, rc, nc, wc, tc, mc, sd, dk, ex, tr, pl, fi, ne, ct, sk, rv, rs, rn, re, fr, lr, nr, lo, mo, fc, bh, ty, mt, sl) → wX_placeWord_4 post k (nI n) (nI r) rm nt sc rc nc wc tc mc sd dk ex tr pl fi ne ct sk rv rs rn re fr lr nr lo mo fc bh ty mt sl := by
  intro f
  induction f with
  | zero =>
    intro r n k hk hr _ hn m hm e K
    cases k with
    | zero => omega
    | succ k =>
      have : r = 0 := by rw [Nat.pow_zero] at hr; omega
      subst this
      have : m = n := hT.2.2.1 m n hm hn e
      subst this
      unfold wX_placeWord_4
      exact br_t (by decide) K
  | succ f ih =>
    intro r n k hk hr hr2 hn m hm e K
    cases k with
    | zero => omega
    | succ k =>
      by_cases z : r = 0
      · subst z
        rw [sw_dg_0] at e
        have : m = n := hT.2.2.1 m n hm hn e
        subst this
        unfold wX_placeWord_4
        exact br_t (by decide) K
      · rw [sw_dg_s z] at e
        have hr' : r / 27 < 27 ^ f := by
          rw [Nat.pow_succ] at hr
          exact Nat.div_lt_of_lt_mul (by rw [Nat.mul_comm]; exact hr)
        unfold wX_placeWord_4
        rw [sw_rem hr2, sw_div hr2]
        refine br_f (nI_nle (by omega) hr2) ⟨sw_27, nm_e ?_⟩
        refine sw_xch hT hq hn (Nat.mod_lt _ (by omega)) (fun c hc ec => br_t (nI_pos' (by omega)) ⟨sw_27, nm_e ?_⟩) (fun hno => ?_)
        · refine ih (r / 27) c k (by omega) hr' (by omega) hc m hm ?_ K
          rw [e, ec]; rfl
        · have em' : pa m = (sw_dg f (r / 27)).reverse ++ (r % 27 :: pa n) := by
            rw [e]
            show List.reverseAux (sw_dg f (r / 27)) (r % 27 :: pa n) = _
            rw [List.reverseAux_eq]
          obtain ⟨m2, hm2, e2⟩ := sw_T_pre hT _ _ ⟨m, hm, em'⟩
          exact absurd e2 (hno m2 hm2)
theorem sw_xhang {post : Int32 → SX → Prop} {q n l : Nat} {pa : Nat → List Nat} (hT : sw_T q lo fc bh pa) (hq : q < 100) (hn : n < q) (hl : l < 27)
    (K : post (nI q) (rm, nt, sc, rc, nI (q + 1), wc, tc, mc, sd, dk, ex, tr, pl, fi, ne, ct, sk, rv, rs, rn, re, fr, lr, nr, upd lo q (nI l), upd mo q (-1), upd (upd fc q (-1)) n (nI q), upd bh q (fc n), ty, mt, sl)) : wpX_hang post (rm, nt, sc, rc, nI q, wc, tc, mc, sd, dk, ex, tr, pl, fi, ne, ct, sk, rv, rs, rn, re, fr, lr, nr, lo, mo, fc, bh, ty, mt, sl) (nI n) (nI l) := by
  obtain ⟨C, hC, hm⟩ := hT.2.2.2.1 n hn
  have iq : vp_in (nI q) 100 := vp_in_nI hq (by omega)
  have jn : vp_in (nI n) 100 := vp_in_nI (by omega) (by omega)
  have ef : vp_nar .byte (fc n) = fc n := sw_Ch_b hC (fun c m => by have := ((hm c).mp m).1; omega)
  have e1 : upd fc q (-1) n = fc n := pk_un (by omega)
  unfold wpX_hang
  dsimp only
  rw [sw_cl (a := q) (by omega), sw_cl (a := n) (by omega), sw_vb2 (n := l) (by omega), sw_vb2 (n := q) (by omega), sw_vm]
  refine nm_r (nI_1 q) ⟨iq, nm_e ⟨iq, nm_e ⟨iq, nm_e ⟨jn, iq, ?_⟩⟩⟩⟩
  rw [e1, ef]
  exact nm_e ⟨jn, nm_e K⟩
/-- letters that aren't there are hung in -/
theorem sw_xpw2 {post : Int32 → SX → Prop} : ∀ (f r n k q : Nat) (lo mo fc bh : Nat → Int32) (pa : Nat → List Nat), f < k → r < 27 ^ f → r < 2 ^ 31 → (∀ x, x ∈ sw_dg f r → 0 < x ∧ x < 27) → sw_T q lo fc bh pa → q + f ≤ 100 → n < q →
    (∀ j, j < q → (pa j).length ≤ 4) → (pa n).length + f ≤ 4 →
    (∀ (q' : Nat) (lo' mo' fc' bh' : Nat → Int32) (pa' : Nat → List Nat) (m : Nat), sw_T q' lo' fc' bh' pa' → q ≤ q' → q' ≤ q + f → (∀ j, j < q → pa' j = pa j ∧ mo' j = mo j) → (∀ j, q ≤ j → j < q' → mo' j = -1) →
      (∀ j, j < q' → (pa' j).length ≤ 4) → m < q' → pa' m = List.reverseAux (sw_dg f r) (pa n) → post (nI m) (rm, nt, sc, rc, nI q', wc, tc, mc, sd, dk, ex, tr, pl, fi, ne, ct, sk, rv, rs, rn, re, fr, lr, nr, lo', mo', fc', bh', ty, mt, sl)) →
    wX_placeWord_4 post k (nI n) (nI r) rm nt sc rc (nI q) wc tc mc sd dk ex tr pl fi ne ct sk rv rs rn re fr lr nr lo mo fc bh ty mt sl := by
  intro f
  induction f with
  | zero =>
    intro r n k q lo mo fc bh pa hk hr _ _ hT hq hn h4 _ K
    cases k with
    | zero => omega
    | succ k =>
      have : r = 0 := by rw [Nat.pow_zero] at hr; omega
      subst this
      unfold wX_placeWord_4
      exact br_t (by decide) (K q lo mo fc bh pa n hT (by omega) (by omega) (fun j _ => ⟨rfl, rfl⟩) (fun j h1 h2 => by omega) h4 hn rfl)
  | succ f ih =>
    intro r n k q lo mo fc bh pa hk hr hr2 hpos hT hq hn h4 hn4 K
    cases k with
    | zero => omega
    | succ k =>
      by_cases z : r = 0
      · subst z
        unfold wX_placeWord_4
        exact br_t (by decide) (K q lo mo fc bh pa n hT (by omega) (by omega) (fun j _ => ⟨rfl, rfl⟩) (fun j h1 h2 => by omega) h4 hn rfl)
      · rw [sw_dg_s z] at hpos K
        have hr' : r / 27 < 27 ^ f := by
          rw [Nat.pow_succ] at hr
          exact Nat.div_lt_of_lt_mul (by rw [Nat.mul_comm]; exact hr)
        have hl := hpos (r % 27) List.mem_cons_self
        unfold wX_placeWord_4
        rw [sw_rem hr2, sw_div hr2]
        refine br_f (nI_nle (by omega) hr2) ⟨sw_27, nm_e ?_⟩
        refine sw_xch hT (by omega) hn (Nat.mod_lt _ (by omega)) (fun c hc ec => br_t (nI_pos' (by omega)) ⟨sw_27, nm_e ?_⟩) (fun hno => br_f sw_m1le ?_)
        · refine ih (r / 27) c k q lo mo fc bh pa (by omega) hr' (by omega) (fun x m => hpos x (List.mem_cons_of_mem _ m)) hT (by omega) hc h4 (by rw [ec, List.length_cons]; omega) ?_
          intro q' lo' mo' fc' bh' pa' m g1 g2 g3 g4 g5 g6 g7 g8
          refine K q' lo' mo' fc' bh' pa' m g1 g2 (by omega) g4 g5 g6 g7 ?_
          rw [g8, ec]; rfl
        · refine sw_xhang hT (by omega) hn hl.2 ⟨sw_27, nm_e ?_⟩
          have hT' := sw_T_h hT hn hl.1 hl.2 hno
          have pq : sw_up pa q (r % 27 :: pa n) q = r % 27 :: pa n := sw_ups
          have pn : ∀ j, j < q → sw_up pa q (r % 27 :: pa n) j = pa j := fun j hj => sw_upn (by omega)
          refine ih (r / 27) q k (q + 1) _ _ _ _ _ (by omega) hr' (by omega) (fun x m => hpos x (List.mem_cons_of_mem _ m)) hT' (by omega) (by omega) ?_ ?_ ?_
          · intro j hj
            by_cases zj : j = q
            · rw [zj, pq, List.length_cons]; omega
            · rw [pn j (by omega)]; exact h4 j (by omega)
          · rw [pq, List.length_cons]; omega
          · intro q' lo' mo' fc' bh' pa' m g1 g2 g3 g4 g5 g6 g7 g8
            refine K q' lo' mo' fc' bh' pa' m g1 (by omega) (by omega) (fun j hj => ?_) (fun j h1 h2 => ?_) g6 g7 ?_
            · obtain ⟨a, b⟩ := g4 j (by omega)
              refine ⟨by rw [a, pn j hj], ?_⟩
              rw [b, pk_un (by omega)]
            · by_cases zj : j = q
              · rw [(g4 j (by omega)).2, zj, pk_us]
              · exact g5 j (by omega) h2
            · rw [g8, pq]; rfl
/-! is it written -/
theorem sw_xiw1 {post : Int32 → Prop} : ∀ (d k n r : Nat), d + k = 4 → 0 < k → d < n → r < 27 ^ d → r < 2 ^ 31 → (r = 0 → post 1) → (r ≠ 0 → post 0) → wX_isWritten_20 post rm nt sc rc nc wc tc mc sd dk ex tr pl fi ne ct sk rv rs rn re fr lr nr lo mo fc bh ty mt sl n 1 (nI r) (nI k) := by
  intro d
  induction d with
  | zero =>
    intro k n r hk _ hn hr _ h1 _
    cases n with
    | zero => omega
    | succ n =>
      have : k = 4 := by omega
      subst this
      unfold wX_isWritten_20
      exact br_t (by decide) (h1 (by rw [Nat.pow_zero] at hr; omega))
  | succ d ih =>
    intro k n r hk k0 hn hr hr2 h1 h0
    cases n with
    | zero => omega
    | succ n =>
      have hr' : r / 27 < 27 ^ d := by
        rw [Nat.pow_succ] at hr
        exact Nat.div_lt_of_lt_mul (by rw [Nat.mul_comm]; exact hr)
      unfold wX_isWritten_20
      refine pk_le 4 k (fun q => by omega) fun _ => ⟨sw_27, nm_r (sw_rem hr2) ⟨sw_27, nm_r (sw_div hr2) ?_⟩⟩
      refine pk_le (r % 27) 0 (fun z => ?_) (fun z => br_f (by decide) (h0 (by omega)))
      unfold wX_isWritten_48
      refine pk_eq (r % 27) 0 (fun _ => br_f (nI_ne0 k0 (by omega)) (nm_r (nI_1 k) ?_)) (fun q => by omega)
      exact ih (k + 1) n (r / 27) (by omega) (by omega) (by omega) hr' (by omega) (fun q => h1 (by omega)) (fun q => h0 (by omega))
theorem sw_xiw0 {post : Int32 → Prop} : ∀ (d k n r : Nat), d + k = 4 → 0 < k → d < n → r < 27 ^ d → r < 2 ^ 31 → (sw_gd d r = true → post 1) → (sw_gd d r = false → post 0) → wX_isWritten_20 post rm nt sc rc nc wc tc mc sd dk ex tr pl fi ne ct sk rv rs rn re fr lr nr lo mo fc bh ty mt sl n 0 (nI r) (nI k) := by
  intro d
  induction d with
  | zero =>
    intro k n r hk _ hn hr _ h1 _
    cases n with
    | zero => omega
    | succ n =>
      have : k = 4 := by omega
      subst this
      unfold wX_isWritten_20
      exact br_t (by decide) (h1 rfl)
  | succ d ih =>
    intro k n r hk k0 hn hr hr2 h1 h0
    cases n with
    | zero => omega
    | succ n =>
      have hr' : r / 27 < 27 ^ d := by
        rw [Nat.pow_succ] at hr
        exact Nat.div_lt_of_lt_mul (by rw [Nat.mul_comm]; exact hr)
      unfold wX_isWritten_20
      refine pk_le 4 k (fun q => by omega) fun _ => ⟨sw_27, nm_r (sw_rem hr2) ⟨sw_27, nm_r (sw_div hr2) ?_⟩⟩
      unfold wX_isWritten_48
      refine pk_le (r % 27) 0 (fun z => ?_) (fun z => br_t rfl ?_)
      · have z' : r % 27 = 0 := by omega
        rw [sw_gd_z z'] at h1 h0
        refine pk_eq (r % 27) 0 (fun _ => br_f (nI_ne0 k0 (by omega)) (nm_r (nI_1 k) ?_)) (fun q => by omega)
        exact sw_xiw1 d (k + 1) n (r / 27) (by omega) (by omega) (by omega) hr' (by omega) (fun q => h1 (decide_eq_true q)) (fun q => h0 (decide_eq_false q))
      · rw [sw_gd_n (by omega)] at h1 h0
        refine pk_eq (r % 27) 0 (fun q => by omega) (fun _ => nm_r (nI_1 k) ?_)
        exact ih (k + 1) n (r / 27) (by omega) (by omega) (by omega) hr' (by omega) h1 h0
theorem sw_xiw {post : Int32 → Prop} {v : Nat} (h1v : 1 ≤ v) (hv : v ≤ 531440) (h1 : sw_ok v → post 1) (h0 : ¬ sw_ok v → post 0) : wpX_isWritten post (rm, nt, sc, rc, nc, wc, tc, mc, sd, dk, ex, tr, pl, fi, ne, ct, sk, rv, rs, rn, re, fr, lr, nr, lo, mo, fc, bh, ty, mt, sl) (nI v) := by
  unfold wpX_isWritten
  dsimp only
  refine pk_lt v 1 (fun q => by omega) fun _ => pk_le v 531440 (fun _ => ⟨5, ?_⟩) (fun q => by omega)
  unfold sw_ok at h1 h0
  have hr' : v / 27 < 27 ^ 3 := by
    show v / 27 < 19683
    omega
  unfold wX_isWritten_20
  refine br_f (by decide) ⟨sw_27, nm_r (sw_rem (by omega)) ⟨sw_27, nm_r (sw_div (by omega)) ?_⟩⟩
  unfold wX_isWritten_48
  refine pk_le (v % 27) 0 (fun z => ?_) (fun z => br_t rfl ?_)
  · exact pk_eq (v % 27) 0 (fun _ => br_t rfl (h0 (fun q => q.1 (by omega)))) (fun q => by omega)
  · refine pk_eq (v % 27) 0 (fun q => by omega) (fun z' => nm_r (nI_1 0) ?_)
    exact sw_xiw0 3 1 4 (v / 27) (by omega) (by omega) (by omega) hr' (by omega) (fun q => h1 ⟨z', q⟩) (fun q => h0 (fun y => by rw [y.2] at q; exact absurd q (by decide)))
theorem sw_xiwn {post : Int32 → Prop} {p : Int32} (hn : ¬ ∃ v, 1 ≤ v ∧ v ≤ 531440 ∧ p = nI v) (h0 : post 0) : wpX_isWritten post (rm, nt, sc, rc, nc, wc, tc, mc, sd, dk, ex, tr, pl, fi, ne, ct, sk, rv, rs, rn, re, fr, lr, nr, lo, mo, fc, bh, ty, mt, sl) p := by
  unfold wpX_isWritten
  dsimp only
  refine br_c (fun _ => h0) fun z => br_f (fun y => ?_) h0
  have z0 : ¬ p < 0 := by
    intro q
    rw [Int32.lt_iff_toInt_lt] at z q
    have a0 : (0 : Int32).toInt = 0 := by decide
    have a1 : (1 : Int32).toInt = 1 := by decide
    omega
  obtain ⟨v, hv, e⟩ := sw_of' 531440 rfl (by omega) z0 y
  refine hn ⟨v, ?_, hv, e⟩
  rcases Nat.lt_or_ge v 1 with q | q
  · exact absurd (by rw [e]; exact nI_lt (b := 1) q (by omega)) z
  · exact q
end
section
variable {rm rc wc tc sd : Int32} {dk ex tr pl ct rv rs rn re yl ym ty sl : Nat → Int32}
theorem sw_yl5 {post : Int32 → Prop} {i : Nat} (hi : i < 4) : ∀ (d k n r : Nat), d + k = i → d < n → r < 2 ^ 31 → post (nI (r / 27 ^ d % 27)) → wY_letter_5 post (nI i) rm rc wc tc sd dk ex tr pl ct rv rs rn re yl ym ty sl n (nI r) (nI k) := by
  intro d
  induction d with
  | zero =>
    intro k n r hk hn hr K
    cases n with
    | zero => omega
    | succ n =>
      unfold wY_letter_5
      rw [sw_rem hr]
      rw [Nat.pow_zero, Nat.div_one] at K
      exact pk_le i k (fun _ => ⟨sw_27, K⟩) (fun q => by omega)
  | succ d ih =>
    intro k n r hk hn hr K
    cases n with
    | zero => omega
    | succ n =>
      unfold wY_letter_5
      refine pk_le i k (fun q => by omega) fun _ => ⟨sw_27, nm_r (sw_div hr) (nm_r (nI_1 k) ?_)⟩
      refine ih (k + 1) n (r / 27) (by omega) (by omega) (by omega) ?_
      rw [Nat.div_div_eq_div_mul, Nat.mul_comm 27, ← Nat.pow_succ]
      exact K
theorem sw_ylt {post : Int32 → Prop} {v i : Nat} (hi : i < 4) (hv : v < 2 ^ 31) (K : post (nI (v / 27 ^ i % 27))) : wpY_letter post (rm, rc, wc, tc, sd, dk, ex, tr, pl, ct, rv, rs, rn, re, yl, ym, ty, sl) (nI v) (nI i) := by
  unfold wpY_letter
  exact ⟨i + 1, sw_yl5 hi i 0 (i + 1) v (by omega) (by omega) hv K⟩
theorem sw_yw1 {post : Int32 → Prop} {v : Nat} (hv : v < 2 ^ 31) : ∀ (d k n : Nat), d + k + 1 = 4 → d < n → v / 27 ^ (k + 1) < 27 ^ d → v / 27 ^ k % 27 = 0 → (v / 27 ^ (k + 1) = 0 → post 1) → (v / 27 ^ (k + 1) ≠ 0 → post 0) → wY_isWord_24 post (nI v) rm rc wc tc sd dk ex tr pl ct rv rs rn re yl ym ty sl n (nI (k + 1)) := by
  intro d
  induction d with
  | zero =>
    intro k n hk hn hr _ h1 _
    cases n with
    | zero => omega
    | succ n =>
      have : k = 3 := by omega
      subst this
      unfold wY_isWord_24
      exact br_t (by decide) (h1 (by rw [Nat.pow_zero] at hr; omega))
  | succ d ih =>
    intro k n hk hn hr hz h1 h0
    cases n with
    | zero => omega
    | succ n =>
      have e2 : v / 27 ^ (k + 1 + 1) = v / 27 ^ (k + 1) / 27 := by rw [Nat.pow_succ 27 (k + 1), Nat.div_div_eq_div_mul]
      have hr' : v / 27 ^ (k + 1 + 1) < 27 ^ d := by
        rw [e2]
        rw [Nat.pow_succ] at hr
        exact Nat.div_lt_of_lt_mul (by rw [Nat.mul_comm]; exact hr)
      generalize hg : v / 27 ^ (k + 1) = r at *
      unfold wY_isWord_24
      refine pk_le 4 (k + 1) (fun q => by omega) fun _ => ?_
      refine sw_ylt (by omega) hv ?_
      rw [hg]
      refine pk_eq (r % 27) 0 (fun z => nm_r (nI_1 (k + 1)) ?_) (fun z => ?_)
      · exact ih (k + 1) n (by omega) (by omega) hr' (by rw [hg]; exact z) (fun q => h1 (by omega)) (fun q => h0 (by omega))
      · rw [nI_pred k]
        refine sw_ylt (by omega) hv ?_
        rw [hz]
        exact br_t rfl (h0 (by omega))
theorem sw_yw0 {post : Int32 → Prop} {v : Nat} (hv : v < 2 ^ 31) : ∀ (d k n : Nat), d + k + 1 = 4 → d < n → v / 27 ^ (k + 1) < 27 ^ d → ¬ v / 27 ^ k % 27 = 0 → (sw_gd d (v / 27 ^ (k + 1)) = true → post 1) → (sw_gd d (v / 27 ^ (k + 1)) = false → post 0) → wY_isWord_24 post (nI v) rm rc wc tc sd dk ex tr pl ct rv rs rn re yl ym ty sl n (nI (k + 1)) := by
  intro d
  induction d with
  | zero =>
    intro k n hk hn hr _ h1 _
    cases n with
    | zero => omega
    | succ n =>
      have : k = 3 := by omega
      subst this
      unfold wY_isWord_24
      exact br_t (by decide) (h1 rfl)
  | succ d ih =>
    intro k n hk hn hr hz h1 h0
    cases n with
    | zero => omega
    | succ n =>
      have e2 : v / 27 ^ (k + 1 + 1) = v / 27 ^ (k + 1) / 27 := by rw [Nat.pow_succ 27 (k + 1), Nat.div_div_eq_div_mul]
      have hr' : v / 27 ^ (k + 1 + 1) < 27 ^ d := by
        rw [e2]
        rw [Nat.pow_succ] at hr
        exact Nat.div_lt_of_lt_mul (by rw [Nat.mul_comm]; exact hr)
      generalize hg : v / 27 ^ (k + 1) = r at *
      unfold wY_isWord_24
      refine pk_le 4 (k + 1) (fun q => by omega) fun _ => ?_
      refine sw_ylt (by omega) hv ?_
      rw [hg]
      refine pk_eq (r % 27) 0 (fun z => nm_r (nI_1 (k + 1)) ?_) (fun z => ?_)
      · rw [sw_gd_z z] at h1 h0
        exact sw_yw1 hv d (k + 1) n (by omega) (by omega) hr' (by rw [hg]; exact z) (fun q => h1 (decide_eq_true (by omega))) (fun q => h0 (decide_eq_false (by omega)))
      · rw [sw_gd_n z] at h1 h0
        rw [nI_pred k]
        refine sw_ylt (by omega) hv ?_
        refine br_f (fun q => hz ((sw_eq0 (by omega)).mp q)) (nm_r (nI_1 (k + 1)) ?_)
        rw [← e2] at h1 h0
        exact ih (k + 1) n (by omega) (by omega) hr' (by rw [hg]; exact z) h1 h0
theorem sw_yiwd {post : Int32 → Prop} {v : Nat} (h1v : 1 ≤ v) (hv : v ≤ 531440) (h1 : sw_ok v → post 1) (h0 : ¬ sw_ok v → post 0) : wpY_isWord post (rm, rc, wc, tc, sd, dk, ex, tr, pl, ct, rv, rs, rn, re, yl, ym, ty, sl) (nI v) := by
  unfold sw_ok at h1 h0
  unfold wpY_isWord
  dsimp only
  refine sw_yi1 (nI_nlt (b := 1) h1v (by omega)) (nI_nlt (a := 531440) hv (by omega)) (br_f (by decide) ?_)
  refine sw_ylt (i := 0) (by omega) (by omega) ?_
  rw [Nat.pow_zero, Nat.div_one]
  refine pk_eq (v % 27) 0 (fun z => h0 (fun q => q.1 z)) (fun z => ⟨4, ?_⟩)
  refine sw_yw0 (v := v) (by omega) 3 0 4 (by omega) (by omega) (by show v / 27 < 19683; omega) (by rw [Nat.pow_zero, Nat.div_one]; exact z) (fun q => h1 ⟨z, q⟩) (fun q => h0 (fun y => ?_))
  have y2 := y.2
  have q' : sw_gd 3 (v / 27) = false := q
  rw [y2] at q'
  exact absurd q' (by decide)
theorem sw_yiwdn {post : Int32 → Prop} {p : Int32} (hn : ¬ ∃ v, 1 ≤ v ∧ v ≤ 531440 ∧ p = nI v) (h0 : post 0) : wpY_isWord post (rm, rc, wc, tc, sd, dk, ex, tr, pl, ct, rv, rs, rn, re, yl, ym, ty, sl) p := by
  unfold wpY_isWord
  dsimp only
  refine sw_yi (fun z y => ?_) (fun _ => br_t rfl h0)
  have z0 : ¬ p < 0 := by
    intro q
    rw [Int32.lt_iff_toInt_lt] at z q
    have a0 : (0 : Int32).toInt = 0 := by decide
    have a1 : (1 : Int32).toInt = 1 := by decide
    omega
  obtain ⟨v, hv, e⟩ := sw_of 531440 rfl (by omega) z0 y
  refine absurd ⟨v, ?_, hv, e⟩ hn
  rcases Nat.lt_or_ge v 1 with q | q
  · exact absurd (by rw [e]; exact nI_lt (b := 1) q (by omega)) z
  · exact q
/-! the word with four letters -/
theorem sw_yf3 {post : Int32 → Prop} {a b c d : Int32} {w : Nat} (hw : w ≤ 24)
    (h1 : ∀ i, i < w → (yl (4 * i) = a ∧ yl (4 * i + 1) = b ∧ yl (4 * i + 2) = c ∧ yl (4 * i + 3) = d) → post (nI i))
    (h0 : (∀ i, i < w → ¬ (yl (4 * i) = a ∧ yl (4 * i + 1) = b ∧ yl (4 * i + 2) = c ∧ yl (4 * i + 3) = d)) → post (-1)) :
    ∀ (e i n : Nat), e + i = w → e < n → (∀ j, j < i → ¬ (yl (4 * j) = a ∧ yl (4 * j + 1) = b ∧ yl (4 * j + 2) = c ∧ yl (4 * j + 3) = d)) → wY_find_3 post a b c d rm rc (nI w) tc sd dk ex tr pl ct rv rs rn re yl ym ty sl n (nI i) := by
  intro e
  induction e with
  | zero =>
    intro i n hi hn hno
    cases n with
    | zero => omega
    | succ n =>
      have : i = w := by omega
      subst this
      unfold wY_find_3
      exact br_t (Int32.le_refl _) (h0 hno)
  | succ e ih =>
    intro i n hi hn hno
    cases n with
    | zero => omega
    | succ n =>
      have e0 : (4 : Int32) * nI i = nI (4 * i) := pk_mul 4 i
      have e1 : nI (4 * i) + 1 = nI (4 * i + 1) := nI_1 _
      have e2 : nI (4 * i) + 2 = nI (4 * i + 2) := nI_add _ 2
      have e3 : nI (4 * i) + 3 = nI (4 * i + 3) := nI_add _ 3
      have go : ¬ (yl (4 * i) = a ∧ yl (4 * i + 1) = b ∧ yl (4 * i + 2) = c ∧ yl (4 * i + 3) = d) → wY_find_3 post a b c d rm rc (nI w) tc sd dk ex tr pl ct rv rs rn re yl ym ty sl n (nI (i + 1)) := by
        intro z
        refine ih (i + 1) n (by omega) (by omega) (fun j hj => ?_)
        rcases Nat.lt_or_ge j i with y | y
        · exact hno j y
        · have : j = i := by omega
          subst this
          exact z
      unfold wY_find_3
      rw [e0, e1, e2, e3, sw_cl (a := 4 * i) (by omega), sw_cl (a := 4 * i + 1) (by omega), sw_cl (a := 4 * i + 2) (by omega), sw_cl (a := 4 * i + 3) (by omega)]
      refine br_f (nI_ge (by omega) (by omega)) ⟨vp_in_nI (by omega) (by omega), br_c (fun ya => ⟨vp_in_nI (by omega) (by omega), br_c (fun yb => ⟨vp_in_nI (by omega) (by omega), br_c (fun yc => ⟨vp_in_nI (by omega) (by omega), br_c (fun yd => h1 i (by omega) ⟨ya, yb, yc, yd⟩) (fun z => nm_r (nI_1 i) (go (fun y => z y.2.2.2)))⟩) (fun z => nm_r (nI_1 i) (go (fun y => z y.2.2.1)))⟩) (fun z => nm_r (nI_1 i) (go (fun y => z y.2.1)))⟩) (fun z => nm_r (nI_1 i) (go (fun y => z y.1)))⟩
theorem sw_yfd {post : Int32 → Prop} {q w : Nat} {lo fc bh mo : Nat → Int32} {pa : Nat → List Nat} {wn : Nat → Nat} {ds : List Nat} (hT : sw_T q lo fc bh pa) (hw : w ≤ 24) (hl : ∀ n, n < q → (pa n).length ≤ 4) (hW : sw_Wn q w mo yl ym pa wn)
    (d4 : ds.length ≤ 4) (dp : ∀ x, x ∈ ds → 0 < x ∧ x < 27)
    (h1 : ∀ i, i < w → pa (wn i) = ds.reverse → post (nI i)) (h0 : (∀ i, i < w → pa (wn i) ≠ ds.reverse) → post (-1)) :
    wpY_find post (rm, rc, nI w, tc, sd, dk, ex, tr, pl, ct, rv, rs, rn, re, yl, ym, ty, sl) (nI (ds.getD 0 0)) (nI (ds.getD 1 0)) (nI (ds.getD 2 0)) (nI (ds.getD 3 0)) := by
  unfold wpY_find
  refine ⟨w + 1, ?_⟩
  refine sw_yf3 hw (fun i hi y => h1 i hi ((sw_same hT hl hW d4 dp hi).mp y)) (fun hno => h0 (fun i hi e => hno i hi ((sw_same hT hl hW d4 dp hi).mpr e))) w 0 (w + 1) (by omega) (by omega) (fun j hj => by omega)
end
section
variable {km kr kn kw kt ks : Nat} {nt sc mc rm rc nc wc tc sd : Int32} {dk ex tr pl fi ne ct sk rv rs rn re fr lr nr lo mo fc bh ty mt sl yl ym : Nat → Int32}
theorem sw_im (p : Int32) : ∃ r : Int32, (r = 0 ∨ (r = 1 ∧ ∃ m, m < 31 ∧ p = nI m)) ∧ (∀ post : Int32 → Prop, post r → wpX_isMeaning post (rm, nt, sc, rc, nc, wc, tc, mc, sd, dk, ex, tr, pl, fi, ne, ct, sk, rv, rs, rn, re, fr, lr, nr, lo, mo, fc, bh, ty, mt, sl) p) ∧ (∀ post : Int32 → Prop, post r → wpY_isMeaning post (rm, rc, wc, tc, sd, dk, ex, tr, pl, ct, rv, rs, rn, re, yl, ym, ty, sl) p) := by
  by_cases hp : p < 0
  · have l10 : p < 10 := Int32.lt_trans hp (by decide)
    have l20 : p < 20 := Int32.lt_trans hp (by decide)
    have n30 : ¬ p = 30 := by
      intro e; rw [e] at hp; exact absurd hp (by decide)
    refine ⟨0, Or.inl rfl, fun post K => ?_, fun post K => ?_⟩
    · unfold wpX_isMeaning wX_isMeaning_9 wX_isMeaning_21 wX_isMeaning_33
      exact br_t hp (br_t l10 (br_t l20 (br_f n30 K)))
    · unfold wpY_isMeaning
      dsimp only
      exact sw_yi0 (Or.inl hp) (br_t rfl (sw_yi0 (Or.inl l10) (br_t rfl (sw_yi0 (Or.inl l20) (br_t rfl (br_f n30 K))))))
  · obtain ⟨m, hm, rfl⟩ := nI_of hp
    by_cases g : m ≤ 5 ∨ (10 ≤ m ∧ m ≤ 13) ∨ (20 ≤ m ∧ m ≤ 27) ∨ m = 30
    · refine ⟨1, Or.inr ⟨rfl, m, by omega, rfl⟩, fun post K => ?_, fun post K => ?_⟩
      · unfold wpX_isMeaning wX_isMeaning_9 wX_isMeaning_21 wX_isMeaning_33
        refine br_f hp (pk_le m 5 (fun _ => K) fun z5 => ?_)
        have k30 : 27 < m → m = 30 := by omega
        exact pk_lt m 10 (fun y => by omega) fun y => pk_le m 13 (fun _ => K) fun y2 => pk_lt m 20 (fun y => by omega) fun y3 => pk_le m 27 (fun _ => K) fun y4 => pk_eq m 30 (fun _ => K) (fun q => by omega)
      · unfold wpY_isMeaning
        dsimp only
        unfold wpY_in
        dsimp only
        refine br_f hp (pk_lt 5 m (fun z5 => br_t rfl ?_) (fun _ => br_f (by decide) K))
        refine pk_lt m 10 (fun y => by omega) fun y => pk_lt 13 m (fun y2 => br_t rfl ?_) (fun _ => br_f (by decide) K)
        refine pk_lt m 20 (fun y => by omega) fun y => pk_lt 27 m (fun y2 => br_t rfl ?_) (fun _ => br_f (by decide) K)
        exact pk_eq m 30 (fun _ => K) (fun q => by omega)
    · refine ⟨0, Or.inl rfl, fun post K => ?_, fun post K => ?_⟩
      · unfold wpX_isMeaning wX_isMeaning_9 wX_isMeaning_21 wX_isMeaning_33
        refine br_f hp (pk_le m 5 (fun _ => by omega) fun z5 => ?_)
        have e30 : (nI m = 30 → post 1) ∧ (¬ nI m = 30 → post 0) := pk_eq m 30 (fun q => by omega) (fun _ => K)
        have e21 : (nI m < 20 → (nI m = 30 → post 1) ∧ (¬ nI m = 30 → post 0)) ∧ (¬ nI m < 20 → (nI m ≤ 27 → post 1) ∧ (¬ nI m ≤ 27 → (nI m = 30 → post 1) ∧ (¬ nI m = 30 → post 0))) := pk_lt m 20 (fun _ => e30) fun y => pk_le m 27 (fun _ => by omega) fun _ => e30
        exact pk_lt m 10 (fun _ => e21) fun y => pk_le m 13 (fun _ => by omega) fun _ => e21
      · unfold wpY_isMeaning
        dsimp only
        unfold wpY_in
        dsimp only
        have e30 : (nI m = 30 → post 1) ∧ (¬ nI m = 30 → post 0) := pk_eq m 30 (fun q => by omega) (fun _ => K)
        have h3 : wpY_in (fun r_41 => (((r_41 = 0 → (((nI m = 30 → (post 1)) ∧ (¬ nI m = 30 → (post 0))))) ∧ (¬ r_41 = 0 → (post 1))))) (rm, rc, wc, tc, sd, dk, ex, tr, pl, ct, rv, rs, rn, re, yl, ym, ty, sl) (nI m) 20 27 := by
          unfold wpY_in
          dsimp only
          exact pk_lt m 20 (fun _ => br_t rfl e30) fun y => pk_lt 27 m (fun _ => br_t rfl e30) (fun y2 => by omega)
        unfold wpY_in at h3
        dsimp only at h3
        refine br_f hp (pk_lt 5 m (fun z5 => br_t rfl ?_) (fun _ => by omega))
        exact pk_lt m 10 (fun _ => br_t rfl h3) fun y => pk_lt 13 m (fun y2 => br_t rfl h3) (fun _ => by omega)
end
end
section
/-! what has been typed, word by word -/
def sw_let (T : Nat → Nat) : Nat → Nat → Nat → List Nat
  | 0, _, _ => []
  | _ + 1, _, 0 => []
  | d + 1, j, k + 1 => (T j - 96) :: sw_let T d (j + 1) k
theorem sw_let_0 (T : Nat → Nat) (d j : Nat) : sw_let T d j 0 = [] := by cases d <;> rfl
theorem sw_let_len (T : Nat → Nat) : ∀ d j k, (sw_let T d j k).length ≤ k := by
  intro d
  induction d with
  | zero => intro j k; exact Nat.zero_le _
  | succ d ih =>
    intro j k
    cases k with
    | zero => exact Nat.le_refl _
    | succ k =>
      show ((T j - 96) :: sw_let T d (j + 1) k).length ≤ k + 1
      rw [List.length_cons]
      have := ih (j + 1) k
      omega
theorem sw_let_mem (T : Nat → Nat) : ∀ d j k x, x ∈ sw_let T d j k → ∃ i, j ≤ i ∧ i < j + d ∧ x = T i - 96 := by
  intro d
  induction d with
  | zero => intro j k x h; exact absurd h List.not_mem_nil
  | succ d ih =>
    intro j k x h
    cases k with
    | zero => exact absurd h List.not_mem_nil
    | succ k =>
      rcases List.mem_cons.mp (show x ∈ (T j - 96) :: sw_let T d (j + 1) k from h) with e | m
      · exact ⟨j, by omega, by omega, e⟩
      · obtain ⟨i, h1, h2, h3⟩ := ih (j + 1) k x m
        exact ⟨i, by omega, by omega, h3⟩
theorem sw_let_get (T : Nat → Nat) : ∀ d j k i, i < k → (sw_let T d j k).getD i 0 = if i < d then T (j + i) - 96 else 0 := by
  intro d
  induction d with
  | zero => intro j k i _; rfl
  | succ d ih =>
    intro j k i hi
    cases k with
    | zero => omega
    | succ k =>
      show ((T j - 96) :: sw_let T d (j + 1) k).getD i 0 = _
      cases i with
      | zero => rw [if_pos (by omega)]; rfl
      | succ i =>
        show (sw_let T d (j + 1) k).getD i 0 = _
        rw [ih (j + 1) k i (by omega), show j + 1 + i = j + (i + 1) from by omega]
        by_cases z : i < d
        · rw [if_pos z, if_pos (by omega)]
        · rw [if_neg z, if_neg (by omega)]
def sw_Tx (T : Nat → Nat) (kt : Nat) (ty : Nat → Int32) : Prop := kt ≤ 30 ∧ ∀ j, j < kt → ty j = nI (T j) ∧ (T j = 32 ∨ (97 ≤ T j ∧ T j ≤ 122))
theorem sw_Tx_of {kt : Nat} {ty : Nat → Int32} (h : sw_Ty kt ty) : ∃ T, sw_Tx T kt ty := by
  refine ⟨fun j => (ty j).toNatClampNeg, h.1, fun j hj => ?_⟩
  obtain ⟨c, e, hc⟩ := h.2 j hj
  have : (ty j).toNatClampNeg = c := by rw [e]; exact nI_clamp (by omega)
  dsimp only
  rw [this]
  exact ⟨e, hc⟩
theorem sw_wend (T : Nat → Nat) (kt : Nat) : ∀ d i, d + i = kt → ∃ e, i ≤ e ∧ e ≤ kt ∧ (∀ j, i ≤ j → j < e → T j ≠ 32) ∧ (e = kt ∨ T e = 32) := by
  intro d
  induction d with
  | zero => intro i h; exact ⟨i, by omega, by omega, fun j h1 h2 => by omega, Or.inl (by omega)⟩
  | succ d ih =>
    intro i h
    by_cases z : T i = 32
    · exact ⟨i, by omega, by omega, fun j h1 h2 => by omega, Or.inr z⟩
    · obtain ⟨e, h1, h2, h3, h4⟩ := ih (i + 1) (by omega)
      refine ⟨e, by omega, h2, fun j j1 j2 => ?_, h4⟩
      by_cases y : j = i
      · rw [y]; exact z
      · exact h3 j (by omega) j2
section
variable {rm nt sc rc nc wc tc mc sd : Int32} {dk ex tr pl fi ne ct sk rv rs rn re fr lr nr lo mo fc bh ty mt sl : Nat → Int32} {yl ym : Nat → Int32}
theorem sw_xe39n {post : Int32 → SX → Prop} {J : Int32 → Int32 → Int32 → Int32 → Int32 → Int32 → Int32 → Int32 → Int32 → Int32 → Int32 → (Nat → Int32) → (Nat → Int32) → (Nat → Int32) → (Nat → Int32) → (Nat → Int32) → (Nat → Int32) → (Nat → Int32) → (Nat → Int32) → (Nat → Int32) → (Nat → Int32) → (Nat → Int32) → (Nat → Int32) → (Nat → Int32) → (Nat → Int32) → (Nat → Int32) → (Nat → Int32) → (Nat → Int32) → (Nat → Int32) → (Nat → Int32) → (Nat → Int32) → (Nat → Int32) → (Nat → Int32) → Prop}
    {x1 : Int32} {T : Nat → Nat} {kt e : Nat} (hX : sw_Tx T kt ty) (he : e ≤ kt) (hw : e = kt ∨ T e = 32) (K : wX_enter_92 post J x1 (nI e) (-1) rm nt sc rc nc wc (nI kt) mc sd dk ex tr pl fi ne ct sk rv rs rn re fr lr nr lo mo fc bh ty mt sl) :
    ∀ (d j l n : Nat), d + j = e → d < n → (∀ i, j ≤ i → i < e → T i ≠ 32) → wX_enter_39 post J x1 rm nt sc rc nc wc (nI kt) mc sd dk ex tr pl fi ne ct sk rv rs rn re fr lr nr lo mo fc bh ty mt sl n (nI j) (-1) (nI l) := by
  have k30 := hX.1
  intro d
  induction d with
  | zero =>
    intro j l n hj hn _
    cases n with
    | zero => omega
    | succ n =>
      have : j = e := by omega
      subst this
      unfold wX_enter_39
      rw [sw_cl (a := j) (by omega)]
      refine pk_le kt j (fun _ => K) fun z => ⟨vp_in_nI (by omega) (by omega), ?_⟩
      have h32 := hw.resolve_left (by omega)
      rw [(hX.2 j (by omega)).1, h32]
      exact br_t rfl K
  | succ d ih =>
    intro j l n hj hn hne
    cases n with
    | zero => omega
    | succ n =>
      have hi := ih (j + 1) (l + 1) n (by omega) (by omega) (fun i h1 h2 => hne i (by omega) h2)
      obtain ⟨et, ht⟩ := hX.2 j (by omega)
      have hn32 := hne j (by omega) (by omega)
      unfold wX_enter_39
      rw [sw_cl (a := j) (by omega), et]
      refine pk_le kt j (fun z => by omega) fun _ => ⟨vp_in_nI (by omega) (by omega), br_f (fun q => hn32 (sw_inj (b := 32) q (by omega) (by omega))) (br_c (fun _ => nm_r (nI_1 l) (nm_r (nI_1 j) hi)) fun _ => br_t sw_m1lt (nm_r (nI_1 l) (nm_r (nI_1 j) hi)))⟩
theorem sw_xe39 {post : Int32 → SX → Prop} {J : Int32 → Int32 → Int32 → Int32 → Int32 → Int32 → Int32 → Int32 → Int32 → Int32 → Int32 → (Nat → Int32) → (Nat → Int32) → (Nat → Int32) → (Nat → Int32) → (Nat → Int32) → (Nat → Int32) → (Nat → Int32) → (Nat → Int32) → (Nat → Int32) → (Nat → Int32) → (Nat → Int32) → (Nat → Int32) → (Nat → Int32) → (Nat → Int32) → (Nat → Int32) → (Nat → Int32) → (Nat → Int32) → (Nat → Int32) → (Nat → Int32) → (Nat → Int32) → (Nat → Int32) → (Nat → Int32) → Prop}
    {x1 : Int32} {T : Nat → Nat} {kt e q : Nat} {pa : Nat → List Nat} (hT : sw_T q lo fc bh pa) (hq : q ≤ 100) (hX : sw_Tx T kt ty) (he : e ≤ kt) (hw : e = kt ∨ T e = 32) :
    ∀ (d j l n m : Nat), d + j = e → d < n → l < 1000 → m < q → (∀ i, j ≤ i → i < e → T i ≠ 32) →
    (∀ c, c < q → pa c = List.reverseAux (sw_let T d j (4 - l)) (pa m) → wX_enter_92 post J x1 (nI e) (nI c) rm nt sc rc nc wc (nI kt) mc sd dk ex tr pl fi ne ct sk rv rs rn re fr lr nr lo mo fc bh ty mt sl) →
    ((∀ c, c < q → pa c ≠ List.reverseAux (sw_let T d j (4 - l)) (pa m)) → wX_enter_92 post J x1 (nI e) (-1) rm nt sc rc nc wc (nI kt) mc sd dk ex tr pl fi ne ct sk rv rs rn re fr lr nr lo mo fc bh ty mt sl) →
    l + d < 1000 → wX_enter_39 post J x1 rm nt sc rc nc wc (nI kt) mc sd dk ex tr pl fi ne ct sk rv rs rn re fr lr nr lo mo fc bh ty mt sl n (nI j) (nI m) (nI l) := by
  have k30 := hX.1
  intro d
  induction d with
  | zero =>
    intro j l n m hj hn _ hm _ h1 _ _
    cases n with
    | zero => omega
    | succ n =>
      have : j = e := by omega
      subst this
      have K := h1 m hm rfl
      unfold wX_enter_39
      rw [sw_cl (a := j) (by omega)]
      refine pk_le kt j (fun _ => K) fun z => ⟨vp_in_nI (by omega) (by omega), ?_⟩
      have h32 := hw.resolve_left (by omega)
      rw [(hX.2 j (by omega)).1, h32]
      exact br_t rfl K
  | succ d ih =>
    intro j l n m hj hn hl hm hne h1 h0 hld
    cases n with
    | zero => omega
    | succ n =>
      obtain ⟨et, ht⟩ := hX.2 j (by omega)
      have hn32 := hne j (by omega) (by omega)
      have e96 : nI (T j) - 96 = nI (T j - 96) := sw_s96 (by omega)
      unfold wX_enter_39
      rw [sw_cl (a := j) (by omega), et, e96]
      refine pk_le kt j (fun z => by omega) fun _ => ⟨vp_in_nI (by omega) (by omega), br_f (fun q => hn32 (sw_inj (b := 32) q (by omega) (by omega))) (pk_le 4 l (fun l4 => nm_r (nI_1 l) (nm_r (nI_1 j) ?_)) fun l4 => br_f (nI_pos (by omega)) ⟨vp_in_nI (by omega) (by omega), ?_⟩)⟩
      · have e4 : 4 - l = 0 := by omega
        have e5 : 4 - (l + 1) = 0 := by omega
        rw [e4, sw_let_0] at h1 h0
        refine ih (j + 1) (l + 1) n m (by omega) (by omega) (by omega) hm (fun i h1 h2 => hne i (by omega) h2) ?_ ?_ (by omega)
        · rw [e5, sw_let_0]; exact h1
        · rw [e5, sw_let_0]; exact h0
      · have e4 : 4 - l = 4 - (l + 1) + 1 := by omega
        rw [e4] at h1 h0
        refine sw_xch hT hq hm (by omega) (fun c hc ec => nm_r (nI_1 l) (nm_r (nI_1 j) ?_)) (fun hno => nm_r (nI_1 l) (nm_r (nI_1 j) ?_))
        · refine ih (j + 1) (l + 1) n c (by omega) (by omega) (by omega) hc (fun i h1 h2 => hne i (by omega) h2) (fun c' hc' e' => h1 c' hc' ?_) (fun hno => h0 (fun c' hc' e' => hno c' hc' ?_)) (by omega)
          · rw [e', ec]; rfl
          · rw [e', ec]; rfl
        · refine sw_xe39n hX he hw (h0 (fun c hc e' => ?_)) d (j + 1) (l + 1) n (by omega) (by omega) (fun i h1 h2 => hne i (by omega) h2)
          have em' : pa c = (sw_let T d (j + 1) (4 - (l + 1))).reverse ++ ((T j - 96) :: pa m) := by
            rw [e']
            show List.reverseAux (sw_let T d (j + 1) (4 - (l + 1))) ((T j - 96) :: pa m) = _
            rw [List.reverseAux_eq]
          obtain ⟨m2, hm2, e2⟩ := sw_T_pre hT _ _ ⟨c, hc, em'⟩
          exact hno m2 hm2 e2
end
section
variable {rm rc wc tc sd : Int32} {dk ex tr pl ct rv rs rn re yl ym ty sl : Nat → Int32}
theorem sw_ytl {post : Int32 → Prop} {T : Nat → Nat} {kt e s i : Nat} {ds : List Nat} (hX : sw_Tx T kt ty) (he : e ≤ kt) (hne : ∀ j, s ≤ j → j < e → T j ≠ 32) (hs : s ≤ e) (hi : i < 4) (hd : ds = sw_let T (e - s) s 4)
    (K : post (nI (ds.getD i 0))) : wpY_typedLetter post (rm, rc, wc, tc, sd, dk, ex, tr, pl, ct, rv, rs, rn, re, yl, ym, ty, sl) (nI (s + i)) (nI e) := by
  have k30 := hX.1
  rw [hd, sw_let_get T (e - s) s 4 i hi] at K
  unfold wpY_typedLetter
  dsimp only
  rw [sw_cl (a := s + i) (by omega)]
  refine pk_le e (s + i) (fun z => ?_) fun z => ⟨vp_in_nI (by omega) (by omega), ?_⟩
  · rw [if_neg (by omega)] at K
    exact K
  · obtain ⟨et, ht⟩ := hX.2 (s + i) (by omega)
    have := hne (s + i) (by omega) (by omega)
    rw [if_pos (by omega)] at K
    rw [et, sw_s96 (by omega)]
    exact K
theorem sw_ymo {post : Int32 → Prop} {T : Nat → Nat} {kt e s q w : Nat} {lo fc bh mo : Nat → Int32} {pa : Nat → List Nat} {wn : Nat → Nat} (hX : sw_Tx T kt ty) (he : e ≤ kt) (hne : ∀ j, s ≤ j → j < e → T j ≠ 32) (hs : s ≤ e)
    (hT : sw_T q lo fc bh pa) (hw : w ≤ 24) (hl : ∀ n, n < q → (pa n).length ≤ 4) (hW : sw_Wn q w mo yl ym pa wn)
    (h1 : ∀ i, i < w → pa (wn i) = (sw_let T (e - s) s 4).reverse → post (ym i)) (h0 : (∀ i, i < w → pa (wn i) ≠ (sw_let T (e - s) s 4).reverse) → post (-1)) :
    wpY_meaningOf post (rm, rc, nI w, tc, sd, dk, ex, tr, pl, ct, rv, rs, rn, re, yl, ym, ty, sl) (nI s) (nI e) := by
  have k30 := hX.1
  unfold wpY_meaningOf
  dsimp only
  have e1 : nI s + 1 = nI (s + 1) := nI_1 s
  have e2 : nI s + 2 = nI (s + 2) := nI_add s 2
  have e3 : nI s + 3 = nI (s + 3) := nI_add s 3
  rw [e1, e2, e3]
  refine sw_ytl (i := 0) hX he hne hs (by omega) rfl ?_
  refine sw_ytl (i := 1) hX he hne hs (by omega) rfl ?_
  refine sw_ytl (i := 2) hX he hne hs (by omega) rfl ?_
  refine sw_ytl (i := 3) hX he hne hs (by omega) rfl ?_
  refine sw_yfd hT hw hl hW (sw_let_len T _ _ _) (fun x m => ?_) (fun i hi ei => ?_) (fun hno => br_f sw_m1le (h0 hno))
  · obtain ⟨j, j1, j2, j3⟩ := sw_let_mem T _ _ _ x m
    have a := (hX.2 j (by omega)).2
    have b := hne j j1 (by omega)
    omega
  · rw [sw_cl (a := i) (by omega)]
    exact br_t (nI_pos' (by omega)) ⟨vp_in_nI (by omega) (by omega), h1 i hi ei⟩
end
section
variable {km kr kn kw kt ks : Nat} {nt sc mc : Int32} {dk ex tr pl fi ne ct sk rv rs rn re fr lr nr lo mo fc bh ty mt sl yl ym : Nat → Int32}
/-- what a typed word means, on both sides -/
theorem sw_mean {T : Nat → Nat} {e s : Nat} (hX : sw_Tx T kt ty) (he : e ≤ kt) (hne : ∀ j, s ≤ j → j < e → T j ≠ 32) (hs : s < e) (hw : e = kt ∨ T e = 32) (hD : sw_Wd kn kw lo mo fc bh yl ym) :
    ∃ z : Int32, (z = -1 ∨ ∃ m, m < 31 ∧ z = nI m) ∧
    (∀ (post : Int32 → SX → Prop) (J : Int32 → Int32 → Int32 → Int32 → Int32 → Int32 → Int32 → Int32 → Int32 → Int32 → Int32 → (Nat → Int32) → (Nat → Int32) → (Nat → Int32) → (Nat → Int32) → (Nat → Int32) → (Nat → Int32) → (Nat → Int32) → (Nat → Int32) → (Nat → Int32) → (Nat → Int32) → (Nat → Int32) → (Nat → Int32) → (Nat → Int32) → (Nat → Int32) → (Nat → Int32) → (Nat → Int32) → (Nat → Int32) → (Nat → Int32) → (Nat → Int32) → (Nat → Int32) → (Nat → Int32) → (Nat → Int32) → Prop) (x1 : Int32),
      wX_enter_106 post J x1 (nI e) z (nI km) nt sc (nI kr) (nI kn) (nI kw) (nI kt) mc (nI ks) dk ex tr pl fi ne ct sk rv rs rn re fr lr nr lo mo fc bh ty mt sl → wX_enter_39 post J x1 (nI km) nt sc (nI kr) (nI kn) (nI kw) (nI kt) mc (nI ks) dk ex tr pl fi ne ct sk rv rs rn re fr lr nr lo mo fc bh ty mt sl (e - s + 1) (nI s) 0 0) ∧
    (∀ post : Int32 → Prop, post z → wpY_meaningOf post (nI km, nI kr, nI kw, nI kt, nI ks, dk, ex, tr, pl, ct, rv, rs, rn, re, yl, ym, ty, sl) (nI s) (nI e)) := by
  obtain ⟨pa, wn, hT, w24, hq, hl, hW⟩ := hD
  have k30 := hX.1
  have d4 : sw_let T (e - s) s (4 - 0) = sw_let T (e - s) s 4 := rfl
  have p0 := hT.2.1
  have walk : ∀ z : Int32, (∀ c, c < kn → pa c = (sw_let T (e - s) s 4).reverse → mo c = z) → ((∀ c, c < kn → pa c ≠ (sw_let T (e - s) s 4).reverse) → z = -1) →
      ∀ (post : Int32 → SX → Prop) (J : Int32 → Int32 → Int32 → Int32 → Int32 → Int32 → Int32 → Int32 → Int32 → Int32 → Int32 → (Nat → Int32) → (Nat → Int32) → (Nat → Int32) → (Nat → Int32) → (Nat → Int32) → (Nat → Int32) → (Nat → Int32) → (Nat → Int32) → (Nat → Int32) → (Nat → Int32) → (Nat → Int32) → (Nat → Int32) → (Nat → Int32) → (Nat → Int32) → (Nat → Int32) → (Nat → Int32) → (Nat → Int32) → (Nat → Int32) → (Nat → Int32) → (Nat → Int32) → (Nat → Int32) → (Nat → Int32) → Prop) (x1 : Int32),
      wX_enter_106 post J x1 (nI e) z (nI km) nt sc (nI kr) (nI kn) (nI kw) (nI kt) mc (nI ks) dk ex tr pl fi ne ct sk rv rs rn re fr lr nr lo mo fc bh ty mt sl → wX_enter_39 post J x1 (nI km) nt sc (nI kr) (nI kn) (nI kw) (nI kt) mc (nI ks) dk ex tr pl fi ne ct sk rv rs rn re fr lr nr lo mo fc bh ty mt sl (e - s + 1) (nI s) 0 0 := by
    intro z hz1 hz0 post J x1 K
    refine sw_xe39 hT (by omega) hX he hw (e - s) s 0 (e - s + 1) 0 (by omega) (by omega) (by omega) hT.1 hne (fun c hc ec => ?_) (fun hno => ?_) (by omega)
    · rw [p0, List.reverseAux_eq, List.append_nil] at ec
      unfold wX_enter_92
      rw [sw_cl (a := c) (by omega), hz1 c hc ec]
      exact br_t (nI_pos' (by omega)) ⟨vp_in_nI (by omega) (by omega), K⟩
    · have := hz0 (fun c hc ec => hno c hc (by rw [p0, List.reverseAux_eq, List.append_nil]; exact ec))
      subst this
      unfold wX_enter_92
      exact br_f sw_m1le K
  by_cases hx : ∃ c, c < kn ∧ pa c = (sw_let T (e - s) s 4).reverse
  · obtain ⟨c, hc, ec⟩ := hx
    have uniq : ∀ c', c' < kn → pa c' = (sw_let T (e - s) s 4).reverse → c' = c := fun c' h1 h2 => hT.2.2.1 c' c h1 hc (by rw [h2, ec])
    rcases hW.2.2 c hc with hm | ⟨i, hi, ei⟩
    · refine ⟨-1, Or.inl rfl, walk (-1) (fun c' h1 h2 => by rw [uniq c' h1 h2]; exact hm) (fun _ => rfl), fun post K => ?_⟩
      refine sw_ymo hX he hne (by omega) hT w24 hl hW (fun i hi e1 => ?_) (fun _ => K)
      obtain ⟨g1, ⟨m, hm31, em⟩, g3, -⟩ := hW.1 i hi
      rw [uniq _ g1 e1, hm, em] at g3
      exact absurd g3.symm (sw_ne1 (by omega))
    · obtain ⟨g1, ⟨m, hm31, em⟩, g3, -⟩ := hW.1 i hi
      refine ⟨ym i, Or.inr ⟨m, hm31, em⟩, walk (ym i) (fun c' h1 h2 => by rw [uniq c' h1 h2, ← ei]; exact g3) (fun hno => absurd ec (hno c hc)), fun post K => ?_⟩
      refine sw_ymo hX he hne (by omega) hT w24 hl hW (fun i' hi' e1 => ?_) (fun hno => absurd (by rw [ei]; exact ec) (hno i hi))
      have := uniq _ (hW.1 i' hi').1 e1
      have : i' = i := hW.2.1 i' i hi' hi (by rw [this, ei])
      rw [this]; exact K
  · have hno : ∀ c, c < kn → pa c ≠ (sw_let T (e - s) s 4).reverse := fun c hc ec => hx ⟨c, hc, ec⟩
    refine ⟨-1, Or.inl rfl, walk (-1) (fun c h1 h2 => absurd h2 (hno c h1)) (fun _ => rfl), fun post K => ?_⟩
    exact sw_ymo hX he hne (by omega) hT w24 hl hW (fun i hi e1 => absurd e1 (hno _ (hW.1 i hi).1)) (fun _ => K)
end
end
section
/-! enter: both sides in step from word to word -/
/-- what X and Y have kept of the words so far -/
def sw_Kp (x1 : Int32) (c : Nat) (mt : Nat → Int32) (n f s t : Int32) : Prop :=
  (x1 = 1 ∨ (x1 = 0 ∧ n = nI c ∧ (1 ≤ c → mt 0 = f) ∧ (2 ≤ c → mt 1 = s) ∧ (3 ≤ c → mt 2 = t))) ∧ ∀ j, j < c → ∃ m, m < 31 ∧ mt j = nI m
section
variable {km kr kn kw kt ks : Nat} {nt sc mc : Int32} {dk ex tr pl fi ne ct sk rv rs rn re fr lr nr lo mo fc bh ty mt sl yl ym : Nat → Int32}
theorem sw_xdw {post : Int32 → Prop} {k a : Nat} (hk : k < 16) (h : mt k = nI a) (ha : a < 31) (h1 : 10 ≤ a → a ≤ 13 → post 1) (h0 : ¬ (10 ≤ a ∧ a ≤ 13) → post 0) : wpX_isDirectionWord post (nI km, nt, sc, nI kr, nI kn, nI kw, nI kt, mc, nI ks, dk, ex, tr, pl, fi, ne, ct, sk, rv, rs, rn, re, fr, lr, nr, lo, mo, fc, bh, ty, mt, sl) (nI k) := by
  unfold wpX_isDirectionWord
  dsimp only
  rw [sw_cl (a := k) (by omega), h]
  exact ⟨vp_in_nI hk (by omega), pk_lt a 10 (fun z => h0 (by omega)) fun z => ⟨vp_in_nI hk (by omega), pk_lt 13 a (fun y => h0 (by omega)) fun y => h1 z y⟩⟩
theorem sw_xtw {post : Int32 → Prop} {k a : Nat} (hk : k < 16) (h : mt k = nI a) (ha : a < 31) (h1 : 20 ≤ a → a ≤ 27 → post 1) (h0 : ¬ (20 ≤ a ∧ a ≤ 27) → post 0) : wpX_isThingWord post (nI km, nt, sc, nI kr, nI kn, nI kw, nI kt, mc, nI ks, dk, ex, tr, pl, fi, ne, ct, sk, rv, rs, rn, re, fr, lr, nr, lo, mo, fc, bh, ty, mt, sl) (nI k) := by
  unfold wpX_isThingWord
  dsimp only
  rw [sw_cl (a := k) (by omega), h]
  exact ⟨vp_in_nI hk (by omega), pk_lt a 20 (fun z => h0 (by omega)) fun z => ⟨vp_in_nI hk (by omega), pk_lt 27 a (fun y => h0 (by omega)) fun y => h1 z y⟩⟩
theorem sw_yin2 {post : Int32 → Prop} {a lo hi : Nat} (ha : a < 31) (hlo : lo < 100) (hhi : hi < 100) (h1 : lo ≤ a → a ≤ hi → post 1) (h0 : ¬ (lo ≤ a ∧ a ≤ hi) → post 0) : wpY_in post (nI km, nI kr, nI kw, nI kt, nI ks, dk, ex, tr, pl, ct, rv, rs, rn, re, yl, ym, ty, sl) (nI a) (nI lo) (nI hi) := by
  unfold wpY_in
  dsimp only
  exact pk_lt a lo (fun z => h0 (by omega)) fun z => pk_lt hi a (fun y => h0 (by omega)) fun y => h1 z y
end
end
section
/-! understand -/
section
variable {km kr kn kw kt ks : Nat} {nt sc mc : Int32} {dk ex tr pl fi ne ct sk rv rs rn re fr lr nr lo mo fc bh ty mt sl yl ym : Nat → Int32}
/-- Y's part behind the loop -/
def sw_YU (post : Int32 → SY → Prop) (n f s t : Int32) (v : SY) : Prop := match v with
  | (rm, rc, wc, tc, sd, dk, ex, tr, pl, ct, rv, rs, rn, re, yl, ym, ty, sl) => ((n = 1 → (wpY_in (fun r_151 => (((r_151 = 0 → (wY_enter_177 post n f s t rm rc wc tc sd dk ex tr pl ct rv rs rn re yl ym ty sl)) ∧ (¬ r_151 = 0 → (wpY_carryOut (fun r_171 u => match u with | (rm, rc, wc, tc, sd, dk, ex, tr, pl, ct, rv, rs, rn, re, yl, ym, ty, sl) => (post r_171 (rm, rc, wc, tc, sd, dk, ex, tr, pl, ct, rv, rs, rn, re, yl, ym, ty, sl))) (rm, rc, wc, tc, sd, dk, ex, tr, pl, ct, rv, rs, rn, re, yl, ym, ty, sl) 0 (f - 10) 0))))) (rm, rc, wc, tc, sd, dk, ex, tr, pl, ct, rv, rs, rn, re, yl, ym, ty, sl) f 10 13)) ∧ (¬ n = 1 → (wY_enter_177 post n f s t rm rc wc tc sd dk ex tr pl ct rv rs rn re yl ym ty sl)))
theorem sw_y12 {post : Int32 → SY → Prop} {c : Nat} {n f s t : Int32} {a : Nat} (hn : n = nI c) (hf : f = nI a) (hc : c < 100) (ha : a < 31) (K : post 12 (nI km, nI kr, nI kw, nI kt, nI ks, dk, ex, tr, pl, ct, rv, rs, rn, re, yl, ym, ty, sl))
    (h2 : c = 2 → a = 1 ∨ a = 2 ∨ a = 4 ∨ a = 5 → ∃ b, b < 31 ∧ s = nI b ∧ ¬ (20 ≤ b ∧ b ≤ 27))
    (h3 : c = 3 → a = 3 → ∃ b d, b < 31 ∧ s = nI b ∧ d < 31 ∧ t = nI d ∧ ¬ ((20 ≤ b ∧ b ≤ 27) ∧ (20 ≤ d ∧ d ≤ 27))) : wY_enter_212 post n f s t (nI km) (nI kr) (nI kw) (nI kt) (nI ks) dk ex tr pl ct rv rs rn re yl ym ty sl := by
  subst hn hf
  have k267 : wY_enter_267 post (nI c) (nI a) s t (nI km) (nI kr) (nI kw) (nI kt) (nI ks) dk ex tr pl ct rv rs rn re yl ym ty sl := by
    unfold wY_enter_267
    refine pk_eq c 3 (fun c3 => pk_eq a 3 (fun a3 => ?_) fun _ => K) fun _ => K
    obtain ⟨b, d, hb, eb, hd, ed, hbd⟩ := h3 c3 a3
    subst eb ed
    refine sw_yin2 (lo := 20) (hi := 27) hb (by omega) (by omega) (fun b1 b2 => br_f (by decide) ?_) (fun _ => br_t rfl K)
    exact sw_yin2 (lo := 20) (hi := 27) hd (by omega) (by omega) (fun d1 d2 => absurd ⟨⟨b1, b2⟩, d1, d2⟩ hbd) (fun _ => br_t rfl K)
  have k241 : c = 2 → (a = 1 ∨ a = 2 ∨ a = 4 ∨ a = 5) → wY_enter_241 post (nI c) (nI a) s t (nI km) (nI kr) (nI kw) (nI kt) (nI ks) dk ex tr pl ct rv rs rn re yl ym ty sl := by
    intro c2 ha'
    unfold wY_enter_241
    obtain ⟨b, hb, eb, hbb⟩ := h2 c2 ha'
    subst eb
    exact sw_yin2 (lo := 20) (hi := 27) hb (by omega) (by omega) (fun b1 b2 => absurd ⟨b1, b2⟩ hbb) (fun _ => br_t rfl k267)
  unfold wY_enter_212
  exact pk_eq c 2 (fun c2 => pk_eq a 1 (fun h => k241 c2 (by omega)) fun _ => pk_eq a 2 (fun h => k241 c2 (by omega)) fun _ => pk_eq a 4 (fun h => k241 c2 (by omega)) fun _ => pk_eq a 5 (fun h => k241 c2 (by omega)) fun _ => k267) fun _ => k267
theorem sw_y12' {post : Int32 → SY → Prop} {c : Nat} {n f s t : Int32} {a : Nat} (hn : n = nI c) (hf : f = nI a) (hc : c < 100) (c0 : c ≠ 0) (ha : a < 31) (K : post 12 (nI km, nI kr, nI kw, nI kt, nI ks, dk, ex, tr, pl, ct, rv, rs, rn, re, yl, ym, ty, sl))
    (h1 : c = 1 → ¬ (10 ≤ a ∧ a ≤ 13))
    (h20 : c = 2 → a = 0 → ∃ b, b < 31 ∧ s = nI b ∧ ¬ (10 ≤ b ∧ b ≤ 13))
    (h2 : c = 2 → a = 1 ∨ a = 2 ∨ a = 4 ∨ a = 5 → ∃ b, b < 31 ∧ s = nI b ∧ ¬ (20 ≤ b ∧ b ≤ 27))
    (h3 : c = 3 → a = 3 → ∃ b d, b < 31 ∧ s = nI b ∧ d < 31 ∧ t = nI d ∧ ¬ ((20 ≤ b ∧ b ≤ 27) ∧ (20 ≤ d ∧ d ≤ 27))) : sw_YU post n f s t (nI km, nI kr, nI kw, nI kt, nI ks, dk, ex, tr, pl, ct, rv, rs, rn, re, yl, ym, ty, sl) := by
  have k212 := sw_y12 (post := post) hn hf hc ha K h2 h3
  subst hn hf
  have k177 : wY_enter_177 post (nI c) (nI a) s t (nI km) (nI kr) (nI kw) (nI kt) (nI ks) dk ex tr pl ct rv rs rn re yl ym ty sl := by
    unfold wY_enter_177
    refine pk_eq c 2 (fun c2 => pk_eq a 0 (fun a0 => ?_) fun _ => k212) fun _ => k212
    obtain ⟨b, hb, eb, hbb⟩ := h20 c2 a0
    subst eb
    exact sw_yin2 (lo := 10) (hi := 13) hb (by omega) (by omega) (fun b1 b2 => absurd ⟨b1, b2⟩ hbb) (fun _ => br_t rfl k212)
  unfold sw_YU
  dsimp only
  exact pk_eq c 1 (fun c1 => sw_yin2 (lo := 10) (hi := 13) ha (by omega) (by omega) (fun b1 b2 => absurd ⟨b1, b2⟩ (h1 c1)) (fun _ => br_t rfl k177)) fun _ => k177
theorem sw_und {B c : Nat} {n f s t : Int32} (hB : B < 100000) (hc : 1 ≤ c) (hc' : c < 17) (hK : sw_Kp 0 c mt n f s t)
    (F : sw_Fa B km kr kn kw kt ks ex tr pl fi ne rv rn re fr lr nr lo mo fc bh ty yl ym) :
    sw_O (sw_Re (B + 16)) (fun post => wpX_understand post (nI km, nt, sc, nI kr, nI kn, nI kw, nI kt, nI c, nI ks, dk, ex, tr, pl, fi, ne, ct, sk, rv, rs, rn, re, fr, lr, nr, lo, mo, fc, bh, ty, mt, sl)) (fun post => sw_YU post n f s t (nI km, nI kr, nI kw, nI kt, nI ks, dk, ex, tr, pl, ct, rv, rs, rn, re, yl, ym, ty, sl)) := by
  obtain ⟨hh, hm⟩ := hK
  obtain ⟨-, hn, h0f, h1s, h2t⟩ := hh.resolve_left (by decide)
  obtain ⟨a, ha, ea⟩ := hm 0 (by omega)
  have hf : f = nI a := by rw [← h0f hc]; exact ea
  have ctry := fun {x v : Nat} {y : Int32} (hv : v < 6) (hx : x < 8) (hx0 : v = 0 → x < 4) (hy : v = 3 → ∃ b, b < 8 ∧ y = nI b) => sw_carry (km := km) (kr := kr) (kn := kn) (kw := kw) (kt := kt) (ks := ks) (nt := nt) (sc := sc) (mc := nI c) (dk := dk) (ex := ex) (tr := tr) (pl := pl) (fi := fi) (ne := ne) (ct := ct) (sk := sk) (rv := rv) (rs := rs) (rn := rn) (re := re) (fr := fr) (lr := lr) (nr := nr) (lo := lo) (mo := mo) (fc := fc) (bh := bh) (ty := ty) (mt := mt) (sl := sl) (yl := yl) (ym := ym) hB hv hx hx0 hy F
  -- confused on both sides
  have conf : (∀ post : Int32 → SX → Prop, post 12 (nI km, nt, sc, nI kr, nI kn, nI kw, nI kt, nI c, nI ks, dk, ex, tr, pl, fi, ne, ct, sk, rv, rs, rn, re, fr, lr, nr, lo, mo, fc, bh, ty, mt, sl) → wpX_understand post (nI km, nt, sc, nI kr, nI kn, nI kw, nI kt, nI c, nI ks, dk, ex, tr, pl, fi, ne, ct, sk, rv, rs, rn, re, fr, lr, nr, lo, mo, fc, bh, ty, mt, sl)) → (c = 1 → ¬ (10 ≤ a ∧ a ≤ 13)) →
      (c = 2 → a = 0 → ∃ b, b < 31 ∧ s = nI b ∧ ¬ (10 ≤ b ∧ b ≤ 13)) →
      (c = 2 → a = 1 ∨ a = 2 ∨ a = 4 ∨ a = 5 → ∃ b, b < 31 ∧ s = nI b ∧ ¬ (20 ≤ b ∧ b ≤ 27)) →
      (c = 3 → a = 3 → ∃ b d, b < 31 ∧ s = nI b ∧ d < 31 ∧ t = nI d ∧ ¬ ((20 ≤ b ∧ b ≤ 27) ∧ (20 ≤ d ∧ d ≤ 27))) →
      sw_O (sw_Re (B + 16)) (fun post => wpX_understand post (nI km, nt, sc, nI kr, nI kn, nI kw, nI kt, nI c, nI ks, dk, ex, tr, pl, fi, ne, ct, sk, rv, rs, rn, re, fr, lr, nr, lo, mo, fc, bh, ty, mt, sl)) (fun post => sw_YU post n f s t (nI km, nI kr, nI kw, nI kt, nI ks, dk, ex, tr, pl, ct, rv, rs, rn, re, yl, ym, ty, sl)) := by
    intro hX g1 g2 g3 g4
    obtain ⟨f1, f2, f3⟩ := F
    exact ⟨12, _, _, sw_Re_i (km := km) (kr := kr) (kn := kn) (kw := kw) (kt := kt) (ks := ks) (nt := nt) (sc := sc) (mc := nI c) (dk := dk) (ex := ex) (tr := tr) (pl := pl) (fi := fi) (ne := ne) (ct := ct) (sk := sk) (rv := rv) (rs := rs) (rn := rn) (re := re) (fr := fr) (lr := lr) (nr := nr) (lo := lo) (mo := mo) (fc := fc) (bh := bh) (ty := ty) (mt := mt) (sl := sl) (yl := yl) (ym := ym) ⟨f1, by omega, f3⟩, hX, fun post K => sw_y12' (post := post) hn hf (by omega) (by omega) ha K g1 g2 g3 g4⟩
  by_cases c1 : c = 1
  · subst c1
    by_cases d : 10 ≤ a ∧ a ≤ 13
    · obtain ⟨r, u', v', hR, hX, hY⟩ := ctry (v := 0) (x := a - 10) (y := 0) (by omega) (by omega) (fun _ => by omega) (fun h => by omega)
      refine ⟨r, u', v', hR, fun post K => ?_, fun post K => ?_⟩
      · unfold wpX_understand
        dsimp only
        refine nm_r ea (br_t rfl (sw_xdw (k := 0) (by omega) ea ha (fun _ _ => br_f (by decide) ?_) (fun z => absurd d z)))
        rw [sw_s10 d.1]
        exact hX _ K
      · unfold sw_YU
        dsimp only
        rw [hn, hf, sw_s10 d.1]
        refine br_t rfl (sw_yin2 (lo := 10) (hi := 13) ha (by omega) (by omega) (fun _ _ => br_f (by decide) ?_) (fun z => absurd d z))
        exact hY _ K
    · refine conf (fun post K => ?_) (fun _ => d) (fun h => by omega) (fun h => by omega) (fun h => by omega)
      unfold wpX_understand
      dsimp only
      exact nm_r ea (br_t rfl (sw_xdw (k := 0) (by omega) ea ha (fun z1 z2 => absurd ⟨z1, z2⟩ d) (fun _ => br_t rfl K)))
  · have nc1 : ¬ nI c = 1 := fun q => c1 (sw_inj (b := 1) q (by omega) (by omega))
    obtain ⟨b, hb, eb⟩ := hm 1 (by omega)
    have hs : s = nI b := by rw [← h1s (by omega)]; exact eb
    by_cases a5 : a ≤ 5
    · have la : nI a ≤ 5 := nI_le (b := 5) a5 (by omega)
      by_cases c2 : c = 2
      · subst c2
        by_cases a0 : a = 0
        · subst a0
          by_cases d : 10 ≤ b ∧ b ≤ 13
          · obtain ⟨r, u', v', hR, hX, hY⟩ := ctry (v := 0) (x := b - 10) (y := 0) (by omega) (by omega) (fun _ => by omega) (fun h => by omega)
            refine ⟨r, u', v', hR, fun post K => ?_, fun post K => ?_⟩
            · unfold wpX_understand
              dsimp only
              refine nm_r ea (br_f (by decide) (br_t la (br_t rfl (br_t rfl (sw_xdw (k := 1) (by omega) eb hb (fun _ _ => br_f (by decide) ?_) (fun z => absurd d z))))))
              rw [eb, sw_s10 d.1]
              exact hX _ K
            · unfold sw_YU
              dsimp only
              unfold wY_enter_177
              rw [hn, hf, hs, sw_s10 d.1]
              refine br_f (by decide) (br_t rfl (br_t rfl (sw_yin2 (lo := 10) (hi := 13) hb (by omega) (by omega) (fun _ _ => br_f (by decide) ?_) (fun z => absurd d z))))
              exact hY _ K
          · refine conf (fun post K => ?_) (fun h => by omega) (fun _ _ => ⟨b, hb, hs, d⟩) (fun _ h => by omega) (fun h => by omega)
            unfold wpX_understand
            dsimp only
            exact nm_r ea (br_f (by decide) (br_t la (br_t rfl (br_t rfl (sw_xdw (k := 1) (by omega) eb hb (fun z1 z2 => absurd ⟨z1, z2⟩ d) (fun _ => br_t rfl K))))))
        · have na0 : ¬ nI a = 0 := nI_ne0 (by omega) (by omega)
          by_cases a3 : a = 3
          · subst a3
            refine conf (fun post K => ?_) (fun h => by omega) (fun _ h => by omega) (fun _ h => by omega) (fun h => by omega)
            unfold wpX_understand
            dsimp only
            refine nm_r ea (br_f (by decide) (br_t la (br_t rfl (br_f na0 ?_))))
            unfold wX_understand_88 wX_understand_130 wX_understand_163 wX_understand_164
            exact br_t rfl (br_t rfl (br_f (by decide) (br_t rfl K)))
          · have na3 : ¬ nI a = 3 := fun q => a3 (sw_inj (b := 3) q (by omega) (by omega))
            by_cases d : 20 ≤ b ∧ b ≤ 27
            · obtain ⟨r, u', v', hR, hX, hY⟩ := ctry (v := a) (x := b - 20) (y := 0) (by omega) (by omega) (fun _ => by omega) (fun h => by omega)
              refine ⟨r, u', v', hR, fun post K => ?_, fun post K => ?_⟩
              · unfold wpX_understand
                dsimp only
                refine nm_r ea (br_f (by decide) (br_t la (br_t rfl (br_f na0 ?_))))
                unfold wX_understand_88
                refine br_t rfl (br_f na3 (sw_xtw (k := 1) (by omega) eb hb (fun _ _ => br_f (by decide) ?_) (fun z => absurd d z)))
                rw [eb, sw_s20 d.1]
                exact hX _ K
              · have k241 : wY_enter_241 post (nI 2) (nI a) (nI b) t (nI km) (nI kr) (nI kw) (nI kt) (nI ks) dk ex tr pl ct rv rs rn re yl ym ty sl := by
                  unfold wY_enter_241
                  rw [sw_s20 d.1]
                  refine sw_yin2 (lo := 20) (hi := 27) hb (by omega) (by omega) (fun _ _ => br_f (by decide) ?_) (fun z => absurd d z)
                  exact hY _ K
                unfold sw_YU
                dsimp only
                unfold wY_enter_177 wY_enter_212
                rw [hn, hf, hs]
                exact br_f (by decide) (br_t rfl (br_f na0 (br_t rfl (pk_eq a 1 (fun _ => k241) fun _ => pk_eq a 2 (fun _ => k241) fun _ => pk_eq a 4 (fun _ => k241) fun _ => pk_eq a 5 (fun _ => k241) fun _ => by omega))))
            · refine conf (fun post K => ?_) (fun h => by omega) (fun _ h => by omega) (fun _ _ => ⟨b, hb, hs, d⟩) (fun h => by omega)
              unfold wpX_understand
              dsimp only
              refine nm_r ea (br_f (by decide) (br_t la (br_t rfl (br_f na0 ?_))))
              unfold wX_understand_88
              exact br_t rfl (br_f na3 (sw_xtw (k := 1) (by omega) eb hb (fun z1 z2 => absurd ⟨z1, z2⟩ d) (fun _ => br_t rfl K)))
      · have nc2 : ¬ nI c = 2 := fun q => c2 (sw_inj (b := 2) q (by omega) (by omega))
        by_cases c3 : c = 3
        · subst c3
          obtain ⟨e, he, ee⟩ := hm 2 (by omega)
          have ht : t = nI e := by rw [← h2t (by omega)]; exact ee
          by_cases a3 : a = 3
          · subst a3
            by_cases d : (20 ≤ b ∧ b ≤ 27) ∧ (20 ≤ e ∧ e ≤ 27)
            · obtain ⟨r, u', v', hR, hX, hY⟩ := ctry (v := 3) (x := b - 20) (y := nI (e - 20)) (by omega) (by omega) (fun _ => by omega) (fun _ => ⟨e - 20, by omega, rfl⟩)
              refine ⟨r, u', v', hR, fun post K => ?_, fun post K => ?_⟩
              · unfold wpX_understand
                dsimp only
                refine nm_r ea (br_f nc1 (br_t la (br_f nc2 ?_)))
                unfold wX_understand_88 wX_understand_130 wX_understand_163 wX_understand_164
                refine br_f nc2 (br_t rfl (br_t rfl (sw_xtw (k := 1) (by omega) eb hb (fun _ _ => br_f (by decide) (sw_xtw (k := 2) (by omega) ee he (fun _ _ => br_f (by decide) (br_f (by decide) ?_)) (fun z => absurd d.2 z))) (fun z => absurd d.1 z))))
                rw [eb, ee, sw_s20 d.1.1, sw_s20 d.2.1]
                exact hX _ K
              · unfold sw_YU
                dsimp only
                unfold wY_enter_177 wY_enter_212 wY_enter_267
                rw [hn, hf, hs, ht, sw_s20 d.1.1, sw_s20 d.2.1]
                refine br_f (by decide) (br_f (by decide) (br_f (by decide) (br_t rfl (br_t rfl (sw_yin2 (lo := 20) (hi := 27) hb (by omega) (by omega) (fun _ _ => br_f (by decide) (sw_yin2 (lo := 20) (hi := 27) he (by omega) (by omega) (fun _ _ => br_f (by decide) ?_) (fun z => absurd d.2 z))) (fun z => absurd d.1 z))))))
                exact hY _ K
            · refine conf (fun post K => ?_) (fun h => by omega) (fun h => by omega) (fun h => by omega) (fun _ _ => ⟨b, e, hb, hs, he, ht, d⟩)
              unfold wpX_understand
              dsimp only
              refine nm_r ea (br_f nc1 (br_t la (br_f nc2 ?_)))
              unfold wX_understand_88 wX_understand_130 wX_understand_163 wX_understand_164
              exact br_f nc2 (br_t rfl (br_t rfl (sw_xtw (k := 1) (by omega) eb hb (fun b1 b2 => br_f (by decide) (sw_xtw (k := 2) (by omega) ee he (fun e1 e2 => absurd ⟨⟨b1, b2⟩, e1, e2⟩ d) (fun _ => br_t rfl (br_t rfl K)))) (fun _ => br_t rfl (br_t rfl K)))))
          · have na3 : ¬ nI a = 3 := fun q => a3 (sw_inj (b := 3) q (by omega) (by omega))
            refine conf (fun post K => ?_) (fun h => by omega) (fun h => by omega) (fun h => by omega) (fun _ h => by omega)
            unfold wpX_understand
            dsimp only
            refine nm_r ea (br_f nc1 (br_t la (br_f nc2 ?_)))
            unfold wX_understand_88 wX_understand_130 wX_understand_163 wX_understand_164
            exact br_f nc2 (br_t rfl (br_f na3 (br_t rfl K)))
        · have nc3 : ¬ nI c = 3 := fun q => c3 (sw_inj (b := 3) q (by omega) (by omega))
          refine conf (fun post K => ?_) (fun h => by omega) (fun h => by omega) (fun h => by omega) (fun h => by omega)
          unfold wpX_understand
          dsimp only
          refine nm_r ea (br_f nc1 (br_t la (br_f nc2 ?_)))
          unfold wX_understand_88 wX_understand_130 wX_understand_163 wX_understand_164
          exact br_f nc2 (br_f nc3 (br_t rfl K))
    · refine conf (fun post K => ?_) (fun h => by omega) (fun _ h => by omega) (fun _ h => by omega) (fun _ h => by omega)
      unfold wpX_understand
      dsimp only
      exact nm_r ea (br_f nc1 (br_f (nI_ge (b := a) (a := 5) (by omega) (by omega)) K))
end
end
section
/-! enter: the loop -/
section
variable {km kr kn kw kt ks : Nat} {nt sc mc : Int32} {dk ex tr pl fi ne ct sk rv rs rn re fr lr nr lo mo fc bh ty mt sl yl ym : Nat → Int32}
theorem sw_y80 {post : Int32 → SY → Prop} {J : Int32 → Int32 → Int32 → Int32 → Int32 → Int32 → Int32 → Prop} {x1 n f s t z : Int32} {e : Nat} (h30 : ¬ z = 30)
    (K : J x1 (n + 1) (if n = 0 then z else f) (if n = 1 then z else s) (if n = 2 then z else t) (nI (e + 1)) (nI (e + 1))) : wY_enter_80 post J x1 n f s t (nI e) z (nI km) (nI kr) (nI kw) (nI kt) (nI ks) dk ex tr pl ct rv rs rn re yl ym ty sl := by
  have last : ∀ f s, J x1 (n + 1) f s (if n = 2 then z else t) (nI (e + 1)) (nI (e + 1)) → wY_enter_104 post J x1 n f s t (nI e) z (nI km) (nI kr) (nI kw) (nI kt) (nI ks) dk ex tr pl ct rv rs rn re yl ym ty sl := by
    intro f s K
    unfold wY_enter_104
    by_cases h2 : n = 2
    · rw [if_pos h2] at K
      exact br_t h2 (nm_e (nm_r (nI_1 e) (nm_r (nI_1 e) K)))
    · rw [if_neg h2] at K
      exact br_f h2 (nm_e (nm_r (nI_1 e) (nm_r (nI_1 e) K)))
  have mid : ∀ f, J x1 (n + 1) f (if n = 1 then z else s) (if n = 2 then z else t) (nI (e + 1)) (nI (e + 1)) → wY_enter_95 post J x1 n f s t (nI e) z (nI km) (nI kr) (nI kw) (nI kt) (nI ks) dk ex tr pl ct rv rs rn re yl ym ty sl := by
    intro f K
    unfold wY_enter_95
    by_cases h1 : n = 1
    · rw [if_pos h1] at K
      exact br_t h1 (last _ _ K)
    · rw [if_neg h1] at K
      exact br_f h1 (last _ _ K)
  unfold wY_enter_80
  by_cases h0 : n = 0
  · rw [if_pos h0] at K
    exact br_f h30 (br_t h0 (mid _ K))
  · rw [if_neg h0] at K
    exact br_f h30 (br_f h0 (mid _ K))
theorem sw_wrd {z x1 n f s t : Int32} {c e : Nat} (hz : z = -1 ∨ ∃ m, m < 31 ∧ z = nI m) (hc : c < 16) (hK : sw_Kp x1 c mt n f s t) :
    ∃ (x1' : Int32) (c' : Nat) (mt' : Nat → Int32) (n' f' s' t' : Int32), sw_Kp x1' c' mt' n' f' s' t' ∧ c' ≤ c + 1 ∧
    (∀ (post : Int32 → SX → Prop) (J : Int32 → Int32 → Int32 → Int32 → Int32 → Int32 → Int32 → Int32 → Int32 → Int32 → Int32 → (Nat → Int32) → (Nat → Int32) → (Nat → Int32) → (Nat → Int32) → (Nat → Int32) → (Nat → Int32) → (Nat → Int32) → (Nat → Int32) → (Nat → Int32) → (Nat → Int32) → (Nat → Int32) → (Nat → Int32) → (Nat → Int32) → (Nat → Int32) → (Nat → Int32) → (Nat → Int32) → (Nat → Int32) → (Nat → Int32) → (Nat → Int32) → (Nat → Int32) → (Nat → Int32) → (Nat → Int32) → Prop), J x1' (nI e) (nI km) nt sc (nI kr) (nI kn) (nI kw) (nI kt) (nI c') (nI ks) dk ex tr pl fi ne ct sk rv rs rn re fr lr nr lo mo fc bh ty mt' sl → wX_enter_106 post J x1 (nI e) z (nI km) nt sc (nI kr) (nI kn) (nI kw) (nI kt) (nI c) (nI ks) dk ex tr pl fi ne ct sk rv rs rn re fr lr nr lo mo fc bh ty mt sl) ∧
    (∀ (post : Int32 → SY → Prop) (J : Int32 → Int32 → Int32 → Int32 → Int32 → Int32 → Int32 → Prop), J x1' n' f' s' t' (nI (e + 1)) (nI (e + 1)) → wY_enter_71 post J x1 n f s t (nI e) z (nI km) (nI kr) (nI kw) (nI kt) (nI ks) dk ex tr pl ct rv rs rn re yl ym ty sl) := by
  rcases hz with rfl | ⟨m, hm, rfl⟩
  · refine ⟨1, c, mt, n + 1, (if n = 0 then -1 else f), (if n = 1 then -1 else s), (if n = 2 then -1 else t), ⟨Or.inl rfl, hK.2⟩, by omega, fun post J K => ?_, fun post J K => ?_⟩
    · unfold wX_enter_106
      exact br_f sw_m1le K
    · unfold wY_enter_71
      exact br_f sw_m1le (sw_y80 (by decide) K)
  · by_cases m30 : m = 30
    · subst m30
      refine ⟨x1, c, mt, n, f, s, t, hK, by omega, fun post J K => ?_, fun post J K => ?_⟩
      · unfold wX_enter_106
        exact br_t (by decide) (br_t rfl K)
      · unfold wY_enter_71 wY_enter_80
        exact br_t (by decide) (br_t rfl (nm_r (nI_1 e) (nm_r (nI_1 e) K)))
    · have n30 : ¬ nI m = 30 := fun q => m30 (sw_inj (b := 30) q (by omega) (by omega))
      refine ⟨x1, c + 1, upd mt c (nI m), n + 1, (if n = 0 then nI m else f), (if n = 1 then nI m else s), (if n = 2 then nI m else t), ⟨?_, ?_⟩, by omega, fun post J K => ?_, fun post J K => ?_⟩
      · rcases hK.1 with h | ⟨h0, hn, hf, hs, ht⟩
        · exact Or.inl h
        · refine Or.inr ⟨h0, by rw [hn, nI_1], fun _ => ?_, fun _ => ?_, fun _ => ?_⟩
          · by_cases c0 : c = 0
            · subst c0; rw [hn, if_pos (show nI 0 = 0 from rfl), pk_us]
            · rw [hn, if_neg (nI_ne0 (by omega) (by omega)), pk_un (by omega)]; exact hf (by omega)
          · by_cases c1 : c = 1
            · subst c1; rw [hn, if_pos (show nI 1 = 1 from rfl), pk_us]
            · rw [hn, if_neg (show ¬ nI c = 1 from fun q => c1 (sw_inj (b := 1) q (by omega) (by omega))), pk_un (by omega)]; exact hs (by omega)
          · by_cases c2 : c = 2
            · subst c2; rw [hn, if_pos (show nI 2 = 2 from rfl), pk_us]
            · rw [hn, if_neg (show ¬ nI c = 2 from fun q => c2 (sw_inj (b := 2) q (by omega) (by omega))), pk_un (by omega)]; exact ht (by omega)
      · intro j hj
        by_cases e : j = c
        · subst e; rw [pk_us]; exact ⟨m, hm, rfl⟩
        · rw [pk_un e]; exact hK.2 j (by omega)
      · unfold wX_enter_106
        refine br_t (nI_pos' (by omega)) (br_f n30 ?_)
        unfold wpX_keepMeaning
        dsimp only
        rw [sw_cl (a := c) (by omega), sw_vb2 (by omega)]
        exact ⟨vp_in_nI hc (by omega), nm_e (nm_r (nI_1 c) K)⟩
      · unfold wY_enter_71
        exact br_t (nI_pos' (by omega)) (sw_y80 n30 K)
theorem sw_yat {post : Int32 → SY → Prop} {T : Nat → Nat} {x1 n f s t a : Int32} {e k : Nat} (hX : sw_Tx T kt ty) (he : e ≤ kt) (hw : e = kt ∨ T e = 32)
    (K : wY_enter_51 post (wY_enter_21 post (nI km) (nI kr) (nI kw) (nI kt) (nI ks) dk ex tr pl ct rv rs rn re yl ym ty sl k) x1 n f s t a (nI e) (nI km) (nI kr) (nI kw) (nI kt) (nI ks) dk ex tr pl ct rv rs rn re yl ym ty sl) : wY_enter_21 post (nI km) (nI kr) (nI kw) (nI kt) (nI ks) dk ex tr pl ct rv rs rn re yl ym ty sl (k + 1) x1 n f s t a (nI e) := by
  have k30 := hX.1
  unfold wY_enter_21
  refine pk_lt kt e (fun q => by omega) fun _ => pk_eq e kt (fun _ => K) fun q => ⟨vp_in_nI (by omega) (by omega), ?_⟩
  rw [sw_cl (a := e) (by omega), (hX.2 e (by omega)).1, hw.resolve_left q]
  exact br_t rfl K
theorem sw_ytr {post : Int32 → SY → Prop} {T : Nat → Nat} {x1 n f s t a : Int32} {e k : Nat} (hX : sw_Tx T kt ty) (he : e ≤ kt) (K : wY_enter_21 post (nI km) (nI kr) (nI kw) (nI kt) (nI ks) dk ex tr pl ct rv rs rn re yl ym ty sl k x1 n f s t a (nI e)) :
    ∀ d j, d + j = e → (∀ i, j ≤ i → i < e → T i ≠ 32) → wY_enter_21 post (nI km) (nI kr) (nI kw) (nI kt) (nI ks) dk ex tr pl ct rv rs rn re yl ym ty sl (k + d) x1 n f s t a (nI j) := by
  have k30 := hX.1
  intro d
  induction d with
  | zero =>
    intro j hj _
    have : j = e := by omega
    subst this
    exact K
  | succ d ih =>
    intro j hj hne
    have hi := ih (j + 1) (by omega) (fun i h1 h2 => hne i (by omega) h2)
    obtain ⟨et, ht⟩ := hX.2 j (by omega)
    have hn32 := hne j (by omega) (by omega)
    show wY_enter_21 post (nI km) (nI kr) (nI kw) (nI kt) (nI ks) dk ex tr pl ct rv rs rn re yl ym ty sl ((k + d) + 1) x1 n f s t a (nI j)
    unfold wY_enter_21
    rw [sw_cl (a := j) (by omega), et]
    exact pk_lt kt j (fun q => by omega) fun _ => pk_eq j kt (fun q => by omega) fun _ => ⟨vp_in_nI (by omega) (by omega), br_f (fun q => hn32 (sw_inj (b := 32) q (by omega) (by omega))) (nm_r (nI_1 j) hi)⟩
theorem sw_y30 {post : Int32 → SY → Prop} {J : Int32 → Int32 → Int32 → Int32 → Int32 → Int32 → Int32 → Prop} {x1 n f s t : Int32} {e : Nat}
    (K : J x1 n f s t (nI (e + 1)) (nI (e + 1))) : wY_enter_51 post J x1 n f s t (nI e) (nI e) (nI km) (nI kr) (nI kw) (nI kt) (nI ks) dk ex tr pl ct rv rs rn re yl ym ty sl := by
  unfold wY_enter_51 wY_enter_71 wY_enter_80
  exact br_t (Int32.le_refl _) (br_t (by decide) (br_t rfl (nm_r (nI_1 e) (nm_r (nI_1 e) K))))
theorem sw_fin {B c : Nat} {x1 n f s t : Int32} (hB : B < 100000) (hc : c < 17) (hK : sw_Kp x1 c mt n f s t)
    (F : sw_Fa B km kr kn kw kt ks ex tr pl fi ne rv rn re fr lr nr lo mo fc bh ty yl ym) :
    ∃ r u' v', sw_Re (B + 16) u' v' ∧ (∀ (post : Int32 → SX → Prop) (k : Nat), post r u' → wX_enter_9 post (k + 1) x1 (nI kt) (nI km) nt sc (nI kr) (nI kn) (nI kw) (nI kt) (nI c) (nI ks) dk ex tr pl fi ne ct sk rv rs rn re fr lr nr lo mo fc bh ty mt sl) ∧
    (∀ (post : Int32 → SY → Prop) (k : Nat) (a : Int32), post r v' → wY_enter_21 post (nI km) (nI kr) (nI kw) (nI kt) (nI ks) dk ex tr pl ct rv rs rn re yl ym ty sl (k + 1) x1 n f s t a (nI (kt + 1))) := by
  have k30 := F.2.2.2.2.2.2.2.1
  have lt1 : nI kt < nI (kt + 1) := nI_lt (by omega) (by omega)
  obtain ⟨f1, f2, f3, f4, f5, f6, f7, f8⟩ := F
  have ty0 : sw_Ty 0 ty := ⟨by omega, fun j hj => by omega⟩
  by_cases z1 : x1 = 1
  · subst z1
    refine ⟨11, _, _, sw_Re_i (km := km) (kr := kr) (kn := kn) (kw := kw) (kt := 0) (ks := ks) (nt := nt) (sc := sc) (mc := nI c) (dk := dk) (ex := ex) (tr := tr) (pl := pl) (fi := fi) (ne := ne) (ct := ct) (sk := sk) (rv := rv) (rs := rs) (rn := rn) (re := re) (fr := fr) (lr := lr) (nr := nr) (lo := lo) (mo := mo) (fc := fc) (bh := bh) (ty := ty) (mt := mt) (sl := sl) (yl := yl) (ym := ym) ⟨f1, by omega, f3, f4, f5, f6, f7, ty0⟩, fun post k K => ?_, fun post k a K => ?_⟩
    · unfold wX_enter_9
      exact br_t (Int32.le_refl _) (br_f (by decide) K)
    · unfold wY_enter_21
      exact br_t lt1 (br_f (by decide) K)
  · have hh := hK.1.resolve_left z1
    obtain ⟨x0, hn, -⟩ := hh
    subst x0
    by_cases c0 : c = 0
    · subst c0
      refine ⟨13, _, _, sw_Re_i (km := km) (kr := kr) (kn := kn) (kw := kw) (kt := 0) (ks := ks) (nt := nt) (sc := sc) (mc := nI 0) (dk := dk) (ex := ex) (tr := tr) (pl := pl) (fi := fi) (ne := ne) (ct := ct) (sk := sk) (rv := rv) (rs := rs) (rn := rn) (re := re) (fr := fr) (lr := lr) (nr := nr) (lo := lo) (mo := mo) (fc := fc) (bh := bh) (ty := ty) (mt := mt) (sl := sl) (yl := yl) (ym := ym) ⟨f1, by omega, f3, f4, f5, f6, f7, ty0⟩, fun post k K => ?_, fun post k a K => ?_⟩
      · unfold wX_enter_9
        exact br_t (Int32.le_refl _) (br_t rfl (br_t rfl K))
      · unfold wY_enter_21
        exact br_t lt1 (br_t rfl (br_t hn K))
    · obtain ⟨r, u', v', hR, hX, hY⟩ := sw_und (km := km) (kr := kr) (kn := kn) (kw := kw) (kt := 0) (ks := ks) (nt := nt) (sc := sc) (dk := dk) (ex := ex) (tr := tr) (pl := pl) (fi := fi) (ne := ne) (ct := ct) (sk := sk) (rv := rv) (rs := rs) (rn := rn) (re := re) (fr := fr) (lr := lr) (nr := nr) (lo := lo) (mo := mo) (fc := fc) (bh := bh) (ty := ty) (mt := mt) (sl := sl) (yl := yl) (ym := ym) hB (by omega) hc hK ⟨f1, f2, f3, f4, f5, f6, f7, ty0⟩
      refine ⟨r, u', v', hR, fun post k K => ?_, fun post k a K => ?_⟩
      · unfold wX_enter_9
        exact br_t (Int32.le_refl _) (br_t rfl (br_f (nI_ne0 (by omega) (by omega)) (hX _ K)))
      · have h := hY post K
        unfold sw_YU at h
        dsimp only at h
        unfold wY_enter_21
        exact br_t lt1 (br_t rfl (br_f (by rw [hn]; exact nI_ne0 (by omega) (by omega)) h))
theorem sw_ebase {B c : Nat} {T : Nat → Nat} {x1 n f s t : Int32} (hB : B < 100000) (hc : c < 17) (hX : sw_Tx T kt ty) (hK : sw_Kp x1 c mt n f s t)
    (F : sw_Fa B km kr kn kw kt ks ex tr pl fi ne rv rn re fr lr nr lo mo fc bh ty yl ym) :
    ∃ r u' v', sw_Re (B + 16) u' v' ∧ (∀ (post : Int32 → SX → Prop) (k : Nat), 0 < k → post r u' → wX_enter_9 post k x1 (nI kt) (nI km) nt sc (nI kr) (nI kn) (nI kw) (nI kt) (nI c) (nI ks) dk ex tr pl fi ne ct sk rv rs rn re fr lr nr lo mo fc bh ty mt sl) ∧
    (∀ (post : Int32 → SY → Prop) (k : Nat), 1 < k → post r v' → wY_enter_21 post (nI km) (nI kr) (nI kw) (nI kt) (nI ks) dk ex tr pl ct rv rs rn re yl ym ty sl k x1 n f s t (nI kt) (nI kt)) := by
  obtain ⟨r, u', v', hR, gX, gY⟩ := sw_fin (km := km) (kr := kr) (kn := kn) (kw := kw) (kt := kt) (ks := ks) (nt := nt) (sc := sc) (dk := dk) (ex := ex) (tr := tr) (pl := pl) (fi := fi) (ne := ne) (ct := ct) (sk := sk) (rv := rv) (rs := rs) (rn := rn) (re := re) (fr := fr) (lr := lr) (nr := nr) (lo := lo) (mo := mo) (fc := fc) (bh := bh) (ty := ty) (mt := mt) (sl := sl) (yl := yl) (ym := ym) hB hc hK F
  refine ⟨r, u', v', hR, fun post k hk K => ?_, fun post k hk K => ?_⟩
  · cases k with
    | zero => omega
    | succ k => exact gX post k K
  · cases k with
    | zero => omega
    | succ k =>
      cases k with
      | zero => omega
      | succ k => exact sw_yat hX (Nat.le_refl _) (Or.inl rfl) (sw_y30 (gY post k _ K))
theorem sw_eloop {B : Nat} {T : Nat → Nat} (hB : B < 100000) (hX : sw_Tx T kt ty) (F : sw_Fa B km kr kn kw kt ks ex tr pl fi ne rv rn re fr lr nr lo mo fc bh ty yl ym) :
    ∀ (N d i c : Nat) (mt : Nat → Int32) (x1 n f s t : Int32), d ≤ N → d + i = kt → 2 * c ≤ i → sw_Kp x1 c mt n f s t →
    ∃ r u' v', sw_Re (B + 16) u' v' ∧ (∀ (post : Int32 → SX → Prop) (k : Nat), d < k → post r u' → wX_enter_9 post k x1 (nI i) (nI km) nt sc (nI kr) (nI kn) (nI kw) (nI kt) (nI c) (nI ks) dk ex tr pl fi ne ct sk rv rs rn re fr lr nr lo mo fc bh ty mt sl) ∧
    (∀ (post : Int32 → SY → Prop) (k : Nat), d + 1 < k → post r v' → wY_enter_21 post (nI km) (nI kr) (nI kw) (nI kt) (nI ks) dk ex tr pl ct rv rs rn re yl ym ty sl k x1 n f s t (nI i) (nI i)) := by
  have k30 := hX.1
  intro N
  induction N with
  | zero =>
    intro d i c mt x1 n f s t hd hi hc hK
    have d0 : d = 0 := by omega
    subst d0
    have : i = kt := by omega
    subst this
    exact sw_ebase (km := km) (kr := kr) (kn := kn) (kw := kw) (ks := ks) (nt := nt) (sc := sc) (dk := dk) (ex := ex) (tr := tr) (pl := pl) (fi := fi) (ne := ne) (ct := ct) (sk := sk) (rv := rv) (rs := rs) (rn := rn) (re := re) (fr := fr) (lr := lr) (nr := nr) (lo := lo) (mo := mo) (fc := fc) (bh := bh) (ty := ty) (mt := mt) (sl := sl) (kt := i) (yl := yl) (ym := ym) hB (by omega) hX hK F
  | succ N ih =>
    intro d i c mt x1 n f s t hd hi hc hK
    by_cases d0 : d = 0
    · subst d0
      have : i = kt := by omega
      subst this
      exact sw_ebase (km := km) (kr := kr) (kn := kn) (kw := kw) (ks := ks) (nt := nt) (sc := sc) (dk := dk) (ex := ex) (tr := tr) (pl := pl) (fi := fi) (ne := ne) (ct := ct) (sk := sk) (rv := rv) (rs := rs) (rn := rn) (re := re) (fr := fr) (lr := lr) (nr := nr) (lo := lo) (mo := mo) (fc := fc) (bh := bh) (ty := ty) (mt := mt) (sl := sl) (kt := i) (yl := yl) (ym := ym) hB (by omega) hX hK F
    · have cl : (nI i).toNatClampNeg = i := nI_clamp (by omega)
      have ii : vp_in (nI i) 30 := vp_in_nI (by omega) (by omega)
      obtain ⟨et, ht⟩ := hX.2 i (by omega)
      by_cases t32 : T i = 32
      · obtain ⟨r, u', v', hR, gX, gY⟩ := ih (d - 1) (i + 1) c mt x1 n f s t (by omega) (by omega) (by omega) hK
        refine ⟨r, u', v', hR, fun post k hk K => ?_, fun post k hk K => ?_⟩
        · cases k with
          | zero => omega
          | succ k =>
            unfold wX_enter_9
            rw [cl, et, t32]
            exact br_f (nI_ge (by omega) (by omega)) ⟨ii, br_t rfl (nm_r (nI_1 i) (gX post k (by omega) K))⟩
        · cases k with
          | zero => omega
          | succ k => exact sw_yat hX (by omega) (Or.inr t32) (sw_y30 (gY post k (by omega) K))
      · obtain ⟨e, e1, e2, e3, e4⟩ := sw_wend T kt d i hi
        have e5 : i < e := by
          rcases Nat.lt_or_ge i e with q | q
          · exact q
          · have : e = i := by omega
            subst this
            rcases e4 with q | q
            · omega
            · exact absurd q t32
        obtain ⟨z, hz, mX, mY⟩ := sw_mean (km := km) (kr := kr) (kn := kn) (kw := kw) (kt := kt) (ks := ks) (nt := nt) (sc := sc) (mc := nI c) (dk := dk) (ex := ex) (tr := tr) (pl := pl) (fi := fi) (ne := ne) (ct := ct) (sk := sk) (rv := rv) (rs := rs) (rn := rn) (re := re) (fr := fr) (lr := lr) (nr := nr) (lo := lo) (mo := mo) (fc := fc) (bh := bh) (ty := ty) (mt := mt) (sl := sl) (yl := yl) (ym := ym) hX e2 e3 e5 e4 F.2.2.2.2.2.2.1
        obtain ⟨x1', c', mt', n', f', s', t', hK', hc', wX, wY⟩ := sw_wrd (km := km) (kr := kr) (kn := kn) (kw := kw) (kt := kt) (ks := ks) (nt := nt) (sc := sc) (dk := dk) (ex := ex) (tr := tr) (pl := pl) (fi := fi) (ne := ne) (ct := ct) (sk := sk) (rv := rv) (rs := rs) (rn := rn) (re := re) (fr := fr) (lr := lr) (nr := nr) (lo := lo) (mo := mo) (fc := fc) (bh := bh) (ty := ty) (mt := mt) (sl := sl) (e := e) (yl := yl) (ym := ym) hz (by omega) hK
        have step : ∀ (post : Int32 → SX → Prop) (k : Nat), wX_enter_9 post k x1' (nI e) (nI km) nt sc (nI kr) (nI kn) (nI kw) (nI kt) (nI c') (nI ks) dk ex tr pl fi ne ct sk rv rs rn re fr lr nr lo mo fc bh ty mt' sl → wX_enter_9 post (k + 1) x1 (nI i) (nI km) nt sc (nI kr) (nI kn) (nI kw) (nI kt) (nI c) (nI ks) dk ex tr pl fi ne ct sk rv rs rn re fr lr nr lo mo fc bh ty mt sl := by
          intro post k K
          unfold wX_enter_9
          rw [cl, et]
          exact br_f (nI_ge (by omega) (by omega)) ⟨ii, br_f (fun q => t32 (sw_inj (b := 32) q (by omega) (by omega))) ⟨e - i + 1, mX post (wX_enter_9 post k) x1 (wX post _ K)⟩⟩
        have stepY : ∀ (post : Int32 → SY → Prop) (k : Nat), wY_enter_21 post (nI km) (nI kr) (nI kw) (nI kt) (nI ks) dk ex tr pl ct rv rs rn re yl ym ty sl k x1' n' f' s' t' (nI (e + 1)) (nI (e + 1)) → wY_enter_21 post (nI km) (nI kr) (nI kw) (nI kt) (nI ks) dk ex tr pl ct rv rs rn re yl ym ty sl (k + 1 + (e - i)) x1 n f s t (nI i) (nI i) := by
          intro post k K
          refine sw_ytr hX e2 (sw_yat hX e2 e4 ?_) (e - i) i (by omega) e3
          unfold wY_enter_51
          exact br_f (nI_ge e5 (by omega)) (mY _ (wY post _ K))
        rcases Nat.lt_or_ge e kt with q | q
        · have e32 : T e = 32 := e4.resolve_left (by omega)
          obtain ⟨r, u', v', hR, gX, gY⟩ := ih (kt - e - 1) (e + 1) c' mt' x1' n' f' s' t' (by omega) (by omega) (by omega) hK'
          refine ⟨r, u', v', hR, fun post k hk K => ?_, fun post k hk K => ?_⟩
          · obtain ⟨k', rfl⟩ : ∃ k', k = k' + 1 + 1 := ⟨k - 2, by omega⟩
            refine step post (k' + 1) ?_
            have h := gX post k' (by omega) K
            unfold wX_enter_9
            rw [sw_cl (a := e) (by omega), (hX.2 e q).1, e32]
            exact br_f (nI_ge (by omega) (by omega)) ⟨vp_in_nI (by omega) (by omega), br_t rfl (nm_r (nI_1 e) h)⟩
          · obtain ⟨k', rfl⟩ : ∃ k', k = k' + 1 + (e - i) := ⟨k - 1 - (e - i), by omega⟩
            exact stepY post k' (gY post k' (by omega) K)
        · have ek : e = kt := by omega
          subst ek
          obtain ⟨r, u', v', hR, gX, gY⟩ := sw_fin (km := km) (kr := kr) (kn := kn) (kw := kw) (ks := ks) (nt := nt) (sc := sc) (dk := dk) (ex := ex) (tr := tr) (pl := pl) (fi := fi) (ne := ne) (ct := ct) (sk := sk) (rv := rv) (rs := rs) (rn := rn) (re := re) (fr := fr) (lr := lr) (nr := nr) (lo := lo) (mo := mo) (fc := fc) (bh := bh) (ty := ty) (mt := mt') (sl := sl) (kt := e) (yl := yl) (ym := ym) hB (by omega) hK' F
          refine ⟨r, u', v', hR, fun post k hk K => ?_, fun post k hk K => ?_⟩
          · obtain ⟨k', rfl⟩ : ∃ k', k = k' + 1 + 1 := ⟨k - 2, by omega⟩
            exact step post (k' + 1) (gX post k' K)
          · obtain ⟨k', rfl⟩ : ∃ k', k = k' + 1 + 1 + (e - i) := ⟨k - 2 - (e - i), by omega⟩
            exact stepY post (k' + 1) (gY post k' _ K)
theorem sw_enter {B : Nat} (hB : B < 100000) (F : sw_Fa B km kr kn kw kt ks ex tr pl fi ne rv rn re fr lr nr lo mo fc bh ty yl ym) :
    sw_O (sw_Re (B + 16)) (fun post => wpX_enter post (nI km, nt, sc, nI kr, nI kn, nI kw, nI kt, mc, nI ks, dk, ex, tr, pl, fi, ne, ct, sk, rv, rs, rn, re, fr, lr, nr, lo, mo, fc, bh, ty, mt, sl)) (fun post => wpY_enter post (nI km, nI kr, nI kw, nI kt, nI ks, dk, ex, tr, pl, ct, rv, rs, rn, re, yl, ym, ty, sl)) := by
  obtain ⟨T, hX⟩ := sw_Tx_of F.2.2.2.2.2.2.2
  have k30 := hX.1
  obtain ⟨r, u', v', hR, gX, gY⟩ := sw_eloop (km := km) (kr := kr) (kn := kn) (kw := kw) (kt := kt) (ks := ks) (nt := nt) (sc := sc) (dk := dk) (ex := ex) (tr := tr) (pl := pl) (fi := fi) (ne := ne) (ct := ct) (sk := sk) (rv := rv) (rs := rs) (rn := rn) (re := re) (fr := fr) (lr := lr) (nr := nr) (lo := lo) (mo := mo) (fc := fc) (bh := bh) (ty := ty) (sl := sl) (yl := yl) (ym := ym) hB hX F kt kt 0 0 mt 0 0 (-1) (-1) (-1) (Nat.le_refl _) (by omega) (by omega) ⟨Or.inr ⟨rfl, rfl, fun q => by omega, fun q => by omega, fun q => by omega⟩, fun j hj => by omega⟩
  refine ⟨r, u', v', hR, fun post K => ?_, fun post K => ?_⟩
  · unfold wpX_enter
    exact ⟨kt + 1, gX post (kt + 1) (by omega) K⟩
  · unfold wpY_enter
    exact ⟨kt + 2, gY post (kt + 2) (by omega) K⟩
end
end
section
/-! rule, unrule -/
theorem sw_Re_le {B B' : Nat} {u : SX} {v : SY} (h : B ≤ B') (I : sw_Re B u v) : sw_Re B' u v := by
  refine sw_el (Q := fun u v => sw_Re B' u v) ?_ I
  intro km kr kn kw kt ks nt sc mc dk ex tr pl fi ne ct sk rv rs rn re fr lr nr lo mo fc bh ty mt sl yl ym F
  exact sw_Re_i (km := km) (kr := kr) (kn := kn) (kw := kw) (kt := kt) (ks := ks) (nt := nt) (sc := sc) (mc := mc) (dk := dk) (ex := ex) (tr := tr) (pl := pl) (fi := fi) (ne := ne) (ct := ct) (sk := sk) (rv := rv) (rs := rs) (rn := rn) (re := re) (fr := fr) (lr := lr) (nr := nr) (lo := lo) (mo := mo) (fc := fc) (bh := bh) (ty := ty) (mt := mt) (sl := sl) (yl := yl) (ym := ym) ⟨F.1, Nat.le_trans F.2.1 h, F.2.2⟩
theorem sw_use {R : SX → SY → Prop} {WX : (Int32 → SX → Prop) → Prop} {WY : (Int32 → SY → Prop) → Prop} (h : sw_O R WX WY) : WX (fun r u' => WY (fun r' v' => r' = r ∧ R u' v')) := by
  obtain ⟨r, u', v', hR, hX, hY⟩ := h
  exact hX _ (hY _ ⟨rfl, hR⟩)
theorem sw_F_nd {rv : Nat → Int32} {v : Int32} : ∀ d i, (sw_F rv v d i).Nodup := by
  intro d
  induction d with
  | zero => intro i; exact List.nodup_nil
  | succ d ih =>
    intro i
    by_cases z : rv i = v
    · rw [sw_F_t z]
      exact List.nodup_cons.mpr ⟨fun m => by have := (sw_F_lt d (i + 1) i m).1; omega, ih (i + 1)⟩
    · rw [sw_F_f z]; exact ih (i + 1)
theorem sw_F_new {rv : Nat → Int32} {v w k : Nat} (hv : v < 6) (hw : w < 6) : sw_F (upd rv k (nI v)) (nI w) (k + 1) 0 = sw_F rv (nI w) k 0 ++ (if w = v then [k] else []) := by
  rw [sw_F_e, sw_F_c (rv := rv) (rv' := upd rv k (nI v)) k 0 (fun r _ h => pk_un (by omega)), Nat.zero_add, pk_us]
  by_cases e : w = v
  · subst e; rw [if_pos rfl, if_pos rfl]
  · rw [if_neg (fun q => e (sw_inj q (by omega) (by omega)).symm), if_neg e]
/-- a verb's first rule -/
theorem sw_Ru_a0 {k v c e : Nat} {rv rn re fr lr nr : Nat → Int32} (h : sw_Ru k rv rn re fr lr nr) (hk : k < 16) (hv : v < 6) (hc : sw_cd c) (he : sw_ef e) (hl : lr v = -1) :
    sw_Ru (k + 1) (upd rv k (nI v)) (upd rn k (nI c)) (upd re k (nI e)) (upd fr v (nI k)) (upd lr v (nI k)) (upd nr k (-1)) := by
  obtain ⟨h1, h2, h3, h4, h5⟩ := h
  refine ⟨by omega, fun r hr => ?_, fun r hr => ?_, fun r hr => ?_, fun w hw => ?_⟩
  · by_cases z : r = k
    · subst z; rw [pk_us]; exact ⟨v, hv, rfl⟩
    · rw [pk_un z]; exact h2 r (by omega)
  · by_cases z : r = k
    · subst z; rw [pk_us]; exact ⟨c, hc, rfl⟩
    · rw [pk_un z]; exact h3 r (by omega)
  · by_cases z : r = k
    · subst z; rw [pk_us]; exact ⟨e, he, rfl⟩
    · rw [pk_un z]; exact h4 r (by omega)
  · rw [sw_F_new hv hw]
    have kn : k ∉ sw_F rv (nI w) k 0 := fun m => by have := (sw_F_lt k 0 k m).2.1; omega
    by_cases z : w = v
    · subst z
      rw [if_pos rfl, pk_us, pk_us]
      have e0 : sw_F rv (nI w) k 0 = [] := by
        rcases (h5 w hw).2 with q | ⟨A, b, ql, qx⟩
        · exact q.1
        · have mb : b ∈ sw_F rv (nI w) k 0 := by rw [ql]; exact List.mem_append_right _ List.mem_cons_self
          have := (sw_F_lt k 0 b mb).2.1
          rw [hl] at qx
          exact absurd qx.symm (sw_ne1 (by omega))
      rw [e0, List.nil_append]
      exact ⟨⟨rfl, pk_us⟩, Or.inr ⟨[], k, rfl, rfl⟩⟩
    · rw [if_neg z, List.append_nil, pk_un z, pk_un z]
      exact ⟨sw_Ch_u kn (h5 w hw).1, (h5 w hw).2⟩
/-- a further one -/
theorem sw_Ru_a1 {k v c e b : Nat} {rv rn re fr lr nr : Nat → Int32} (h : sw_Ru k rv rn re fr lr nr) (hk : k < 16) (hv : v < 6) (hc : sw_cd c) (he : sw_ef e) (hb : b < 16) (hl : lr v = nI b) :
    sw_Ru (k + 1) (upd rv k (nI v)) (upd rn k (nI c)) (upd re k (nI e)) fr (upd lr v (nI k)) (upd (upd nr k (-1)) b (nI k)) := by
  obtain ⟨h1, h2, h3, h4, h5⟩ := h
  have hb2 : ∃ A, sw_F rv (nI v) k 0 = A ++ [b] := by
    rcases (h5 v hv).2 with q | ⟨A, b', ql, qx⟩
    · rw [hl] at q; exact absurd q.2 (sw_ne1 (by omega))
    · have mb : b' ∈ sw_F rv (nI v) k 0 := by rw [ql]; exact List.mem_append_right _ List.mem_cons_self
      have := (sw_F_lt k 0 b' mb).2.1
      rw [hl] at qx
      have := sw_inj qx (by omega) (by omega)
      subst this
      exact ⟨A, ql⟩
  obtain ⟨A, hA⟩ := hb2
  have mb : b ∈ sw_F rv (nI v) k 0 := by rw [hA]; exact List.mem_append_right _ List.mem_cons_self
  have hbk := sw_F_lt k 0 b mb
  refine ⟨by omega, fun r hr => ?_, fun r hr => ?_, fun r hr => ?_, fun w hw => ?_⟩
  · by_cases z : r = k
    · subst z; rw [pk_us]; exact ⟨v, hv, rfl⟩
    · rw [pk_un z]; exact h2 r (by omega)
  · by_cases z : r = k
    · subst z; rw [pk_us]; exact ⟨c, hc, rfl⟩
    · rw [pk_un z]; exact h3 r (by omega)
  · by_cases z : r = k
    · subst z; rw [pk_us]; exact ⟨e, he, rfl⟩
    · rw [pk_un z]; exact h4 r (by omega)
  · rw [sw_F_new hv hw]
    have kn : k ∉ sw_F rv (nI w) k 0 := fun m => by have := (sw_F_lt k 0 k m).2.1; omega
    by_cases z : w = v
    · subst z
      rw [if_pos rfl, pk_us]
      have nd := sw_F_nd (rv := rv) (v := nI w) k 0
      have ch := (h5 w hw).1
      rw [hA] at nd ch kn ⊢
      obtain ⟨n1, n2, n3⟩ := List.nodup_append.mp nd
      have ch' := sw_Ch_u (x := -1) kn ch
      rw [List.append_assoc]
      refine ⟨sw_Ch_a (fun m => n3 b m b List.mem_cons_self rfl) (fun m => kn (List.mem_append_left _ m)) (by omega) pk_us ch', Or.inr ⟨A ++ [b], k, by rw [List.append_assoc], rfl⟩⟩
    · rw [if_neg z, List.append_nil, pk_un z]
      refine ⟨sw_Ch_u (fun m => ?_) (sw_Ch_u kn (h5 w hw).1), (h5 w hw).2⟩
      have := (sw_F_lt k 0 b m).2.2
      rw [hbk.2.2] at this
      exact z (sw_inj this (by omega) (by omega)).symm
theorem sw_F_last {rv : Nat → Int32} {v w k : Nat} (hv : v < 6) (hw : w < 6) (e : rv k = nI v) : sw_F rv (nI w) (k + 1) 0 = sw_F rv (nI w) k 0 ++ (if w = v then [k] else []) := by
  rw [sw_F_e, Nat.zero_add, e]
  by_cases z : w = v
  · subst z; rw [if_pos rfl, if_pos rfl]
  · rw [if_neg (fun q => z (sw_inj q (by omega) (by omega)).symm), if_neg z]
theorem sw_Ru_r0 {k v : Nat} {rv rn re fr lr nr : Nat → Int32} (h : sw_Ru (k + 1) rv rn re fr lr nr) (hv : v < 6) (e : rv k = nI v) (hl : sw_F rv (nI v) k 0 = []) :
    sw_Ru k rv rn re (upd fr v (-1)) (upd lr v (-1)) nr := by
  obtain ⟨h1, h2, h3, h4, h5⟩ := h
  refine ⟨by omega, fun r hr => h2 r (by omega), fun r hr => h3 r (by omega), fun r hr => h4 r (by omega), fun w hw => ?_⟩
  by_cases z : w = v
  · subst z
    rw [pk_us, pk_us, hl]
    exact ⟨rfl, Or.inl ⟨rfl, rfl⟩⟩
  · have := h5 w hw
    rw [sw_F_last hv hw e, if_neg z, List.append_nil] at this
    rw [pk_un z, pk_un z]
    exact this
theorem sw_Ru_r1 {k v b : Nat} {A : List Nat} {rv rn re fr lr nr : Nat → Int32} (h : sw_Ru (k + 1) rv rn re fr lr nr) (hv : v < 6) (e : rv k = nI v) (hl : sw_F rv (nI v) k 0 = A ++ [b]) :
    sw_Ru k rv rn re fr (upd lr v (nI b)) (upd nr b (-1)) := by
  obtain ⟨h1, h2, h3, h4, h5⟩ := h
  have mb : b ∈ sw_F rv (nI v) k 0 := by rw [hl]; exact List.mem_append_right _ List.mem_cons_self
  have hbk := sw_F_lt k 0 b mb
  refine ⟨by omega, fun r hr => h2 r (by omega), fun r hr => h3 r (by omega), fun r hr => h4 r (by omega), fun w hw => ?_⟩
  have hh := h5 w hw
  rw [sw_F_last hv hw e] at hh
  by_cases z : w = v
  · subst z
    rw [if_pos rfl] at hh
    have nd := sw_F_nd (rv := rv) (v := nI w) k 0
    rw [hl] at hh nd
    rw [pk_us, hl]
    obtain ⟨n1, n2, n3⟩ := List.nodup_append.mp nd
    rw [List.append_assoc] at hh
    exact ⟨sw_Ch_e (fun m => n3 b m b List.mem_cons_self rfl) hh.1, Or.inr ⟨A, b, rfl, rfl⟩⟩
  · rw [if_neg z, List.append_nil] at hh
    rw [pk_un z]
    refine ⟨sw_Ch_u (fun m => ?_) hh.1, hh.2⟩
    have := (sw_F_lt k 0 b m).2.2
    rw [hbk.2.2] at this
    exact z (sw_inj this (by omega) (by omega)).symm
section
variable {km kr kn kw kt ks : Nat} {nt sc mc : Int32} {dk ex tr pl fi ne ct sk rv rs rn re fr lr nr lo mo fc bh ty mt sl yl ym : Nat → Int32}
theorem sw_r37 {B v L : Nat} {p1 p2 p3 : Int32} (F : sw_Fa B km kr kn kw kt ks ex tr pl fi ne rv rn re fr lr nr lo mo fc bh ty yl ym) (hr : kr < 16) (hv : v < 6) (hL : L ≤ 7) (hp : ¬ p1 < -1) :
    sw_O (sw_Re B) (fun post => wX_rule_37 post (nI v) p1 p2 p3 (nI L) p1 (nI km) nt sc (nI kr) (nI kn) (nI kw) (nI kt) mc (nI ks) dk ex tr pl fi ne ct sk rv rs rn re fr lr nr lo mo fc bh ty mt sl) (fun post => wY_rule_35 post (nI v) p1 p2 p3 (nI L) (-1) p1 (nI km) (nI kr) (nI kw) (nI kt) (nI ks) dk ex tr pl ct rv rs rn re yl ym ty sl) := by
  have same : (∀ post : Int32 → SX → Prop, post (-1) (nI km, nt, sc, nI kr, nI kn, nI kw, nI kt, mc, nI ks, dk, ex, tr, pl, fi, ne, ct, sk, rv, rs, rn, re, fr, lr, nr, lo, mo, fc, bh, ty, mt, sl) → wX_rule_37 post (nI v) p1 p2 p3 (nI L) p1 (nI km) nt sc (nI kr) (nI kn) (nI kw) (nI kt) mc (nI ks) dk ex tr pl fi ne ct sk rv rs rn re fr lr nr lo mo fc bh ty mt sl) → (∀ post : Int32 → SY → Prop, post (-1) (nI km, nI kr, nI kw, nI kt, nI ks, dk, ex, tr, pl, ct, rv, rs, rn, re, yl, ym, ty, sl) → wY_rule_35 post (nI v) p1 p2 p3 (nI L) (-1) p1 (nI km) (nI kr) (nI kw) (nI kt) (nI ks) dk ex tr pl ct rv rs rn re yl ym ty sl) →
      sw_O (sw_Re B) (fun post => wX_rule_37 post (nI v) p1 p2 p3 (nI L) p1 (nI km) nt sc (nI kr) (nI kn) (nI kw) (nI kt) mc (nI ks) dk ex tr pl fi ne ct sk rv rs rn re fr lr nr lo mo fc bh ty mt sl) (fun post => wY_rule_35 post (nI v) p1 p2 p3 (nI L) (-1) p1 (nI km) (nI kr) (nI kw) (nI kt) (nI ks) dk ex tr pl ct rv rs rn re yl ym ty sl) :=
    fun hX hY => ⟨-1, _, _, sw_Re_i (km := km) (kr := kr) (kn := kn) (kw := kw) (kt := kt) (ks := ks) (nt := nt) (sc := sc) (mc := mc) (dk := dk) (ex := ex) (tr := tr) (pl := pl) (fi := fi) (ne := ne) (ct := ct) (sk := sk) (rv := rv) (rs := rs) (rn := rn) (re := re) (fr := fr) (lr := lr) (nr := nr) (lo := lo) (mo := mo) (fc := fc) (bh := bh) (ty := ty) (mt := mt) (sl := sl) (yl := yl) (ym := ym) F, hX, hY⟩
  by_cases hs : p1 ≤ nI L
  · have hs' : ¬ nI L < p1 := Int32.not_lt.mpr hs
    by_cases hc : ∃ c, c < 1024 ∧ p2 = nI c
    · obtain ⟨c, hc1, rfl⟩ := hc
      by_cases hcd : sw_cd c
      · by_cases he : ∃ e, e < 2048 ∧ p3 = nI e
        · obtain ⟨e, he1, rfl⟩ := he
          by_cases hef : sw_ef e
          · obtain ⟨f1, f2, f3, f4, f5, f6, f7⟩ := F
            have np1 : vp_nar .byte p1.toInt8.toInt32 = p1 := by
              rcases sw_m1 hp with q | q
              · rw [q]; exact sw_vm2
              · obtain ⟨j, hj, ej⟩ := sw_of' L rfl (by omega) q hs
                rw [ej]; exact sw_vb2 (by omega)
            have cr : (nI kr).toNatClampNeg = kr := nI_clamp (by omega)
            have cv : (nI v).toNatClampNeg = v := nI_clamp (by omega)
            have ir : vp_in (nI kr) 16 := vp_in_nI hr (by omega)
            have iv : vp_in (nI v) 6 := vp_in_nI hv (by omega)
            have yw : ∀ post : Int32 → SY → Prop, post (nI (kr + 1)) (nI km, nI (kr + 1), nI kw, nI kt, nI ks, dk, ex, tr, pl, ct, upd rv kr (nI v), upd rs kr p1, upd rn kr (nI c), upd re kr (nI e), yl, ym, ty, sl) → wY_rule_35 post (nI v) p1 (nI c) (nI e) (nI L) (-1) p1 (nI km) (nI kr) (nI kw) (nI kt) (nI ks) dk ex tr pl ct rv rs rn re yl ym ty sl := by
              intro post K
              unfold wY_rule_35
              rw [cr]
              exact sw_yi1 hp hs' (br_f (by decide) (sw_ycdN hc1 (fun _ => br_f (by decide) (sw_yefN he1 (fun _ => br_f (by decide) ⟨ir, nm_e ⟨ir, nm_e ⟨ir, nm_e ⟨ir, nm_e (nm_r (nI_1 kr) K)⟩⟩⟩⟩) (fun z => absurd hef z))) (fun z => absurd hcd z)))
            rcases (f6.2.2.2.2 v hv).2 with ⟨-, hl⟩ | ⟨A, b, hA, hl⟩
            · refine ⟨nI (kr + 1), _, _, sw_Re_i (km := km) (kr := kr + 1) (kn := kn) (kw := kw) (kt := kt) (ks := ks) (nt := nt) (sc := sc) (mc := mc) (dk := dk) (ex := ex) (tr := tr) (pl := pl) (fi := fi) (ne := ne) (ct := ct) (sk := sk) (rv := upd rv kr (nI v)) (rs := upd rs kr p1) (rn := upd rn kr (nI c)) (re := upd re kr (nI e)) (fr := upd fr v (nI kr)) (lr := upd lr v (nI kr)) (nr := upd nr kr (-1)) (lo := lo) (mo := mo) (fc := fc) (bh := bh) (ty := ty) (mt := mt) (sl := sl) (yl := yl) (ym := ym) ⟨f1, f2, f3, f4, f5, sw_Ru_a0 f6 hr hv hcd hef hl, f7⟩, fun post K => ?_, yw⟩
              unfold wX_rule_37 wX_rule_157
              rw [cr, cv, np1, sw_vb2 (n := v) (by omega), sw_vb2 (n := kr) (by omega), sw_vs2 (n := c) (by omega), sw_vs2 (n := e) (by omega), sw_vm]
              refine br_t hs (sw_xcdN hc1 (fun _ => br_f (by decide) (sw_xefN he1 (fun _ => br_f (by decide) (nm_r (nI_1 kr) ⟨ir, nm_e ⟨ir, nm_e ⟨ir, nm_e ⟨ir, nm_e ⟨ir, nm_e ⟨iv, br_f ?_ ⟨iv, nm_e ⟨iv, nm_e K⟩⟩⟩⟩⟩⟩⟩⟩)) (fun z => absurd hef z))) (fun z => absurd hcd z))
              rw [hl]; exact sw_m1le
            · have mb : b ∈ sw_F rv (nI v) kr 0 := by rw [hA]; exact List.mem_append_right _ List.mem_cons_self
              have hbk := (sw_F_lt kr 0 b mb).2.1
              have cb : (nI b).toNatClampNeg = b := nI_clamp (by omega)
              have ib : vp_in (nI b) 16 := vp_in_nI (by omega) (by omega)
              refine ⟨nI (kr + 1), _, _, sw_Re_i (km := km) (kr := kr + 1) (kn := kn) (kw := kw) (kt := kt) (ks := ks) (nt := nt) (sc := sc) (mc := mc) (dk := dk) (ex := ex) (tr := tr) (pl := pl) (fi := fi) (ne := ne) (ct := ct) (sk := sk) (rv := upd rv kr (nI v)) (rs := upd rs kr p1) (rn := upd rn kr (nI c)) (re := upd re kr (nI e)) (fr := fr) (lr := upd lr v (nI kr)) (nr := upd (upd nr kr (-1)) b (nI kr)) (lo := lo) (mo := mo) (fc := fc) (bh := bh) (ty := ty) (mt := mt) (sl := sl) (yl := yl) (ym := ym) ⟨f1, f2, f3, f4, f5, sw_Ru_a1 f6 hr hv hcd hef (by omega) hl, f7⟩, fun post K => ?_, yw⟩
              unfold wX_rule_37 wX_rule_157
              rw [cr, cv, np1, sw_vb2 (n := v) (by omega), sw_vb2 (n := kr) (by omega), sw_vs2 (n := c) (by omega), sw_vs2 (n := e) (by omega), sw_vm, hl, cb]
              exact br_t hs (sw_xcdN hc1 (fun _ => br_f (by decide) (sw_xefN he1 (fun _ => br_f (by decide) (nm_r (nI_1 kr) ⟨ir, nm_e ⟨ir, nm_e ⟨ir, nm_e ⟨ir, nm_e ⟨ir, nm_e ⟨iv, br_t (nI_pos' (by omega)) ⟨iv, ib, nm_e ⟨iv, nm_e K⟩⟩⟩⟩⟩⟩⟩⟩)) (fun z => absurd hef z))) (fun z => absurd hcd z))
          · refine same (fun post K => ?_) (fun post K => ?_)
            · unfold wX_rule_37
              exact br_t hs (sw_xcdN hc1 (fun _ => br_f (by decide) (sw_xefN he1 (fun z => absurd z hef) (fun _ => br_t rfl K))) (fun z => absurd hcd z))
            · unfold wY_rule_35
              exact sw_yi1 hp hs' (br_f (by decide) (sw_ycdN hc1 (fun _ => br_f (by decide) (sw_yefN he1 (fun z => absurd z hef) (fun _ => br_t rfl K))) (fun z => absurd hcd z)))
        · refine same (fun post K => ?_) (fun post K => ?_)
          · unfold wX_rule_37
            exact br_t hs (sw_xcdN hc1 (fun _ => br_f (by decide) (sw_xef he (br_t rfl K))) (fun z => absurd hcd z))
          · unfold wY_rule_35
            exact sw_yi1 hp hs' (br_f (by decide) (sw_ycdN hc1 (fun _ => br_f (by decide) (sw_yef he (br_t rfl K))) (fun z => absurd hcd z)))
      · refine same (fun post K => ?_) (fun post K => ?_)
        · unfold wX_rule_37
          exact br_t hs (sw_xcdN hc1 (fun z => absurd z hcd) (fun _ => br_t rfl K))
        · unfold wY_rule_35
          exact sw_yi1 hp hs' (br_f (by decide) (sw_ycdN hc1 (fun z => absurd z hcd) (fun _ => br_t rfl K)))
    · refine same (fun post K => ?_) (fun post K => ?_)
      · unfold wX_rule_37
        exact br_t hs (sw_xcd hc (br_t rfl K))
      · unfold wY_rule_35
        exact sw_yi1 hp hs' (br_f (by decide) (sw_ycd hc (br_t rfl K)))
  · have hs' : nI L < p1 := Int32.not_le.mp hs
    refine same (fun post K => ?_) (fun post K => ?_)
    · unfold wX_rule_37
      exact br_f hs K
    · unfold wY_rule_35
      exact sw_yi0 (Or.inr hs') (br_t rfl K)
theorem sw_rule {B : Nat} (F : sw_Fa B km kr kn kw kt ks ex tr pl fi ne rv rn re fr lr nr lo mo fc bh ty yl ym) (p0 p1 p2 p3 : Int32) :
    sw_O (sw_Re B) (fun post => wpX_rule post (nI km, nt, sc, nI kr, nI kn, nI kw, nI kt, mc, nI ks, dk, ex, tr, pl, fi, ne, ct, sk, rv, rs, rn, re, fr, lr, nr, lo, mo, fc, bh, ty, mt, sl) p0 p1 p2 p3) (fun post => wpY_rule post (nI km, nI kr, nI kw, nI kt, nI ks, dk, ex, tr, pl, ct, rv, rs, rn, re, yl, ym, ty, sl) p0 p1 p2 p3) := by
  have k16 := F.2.2.2.2.2.1.1
  have R0 := sw_Re_i (km := km) (kr := kr) (kn := kn) (kw := kw) (kt := kt) (ks := ks) (nt := nt) (sc := sc) (mc := mc) (dk := dk) (ex := ex) (tr := tr) (pl := pl) (fi := fi) (ne := ne) (ct := ct) (sk := sk) (rv := rv) (rs := rs) (rn := rn) (re := re) (fr := fr) (lr := lr) (nr := nr) (lo := lo) (mo := mo) (fc := fc) (bh := bh) (ty := ty) (mt := mt) (sl := sl) (yl := yl) (ym := ym) F
  by_cases hr : kr < 16
  · have lr16 : nI kr < 16 := nI_lt (b := 16) hr (by omega)
    have nr16 : ¬ nI kr = 16 := fun q => by have := sw_inj (b := 16) q (by omega) (by omega); omega
    by_cases h0 : p0 < 0
    · refine ⟨-1, _, _, R0, fun post K => ?_, fun post K => ?_⟩
      · unfold wpX_rule
        exact br_t lr16 (br_t h0 K)
      · unfold wpY_rule
        exact br_f nr16 (sw_yi0 (Or.inl h0) (br_t rfl K))
    · by_cases h5 : 5 < p0
      · refine ⟨-1, _, _, R0, fun post K => ?_, fun post K => ?_⟩
        · unfold wpX_rule
          exact br_t lr16 (br_f h0 (br_t h5 K))
        · unfold wpY_rule
          exact br_f nr16 (sw_yi0 (Or.inr h5) (br_t rfl K))
      · obtain ⟨v, hv, rfl⟩ := sw_of 5 rfl (by omega) h0 h5
        by_cases hp : p1 < -1
        · refine ⟨-1, _, _, R0, fun post K => ?_, fun post K => ?_⟩
          · unfold wpX_rule
            exact br_t lr16 (br_f h0 (br_f h5 (br_t hp K)))
          · unfold wpY_rule wY_rule_35
            exact br_f nr16 (sw_yi1 h0 h5 (br_f (by decide) (br_c (fun _ => sw_yi0 (Or.inl hp) (br_t rfl K)) (fun _ => sw_yi0 (Or.inl hp) (br_t rfl K)))))
        · by_cases v0 : v = 0
          · subst v0
            obtain ⟨r, u', v', hR, hX, hY⟩ := sw_r37 (v := 0) (L := 3) (p1 := p1) (p2 := p2) (p3 := p3) (rs := rs) (nt := nt) (sc := sc) (mc := mc) (dk := dk) (ct := ct) (sk := sk) (mt := mt) (sl := sl) F hr (by omega) (by omega) hp
            refine ⟨r, u', v', hR, fun post K => ?_, fun post K => ?_⟩
            · unfold wpX_rule
              exact br_t lr16 (br_f h0 (br_f h5 (br_f hp (br_t rfl (hX _ K)))))
            · unfold wpY_rule
              exact br_f nr16 (sw_yi1 h0 h5 (br_f (by decide) (br_t rfl (hY _ K))))
          · have nv0 : ¬ nI v = 0 := nI_ne0 (by omega) (by omega)
            obtain ⟨r, u', v', hR, hX, hY⟩ := sw_r37 (v := v) (L := 7) (p1 := p1) (p2 := p2) (p3 := p3) (rs := rs) (nt := nt) (sc := sc) (mc := mc) (dk := dk) (ct := ct) (sk := sk) (mt := mt) (sl := sl) F hr (by omega) (by omega) hp
            refine ⟨r, u', v', hR, fun post K => ?_, fun post K => ?_⟩
            · unfold wpX_rule
              exact br_t lr16 (br_f h0 (br_f h5 (br_f hp (br_f nv0 (hX _ K)))))
            · unfold wpY_rule
              exact br_f nr16 (sw_yi1 h0 h5 (br_f (by decide) (br_f nv0 (hY _ K))))
  · have e16 : kr = 16 := by omega
    subst e16
    refine ⟨-2, _, _, R0, fun post K => ?_, fun post K => ?_⟩
    · unfold wpX_rule
      exact br_f (by decide) K
    · unfold wpY_rule
      exact br_t rfl K
end
section
variable {rm nt sc rc nc wc tc mc sd : Int32} {dk ex tr pl fi ne ct sk rv rs rn re fr lr nr lo mo fc bh ty mt sl : Nat → Int32} {yl ym : Nat → Int32}
theorem sw_un38 {post : Int32 → SX → Prop} {v k b : Nat} (hk : k < 16) (hb : b < k)
    (K : wX_unrule_79 post (nI v) (nI b) rm nt sc (nI k) nc wc tc mc sd dk ex tr pl fi ne ct sk rv rs rn re fr lr (upd nr b (-1)) lo mo fc bh ty mt sl) : ∀ (A : List Nat) (h p : Int32) (n : Nat), A.length + 1 < n → sw_Ch nr h (A ++ [b, k]) → (∀ j, j ∈ A → j < k) → wX_unrule_38 post (nI v) rm nt sc (nI k) nc wc tc mc sd dk ex tr pl fi ne ct sk rv rs rn re fr lr nr lo mo fc bh ty mt sl n p h := by
  intro A
  induction A with
  | nil =>
    intro h p n hn c _
    obtain ⟨n', rfl⟩ : ∃ n', n = n' + 1 + 1 := ⟨n - 2, by simp only [List.length_nil] at hn; omega⟩
    obtain ⟨c1, c2, c3⟩ := c
    subst c1
    have last : wX_unrule_38 post (nI v) rm nt sc (nI k) nc wc tc mc sd dk ex tr pl fi ne ct sk rv rs rn re fr lr nr lo mo fc bh ty mt sl (n' + 1) (nI b) (nI k) := by
      unfold wX_unrule_38
      rw [sw_cl (a := b) (by omega), sw_vm]
      exact br_t rfl (br_t (nI_pos' (by omega)) ⟨vp_in_nI (by omega) (by omega), nm_e K⟩)
    unfold wX_unrule_38
    rw [sw_cl (a := b) (by omega)]
    exact br_f (fun q => by have := sw_inj q (by omega) (by omega); omega) ⟨vp_in_nI (by omega) (by omega), nm_r c2 last⟩
  | cons a A ih =>
    intro h p n hn c hA
    cases n with
    | zero => omega
    | succ n =>
      obtain ⟨c1, c2⟩ := c
      subst c1
      have ha := hA a List.mem_cons_self
      simp only [List.length_cons] at hn
      have hi := ih (nr a) (nI a) n (by omega) c2 (fun j m => hA j (List.mem_cons_of_mem _ m))
      unfold wX_unrule_38
      rw [sw_cl (a := a) (by omega)]
      exact br_f (fun q => by have := sw_inj q (by omega) (by omega); omega) ⟨vp_in_nI (by omega) (by omega), nm_e hi⟩
end
section
variable {km kr kn kw kt ks : Nat} {nt sc mc : Int32} {dk ex tr pl fi ne ct sk rv rs rn re fr lr nr lo mo fc bh ty mt sl yl ym : Nat → Int32}
theorem sw_unrule {B : Nat} (F : sw_Fa B km kr kn kw kt ks ex tr pl fi ne rv rn re fr lr nr lo mo fc bh ty yl ym) :
    sw_O (sw_Re B) (fun post => wpX_unrule post (nI km, nt, sc, nI kr, nI kn, nI kw, nI kt, mc, nI ks, dk, ex, tr, pl, fi, ne, ct, sk, rv, rs, rn, re, fr, lr, nr, lo, mo, fc, bh, ty, mt, sl)) (fun post => wpY_unrule post (nI km, nI kr, nI kw, nI kt, nI ks, dk, ex, tr, pl, ct, rv, rs, rn, re, yl, ym, ty, sl)) := by
  have k16 := F.2.2.2.2.2.1.1
  cases kr with
  | zero =>
    refine ⟨-1, _, _, sw_Re_i (km := km) (kr := 0) (kn := kn) (kw := kw) (kt := kt) (ks := ks) (nt := nt) (sc := sc) (mc := mc) (dk := dk) (ex := ex) (tr := tr) (pl := pl) (fi := fi) (ne := ne) (ct := ct) (sk := sk) (rv := rv) (rs := rs) (rn := rn) (re := re) (fr := fr) (lr := lr) (nr := nr) (lo := lo) (mo := mo) (fc := fc) (bh := bh) (ty := ty) (mt := mt) (sl := sl) (yl := yl) (ym := ym) F, fun post K => ?_, fun post K => ?_⟩
    · unfold wpX_unrule
      exact br_t rfl K
    · unfold wpY_unrule
      exact br_t rfl K
  | succ k =>
    obtain ⟨f1, f2, f3, f4, f5, f6, f7⟩ := F
    have hn0 : ¬ nI (k + 1) = 0 := nI_ne0 (by omega) (by omega)
    obtain ⟨v, hv, ev⟩ := f6.2.1 k (by omega)
    have ck : (nI k).toNatClampNeg = k := nI_clamp (by omega)
    have cv : (nI v).toNatClampNeg = v := nI_clamp (by omega)
    have ik : vp_in (nI k) 16 := vp_in_nI (by omega) (by omega)
    have iv : vp_in (nI v) 6 := vp_in_nI hv (by omega)
    have ch := (f6.2.2.2.2 v hv).1
    rw [sw_F_last hv hv ev, if_pos rfl] at ch
    have yw : ∀ post : Int32 → SY → Prop, post (nI k) (nI km, nI k, nI kw, nI kt, nI ks, dk, ex, tr, pl, ct, rv, rs, rn, re, yl, ym, ty, sl) → wpY_unrule post (nI km, nI (k + 1), nI kw, nI kt, nI ks, dk, ex, tr, pl, ct, rv, rs, rn, re, yl, ym, ty, sl) := by
      intro post K
      unfold wpY_unrule
      exact br_f hn0 (nm_r (nI_pred k) K)
    rcases List.eq_nil_or_concat (sw_F rv (nI v) k 0) with e0 | ⟨A, b, eA⟩
    · rw [e0, List.nil_append] at ch
      refine ⟨nI k, _, _, sw_Re_i (km := km) (kr := k) (kn := kn) (kw := kw) (kt := kt) (ks := ks) (nt := nt) (sc := sc) (mc := mc) (dk := dk) (ex := ex) (tr := tr) (pl := pl) (fi := fi) (ne := ne) (ct := ct) (sk := sk) (rv := rv) (rs := rs) (rn := rn) (re := re) (fr := upd fr v (-1)) (lr := upd lr v (-1)) (nr := nr) (lo := lo) (mo := mo) (fc := fc) (bh := bh) (ty := ty) (mt := mt) (sl := sl) (yl := yl) (ym := ym) ⟨f1, f2, f3, f4, f5, sw_Ru_r0 f6 hv ev e0, f7⟩, fun post K => ?_, yw⟩
      unfold wpX_unrule
      refine br_f hn0 (nm_r (nI_pred k) ?_)
      rw [ck]
      refine ⟨ik, nm_r ev ?_⟩
      rw [cv]
      refine ⟨iv, nm_r ch.1 ⟨1, ?_⟩⟩
      unfold wX_unrule_38 wX_unrule_79
      rw [cv, sw_vm2, sw_vm]
      exact br_t rfl (br_f sw_m1le ⟨iv, nm_e ⟨iv, nm_e K⟩⟩)
    · rw [List.concat_eq_append] at eA
      rw [eA, List.append_assoc] at ch
      have mb : ∀ j, j ∈ A ++ [b] → j < k := fun j m => by
        rw [← eA] at m
        have := (sw_F_lt k 0 j m).2.1
        omega
      have hb := mb b (List.mem_append_right _ List.mem_cons_self)
      refine ⟨nI k, _, _, sw_Re_i (km := km) (kr := k) (kn := kn) (kw := kw) (kt := kt) (ks := ks) (nt := nt) (sc := sc) (mc := mc) (dk := dk) (ex := ex) (tr := tr) (pl := pl) (fi := fi) (ne := ne) (ct := ct) (sk := sk) (rv := rv) (rs := rs) (rn := rn) (re := re) (fr := fr) (lr := upd lr v (nI b)) (nr := upd nr b (-1)) (lo := lo) (mo := mo) (fc := fc) (bh := bh) (ty := ty) (mt := mt) (sl := sl) (yl := yl) (ym := ym) ⟨f1, f2, f3, f4, f5, sw_Ru_r1 f6 hv ev eA, f7⟩, fun post K => ?_, yw⟩
      unfold wpX_unrule
      refine br_f hn0 (nm_r (nI_pred k) ?_)
      rw [ck]
      refine ⟨ik, nm_r ev ?_⟩
      rw [cv]
      refine ⟨iv, nm_e ⟨A.length + 2, ?_⟩⟩
      refine sw_un38 (by omega) hb ?_ A _ _ _ (by omega) ch (fun j m => mb j (List.mem_append_left _ m))
      unfold wX_unrule_79
      rw [cv, sw_vb2 (by omega)]
      exact ⟨iv, nm_e K⟩
end
end
section
/-! word -/
theorem sw_Wn_set {q w i c m : Nat} {mo yl ym : Nat → Int32} {pa : Nat → List Nat} {wn : Nat → Nat} (h : sw_Wn q w mo yl ym pa wn) (hi : i < w) (ec : wn i = c) (hm : m < 31) :
    sw_Wn q w (upd mo c (nI m)) yl (upd ym i (nI m)) pa wn := by
  obtain ⟨h1, h2, h3⟩ := h
  refine ⟨fun j hj => ?_, h2, fun n hn => ?_⟩
  · obtain ⟨g1, g2, g3, g4⟩ := h1 j hj
    by_cases z : j = i
    · subst z
      rw [pk_us, ec, pk_us]
      rw [ec] at g1 g4
      exact ⟨g1, ⟨m, hm, rfl⟩, rfl, g4⟩
    · have : wn j ≠ c := fun q => z (h2 j i hj hi (by rw [q, ec]))
      rw [pk_un z, pk_un this]
      exact ⟨g1, g2, g3, g4⟩
  · by_cases z : n = c
    · exact Or.inr ⟨i, hi, by rw [ec, z]⟩
    · rw [pk_un z]; exact h3 n hn
theorem sw_Wd_new {q w q' m' m : Nat} {mo mo' yl ym lo' fc' bh' : Nat → Int32} {pa pa' : Nat → List Nat} {wn : Nat → Nat} {ds : List Nat} (h : sw_Wn q w mo yl ym pa wn) (hw : w < 24) (hq : q ≤ 1 + 4 * w) (hm : m < 31)
    (hT : sw_T q' lo' fc' bh' pa') (q1 : q ≤ q') (q2 : q' ≤ q + 4) (he : ∀ j, j < q → pa' j = pa j ∧ mo' j = mo j) (hn : ∀ j, q ≤ j → j < q' → mo' j = -1) (h4 : ∀ j, j < q' → (pa' j).length ≤ 4)
    (hm' : m' < q') (ep : pa' m' = ds.reverse) (hf : ∀ i, i < w → pa (wn i) ≠ ds.reverse) :
    sw_Wd q' (w + 1) lo' (upd mo' m' (nI m)) fc' bh' (upd (upd (upd (upd yl (4 * w) (nI (ds.getD 0 0))) (4 * w + 1) (nI (ds.getD 1 0))) (4 * w + 2) (nI (ds.getD 2 0))) (4 * w + 3) (nI (ds.getD 3 0))) (upd ym w (nI m)) := by
  obtain ⟨h1, h2, h3⟩ := h
  have wold : ∀ i, i < w → sw_up wn w m' i = wn i := fun i hi => sw_upn (by omega)
  have wnew : sw_up wn w m' w = m' := sw_ups
  have hne : ∀ i, i < w → wn i ≠ m' := by
    intro i hi e
    have g := (h1 i hi).1
    apply hf i hi
    rw [← (he _ g).1, e, ep]
  refine ⟨pa', sw_up wn w m', hT, by omega, by omega, h4, fun i hi => ?_, fun i i' hi hi' e => ?_, fun n hn' => ?_⟩
  · by_cases z : i = w
    · subst z
      rw [wnew, pk_us, pk_us, ep, List.reverse_reverse]
      refine ⟨hm', ⟨m, hm, rfl⟩, rfl, fun j hj => ?_⟩
      have : j = 0 ∨ j = 1 ∨ j = 2 ∨ j = 3 := by omega
      rcases this with rfl | rfl | rfl | rfl
      · rw [pk_un (by omega), pk_un (by omega), pk_un (by omega), Nat.add_zero, pk_us]
      · rw [pk_un (by omega), pk_un (by omega), pk_us]
      · rw [pk_un (by omega), pk_us]
      · rw [pk_us]
    · obtain ⟨g1, g2, g3, g4⟩ := h1 i (by omega)
      rw [wold i (by omega), pk_un z, pk_un (hne i (by omega)), (he _ g1).2, (he _ g1).1]
      refine ⟨by omega, g2, g3, fun j hj => ?_⟩
      rw [pk_un (by omega), pk_un (by omega), pk_un (by omega), pk_un (by omega)]
      exact g4 j hj
  · by_cases z : i = w
    · by_cases z' : i' = w
      · omega
      · rw [z, wnew, wold i' (by omega)] at e
        exact absurd e.symm (hne i' (by omega))
    · by_cases z' : i' = w
      · rw [z', wnew, wold i (by omega)] at e
        exact absurd e (hne i (by omega))
      · rw [wold i (by omega), wold i' (by omega)] at e
        exact h2 i i' (by omega) (by omega) e
  · by_cases z : n = m'
    · exact Or.inr ⟨w, by omega, by rw [wnew, z]⟩
    · rw [pk_un z]
      rcases Nat.lt_or_ge n q with y | y
      · rw [(he n y).2]
        rcases h3 n y with x | ⟨i, hi, ei⟩
        · exact Or.inl x
        · exact Or.inr ⟨i, by omega, by rw [wold i hi]; exact ei⟩
      · exact Or.inl (hn n y hn')
section
variable {km kr kn kw kt ks : Nat} {nt sc mc : Int32} {dk ex tr pl fi ne ct sk rv rs rn re fr lr nr lo mo fc bh ty mt sl yl ym : Nat → Int32}
/-- Y's word, once the call is a good one -/
theorem sw_yword {post : Int32 → SY → Prop} {v m : Nat} {pa : Nat → List Nat} {wn : Nat → Nat} (h1v : 1 ≤ v) (hv : v ≤ 531440) (hok : sw_ok v) (hm : ∀ post : Int32 → Prop, post 1 → wpY_isMeaning post (nI km, nI kr, nI kw, nI kt, nI ks, dk, ex, tr, pl, ct, rv, rs, rn, re, yl, ym, ty, sl) (nI m))
    (hT : sw_T kn lo fc bh pa) (hw : kw ≤ 24) (hl : ∀ n, n < kn → (pa n).length ≤ 4) (hW : sw_Wn kn kw mo yl ym pa wn)
    (h1 : ∀ i, i < kw → pa (wn i) = (sw_dg 4 v).reverse → post (nI kw) (nI km, nI kr, nI kw, nI kt, nI ks, dk, ex, tr, pl, ct, rv, rs, rn, re, yl, upd ym i (nI m), ty, sl))
    (h2 : (∀ i, i < kw → pa (wn i) ≠ (sw_dg 4 v).reverse) → kw = 24 → post (-2) (nI km, nI kr, nI kw, nI kt, nI ks, dk, ex, tr, pl, ct, rv, rs, rn, re, yl, ym, ty, sl))
    (h3 : (∀ i, i < kw → pa (wn i) ≠ (sw_dg 4 v).reverse) → kw < 24 → post (nI (kw + 1)) (nI km, nI kr, nI (kw + 1), nI kt, nI ks, dk, ex, tr, pl, ct, rv, rs, rn, re, upd (upd (upd (upd yl (4 * kw) (nI ((sw_dg 4 v).getD 0 0))) (4 * kw + 1) (nI ((sw_dg 4 v).getD 1 0))) (4 * kw + 2) (nI ((sw_dg 4 v).getD 2 0))) (4 * kw + 3) (nI ((sw_dg 4 v).getD 3 0)), upd ym kw (nI m), ty, sl)) :
    wpY_word post (nI km, nI kr, nI kw, nI kt, nI ks, dk, ex, tr, pl, ct, rv, rs, rn, re, yl, ym, ty, sl) (nI v) (nI m) := by
  have e0 : (4 : Int32) * nI kw = nI (4 * kw) := pk_mul 4 kw
  have e1 : nI (4 * kw) + 1 = nI (4 * kw + 1) := nI_1 _
  have e2 : nI (4 * kw) + 2 = nI (4 * kw + 2) := nI_add _ 2
  have e3 : nI (4 * kw) + 3 = nI (4 * kw + 3) := nI_add _ 3
  unfold wpY_word
  dsimp only
  refine sw_yiwd h1v hv (fun _ => br_f (by decide) (hm _ (br_f (by decide) ?_))) (fun z => absurd hok z)
  refine sw_ylt (i := 0) (by omega) (by omega) (sw_ylt (i := 1) (by omega) (by omega) (sw_ylt (i := 2) (by omega) (by omega) (sw_ylt (i := 3) (by omega) (by omega) ?_)))
  rw [← sw_dg_get 4 v 0 (by omega), ← sw_dg_get 4 v 1 (by omega), ← sw_dg_get 4 v 2 (by omega), ← sw_dg_get 4 v 3 (by omega)]
  refine sw_yfd hT hw hl hW (sw_dg_len 4 v) (sw_ok_pos hok) (fun i hi ei => br_t (nI_pos' (by omega)) ?_) (fun hno => br_f sw_m1le ?_)
  · unfold wY_word_79 wY_word_149
    rw [sw_cl (a := i) (by omega)]
    exact br_t (nI_pos' (by omega)) ⟨vp_in_nI (by omega) (by omega), nm_e (h1 i hi ei)⟩
  · refine pk_eq kw 24 (fun q => h2 hno q) (fun q => ?_)
    unfold wY_word_79 wY_word_149
    rw [e0, e1, e2, e3, sw_cl (a := 4 * kw) (by omega), sw_cl (a := 4 * kw + 1) (by omega), sw_cl (a := 4 * kw + 2) (by omega), sw_cl (a := 4 * kw + 3) (by omega), sw_cl (a := kw) (by omega)]
    exact br_f sw_m1le (nm_r (nI_1 kw) ⟨vp_in_nI (by omega) (by omega), nm_e ⟨vp_in_nI (by omega) (by omega), nm_e ⟨vp_in_nI (by omega) (by omega), nm_e ⟨vp_in_nI (by omega) (by omega), nm_e ⟨vp_in_nI (by omega) (by omega), nm_e (h3 hno (by omega))⟩⟩⟩⟩⟩)
theorem sw_word {B : Nat} (F : sw_Fa B km kr kn kw kt ks ex tr pl fi ne rv rn re fr lr nr lo mo fc bh ty yl ym) (p0 p1 : Int32) :
    wpX_word (fun r u' => wpY_word (fun r' v' => r' = r ∧ sw_Re B u' v') (nI km, nI kr, nI kw, nI kt, nI ks, dk, ex, tr, pl, ct, rv, rs, rn, re, yl, ym, ty, sl) p0 p1) (nI km, nt, sc, nI kr, nI kn, nI kw, nI kt, mc, nI ks, dk, ex, tr, pl, fi, ne, ct, sk, rv, rs, rn, re, fr, lr, nr, lo, mo, fc, bh, ty, mt, sl) p0 p1 := by
  have R0 := sw_Re_i (km := km) (kr := kr) (kn := kn) (kw := kw) (kt := kt) (ks := ks) (nt := nt) (sc := sc) (mc := mc) (dk := dk) (ex := ex) (tr := tr) (pl := pl) (fi := fi) (ne := ne) (ct := ct) (sk := sk) (rv := rv) (rs := rs) (rn := rn) (re := re) (fr := fr) (lr := lr) (nr := nr) (lo := lo) (mo := mo) (fc := fc) (bh := bh) (ty := ty) (mt := mt) (sl := sl) (yl := yl) (ym := ym) F
  by_cases hv : ∃ v, 1 ≤ v ∧ v ≤ 531440 ∧ p0 = nI v
  · obtain ⟨v, h1v, hv, rfl⟩ := hv
    by_cases hok : sw_ok v
    · obtain ⟨r, hr, mX, mY⟩ := sw_im (yl := yl) (ym := ym) (rm := nI km) (nt := nt) (sc := sc) (rc := nI kr) (nc := nI kn) (wc := nI kw) (tc := nI kt) (mc := mc) (sd := nI ks) (dk := dk) (ex := ex) (tr := tr) (pl := pl) (fi := fi) (ne := ne) (ct := ct) (sk := sk) (rv := rv) (rs := rs) (rn := rn) (re := re) (fr := fr) (lr := lr) (nr := nr) (lo := lo) (mo := mo) (fc := fc) (bh := bh) (ty := ty) (mt := mt) (sl := sl) p1
      rcases hr with r0 | ⟨r1, m, hm, rfl⟩
      · subst r0
        unfold wpX_word
        dsimp only
        refine sw_xiw h1v hv (fun _ => br_f (by decide) (mX _ (br_t rfl ?_))) (fun z => absurd hok z)
        unfold wpY_word
        dsimp only
        exact sw_yiwd h1v hv (fun _ => br_f (by decide) (mY _ (br_t rfl ⟨rfl, R0⟩))) (fun z => absurd hok z)
      · subst r1
        obtain ⟨f1, f2, f3, f4, f5, f6, ⟨pa, wn, hT, w24, hq, hl, hW⟩, f8⟩ := F
        have hq' : kn ≤ 100 := by omega
        have p0 := hT.2.1
        have hfresh : (∀ i, i < kw → pa (wn i) ≠ (sw_dg 4 v).reverse) → wX_word_66 (fun r u' => wpY_word (fun r' v' => r' = r ∧ sw_Re B u' v') (nI km, nI kr, nI kw, nI kt, nI ks, dk, ex, tr, pl, ct, rv, rs, rn, re, yl, ym, ty, sl) (nI v) (nI m)) (nI v) (nI m) (nI km) nt sc (nI kr) (nI kn) (nI kw) (nI kt) mc (nI ks) dk ex tr pl fi ne ct sk rv rs rn re fr lr nr lo mo fc bh ty mt sl := by
          intro hno
          unfold wX_word_66 wX_word_71
          refine br_f (by decide) (pk_lt kw 24 (fun k24 => ?_) (fun k24 => ?_))
          · unfold wX_word_90 wX_word_105 wpX_placeWord
            refine br_f (by decide) (nm_r (nI_1 kw) ⟨5, ?_⟩)
            refine sw_xpw2 4 v 0 5 kn lo mo fc bh pa (by omega) (by show v < 531441; omega) (by omega) (sw_ok_pos hok) hT (by omega) hT.1 hl (by rw [p0]; exact Nat.le_refl 4) ?_
            intro q' lo' mo' fc' bh' pa' m' g1 g2 g3 g4 g5 g6 g7 g8
            rw [p0, List.reverseAux_eq, List.append_nil] at g8
            dsimp only
            rw [sw_cl (a := m') (by omega), sw_vb2 (by omega)]
            refine ⟨vp_in_nI (by omega) (by omega), nm_e ?_⟩
            refine sw_yword h1v hv hok mY hT w24 hl hW (fun i hi ei => absurd ei (hno i hi)) (fun _ z => by omega) (fun _ _ => ⟨rfl, ?_⟩)
            exact sw_Re_i (km := km) (kr := kr) (kn := q') (kw := kw + 1) (kt := kt) (ks := ks) (nt := nt) (sc := sc) (mc := mc) (dk := dk) (ex := ex) (tr := tr) (pl := pl) (fi := fi) (ne := ne) (ct := ct) (sk := sk) (rv := rv) (rs := rs) (rn := rn) (re := re) (fr := fr) (lr := lr) (nr := nr) (lo := lo') (mo := upd mo' m' (nI m)) (fc := fc') (bh := bh') (ty := ty) (mt := mt) (sl := sl) ⟨f1, f2, f3, f4, f5, f6, sw_Wd_new hW k24 hq hm g1 g2 g3 g4 g5 g6 g7 g8 hno, f8⟩
          · exact sw_yword h1v hv hok mY hT w24 hl hW (fun i hi ei => absurd ei (hno i hi)) (fun _ z => ⟨rfl, R0⟩) (fun _ z => by omega)
        unfold wpX_word
        dsimp only
        refine sw_xiw h1v hv (fun _ => br_f (by decide) (mX _ (br_f (by decide) ⟨6, ?_⟩))) (fun z => absurd hok z)
        refine sw_xw23 hT hq' 4 v 0 6 (by omega) (by show v < 531441; omega) (by omega) hT.1 (fun c hc ec => ?_) (fun hno => ?_)
        · have ec0 := ec
          rw [p0, List.reverseAux_eq, List.append_nil] at ec
          unfold wX_word_53
          rw [sw_cl (a := c) (by omega)]
          refine br_f (nI_pos (by omega)) ⟨vp_in_nI (by omega) (by omega), ?_⟩
          rcases hW.2.2 c hc with hm1 | ⟨i, hi, ei⟩
          · rw [hm1]
            refine br_f sw_m1le (hfresh (fun i hi e1 => ?_))
            obtain ⟨g1, ⟨m2, hm2, em2⟩, g3, -⟩ := hW.1 i hi
            have : wn i = c := hT.2.2.1 _ _ g1 hc (by rw [e1, ec])
            rw [this, hm1, em2] at g3
            exact absurd g3.symm (sw_ne1 (by omega))
          · obtain ⟨g1, ⟨m2, hm2, em2⟩, g3, -⟩ := hW.1 i hi
            rw [ei, em2] at g3
            rw [g3]
            refine br_t (nI_pos' (by omega)) ?_
            unfold wX_word_71 wX_word_90 wX_word_105 wpX_placeWord
            refine br_t rfl (br_t rfl ⟨5, ?_⟩)
            refine sw_xpw1 hT hq' 4 v 0 5 (by omega) (by show v < 531441; omega) (by omega) hT.1 c hc ec0 ?_
            dsimp only
            rw [sw_cl (a := c) (by omega), sw_vb2 (by omega)]
            refine ⟨vp_in_nI (by omega) (by omega), nm_e ?_⟩
            refine sw_yword h1v hv hok mY hT w24 hl hW (fun i' hi' ei' => ?_) (fun hno => absurd (by rw [ei]; exact ec) (hno i hi)) (fun hno => absurd (by rw [ei]; exact ec) (hno i hi))
            have e1 : wn i' = c := hT.2.2.1 _ _ (hW.1 i' hi').1 hc (by rw [ei', ec])
            have : i' = i := hW.2.1 i' i hi' hi (by rw [e1, ei])
            subst this
            refine ⟨rfl, ?_⟩
            exact sw_Re_i (km := km) (kr := kr) (kn := kn) (kw := kw) (kt := kt) (ks := ks) (nt := nt) (sc := sc) (mc := mc) (dk := dk) (ex := ex) (tr := tr) (pl := pl) (fi := fi) (ne := ne) (ct := ct) (sk := sk) (rv := rv) (rs := rs) (rn := rn) (re := re) (fr := fr) (lr := lr) (nr := nr) (lo := lo) (mo := upd mo c (nI m)) (fc := fc) (bh := bh) (ty := ty) (mt := mt) (sl := sl) ⟨f1, f2, f3, f4, f5, f6, ⟨pa, wn, hT, w24, hq, hl, sw_Wn_set hW hi' e1 hm⟩, f8⟩
        · unfold wX_word_53
          refine br_t sw_m1lt (hfresh (fun i hi ei => hno _ (hW.1 i hi).1 ?_))
          rw [p0, List.reverseAux_eq, List.append_nil]
          exact ei
    · unfold wpX_word
      dsimp only
      refine sw_xiw h1v hv (fun z => absurd z hok) (fun _ => br_t rfl ?_)
      unfold wpY_word
      dsimp only
      exact sw_yiwd h1v hv (fun z => absurd z hok) (fun _ => br_t rfl ⟨rfl, R0⟩)
  · unfold wpX_word
    dsimp only
    refine sw_xiwn hv (br_t rfl ?_)
    unfold wpY_word
    dsimp only
    exact sw_yiwdn hv (br_t rfl ⟨rfl, R0⟩)
end
end
section
/-! dark, link, thing, type, command, what is seen from outside -/
section
variable {km kr kn kw kt ks : Nat} {nt sc mc : Int32} {dk ex tr pl fi ne ct sk rv rs rn re fr lr nr lo mo fc bh ty mt sl yl ym : Nat → Int32}
theorem sw_dark {B : Nat} (F : sw_Fa B km kr kn kw kt ks ex tr pl fi ne rv rn re fr lr nr lo mo fc bh ty yl ym) (p0 p1 : Int32) :
    sw_O (sw_Re B) (fun post => wpX_dark post (nI km, nt, sc, nI kr, nI kn, nI kw, nI kt, mc, nI ks, dk, ex, tr, pl, fi, ne, ct, sk, rv, rs, rn, re, fr, lr, nr, lo, mo, fc, bh, ty, mt, sl) p0 p1) (fun post => wpY_dark post (nI km, nI kr, nI kw, nI kt, nI ks, dk, ex, tr, pl, ct, rv, rs, rn, re, yl, ym, ty, sl) p0 p1) := by
  by_cases h0 : p0 < 0
  · refine ⟨0, _, _, sw_Re_i (km := km) (kr := kr) (kn := kn) (kw := kw) (kt := kt) (ks := ks) (nt := nt) (sc := sc) (mc := mc) (dk := dk) (ex := ex) (tr := tr) (pl := pl) (fi := fi) (ne := ne) (ct := ct) (sk := sk) (rv := rv) (rs := rs) (rn := rn) (re := re) (fr := fr) (lr := lr) (nr := nr) (lo := lo) (mo := mo) (fc := fc) (bh := bh) (ty := ty) (mt := mt) (sl := sl) (yl := yl) (ym := ym) F, fun post K => ?_, fun post K => ?_⟩
    · unfold wpX_dark wpX_isRoom
      exact br_t h0 (br_t rfl K)
    · unfold wpY_dark
      exact sw_yi0 (Or.inl h0) (br_t rfl K)
  · by_cases h5 : 5 < p0
    · refine ⟨0, _, _, sw_Re_i (km := km) (kr := kr) (kn := kn) (kw := kw) (kt := kt) (ks := ks) (nt := nt) (sc := sc) (mc := mc) (dk := dk) (ex := ex) (tr := tr) (pl := pl) (fi := fi) (ne := ne) (ct := ct) (sk := sk) (rv := rv) (rs := rs) (rn := rn) (re := re) (fr := fr) (lr := lr) (nr := nr) (lo := lo) (mo := mo) (fc := fc) (bh := bh) (ty := ty) (mt := mt) (sl := sl) (yl := yl) (ym := ym) F, fun post K => ?_, fun post K => ?_⟩
      · unfold wpX_dark wpX_isRoom
        exact br_f h0 (br_t h5 (br_t rfl K))
      · unfold wpY_dark
        exact sw_yi0 (Or.inr h5) (br_t rfl K)
    · obtain ⟨j, hj, rfl⟩ := sw_of 5 rfl (by omega) h0 h5
      have ij : vp_in (nI j) 6 := vp_in_nI (by omega) (by omega)
      refine ⟨1, _, _, sw_Re_i (km := km) (kr := kr) (kn := kn) (kw := kw) (kt := kt) (ks := ks) (nt := nt) (sc := sc) (mc := mc) (dk := upd dk (nI j).toNatClampNeg (vp_nar .boolean p1)) (ex := ex) (tr := tr) (pl := pl) (fi := fi) (ne := ne) (ct := ct) (sk := sk) (rv := rv) (rs := rs) (rn := rn) (re := re) (fr := fr) (lr := lr) (nr := nr) (lo := lo) (mo := mo) (fc := fc) (bh := bh) (ty := ty) (mt := mt) (sl := sl) (yl := yl) (ym := ym) F, fun post K => ?_, fun post K => ?_⟩
      · unfold wpX_dark wpX_isRoom
        exact br_f h0 (br_f h5 (br_f (by decide) ⟨ij, nm_e K⟩))
      · unfold wpY_dark
        exact sw_yi1 h0 h5 (br_f (by decide) ⟨ij, nm_e K⟩)
theorem sw_link {B : Nat} (F : sw_Fa B km kr kn kw kt ks ex tr pl fi ne rv rn re fr lr nr lo mo fc bh ty yl ym) (p0 p1 p2 : Int32) :
    sw_O (sw_Re B) (fun post => wpX_link post (nI km, nt, sc, nI kr, nI kn, nI kw, nI kt, mc, nI ks, dk, ex, tr, pl, fi, ne, ct, sk, rv, rs, rn, re, fr, lr, nr, lo, mo, fc, bh, ty, mt, sl) p0 p1 p2) (fun post => wpY_link post (nI km, nI kr, nI kw, nI kt, nI ks, dk, ex, tr, pl, ct, rv, rs, rn, re, yl, ym, ty, sl) p0 p1 p2) := by
  have R0 := sw_Re_i (km := km) (kr := kr) (kn := kn) (kw := kw) (kt := kt) (ks := ks) (nt := nt) (sc := sc) (mc := mc) (dk := dk) (ex := ex) (tr := tr) (pl := pl) (fi := fi) (ne := ne) (ct := ct) (sk := sk) (rv := rv) (rs := rs) (rn := rn) (re := re) (fr := fr) (lr := lr) (nr := nr) (lo := lo) (mo := mo) (fc := fc) (bh := bh) (ty := ty) (mt := mt) (sl := sl) (yl := yl) (ym := ym) F
  by_cases h0 : p0 < 0
  · refine ⟨0, _, _, R0, fun post K => ?_, fun post K => ?_⟩
    · unfold wpX_link wpX_isRoom
      exact br_t h0 (br_t rfl K)
    · unfold wpY_link
      exact sw_yi0 (Or.inl h0) (br_t rfl K)
  · by_cases h5 : 5 < p0
    · refine ⟨0, _, _, R0, fun post K => ?_, fun post K => ?_⟩
      · unfold wpX_link wpX_isRoom
        exact br_f h0 (br_t h5 (br_t rfl K))
      · unfold wpY_link
        exact sw_yi0 (Or.inr h5) (br_t rfl K)
    · by_cases d0 : p1 < 0
      · refine ⟨0, _, _, R0, fun post K => ?_, fun post K => ?_⟩
        · unfold wpX_link wpX_isRoom
          exact br_f h0 (br_f h5 (br_f (by decide) (br_t d0 K)))
        · unfold wpY_link
          exact sw_yi1 h0 h5 (br_f (by decide) (sw_yi0 (Or.inl d0) (br_t rfl K)))
      · by_cases d3 : 3 < p1
        · refine ⟨0, _, _, R0, fun post K => ?_, fun post K => ?_⟩
          · unfold wpX_link wpX_isRoom
            exact br_f h0 (br_f h5 (br_f (by decide) (br_f d0 (br_t d3 K))))
          · unfold wpY_link
            exact sw_yi1 h0 h5 (br_f (by decide) (sw_yi0 (Or.inr d3) (br_t rfl K)))
        · by_cases t1 : p2 < -1
          · refine ⟨0, _, _, R0, fun post K => ?_, fun post K => ?_⟩
            · unfold wpX_link wpX_isRoom
              exact br_f h0 (br_f h5 (br_f (by decide) (br_f d0 (br_f d3 (br_t t1 K)))))
            · unfold wpY_link
              exact sw_yi1 h0 h5 (br_f (by decide) (sw_yi1 d0 d3 (br_f (by decide) (sw_yi0 (Or.inl t1) (br_t rfl K)))))
          · by_cases t5 : p2 ≤ 5
            · have t5' : ¬ 5 < p2 := Int32.not_lt.mpr t5
              obtain ⟨j, hj, rfl⟩ := sw_of 5 rfl (by omega) h0 h5
              obtain ⟨d, hd, rfl⟩ := sw_of 3 rfl (by omega) d0 d3
              have e4 : (4 : Int32) * nI j + nI d = nI (4 * j + d) := by rw [show (4 : Int32) = nI 4 from rfl, pk_mul, nI_add]
              have cl : (nI (4 * j + d)).toNatClampNeg = 4 * j + d := nI_clamp (by omega)
              have ii : vp_in (nI (4 * j + d)) 24 := vp_in_nI (by omega) (by omega)
              have hp2 : vp_nar .byte p2.toInt8.toInt32 = p2 ∧ (p2 = -1 ∨ ∃ m, m < 6 ∧ p2 = nI m) := by
                rcases sw_m1 t1 with q | q
                · rw [q]; exact ⟨sw_vm2, Or.inl rfl⟩
                · obtain ⟨m, hm, em⟩ := sw_of' 5 rfl (by omega) q t5
                  rw [em]; exact ⟨sw_vb2 (by omega), Or.inr ⟨m, by omega, rfl⟩⟩
              obtain ⟨f1, f2, f3, f4⟩ := F
              have f3' : sw_Ex (upd ex (4 * j + d) p2) := by
                intro i hi
                by_cases z : i = 4 * j + d
                · subst z; rw [pk_us]; exact hp2.2
                · rw [pk_un z]; exact f3 i hi
              refine ⟨1, _, _, sw_Re_i (km := km) (kr := kr) (kn := kn) (kw := kw) (kt := kt) (ks := ks) (nt := nt) (sc := sc) (mc := mc) (dk := dk) (ex := upd ex (4 * j + d) p2) (tr := tr) (pl := pl) (fi := fi) (ne := ne) (ct := ct) (sk := sk) (rv := rv) (rs := rs) (rn := rn) (re := re) (fr := fr) (lr := lr) (nr := nr) (lo := lo) (mo := mo) (fc := fc) (bh := bh) (ty := ty) (mt := mt) (sl := sl) (yl := yl) (ym := ym) ⟨f1, f2, f3', f4⟩, fun post K => ?_, fun post K => ?_⟩
              · unfold wpX_link wpX_isRoom
                refine br_f h0 (br_f h5 (br_f (by decide) (br_f d0 (br_f d3 (br_f t1 (br_t t5 ?_))))))
                rw [e4, cl, hp2.1]
                exact ⟨ii, nm_e K⟩
              · unfold wpY_link
                dsimp only
                rw [e4, cl]
                exact sw_yi1 h0 h5 (br_f (by decide) (sw_yi1 d0 d3 (br_f (by decide) (sw_yi1 t1 t5' (br_f (by decide) ⟨ii, nm_e K⟩)))))
            · have t5' : 5 < p2 := Int32.not_le.mp t5
              refine ⟨0, _, _, R0, fun post K => ?_, fun post K => ?_⟩
              · unfold wpX_link wpX_isRoom
                exact br_f h0 (br_f h5 (br_f (by decide) (br_f d0 (br_f d3 (br_f t1 (br_f t5 K))))))
              · unfold wpY_link
                exact sw_yi1 h0 h5 (br_f (by decide) (sw_yi1 d0 d3 (br_f (by decide) (sw_yi0 (Or.inr t5') (br_t rfl K)))))
theorem sw_xth1 {post : Int32 → Prop} {p : Int32} (h0 : ¬ p < 0) (h7 : ¬ 7 < p) (K : post 1) : wpX_isThing post (nI km, nt, sc, nI kr, nI kn, nI kw, nI kt, mc, nI ks, dk, ex, tr, pl, fi, ne, ct, sk, rv, rs, rn, re, fr, lr, nr, lo, mo, fc, bh, ty, mt, sl) p := by
  unfold wpX_isThing
  exact br_f h0 (br_f h7 K)
theorem sw_xth0 {post : Int32 → Prop} {p : Int32} (h : p < 0 ∨ 7 < p) (K : post 0) : wpX_isThing post (nI km, nt, sc, nI kr, nI kn, nI kw, nI kt, mc, nI ks, dk, ex, tr, pl, fi, ne, ct, sk, rv, rs, rn, re, fr, lr, nr, lo, mo, fc, bh, ty, mt, sl) p := by
  unfold wpX_isThing
  exact br_c (fun _ => K) fun a => br_t (h.resolve_left a) K
theorem sw_yth1 {post : Int32 → Prop} {p : Int32} (h0 : ¬ p < 0) (h7 : ¬ 7 < p) (K : post 1) : wpY_isThing post (nI km, nI kr, nI kw, nI kt, nI ks, dk, ex, tr, pl, ct, rv, rs, rn, re, yl, ym, ty, sl) p := by
  unfold wpY_isThing
  exact sw_yi1 h0 h7 ⟨rfl, K⟩
theorem sw_yth0 {post : Int32 → Prop} {p : Int32} (h : p < 0 ∨ 7 < p) (K : post 0) : wpY_isThing post (nI km, nI kr, nI kw, nI kt, nI ks, dk, ex, tr, pl, ct, rv, rs, rn, re, yl, ym, ty, sl) p := by
  unfold wpY_isThing
  exact sw_yi0 h ⟨rfl, K⟩
theorem sw_thing {B : Nat} (F : sw_Fa B km kr kn kw kt ks ex tr pl fi ne rv rn re fr lr nr lo mo fc bh ty yl ym) (p0 p1 p2 : Int32) :
    sw_O (sw_Re B) (fun post => wpX_thing post (nI km, nt, sc, nI kr, nI kn, nI kw, nI kt, mc, nI ks, dk, ex, tr, pl, fi, ne, ct, sk, rv, rs, rn, re, fr, lr, nr, lo, mo, fc, bh, ty, mt, sl) p0 p1 p2) (fun post => wpY_thing post (nI km, nI kr, nI kw, nI kt, nI ks, dk, ex, tr, pl, ct, rv, rs, rn, re, yl, ym, ty, sl) p0 p1 p2) := by
  have R0 := sw_Re_i (km := km) (kr := kr) (kn := kn) (kw := kw) (kt := kt) (ks := ks) (nt := nt) (sc := sc) (mc := mc) (dk := dk) (ex := ex) (tr := tr) (pl := pl) (fi := fi) (ne := ne) (ct := ct) (sk := sk) (rv := rv) (rs := rs) (rn := rn) (re := re) (fr := fr) (lr := lr) (nr := nr) (lo := lo) (mo := mo) (fc := fc) (bh := bh) (ty := ty) (mt := mt) (sl := sl) (yl := yl) (ym := ym) F
  by_cases h : p0 < 0 ∨ 7 < p0
  · refine ⟨0, _, _, R0, fun post K => ?_, fun post K => ?_⟩
    · unfold wpX_thing
      exact sw_xth0 h (br_t rfl K)
    · unfold wpY_thing
      exact sw_yth0 h (br_t rfl K)
  · have h0 : ¬ p0 < 0 := fun q => h (Or.inl q)
    have h7 : ¬ 7 < p0 := fun q => h (Or.inr q)
    by_cases d0 : p1 < 0
    · refine ⟨0, _, _, R0, fun post K => ?_, fun post K => ?_⟩
      · unfold wpX_thing
        exact sw_xth1 h0 h7 (br_f (by decide) (br_t d0 K))
      · unfold wpY_thing
        exact sw_yth1 h0 h7 (br_f (by decide) (sw_yi0 (Or.inl d0) (br_t rfl K)))
    · by_cases d15 : 15 < p1
      · refine ⟨0, _, _, R0, fun post K => ?_, fun post K => ?_⟩
        · unfold wpX_thing
          exact sw_xth1 h0 h7 (br_f (by decide) (br_f d0 (br_t d15 K)))
        · unfold wpY_thing
          exact sw_yth1 h0 h7 (br_f (by decide) (sw_yi0 (Or.inr d15) (br_t rfl K)))
      · by_cases t0 : p2 < 0
        · refine ⟨0, _, _, R0, fun post K => ?_, fun post K => ?_⟩
          · unfold wpX_thing
            exact sw_xth1 h0 h7 (br_f (by decide) (br_f d0 (br_f d15 (br_t t0 K))))
          · unfold wpY_thing
            exact sw_yth1 h0 h7 (br_f (by decide) (sw_yi1 d0 d15 (br_f (by decide) (sw_yi0 (Or.inl t0) (br_t rfl K)))))
        · by_cases t15 : 15 < p2
          · refine ⟨0, _, _, R0, fun post K => ?_, fun post K => ?_⟩
            · unfold wpX_thing
              exact sw_xth1 h0 h7 (br_f (by decide) (br_f d0 (br_f d15 (br_f t0 (br_t t15 K)))))
            · unfold wpY_thing
              exact sw_yth1 h0 h7 (br_f (by decide) (sw_yi1 d0 d15 (br_f (by decide) (sw_yi0 (Or.inr t15) (br_t rfl K)))))
          · obtain ⟨t, ht, rfl⟩ := sw_of 7 rfl (by omega) h0 h7
            obtain ⟨x, hx, rfl⟩ := sw_of 15 rfl (by omega) d0 d15
            obtain ⟨p, hp, rfl⟩ := sw_of 15 rfl (by omega) t0 t15
            obtain ⟨f1, f2, f3, f4, ⟨P, hP, hA, hC⟩, f6⟩ := F
            have ct' : (nI t).toNatClampNeg = t := nI_clamp (by omega)
            have it : vp_in (nI t) 8 := vp_in_nI (by omega) (by omega)
            cases z : sw_wo P t p
            · have f4' : sw_Tr (upd tr t (nI x)) := by
                intro j hj
                by_cases e : j = t
                · subst e; rw [pk_us]; exact ⟨x, by omega, rfl⟩
                · rw [pk_un e]; exact f4 j hj
              obtain ⟨fi', ne', hC', hX⟩ := sw_move (rm := nI km) (nt := nt) (sc := sc) (rc := nI kr) (nc := nI kn) (wc := nI kw) (tc := nI kt) (mc := mc) (sd := nI ks) (dk := dk) (ex := ex) (tr := upd tr t (nI x)) (pl := pl) (fi := fi) (ne := ne) (ct := ct) (sk := sk) (rv := rv) (rs := rs) (rn := rn) (re := re) (fr := fr) (lr := lr) (nr := nr) (lo := lo) (mo := mo) (fc := fc) (bh := bh) (ty := ty) (mt := mt) (sl := sl) (t := t) (p := p) (by omega) (by omega) hP hC
              refine ⟨1, _, _, sw_Re_i (km := km) (kr := kr) (kn := kn) (kw := kw) (kt := kt) (ks := ks) (nt := nt) (sc := sc) (mc := mc) (dk := dk) (ex := ex) (tr := upd tr t (nI x)) (pl := upd pl t (nI p)) (fi := fi') (ne := ne') (ct := ct) (sk := sk) (rv := rv) (rs := rs) (rn := rn) (re := re) (fr := fr) (lr := lr) (nr := nr) (lo := lo) (mo := mo) (fc := fc) (bh := bh) (ty := ty) (mt := mt) (sl := sl) (yl := yl) (ym := ym) ⟨f1, f2, f3, f4', ⟨_, sw_Pl_u hP (by omega), sw_Ac_u (fun t ht => (hP t ht).1) hA (by omega) (by omega) (sw_wo_f z), hC'⟩, f6⟩, fun post K => ?_, fun post K => ?_⟩
              · unfold wpX_thing
                refine sw_xth1 h0 h7 (br_f (by decide) (br_f d0 (br_f d15 (br_f t0 (br_f t15 (sw_xwl (by omega) (by omega) hP hA (fun y => by rw [z] at y; exact absurd y (by decide)) (fun _ => br_t rfl ?_)))))))
                rw [ct', sw_vb2 (by omega)]
                exact ⟨it, nm_e (hX _ K)⟩
              · unfold wpY_thing
                dsimp only
                rw [ct']
                exact sw_yth1 h0 h7 (br_f (by decide) (sw_yi1 d0 d15 (br_f (by decide) (sw_yi1 t0 t15 (br_f (by decide) (sw_ycb (by omega) (by omega) hP (fun y => by rw [z] at y; exact absurd y (by decide)) (fun _ => br_f (by decide) ⟨it, nm_e ⟨it, nm_e K⟩⟩)))))))
            · refine ⟨0, _, _, R0, fun post K => ?_, fun post K => ?_⟩
              · unfold wpX_thing
                exact sw_xth1 h0 h7 (br_f (by decide) (br_f d0 (br_f d15 (br_f t0 (br_f t15 (sw_xwl (by omega) (by omega) hP hA (fun _ => br_f (by decide) K) (fun y => by rw [z] at y; exact absurd y (by decide))))))))
              · unfold wpY_thing
                exact sw_yth1 h0 h7 (br_f (by decide) (sw_yi1 d0 d15 (br_f (by decide) (sw_yi1 t0 t15 (br_f (by decide) (sw_ycb (by omega) (by omega) hP (fun _ => br_t rfl K) (fun y => by rw [z] at y; exact absurd y (by decide))))))))
theorem sw_type {B : Nat} (F : sw_Fa B km kr kn kw kt ks ex tr pl fi ne rv rn re fr lr nr lo mo fc bh ty yl ym) (p0 : Int32) :
    sw_O (sw_Re B) (fun post => wpX_type post (nI km, nt, sc, nI kr, nI kn, nI kw, nI kt, mc, nI ks, dk, ex, tr, pl, fi, ne, ct, sk, rv, rs, rn, re, fr, lr, nr, lo, mo, fc, bh, ty, mt, sl) p0) (fun post => wpY_type post (nI km, nI kr, nI kw, nI kt, nI ks, dk, ex, tr, pl, ct, rv, rs, rn, re, yl, ym, ty, sl) p0) := by
  have R0 := sw_Re_i (km := km) (kr := kr) (kn := kn) (kw := kw) (kt := kt) (ks := ks) (nt := nt) (sc := sc) (mc := mc) (dk := dk) (ex := ex) (tr := tr) (pl := pl) (fi := fi) (ne := ne) (ct := ct) (sk := sk) (rv := rv) (rs := rs) (rn := rn) (re := re) (fr := fr) (lr := lr) (nr := nr) (lo := lo) (mo := mo) (fc := fc) (bh := bh) (ty := ty) (mt := mt) (sl := sl) (yl := yl) (ym := ym) F
  obtain ⟨f1, f2, f3, f4, f5, f6, f7, f8⟩ := F
  by_cases k30 : kt = 30
  · subst k30
    refine ⟨0, _, _, R0, fun post K => ?_, fun post K => ?_⟩
    · unfold wpX_type
      exact br_t (by decide) K
    · unfold wpY_type
      exact br_t rfl K
  · have kl := f8.1
    have nle : ¬ 30 ≤ nI kt := nI_ge (b := 30) (by omega) (by omega)
    have neq : ¬ nI kt = 30 := fun q => k30 (sw_inj (b := 30) q (by omega) (by omega))
    have ck : (nI kt).toNatClampNeg = kt := nI_clamp (by omega)
    have ik : vp_in (nI kt) 30 := vp_in_nI (by omega) (by omega)
    have good : ∀ c, p0 = nI c → (c = 32 ∨ (97 ≤ c ∧ c ≤ 122)) → ∃ u' v', sw_Re B u' v' ∧ (∀ post : Int32 → SX → Prop, post 1 u' → wX_type_29 post p0 (nI km) nt sc (nI kr) (nI kn) (nI kw) (nI kt) mc (nI ks) dk ex tr pl fi ne ct sk rv rs rn re fr lr nr lo mo fc bh ty mt sl) ∧ (∀ post : Int32 → SY → Prop, post 1 v' → wY_type_29 post p0 (nI km) (nI kr) (nI kw) (nI kt) (nI ks) dk ex tr pl ct rv rs rn re yl ym ty sl) := by
      intro c ec hc
      subst ec
      have f8' : sw_Ty (kt + 1) (upd ty kt (nI c)) := by
        refine ⟨by omega, fun j hj => ?_⟩
        by_cases z : j = kt
        · subst z; rw [pk_us]; exact ⟨c, rfl, hc⟩
        · rw [pk_un z]; exact f8.2 j (by omega)
      refine ⟨_, _, sw_Re_i (km := km) (kr := kr) (kn := kn) (kw := kw) (kt := kt + 1) (ks := ks) (nt := nt) (sc := sc) (mc := mc) (dk := dk) (ex := ex) (tr := tr) (pl := pl) (fi := fi) (ne := ne) (ct := ct) (sk := sk) (rv := rv) (rs := rs) (rn := rn) (re := re) (fr := fr) (lr := lr) (nr := nr) (lo := lo) (mo := mo) (fc := fc) (bh := bh) (ty := upd ty kt (nI c)) (mt := mt) (sl := sl) (yl := yl) (ym := ym) ⟨f1, f2, f3, f4, f5, f6, f7, f8'⟩, fun post K => ?_, fun post K => ?_⟩
      · unfold wX_type_29
        rw [ck, sw_vb2 (by omega)]
        exact ⟨ik, nm_e (nm_r (nI_1 kt) K)⟩
      · unfold wY_type_29
        rw [ck]
        exact ⟨ik, nm_e (nm_r (nI_1 kt) K)⟩
    by_cases e32 : p0 = 32
    · obtain ⟨u', v', hR, hX, hY⟩ := good 32 e32 (Or.inl rfl)
      refine ⟨1, u', v', hR, fun post K => ?_, fun post K => ?_⟩
      · unfold wpX_type
        exact br_f nle (br_t e32 (hX _ K))
      · unfold wpY_type
        exact br_f neq (br_t e32 (hY _ K))
    · by_cases l97 : p0 < 97
      · refine ⟨0, _, _, R0, fun post K => ?_, fun post K => ?_⟩
        · unfold wpX_type
          exact br_f nle (br_f e32 (br_t l97 K))
        · unfold wpY_type
          exact br_f neq (br_f e32 (sw_yi0 (Or.inl l97) (br_t rfl K)))
      · by_cases g122 : p0 ≤ 122
        · have h0 : ¬ p0 < 0 := fun q => l97 (Int32.lt_trans q (by decide))
          obtain ⟨c, hc, ec⟩ := sw_of' 122 rfl (by omega) h0 g122
          have c97 : 97 ≤ c := by
            rcases Nat.lt_or_ge c 97 with q | q
            · exact absurd (by rw [ec]; exact nI_lt (b := 97) q (by omega)) l97
            · exact q
          obtain ⟨u', v', hR, hX, hY⟩ := good c ec (Or.inr ⟨c97, hc⟩)
          refine ⟨1, u', v', hR, fun post K => ?_, fun post K => ?_⟩
          · unfold wpX_type
            exact br_f nle (br_f e32 (br_f l97 (br_t g122 (hX _ K))))
          · unfold wpY_type
            exact br_f neq (br_f e32 (sw_yi1 l97 (Int32.not_lt.mpr g122) (br_f (by decide) (hY _ K))))
        · refine ⟨0, _, _, R0, fun post K => ?_, fun post K => ?_⟩
          · unfold wpX_type
            exact br_f nle (br_f e32 (br_f l97 (br_f g122 K)))
          · unfold wpY_type
            exact br_f neq (br_f e32 (sw_yi0 (Or.inr (Int32.not_le.mp g122)) (br_t rfl K)))
theorem sw_c24 {B v L : Nat} {p1 p2 : Int32} (hB : B < 100000) (F : sw_Fa B km kr kn kw kt ks ex tr pl fi ne rv rn re fr lr nr lo mo fc bh ty yl ym) (hv : v < 6) (hL : L ≤ 7) (hL0 : v = 0 → L ≤ 3) (h0 : ¬ p1 < 0) :
    sw_O (sw_Re (B + 16)) (fun post => wX_command_24 post (nI v) p1 p2 (nI L) p1 (nI km) nt sc (nI kr) (nI kn) (nI kw) (nI kt) mc (nI ks) dk ex tr pl fi ne ct sk rv rs rn re fr lr nr lo mo fc bh ty mt sl) (fun post => wY_command_23 post (nI v) p1 p2 (nI L) 0 p1 (nI km) (nI kr) (nI kw) (nI kt) (nI ks) dk ex tr pl ct rv rs rn re yl ym ty sl) := by
  have R0 := sw_Re_le (Nat.le_add_right B 16) (sw_Re_i (km := km) (kr := kr) (kn := kn) (kw := kw) (kt := kt) (ks := ks) (nt := nt) (sc := sc) (mc := mc) (dk := dk) (ex := ex) (tr := tr) (pl := pl) (fi := fi) (ne := ne) (ct := ct) (sk := sk) (rv := rv) (rs := rs) (rn := rn) (re := re) (fr := fr) (lr := lr) (nr := nr) (lo := lo) (mo := mo) (fc := fc) (bh := bh) (ty := ty) (mt := mt) (sl := sl) (yl := yl) (ym := ym) F)
  by_cases hs : nI L < p1
  · refine ⟨-1, _, _, R0, fun post K => ?_, fun post K => ?_⟩
    · unfold wX_command_24
      exact br_t hs K
    · unfold wY_command_23
      exact sw_yi0 (Or.inr hs) (br_t rfl K)
  · obtain ⟨x, hx, rfl⟩ := sw_of L rfl (by omega) h0 hs
    by_cases v3 : v = 3
    · subst v3
      by_cases h : p2 < 0 ∨ 7 < p2
      · refine ⟨-1, _, _, R0, fun post K => ?_, fun post K => ?_⟩
        · unfold wX_command_24
          exact br_f hs (br_t rfl (sw_xth0 h (br_t rfl K)))
        · unfold wY_command_23
          exact sw_yi1 h0 hs (br_f (by decide) (br_t rfl (sw_yth0 h (br_t rfl K))))
      · have y0 : ¬ p2 < 0 := fun q => h (Or.inl q)
        have y7 : ¬ 7 < p2 := fun q => h (Or.inr q)
        obtain ⟨b, hb, eb⟩ := sw_of 7 rfl (by omega) y0 y7
        obtain ⟨r, u', v', hR, hX, hY⟩ := sw_carry (km := km) (kr := kr) (kn := kn) (kw := kw) (kt := kt) (ks := ks) (nt := nt) (sc := sc) (mc := mc) (dk := dk) (ex := ex) (tr := tr) (pl := pl) (fi := fi) (ne := ne) (ct := ct) (sk := sk) (rv := rv) (rs := rs) (rn := rn) (re := re) (fr := fr) (lr := lr) (nr := nr) (lo := lo) (mo := mo) (fc := fc) (bh := bh) (ty := ty) (mt := mt) (sl := sl) (yl := yl) (ym := ym) (v := 3) (x := x) (y := p2) hB (by omega) (by omega) (fun q => by omega) (fun _ => ⟨b, by omega, eb⟩) F
        refine ⟨r, u', v', hR, fun post K => ?_, fun post K => ?_⟩
        · unfold wX_command_24 wX_command_42
          exact br_f hs (br_t rfl (sw_xth1 y0 y7 (br_f (by decide) (hX _ K))))
        · unfold wY_command_23 wY_command_44
          exact sw_yi1 h0 hs (br_f (by decide) (br_t rfl (sw_yth1 y0 y7 (br_f (by decide) (hY _ K)))))
    · have nv3 : ¬ nI v = 3 := fun q => v3 (sw_inj (b := 3) q (by omega) (by omega))
      obtain ⟨r, u', v', hR, hX, hY⟩ := sw_carry (km := km) (kr := kr) (kn := kn) (kw := kw) (kt := kt) (ks := ks) (nt := nt) (sc := sc) (mc := mc) (dk := dk) (ex := ex) (tr := tr) (pl := pl) (fi := fi) (ne := ne) (ct := ct) (sk := sk) (rv := rv) (rs := rs) (rn := rn) (re := re) (fr := fr) (lr := lr) (nr := nr) (lo := lo) (mo := mo) (fc := fc) (bh := bh) (ty := ty) (mt := mt) (sl := sl) (yl := yl) (ym := ym) (v := v) (x := x) (y := p2) hB (by omega) (by omega) (fun q => by have := hL0 q; omega) (fun q => absurd q v3) F
      refine ⟨r, u', v', hR, fun post K => ?_, fun post K => ?_⟩
      · unfold wX_command_24 wX_command_42
        exact br_f hs (br_f nv3 (hX _ K))
      · unfold wY_command_23 wY_command_44
        exact sw_yi1 h0 hs (br_f (by decide) (br_f nv3 (hY _ K)))
theorem sw_command {B : Nat} (hB : B < 100000) (F : sw_Fa B km kr kn kw kt ks ex tr pl fi ne rv rn re fr lr nr lo mo fc bh ty yl ym) (p0 p1 p2 : Int32) :
    sw_O (sw_Re (B + 16)) (fun post => wpX_command post (nI km, nt, sc, nI kr, nI kn, nI kw, nI kt, mc, nI ks, dk, ex, tr, pl, fi, ne, ct, sk, rv, rs, rn, re, fr, lr, nr, lo, mo, fc, bh, ty, mt, sl) p0 p1 p2) (fun post => wpY_command post (nI km, nI kr, nI kw, nI kt, nI ks, dk, ex, tr, pl, ct, rv, rs, rn, re, yl, ym, ty, sl) p0 p1 p2) := by
  have R0 := sw_Re_le (Nat.le_add_right B 16) (sw_Re_i (km := km) (kr := kr) (kn := kn) (kw := kw) (kt := kt) (ks := ks) (nt := nt) (sc := sc) (mc := mc) (dk := dk) (ex := ex) (tr := tr) (pl := pl) (fi := fi) (ne := ne) (ct := ct) (sk := sk) (rv := rv) (rs := rs) (rn := rn) (re := re) (fr := fr) (lr := lr) (nr := nr) (lo := lo) (mo := mo) (fc := fc) (bh := bh) (ty := ty) (mt := mt) (sl := sl) (yl := yl) (ym := ym) F)
  by_cases h0 : p0 < 0
  · refine ⟨-1, _, _, R0, fun post K => ?_, fun post K => ?_⟩
    · unfold wpX_command
      exact br_t h0 K
    · unfold wpY_command
      exact sw_yi0 (Or.inl h0) (br_t rfl K)
  · by_cases h5 : 5 < p0
    · refine ⟨-1, _, _, R0, fun post K => ?_, fun post K => ?_⟩
      · unfold wpX_command
        exact br_f h0 (br_t h5 K)
      · unfold wpY_command
        exact sw_yi0 (Or.inr h5) (br_t rfl K)
    · obtain ⟨v, hv, rfl⟩ := sw_of 5 rfl (by omega) h0 h5
      by_cases x0 : p1 < 0
      · refine ⟨-1, _, _, R0, fun post K => ?_, fun post K => ?_⟩
        · unfold wpX_command
          exact br_f h0 (br_f h5 (br_t x0 K))
        · unfold wpY_command wY_command_23
          exact sw_yi1 h0 h5 (br_f (by decide) (br_c (fun _ => sw_yi0 (Or.inl x0) (br_t rfl K)) (fun _ => sw_yi0 (Or.inl x0) (br_t rfl K))))
      · by_cases v0 : v = 0
        · subst v0
          obtain ⟨r, u', v', hR, hX, hY⟩ := sw_c24 (v := 0) (L := 3) (p1 := p1) (p2 := p2) (rs := rs) (nt := nt) (sc := sc) (mc := mc) (dk := dk) (ct := ct) (sk := sk) (mt := mt) (sl := sl) hB F (by omega) (by omega) (fun _ => by omega) x0
          refine ⟨r, u', v', hR, fun post K => ?_, fun post K => ?_⟩
          · unfold wpX_command
            exact br_f h0 (br_f h5 (br_f x0 (br_t rfl (hX _ K))))
          · unfold wpY_command
            exact sw_yi1 h0 h5 (br_f (by decide) (br_t rfl (hY _ K)))
        · have nv0 : ¬ nI v = 0 := nI_ne0 (by omega) (by omega)
          obtain ⟨r, u', v', hR, hX, hY⟩ := sw_c24 (v := v) (L := 7) (p1 := p1) (p2 := p2) (rs := rs) (nt := nt) (sc := sc) (mc := mc) (dk := dk) (ct := ct) (sk := sk) (mt := mt) (sl := sl) hB F (by omega) (by omega) (fun q => absurd q v0) x0
          refine ⟨r, u', v', hR, fun post K => ?_, fun post K => ?_⟩
          · unfold wpX_command
            exact br_f h0 (br_f h5 (br_f x0 (br_f nv0 (hX _ K))))
          · unfold wpY_command
            exact sw_yi1 h0 h5 (br_f (by decide) (br_f nv0 (hY _ K)))
end
end
section
/-! the constructors -/
def sw_fl (a : Int32) (i : Nat) : Nat → Int32 := fun j => if j < i then a else 0
theorem sw_fl_0 (a : Int32) : (fun _ => 0 : Nat → Int32) = sw_fl a 0 := by
  funext j
  exact (if_neg (Nat.not_lt_zero j)).symm
theorem sw_fl_s (a : Int32) (i : Nat) : upd (sw_fl a i) i a = sw_fl a (i + 1) := by
  funext j
  show (if j = i then a else (if j < i then a else 0)) = (if j < i + 1 then a else 0)
  by_cases z : j = i
  · rw [if_pos z, if_pos (by omega)]
  · rw [if_neg z]
    by_cases y : j < i
    · rw [if_pos y, if_pos (by omega)]
    · rw [if_neg y, if_neg (by omega)]
theorem sw_fl_t {a : Int32} {i j : Nat} (h : j < i) : sw_fl a i j = a := if_pos h
def sw_rd : Nat → List Nat
  | 0 => []
  | d + 1 => (7 - d) :: sw_rd d
theorem sw_rd_m : ∀ d j, d ≤ 8 → (j ∈ sw_rd d ↔ 8 - d ≤ j ∧ j < 8) := by
  intro d
  induction d with
  | zero => intro j _; exact ⟨fun h => absurd h List.not_mem_nil, fun h => by omega⟩
  | succ d ih =>
    intro j hd
    show j ∈ (7 - d) :: sw_rd d ↔ _
    rw [List.mem_cons, ih j (by omega)]
    omega
theorem sw_rd_n : ∀ d, d ≤ 8 → (sw_rd d).Nodup := by
  intro d
  induction d with
  | zero => intro _; exact List.nodup_nil
  | succ d ih =>
    intro hd
    exact List.nodup_cons.mpr ⟨fun m => by have := (sw_rd_m d _ (by omega)).mp m; omega, ih (by omega)⟩
section
variable {rm nt sc rc nc wc tc mc sd : Int32} {dk ex tr pl fi ne ct sk rv rs rn re fr lr nr lo mo fc bh ty mt sl : Nat → Int32} {yl ym : Nat → Int32}
theorem sw_i266 {post : SX → Prop} (K : post (rm, nt, sc, rc, 1, wc, tc, mc, sd, dk, ex, tr, pl, fi, ne, ct, sk, rv, rs, rn, re, sw_fl (-1) 6, sw_fl (-1) 6, nr, lo, upd mo 0 (-1), upd fc 0 (-1), bh, ty, mt, sl)) :
    ∀ d i n, d + i = 6 → d < n → wX_init_266 post rm nt sc rc nc wc tc mc sd n (nI i) dk ex tr pl fi ne ct sk rv rs rn re (sw_fl (-1) i) (sw_fl (-1) i) nr lo mo fc bh ty mt sl := by
  intro d
  induction d with
  | zero =>
    intro i n hi hn
    cases n with
    | zero => omega
    | succ n =>
      have : i = 6 := by omega
      subst this
      unfold wX_init_266
      rw [sw_vm]
      exact br_t (by decide) (nm_e (nm_e K))
  | succ d ih =>
    intro i n hi hn
    cases n with
    | zero => omega
    | succ n =>
      have h := ih (i + 1) n (by omega) (by omega)
      have ii : vp_in (nI i) 6 := vp_in_nI (by omega) (by omega)
      unfold wX_init_266
      rw [sw_cl (a := i) (by omega), sw_vm, sw_fl_s]
      exact br_f (nI_ge (b := 6) (by omega) (by omega)) ⟨ii, nm_e ⟨ii, nm_e (nm_r (nI_1 i) h)⟩⟩
theorem sw_i224 {post : SX → Prop} (K : ∀ fi ne, (∀ j, j < 16 → j ≠ 7 → fi j = -1) → sw_Ch ne (fi 7) (sw_rd 8) → ∃ n, wX_init_266 post rm nt sc rc nc wc tc mc sd n 0 dk ex tr (sw_fl 7 8) fi ne ct sk rv rs rn re fr lr nr lo mo fc bh ty mt sl) :
    ∀ (t n : Nat) (pl fi ne : Nat → Int32), t ≤ 8 → t < n → (∀ j, pl j = if t ≤ j ∧ j < 8 then 7 else 0) → (∀ j, j < 16 → j ≠ 7 → fi j = -1) → sw_Ch ne (fi 7) (sw_rd (8 - t)) →
    wX_init_224 post rm nt sc rc nc wc tc mc sd n (nI t + (-1)) dk ex tr pl fi ne ct sk rv rs rn re fr lr nr lo mo fc bh ty mt sl := by
  intro t
  induction t with
  | zero =>
    intro n pl fi ne _ hn hp hf hc
    cases n with
    | zero => omega
    | succ n =>
      have ep : pl = sw_fl 7 8 := by
        funext j
        rw [hp j]
        by_cases z : j < 8
        · rw [sw_fl_t z, if_pos ⟨by omega, z⟩]
        · rw [if_neg (fun q => z q.2)]; exact (if_neg z).symm
      subst ep
      unfold wX_init_224
      exact br_t (by decide) (K fi ne hf hc)
  | succ t ih =>
    intro n pl fi ne ht hn hp hf hc
    cases n with
    | zero => omega
    | succ n =>
      have it : vp_in (nI t) 8 := vp_in_nI (by omega) (by omega)
      have eb : vp_nar .byte (fi 7) = fi 7 := sw_Ch_b hc (fun j m => by have := (sw_rd_m (8 - (t + 1)) j (by omega)).mp m; omega)
      have h := ih n (upd pl t 7) (upd fi 7 (nI t)) (upd ne t (fi 7)) (by omega) (by omega) (fun j => by
          by_cases z : j = t
          · subst z; rw [pk_us, if_pos ⟨by omega, by omega⟩]
          · rw [pk_un z, hp j]
            by_cases y : t + 1 ≤ j ∧ j < 8
            · rw [if_pos y, if_pos ⟨by omega, y.2⟩]
            · rw [if_neg y, if_neg (fun q => y ⟨by omega, q.2⟩)]) (fun j h1 h2 => by rw [pk_un h2]; exact hf j h1 h2) (by
          rw [show 8 - t = (8 - (t + 1)) + 1 from by omega, pk_us]
          show sw_Ch _ _ ((7 - (8 - (t + 1))) :: sw_rd (8 - (t + 1)))
          rw [show 7 - (8 - (t + 1)) = t from by omega]
          refine ⟨rfl, ?_⟩
          rw [pk_us]
          exact sw_Ch_u (fun m => by have := (sw_rd_m (8 - (t + 1)) t (by omega)).mp m; omega) hc)
      rw [pk_m1 t]
      unfold wX_init_224
      rw [sw_cl (a := t) (by omega), eb, sw_vb2 (n := t) (by omega), show vp_nar .byte 7 = 7 from sw_vb (n := 7) (by omega)]
      exact br_f (nI_pos (by omega)) ⟨it, nm_e ⟨it, nm_e (nm_e (nm_e h))⟩⟩
theorem sw_i202 {post : SX → Prop} (K : ∃ n, wX_init_224 post rm nt sc rc nc wc tc mc sd n 7 dk ex tr pl (sw_fl (-1) 16) ne ct sk rv rs rn re fr lr nr lo mo fc bh ty mt sl) :
    ∀ d i n, d + i = 16 → d < n → wX_init_202 post rm nt sc rc nc wc tc mc sd n (nI i) dk ex tr pl (sw_fl (-1) i) ne ct sk rv rs rn re fr lr nr lo mo fc bh ty mt sl := by
  intro d
  induction d with
  | zero =>
    intro i n hi hn
    cases n with
    | zero => omega
    | succ n =>
      have : i = 16 := by omega
      subst this
      unfold wX_init_202
      exact br_t (by decide) K
  | succ d ih =>
    intro i n hi hn
    cases n with
    | zero => omega
    | succ n =>
      have h := ih (i + 1) n (by omega) (by omega)
      unfold wX_init_202
      rw [sw_cl (a := i) (by omega), sw_vm, sw_fl_s]
      exact br_f (nI_ge (b := 16) (by omega) (by omega)) ⟨vp_in_nI (by omega) (by omega), nm_e (nm_r (nI_1 i) h)⟩
theorem sw_i181 {post : SX → Prop} (K : ∃ n, wX_init_202 post rm nt sc rc nc wc tc mc sd n 0 dk (sw_fl (-1) 24) tr pl fi ne ct sk rv rs rn re fr lr nr lo mo fc bh ty mt sl) :
    ∀ d i n, d + i = 24 → d < n → wX_init_181 post rm nt sc rc nc wc tc mc sd n (nI i) dk (sw_fl (-1) i) tr pl fi ne ct sk rv rs rn re fr lr nr lo mo fc bh ty mt sl := by
  intro d
  induction d with
  | zero =>
    intro i n hi hn
    cases n with
    | zero => omega
    | succ n =>
      have : i = 24 := by omega
      subst this
      unfold wX_init_181
      exact br_t (by decide) K
  | succ d ih =>
    intro i n hi hn
    cases n with
    | zero => omega
    | succ n =>
      have h := ih (i + 1) n (by omega) (by omega)
      unfold wX_init_181
      rw [sw_cl (a := i) (by omega), sw_vm, sw_fl_s]
      exact br_f (nI_ge (b := 24) (by omega) (by omega)) ⟨vp_in_nI (by omega) (by omega), nm_e (nm_r (nI_1 i) h)⟩
end
section
variable {rm rc wc tc sd : Int32} {dk ex tr pl ct rv rs rn re yl ym ty sl : Nat → Int32}
theorem sw_j155 {post : SY → Prop} (K : post (rm, rc, wc, tc, sd, dk, ex, tr, sw_fl 7 8, ct, rv, rs, rn, re, yl, ym, ty, sl)) : ∀ d i n, d + i = 8 → d < n → wY_init_155 post rm rc wc tc sd n (nI i) dk ex tr (sw_fl 7 i) ct rv rs rn re yl ym ty sl := by
  intro d
  induction d with
  | zero =>
    intro i n hi hn
    cases n with
    | zero => omega
    | succ n =>
      have : i = 8 := by omega
      subst this
      unfold wY_init_155
      exact br_t (by decide) K
  | succ d ih =>
    intro i n hi hn
    cases n with
    | zero => omega
    | succ n =>
      have h := ih (i + 1) n (by omega) (by omega)
      unfold wY_init_155
      rw [sw_cl (a := i) (by omega), sw_fl_s]
      exact br_f (nI_ge (b := 8) (by omega) (by omega)) ⟨vp_in_nI (by omega) (by omega), nm_e (nm_r (nI_1 i) h)⟩
theorem sw_j134 {post : SY → Prop} (K : ∃ n, wY_init_155 post rm rc wc tc sd n 0 dk (sw_fl (-1) 24) tr pl ct rv rs rn re yl ym ty sl) : ∀ d i n, d + i = 24 → d < n → wY_init_134 post rm rc wc tc sd n (nI i) dk (sw_fl (-1) i) tr pl ct rv rs rn re yl ym ty sl := by
  intro d
  induction d with
  | zero =>
    intro i n hi hn
    cases n with
    | zero => omega
    | succ n =>
      have : i = 24 := by omega
      subst this
      unfold wY_init_134
      exact br_t (by decide) K
  | succ d ih =>
    intro i n hi hn
    cases n with
    | zero => omega
    | succ n =>
      have h := ih (i + 1) n (by omega) (by omega)
      unfold wY_init_134
      rw [sw_cl (a := i) (by omega), sw_fl_s]
      exact br_f (nI_ge (b := 24) (by omega) (by omega)) ⟨vp_in_nI (by omega) (by omega), nm_e (nm_r (nI_1 i) h)⟩
end
theorem sw_F0 {fi ne : Nat → Int32} (hf : ∀ j, j < 16 → j ≠ 7 → fi j = -1) (hc : sw_Ch ne (fi 7) (sw_rd 8)) :
    sw_Fa 0 0 0 1 0 0 0 (sw_fl (-1) 24) (fun _ => 0) (sw_fl 7 8) fi ne (fun _ => 0) (fun _ => 0) (fun _ => 0) (sw_fl (-1) 6) (sw_fl (-1) 6) (fun _ => 0) (fun _ => 0) (upd (fun _ => 0) 0 (-1)) (upd (fun _ => 0) 0 (-1)) (fun _ => 0) (fun _ => 0) (fun _ => 0) (fun _ => 0) := by
  refine ⟨by omega, by omega, fun j hj => Or.inl (sw_fl_t hj), fun t ht => ⟨0, by omega, rfl⟩, ?_, ?_, ?_, by omega, fun j hj => by omega⟩
  · refine ⟨fun _ => 7, fun t ht => ⟨(by decide : 7 < 16), sw_fl_t ht⟩, ⟨fun _ => 0, fun t _ h8 => absurd h8 (by decide : ¬ 8 ≤ 7)⟩, fun p => if p = 7 then sw_rd 8 else [], fun p hp => ?_⟩
    dsimp only
    by_cases z : p = 7
    · subst z
      rw [if_pos rfl]
      refine ⟨hc, sw_rd_n 8 (by omega), fun t => ?_⟩
      rw [sw_rd_m 8 t (by omega)]
      exact ⟨fun q => ⟨q.2, rfl⟩, fun q => ⟨by omega, q.1⟩⟩
    · rw [if_neg z]
      exact ⟨hf p hp z, List.nodup_nil, fun t => ⟨fun m => absurd m List.not_mem_nil, fun q => absurd q.2.symm z⟩⟩
  · refine ⟨by omega, fun r hr => by omega, fun r hr => by omega, fun r hr => by omega, fun v hv => ⟨sw_fl_t hv, Or.inl ⟨rfl, sw_fl_t hv⟩⟩⟩
  · refine ⟨fun _ => [], fun _ => 0, ⟨by omega, rfl, fun n n' h1 h2 _ => by omega, fun n hn => ⟨[], ?_, fun c => ⟨fun m => absurd m List.not_mem_nil, ?_⟩⟩, fun c h1 h2 => by omega⟩, by omega, by omega, fun n _ => Nat.zero_le _, fun i hi => by omega, fun i i' hi => by omega, fun n hn => ?_⟩
    · have : n = 0 := by omega
      subst this
      exact pk_us
    · rintro ⟨_, l, e⟩
      exact absurd e (by simp)
    · have : n = 0 := by omega
      subst this
      exact Or.inl pk_us
end
section
/-! what is owed -/
/-- shared rooms, things, rules, words and text; the chains, the tree and the words' nodes fit; not more said than 4 k -/
def i_Rel (k : Nat) (u : SX) (v : SY) : Prop := sw_Re (4 * k) u v
theorem i_up {k : Nat} {u : SX} {v : SY} (h : i_Rel k u v) : i_Rel (k + 5) u v := sw_Re_le (by omega) h
theorem sw_ure {k B : Nat} {WX : (Int32 → SX → Prop) → Prop} {WY : (Int32 → SY → Prop) → Prop} (hB : B ≤ 4 * (k + 5)) (h : sw_O (sw_Re B) WX WY) : WX (fun r u' => WY (fun r' v' => r' = r ∧ i_Rel (k + 5) u' v')) := by
  obtain ⟨r, u', v', hR, hX, hY⟩ := h
  exact hX _ (hY _ ⟨rfl, sw_Re_le hB hR⟩)
theorem sw_iy {fi ne : Nat → Int32} (hf : ∀ j, j < 16 → j ≠ 7 → fi j = -1) (hc : sw_Ch ne (fi 7) (sw_rd 8)) : wpY_init (fun v => i_Rel 0 (0, 0, 0, 0, 1, 0, 0, 0, 0, fun _ => 0, sw_fl (-1) 24, fun _ => 0, sw_fl 7 8, fi, ne, fun _ => 0, fun _ => 0, fun _ => 0, fun _ => 0, fun _ => 0, fun _ => 0, sw_fl (-1) 6, sw_fl (-1) 6, fun _ => 0, fun _ => 0, upd (fun _ => 0) 0 (-1), upd (fun _ => 0) 0 (-1), fun _ => 0, fun _ => 0, fun _ => 0, fun _ => 0) v) := by
  have R := sw_Re_i (nt := 0) (sc := 0) (mc := 0) (dk := fun _ => 0) (ct := fun _ => 0) (sk := fun _ => 0) (rs := fun _ => 0) (mt := fun _ => 0) (sl := fun _ => 0) (yl := fun _ => 0) (ym := fun _ => 0) (sw_F0 hf hc)
  have h155 := sw_j155 (post := fun v => i_Rel 0 (0, 0, 0, 0, 1, 0, 0, 0, 0, fun _ => 0, sw_fl (-1) 24, fun _ => 0, sw_fl 7 8, fi, ne, fun _ => 0, fun _ => 0, fun _ => 0, fun _ => 0, fun _ => 0, fun _ => 0, sw_fl (-1) 6, sw_fl (-1) 6, fun _ => 0, fun _ => 0, upd (fun _ => 0) 0 (-1), upd (fun _ => 0) 0 (-1), fun _ => 0, fun _ => 0, fun _ => 0, fun _ => 0) v) (rm := 0) (rc := 0) (wc := 0) (tc := 0) (sd := 0) (dk := fun _ => 0) (ex := sw_fl (-1) 24) (tr := fun _ => 0) (ct := fun _ => 0) (rv := fun _ => 0) (rs := fun _ => 0) (rn := fun _ => 0) (re := fun _ => 0) (yl := fun _ => 0) (ym := fun _ => 0) (ty := fun _ => 0) (sl := fun _ => 0) R 8 0 9 (by omega) (by omega)
  rw [← sw_fl_0 7] at h155
  have h134 := sw_j134 (post := fun v => i_Rel 0 (0, 0, 0, 0, 1, 0, 0, 0, 0, fun _ => 0, sw_fl (-1) 24, fun _ => 0, sw_fl 7 8, fi, ne, fun _ => 0, fun _ => 0, fun _ => 0, fun _ => 0, fun _ => 0, fun _ => 0, sw_fl (-1) 6, sw_fl (-1) 6, fun _ => 0, fun _ => 0, upd (fun _ => 0) 0 (-1), upd (fun _ => 0) 0 (-1), fun _ => 0, fun _ => 0, fun _ => 0, fun _ => 0) v) (rm := 0) (rc := 0) (wc := 0) (tc := 0) (sd := 0) (dk := fun _ => 0) (tr := fun _ => 0) (pl := fun _ => 0) (ct := fun _ => 0) (rv := fun _ => 0) (rs := fun _ => 0) (rn := fun _ => 0) (re := fun _ => 0) (yl := fun _ => 0) (ym := fun _ => 0) (ty := fun _ => 0) (sl := fun _ => 0) ⟨9, h155⟩ 24 0 25 (by omega) (by omega)
  rw [← sw_fl_0 (-1)] at h134
  exact ⟨25, h134⟩
theorem i_vc0 : wpX_init (fun u => wpY_init (fun v => i_Rel 0 u v)) := by
  have k224 : ∀ fi ne, (∀ j, j < 16 → j ≠ 7 → fi j = -1) → sw_Ch ne (fi 7) (sw_rd 8) → ∃ n, wX_init_266 (fun u => wpY_init (fun v => i_Rel 0 u v)) 0 0 0 0 0 0 0 0 0 n 0 (fun _ => 0) (sw_fl (-1) 24) (fun _ => 0) (sw_fl 7 8) fi ne (fun _ => 0) (fun _ => 0) (fun _ => 0) (fun _ => 0) (fun _ => 0) (fun _ => 0) (fun _ => 0) (fun _ => 0) (fun _ => 0) (fun _ => 0) (fun _ => 0) (fun _ => 0) (fun _ => 0) (fun _ => 0) (fun _ => 0) (fun _ => 0) := by
    intro fi ne hf hc
    have h := sw_i266 (post := fun u => wpY_init (fun v => i_Rel 0 u v)) (rm := 0) (nt := 0) (sc := 0) (rc := 0) (nc := 0) (wc := 0) (tc := 0) (mc := 0) (sd := 0) (dk := fun _ => 0) (ex := sw_fl (-1) 24) (tr := fun _ => 0) (pl := sw_fl 7 8) (fi := fi) (ne := ne) (ct := fun _ => 0) (sk := fun _ => 0) (rv := fun _ => 0) (rs := fun _ => 0) (rn := fun _ => 0) (re := fun _ => 0) (nr := fun _ => 0) (lo := fun _ => 0) (mo := fun _ => 0) (fc := fun _ => 0) (bh := fun _ => 0) (ty := fun _ => 0) (mt := fun _ => 0) (sl := fun _ => 0) (sw_iy hf hc) 6 0 7 (by omega) (by omega)
    rw [← sw_fl_0 (-1)] at h
    exact ⟨7, h⟩
  have h224 := sw_i224 (post := fun u => wpY_init (fun v => i_Rel 0 u v)) (rm := 0) (nt := 0) (sc := 0) (rc := 0) (nc := 0) (wc := 0) (tc := 0) (mc := 0) (sd := 0) (dk := fun _ => 0) (ex := sw_fl (-1) 24) (tr := fun _ => 0) (ct := fun _ => 0) (sk := fun _ => 0) (rv := fun _ => 0) (rs := fun _ => 0) (rn := fun _ => 0) (re := fun _ => 0) (fr := fun _ => 0) (lr := fun _ => 0) (nr := fun _ => 0) (lo := fun _ => 0) (mo := fun _ => 0) (fc := fun _ => 0) (bh := fun _ => 0) (ty := fun _ => 0) (mt := fun _ => 0) (sl := fun _ => 0) k224 8 9 (fun _ => 0) (sw_fl (-1) 16) (fun _ => 0) (by omega) (by omega) (fun j => (if_neg (fun q => by omega)).symm) (fun j h _ => sw_fl_t h) (sw_fl_t (by omega))
  have h202 := sw_i202 (post := fun u => wpY_init (fun v => i_Rel 0 u v)) (rm := 0) (nt := 0) (sc := 0) (rc := 0) (nc := 0) (wc := 0) (tc := 0) (mc := 0) (sd := 0) (dk := fun _ => 0) (ex := sw_fl (-1) 24) (tr := fun _ => 0) (pl := fun _ => 0) (ne := fun _ => 0) (ct := fun _ => 0) (sk := fun _ => 0) (rv := fun _ => 0) (rs := fun _ => 0) (rn := fun _ => 0) (re := fun _ => 0) (fr := fun _ => 0) (lr := fun _ => 0) (nr := fun _ => 0) (lo := fun _ => 0) (mo := fun _ => 0) (fc := fun _ => 0) (bh := fun _ => 0) (ty := fun _ => 0) (mt := fun _ => 0) (sl := fun _ => 0) ⟨9, h224⟩ 16 0 17 (by omega) (by omega)
  rw [← sw_fl_0 (-1)] at h202
  have h181 := sw_i181 (post := fun u => wpY_init (fun v => i_Rel 0 u v)) (rm := 0) (nt := 0) (sc := 0) (rc := 0) (nc := 0) (wc := 0) (tc := 0) (mc := 0) (sd := 0) (dk := fun _ => 0) (tr := fun _ => 0) (pl := fun _ => 0) (fi := fun _ => 0) (ne := fun _ => 0) (ct := fun _ => 0) (sk := fun _ => 0) (rv := fun _ => 0) (rs := fun _ => 0) (rn := fun _ => 0) (re := fun _ => 0) (fr := fun _ => 0) (lr := fun _ => 0) (nr := fun _ => 0) (lo := fun _ => 0) (mo := fun _ => 0) (fc := fun _ => 0) (bh := fun _ => 0) (ty := fun _ => 0) (mt := fun _ => 0) (sl := fun _ => 0) ⟨17, h202⟩ 24 0 25 (by omega) (by omega)
  rw [← sw_fl_0 (-1)] at h181
  exact ⟨25, h181⟩
theorem i_vc_dark {k : Nat} {u : SX} {v : SY} (I : i_Rel k u v) (hk : k + 5 ≤ 2560) (v1 : Int32) (v2 : Int32) : wpX_dark (fun r u' => wpY_dark (fun r' v' => r' = r ∧ i_Rel (k + 5) u' v') v v1 (lw_bz v2)) u v1 (lw_bz v2) := by
  refine sw_el (Q := fun u v => wpX_dark (fun r u' => wpY_dark (fun r' v' => r' = r ∧ i_Rel (k + 5) u' v') v v1 (lw_bz v2)) u v1 (lw_bz v2)) ?_ I
  intro km kr kn kw kt ks nt sc mc dk ex tr pl fi ne ct sk rv rs rn re fr lr nr lo mo fc bh ty mt sl yl ym F
  exact sw_ure (by omega) (sw_dark (km := km) (kr := kr) (kn := kn) (kw := kw) (kt := kt) (ks := ks) (nt := nt) (sc := sc) (mc := mc) (dk := dk) (ex := ex) (tr := tr) (pl := pl) (fi := fi) (ne := ne) (ct := ct) (sk := sk) (rv := rv) (rs := rs) (rn := rn) (re := re) (fr := fr) (lr := lr) (nr := nr) (lo := lo) (mo := mo) (fc := fc) (bh := bh) (ty := ty) (mt := mt) (sl := sl) F v1 (lw_bz v2))
theorem i_vc_link {k : Nat} {u : SX} {v : SY} (I : i_Rel k u v) (hk : k + 5 ≤ 2560) (v1 : Int32) (v2 : Int32) (v3 : Int32) : wpX_link (fun r u' => wpY_link (fun r' v' => r' = r ∧ i_Rel (k + 5) u' v') v v1 v2 v3) u v1 v2 v3 := by
  refine sw_el (Q := fun u v => wpX_link (fun r u' => wpY_link (fun r' v' => r' = r ∧ i_Rel (k + 5) u' v') v v1 v2 v3) u v1 v2 v3) ?_ I
  intro km kr kn kw kt ks nt sc mc dk ex tr pl fi ne ct sk rv rs rn re fr lr nr lo mo fc bh ty mt sl yl ym F
  exact sw_ure (by omega) (sw_link (km := km) (kr := kr) (kn := kn) (kw := kw) (kt := kt) (ks := ks) (nt := nt) (sc := sc) (mc := mc) (dk := dk) (ex := ex) (tr := tr) (pl := pl) (fi := fi) (ne := ne) (ct := ct) (sk := sk) (rv := rv) (rs := rs) (rn := rn) (re := re) (fr := fr) (lr := lr) (nr := nr) (lo := lo) (mo := mo) (fc := fc) (bh := bh) (ty := ty) (mt := mt) (sl := sl) F v1 v2 v3)
theorem i_vc_thing {k : Nat} {u : SX} {v : SY} (I : i_Rel k u v) (hk : k + 5 ≤ 2560) (v1 : Int32) (v2 : Int32) (v3 : Int32) : wpX_thing (fun r u' => wpY_thing (fun r' v' => r' = r ∧ i_Rel (k + 5) u' v') v v1 v2 v3) u v1 v2 v3 := by
  refine sw_el (Q := fun u v => wpX_thing (fun r u' => wpY_thing (fun r' v' => r' = r ∧ i_Rel (k + 5) u' v') v v1 v2 v3) u v1 v2 v3) ?_ I
  intro km kr kn kw kt ks nt sc mc dk ex tr pl fi ne ct sk rv rs rn re fr lr nr lo mo fc bh ty mt sl yl ym F
  exact sw_ure (by omega) (sw_thing (km := km) (kr := kr) (kn := kn) (kw := kw) (kt := kt) (ks := ks) (nt := nt) (sc := sc) (mc := mc) (dk := dk) (ex := ex) (tr := tr) (pl := pl) (fi := fi) (ne := ne) (ct := ct) (sk := sk) (rv := rv) (rs := rs) (rn := rn) (re := re) (fr := fr) (lr := lr) (nr := nr) (lo := lo) (mo := mo) (fc := fc) (bh := bh) (ty := ty) (mt := mt) (sl := sl) F v1 v2 v3)
theorem i_vc_word {k : Nat} {u : SX} {v : SY} (I : i_Rel k u v) (hk : k + 5 ≤ 2560) (v1 : Int32) (v2 : Int32) : wpX_word (fun r u' => wpY_word (fun r' v' => r' = r ∧ i_Rel (k + 5) u' v') v v1 v2) u v1 v2 := by
  refine sw_el (Q := fun u v => wpX_word (fun r u' => wpY_word (fun r' v' => r' = r ∧ i_Rel (k + 5) u' v') v v1 v2) u v1 v2) ?_ I
  intro km kr kn kw kt ks nt sc mc dk ex tr pl fi ne ct sk rv rs rn re fr lr nr lo mo fc bh ty mt sl yl ym F
  exact sw_word (B := 4 * (k + 5)) (km := km) (kr := kr) (kn := kn) (kw := kw) (kt := kt) (ks := ks) (nt := nt) (sc := sc) (mc := mc) (dk := dk) (ex := ex) (tr := tr) (pl := pl) (fi := fi) (ne := ne) (ct := ct) (sk := sk) (rv := rv) (rs := rs) (rn := rn) (re := re) (fr := fr) (lr := lr) (nr := nr) (lo := lo) (mo := mo) (fc := fc) (bh := bh) (ty := ty) (mt := mt) (sl := sl) ⟨F.1, Nat.le_trans F.2.1 (by omega), F.2.2⟩ v1 v2
theorem i_vc_rule {k : Nat} {u : SX} {v : SY} (I : i_Rel k u v) (hk : k + 5 ≤ 2560) (v1 : Int32) (v2 : Int32) (v3 : Int32) (v4 : Int32) : wpX_rule (fun r u' => wpY_rule (fun r' v' => r' = r ∧ i_Rel (k + 5) u' v') v v1 v2 v3 v4) u v1 v2 v3 v4 := by
  refine sw_el (Q := fun u v => wpX_rule (fun r u' => wpY_rule (fun r' v' => r' = r ∧ i_Rel (k + 5) u' v') v v1 v2 v3 v4) u v1 v2 v3 v4) ?_ I
  intro km kr kn kw kt ks nt sc mc dk ex tr pl fi ne ct sk rv rs rn re fr lr nr lo mo fc bh ty mt sl yl ym F
  exact sw_ure (by omega) (sw_rule (km := km) (kr := kr) (kn := kn) (kw := kw) (kt := kt) (ks := ks) (nt := nt) (sc := sc) (mc := mc) (dk := dk) (ex := ex) (tr := tr) (pl := pl) (fi := fi) (ne := ne) (ct := ct) (sk := sk) (rv := rv) (rs := rs) (rn := rn) (re := re) (fr := fr) (lr := lr) (nr := nr) (lo := lo) (mo := mo) (fc := fc) (bh := bh) (ty := ty) (mt := mt) (sl := sl) F v1 v2 v3 v4)
theorem i_vc_unrule {k : Nat} {u : SX} {v : SY} (I : i_Rel k u v) (hk : k + 5 ≤ 2560) : wpX_unrule (fun r u' => wpY_unrule (fun r' v' => r' = r ∧ i_Rel (k + 5) u' v') v) u := by
  refine sw_el (Q := fun u v => wpX_unrule (fun r u' => wpY_unrule (fun r' v' => r' = r ∧ i_Rel (k + 5) u' v') v) u) ?_ I
  intro km kr kn kw kt ks nt sc mc dk ex tr pl fi ne ct sk rv rs rn re fr lr nr lo mo fc bh ty mt sl yl ym F
  exact sw_ure (by omega) (sw_unrule (km := km) (kr := kr) (kn := kn) (kw := kw) (kt := kt) (ks := ks) (nt := nt) (sc := sc) (mc := mc) (dk := dk) (ex := ex) (tr := tr) (pl := pl) (fi := fi) (ne := ne) (ct := ct) (sk := sk) (rv := rv) (rs := rs) (rn := rn) (re := re) (fr := fr) (lr := lr) (nr := nr) (lo := lo) (mo := mo) (fc := fc) (bh := bh) (ty := ty) (mt := mt) (sl := sl) F)
theorem i_vc_type {k : Nat} {u : SX} {v : SY} (I : i_Rel k u v) (hk : k + 5 ≤ 2560) (v1 : Int32) : wpX_type (fun r u' => wpY_type (fun r' v' => r' = r ∧ i_Rel (k + 5) u' v') v v1) u v1 := by
  refine sw_el (Q := fun u v => wpX_type (fun r u' => wpY_type (fun r' v' => r' = r ∧ i_Rel (k + 5) u' v') v v1) u v1) ?_ I
  intro km kr kn kw kt ks nt sc mc dk ex tr pl fi ne ct sk rv rs rn re fr lr nr lo mo fc bh ty mt sl yl ym F
  exact sw_ure (by omega) (sw_type (km := km) (kr := kr) (kn := kn) (kw := kw) (kt := kt) (ks := ks) (nt := nt) (sc := sc) (mc := mc) (dk := dk) (ex := ex) (tr := tr) (pl := pl) (fi := fi) (ne := ne) (ct := ct) (sk := sk) (rv := rv) (rs := rs) (rn := rn) (re := re) (fr := fr) (lr := lr) (nr := nr) (lo := lo) (mo := mo) (fc := fc) (bh := bh) (ty := ty) (mt := mt) (sl := sl) F v1)
theorem i_vc_enter {k : Nat} {u : SX} {v : SY} (I : i_Rel k u v) (hk : k + 5 ≤ 2560) : wpX_enter (fun r u' => wpY_enter (fun r' v' => r' = r ∧ i_Rel (k + 5) u' v') v) u := by
  refine sw_el (Q := fun u v => wpX_enter (fun r u' => wpY_enter (fun r' v' => r' = r ∧ i_Rel (k + 5) u' v') v) u) ?_ I
  intro km kr kn kw kt ks nt sc mc dk ex tr pl fi ne ct sk rv rs rn re fr lr nr lo mo fc bh ty mt sl yl ym F
  exact sw_ure (B := 4 * k + 16) (by omega) (sw_enter (km := km) (kr := kr) (kn := kn) (kw := kw) (kt := kt) (ks := ks) (nt := nt) (sc := sc) (mc := mc) (dk := dk) (ex := ex) (tr := tr) (pl := pl) (fi := fi) (ne := ne) (ct := ct) (sk := sk) (rv := rv) (rs := rs) (rn := rn) (re := re) (fr := fr) (lr := lr) (nr := nr) (lo := lo) (mo := mo) (fc := fc) (bh := bh) (ty := ty) (mt := mt) (sl := sl) (by omega) F)
theorem i_vc_command {k : Nat} {u : SX} {v : SY} (I : i_Rel k u v) (hk : k + 5 ≤ 2560) (v1 : Int32) (v2 : Int32) (v3 : Int32) : wpX_command (fun r u' => wpY_command (fun r' v' => r' = r ∧ i_Rel (k + 5) u' v') v v1 v2 v3) u v1 v2 v3 := by
  refine sw_el (Q := fun u v => wpX_command (fun r u' => wpY_command (fun r' v' => r' = r ∧ i_Rel (k + 5) u' v') v v1 v2 v3) u v1 v2 v3) ?_ I
  intro km kr kn kw kt ks nt sc mc dk ex tr pl fi ne ct sk rv rs rn re fr lr nr lo mo fc bh ty mt sl yl ym F
  exact sw_ure (B := 4 * k + 16) (by omega) (sw_command (km := km) (kr := kr) (kn := kn) (kw := kw) (kt := kt) (ks := ks) (nt := nt) (sc := sc) (mc := mc) (dk := dk) (ex := ex) (tr := tr) (pl := pl) (fi := fi) (ne := ne) (ct := ct) (sk := sk) (rv := rv) (rs := rs) (rn := rn) (re := re) (fr := fr) (lr := lr) (nr := nr) (lo := lo) (mo := mo) (fc := fc) (bh := bh) (ty := ty) (mt := mt) (sl := sl) (by omega) F v1 v2 v3)
theorem i_vc_place {k : Nat} {u : SX} {v : SY} (I : i_Rel k u v) (hk : k + 5 ≤ 2560) (v1 : Int32) : wpX_place (fun r => wpY_place (fun r' => r' = r ∧ i_Rel (k + 5) u v) v v1) u v1 := by
  refine sw_el (Q := fun u v => wpX_place (fun r => wpY_place (fun r' => r' = r ∧ i_Rel (k + 5) u v) v v1) u v1) ?_ I
  intro km kr kn kw kt ks nt sc mc dk ex tr pl fi ne ct sk rv rs rn re fr lr nr lo mo fc bh ty mt sl yl ym F
  have R1 : i_Rel (k + 5) (nI km, nt, sc, nI kr, nI kn, nI kw, nI kt, mc, nI ks, dk, ex, tr, pl, fi, ne, ct, sk, rv, rs, rn, re, fr, lr, nr, lo, mo, fc, bh, ty, mt, sl) (nI km, nI kr, nI kw, nI kt, nI ks, dk, ex, tr, pl, ct, rv, rs, rn, re, yl, ym, ty, sl) := i_up (sw_Re_i (km := km) (kr := kr) (kn := kn) (kw := kw) (kt := kt) (ks := ks) (nt := nt) (sc := sc) (mc := mc) (dk := dk) (ex := ex) (tr := tr) (pl := pl) (fi := fi) (ne := ne) (ct := ct) (sk := sk) (rv := rv) (rs := rs) (rn := rn) (re := re) (fr := fr) (lr := lr) (nr := nr) (lo := lo) (mo := mo) (fc := fc) (bh := bh) (ty := ty) (mt := mt) (sl := sl) (yl := yl) (ym := ym) F)
  unfold wpX_place
  by_cases h : v1 < 0 ∨ 7 < v1
  · refine sw_xth0 h (br_t rfl ?_)
    unfold wpY_place
    exact sw_yth0 h (br_t rfl ⟨rfl, R1⟩)
  · have h0 : ¬ v1 < 0 := fun q => h (Or.inl q)
    have h7 : ¬ 7 < v1 := fun q => h (Or.inr q)
    obtain ⟨t, ht, rfl⟩ := sw_of 7 rfl (by omega) h0 h7
    have it : vp_in (nI t) 8 := vp_in_nI (by omega) (by omega)
    refine sw_xth1 h0 h7 (br_f (by decide) ⟨it, ?_⟩)
    unfold wpY_place
    exact sw_yth1 h0 h7 (br_f (by decide) ⟨it, rfl, R1⟩)
theorem i_vc_traits {k : Nat} {u : SX} {v : SY} (I : i_Rel k u v) (hk : k + 5 ≤ 2560) (v1 : Int32) : wpX_traits (fun r => wpY_traits (fun r' => r' = r ∧ i_Rel (k + 5) u v) v v1) u v1 := by
  refine sw_el (Q := fun u v => wpX_traits (fun r => wpY_traits (fun r' => r' = r ∧ i_Rel (k + 5) u v) v v1) u v1) ?_ I
  intro km kr kn kw kt ks nt sc mc dk ex tr pl fi ne ct sk rv rs rn re fr lr nr lo mo fc bh ty mt sl yl ym F
  have R1 : i_Rel (k + 5) (nI km, nt, sc, nI kr, nI kn, nI kw, nI kt, mc, nI ks, dk, ex, tr, pl, fi, ne, ct, sk, rv, rs, rn, re, fr, lr, nr, lo, mo, fc, bh, ty, mt, sl) (nI km, nI kr, nI kw, nI kt, nI ks, dk, ex, tr, pl, ct, rv, rs, rn, re, yl, ym, ty, sl) := i_up (sw_Re_i (km := km) (kr := kr) (kn := kn) (kw := kw) (kt := kt) (ks := ks) (nt := nt) (sc := sc) (mc := mc) (dk := dk) (ex := ex) (tr := tr) (pl := pl) (fi := fi) (ne := ne) (ct := ct) (sk := sk) (rv := rv) (rs := rs) (rn := rn) (re := re) (fr := fr) (lr := lr) (nr := nr) (lo := lo) (mo := mo) (fc := fc) (bh := bh) (ty := ty) (mt := mt) (sl := sl) (yl := yl) (ym := ym) F)
  unfold wpX_traits
  by_cases h : v1 < 0 ∨ 7 < v1
  · refine sw_xth0 h (br_t rfl ?_)
    unfold wpY_traits
    exact sw_yth0 h (br_t rfl ⟨rfl, R1⟩)
  · have h0 : ¬ v1 < 0 := fun q => h (Or.inl q)
    have h7 : ¬ 7 < v1 := fun q => h (Or.inr q)
    obtain ⟨t, ht, rfl⟩ := sw_of 7 rfl (by omega) h0 h7
    have it : vp_in (nI t) 8 := vp_in_nI (by omega) (by omega)
    refine sw_xth1 h0 h7 (br_f (by decide) ⟨it, ?_⟩)
    unfold wpY_traits
    exact sw_yth1 h0 h7 (br_f (by decide) ⟨it, rfl, R1⟩)
theorem i_vc_player {k : Nat} {u : SX} {v : SY} (I : i_Rel k u v) (hk : k + 5 ≤ 2560) : wpX_player (fun r => wpY_player (fun r' => r' = r ∧ i_Rel (k + 5) u v) v) u := by
  refine sw_el (Q := fun u v => wpX_player (fun r => wpY_player (fun r' => r' = r ∧ i_Rel (k + 5) u v) v) u) ?_ I
  intro km kr kn kw kt ks nt sc mc dk ex tr pl fi ne ct sk rv rs rn re fr lr nr lo mo fc bh ty mt sl yl ym F
  have R1 : i_Rel (k + 5) (nI km, nt, sc, nI kr, nI kn, nI kw, nI kt, mc, nI ks, dk, ex, tr, pl, fi, ne, ct, sk, rv, rs, rn, re, fr, lr, nr, lo, mo, fc, bh, ty, mt, sl) (nI km, nI kr, nI kw, nI kt, nI ks, dk, ex, tr, pl, ct, rv, rs, rn, re, yl, ym, ty, sl) := i_up (sw_Re_i (km := km) (kr := kr) (kn := kn) (kw := kw) (kt := kt) (ks := ks) (nt := nt) (sc := sc) (mc := mc) (dk := dk) (ex := ex) (tr := tr) (pl := pl) (fi := fi) (ne := ne) (ct := ct) (sk := sk) (rv := rv) (rs := rs) (rn := rn) (re := re) (fr := fr) (lr := lr) (nr := nr) (lo := lo) (mo := mo) (fc := fc) (bh := bh) (ty := ty) (mt := mt) (sl := sl) (yl := yl) (ym := ym) F)
  unfold wpX_player wpY_player
  exact ⟨rfl, R1⟩
theorem i_vc_counter {k : Nat} {u : SX} {v : SY} (I : i_Rel k u v) (hk : k + 5 ≤ 2560) (v1 : Int32) : wpX_counter (fun r => wpY_counter (fun r' => r' = r ∧ i_Rel (k + 5) u v) v v1) u v1 := by
  refine sw_el (Q := fun u v => wpX_counter (fun r => wpY_counter (fun r' => r' = r ∧ i_Rel (k + 5) u v) v v1) u v1) ?_ I
  intro km kr kn kw kt ks nt sc mc dk ex tr pl fi ne ct sk rv rs rn re fr lr nr lo mo fc bh ty mt sl yl ym F
  have R1 : i_Rel (k + 5) (nI km, nt, sc, nI kr, nI kn, nI kw, nI kt, mc, nI ks, dk, ex, tr, pl, fi, ne, ct, sk, rv, rs, rn, re, fr, lr, nr, lo, mo, fc, bh, ty, mt, sl) (nI km, nI kr, nI kw, nI kt, nI ks, dk, ex, tr, pl, ct, rv, rs, rn, re, yl, ym, ty, sl) := i_up (sw_Re_i (km := km) (kr := kr) (kn := kn) (kw := kw) (kt := kt) (ks := ks) (nt := nt) (sc := sc) (mc := mc) (dk := dk) (ex := ex) (tr := tr) (pl := pl) (fi := fi) (ne := ne) (ct := ct) (sk := sk) (rv := rv) (rs := rs) (rn := rn) (re := re) (fr := fr) (lr := lr) (nr := nr) (lo := lo) (mo := mo) (fc := fc) (bh := bh) (ty := ty) (mt := mt) (sl := sl) (yl := yl) (ym := ym) F)
  unfold wpX_counter
  by_cases h0 : v1 < 0
  · refine br_t h0 ?_
    unfold wpY_counter
    exact sw_yi0 (Or.inl h0) (br_t rfl ⟨rfl, R1⟩)
  · by_cases h3 : v1 ≤ 3
    · obtain ⟨t, ht, rfl⟩ := sw_of' 3 rfl (by omega) h0 h3
      have it : vp_in (nI t) 4 := vp_in_nI (by omega) (by omega)
      refine br_f h0 (br_t h3 ⟨it, ?_⟩)
      unfold wpY_counter
      exact sw_yi1 h0 (Int32.not_lt.mpr h3) (br_f (by decide) ⟨it, rfl, R1⟩)
    · refine br_f h0 (br_f h3 ?_)
      unfold wpY_counter
      exact sw_yi0 (Or.inr (Int32.not_le.mp h3)) (br_t rfl ⟨rfl, R1⟩)
theorem i_vc_visible {k : Nat} {u : SX} {v : SY} (I : i_Rel k u v) (hk : k + 5 ≤ 2560) (v1 : Int32) : wpX_visible (fun r u' => wpY_visible (fun r' => r' = r ∧ i_Rel (k + 5) u' v) v v1) u v1 := by
  refine sw_el (Q := fun u v => wpX_visible (fun r u' => wpY_visible (fun r' => r' = r ∧ i_Rel (k + 5) u' v) v v1) u v1) ?_ I
  intro km kr kn kw kt ks nt sc mc dk ex tr pl fi ne ct sk rv rs rn re fr lr nr lo mo fc bh ty mt sl yl ym F
  have R1 : ∀ nt sc sk, i_Rel (k + 5) (nI km, nt, sc, nI kr, nI kn, nI kw, nI kt, mc, nI ks, dk, ex, tr, pl, fi, ne, ct, sk, rv, rs, rn, re, fr, lr, nr, lo, mo, fc, bh, ty, mt, sl) (nI km, nI kr, nI kw, nI kt, nI ks, dk, ex, tr, pl, ct, rv, rs, rn, re, yl, ym, ty, sl) := fun nt sc sk => i_up (sw_Re_i (km := km) (kr := kr) (kn := kn) (kw := kw) (kt := kt) (ks := ks) (nt := nt) (sc := sc) (mc := mc) (dk := dk) (ex := ex) (tr := tr) (pl := pl) (fi := fi) (ne := ne) (ct := ct) (sk := sk) (rv := rv) (rs := rs) (rn := rn) (re := re) (fr := fr) (lr := lr) (nr := nr) (lo := lo) (mo := mo) (fc := fc) (bh := bh) (ty := ty) (mt := mt) (sl := sl) (yl := yl) (ym := ym) F)
  unfold wpX_visible
  by_cases h : v1 < 0 ∨ 7 < v1
  · refine sw_xth0 h (br_t rfl ?_)
    unfold wpY_visible
    exact sw_yth0 h (br_t rfl ⟨rfl, R1 nt sc sk⟩)
  · have h0 : ¬ v1 < 0 := fun q => h (Or.inl q)
    have h7 : ¬ 7 < v1 := fun q => h (Or.inr q)
    obtain ⟨t, ht, rfl⟩ := sw_of 7 rfl (by omega) h0 h7
    obtain ⟨P, hP, hA, hC⟩ := F.2.2.2.2.1
    obtain ⟨nt', sc', sk', hV⟩ := sw_xvis (nt := nt) (sc := sc) (rc := nI kr) (nc := nI kn) (wc := nI kw) (tc := nI kt) (mc := mc) (sd := nI ks) (dk := dk) (ex := ex) (tr := tr) (ct := ct) (sk := sk) (rv := rv) (rs := rs) (rn := rn) (re := re) (fr := fr) (lr := lr) (nr := nr) (lo := lo) (mo := mo) (fc := fc) (bh := bh) (ty := ty) (mt := mt) (sl := sl) F.1 (show t < 8 by omega) hP hA hC
    refine sw_xth1 h0 h7 (br_f (by decide) (hV _ (fun z => br_f (by decide) ?_) (fun z => br_t rfl ?_)))
    · exact sw_yvis F.1 (by omega) hP (fun _ => ⟨rfl, R1 nt' sc' sk'⟩) (fun y => sw_ft z y)
    · exact sw_yvis F.1 (by omega) hP (fun y => sw_ft y z) (fun _ => ⟨rfl, R1 nt' sc' sk'⟩)
theorem i_vc_said {k : Nat} {u : SX} {v : SY} (I : i_Rel k u v) (hk : k + 5 ≤ 2560) : wpX_said (fun r => wpY_said (fun r' => r' = r ∧ i_Rel (k + 5) u v) v) u := by
  refine sw_el (Q := fun u v => wpX_said (fun r => wpY_said (fun r' => r' = r ∧ i_Rel (k + 5) u v) v) u) ?_ I
  intro km kr kn kw kt ks nt sc mc dk ex tr pl fi ne ct sk rv rs rn re fr lr nr lo mo fc bh ty mt sl yl ym F
  have R1 : i_Rel (k + 5) (nI km, nt, sc, nI kr, nI kn, nI kw, nI kt, mc, nI ks, dk, ex, tr, pl, fi, ne, ct, sk, rv, rs, rn, re, fr, lr, nr, lo, mo, fc, bh, ty, mt, sl) (nI km, nI kr, nI kw, nI kt, nI ks, dk, ex, tr, pl, ct, rv, rs, rn, re, yl, ym, ty, sl) := i_up (sw_Re_i (km := km) (kr := kr) (kn := kn) (kw := kw) (kt := kt) (ks := ks) (nt := nt) (sc := sc) (mc := mc) (dk := dk) (ex := ex) (tr := tr) (pl := pl) (fi := fi) (ne := ne) (ct := ct) (sk := sk) (rv := rv) (rs := rs) (rn := rn) (re := re) (fr := fr) (lr := lr) (nr := nr) (lo := lo) (mo := mo) (fc := fc) (bh := bh) (ty := ty) (mt := mt) (sl := sl) (yl := yl) (ym := ym) F)
  unfold wpX_said wpY_said
  exact ⟨rfl, R1⟩
theorem i_vc_saying {k : Nat} {u : SX} {v : SY} (I : i_Rel k u v) (hk : k + 5 ≤ 2560) (v1 : Int32) : wpX_saying (fun r => wpY_saying (fun r' => r' = r ∧ i_Rel (k + 5) u v) v v1) u v1 := by
  refine sw_el (Q := fun u v => wpX_saying (fun r => wpY_saying (fun r' => r' = r ∧ i_Rel (k + 5) u v) v v1) u v1) ?_ I
  intro km kr kn kw kt ks nt sc mc dk ex tr pl fi ne ct sk rv rs rn re fr lr nr lo mo fc bh ty mt sl yl ym F
  have R1 : i_Rel (k + 5) (nI km, nt, sc, nI kr, nI kn, nI kw, nI kt, mc, nI ks, dk, ex, tr, pl, fi, ne, ct, sk, rv, rs, rn, re, fr, lr, nr, lo, mo, fc, bh, ty, mt, sl) (nI km, nI kr, nI kw, nI kt, nI ks, dk, ex, tr, pl, ct, rv, rs, rn, re, yl, ym, ty, sl) := i_up (sw_Re_i (km := km) (kr := kr) (kn := kn) (kw := kw) (kt := kt) (ks := ks) (nt := nt) (sc := sc) (mc := mc) (dk := dk) (ex := ex) (tr := tr) (pl := pl) (fi := fi) (ne := ne) (ct := ct) (sk := sk) (rv := rv) (rs := rs) (rn := rn) (re := re) (fr := fr) (lr := lr) (nr := nr) (lo := lo) (mo := mo) (fc := fc) (bh := bh) (ty := ty) (mt := mt) (sl := sl) (yl := yl) (ym := ym) F)
  unfold wpX_saying
  by_cases h0 : v1 < 0
  · refine br_t h0 ?_
    unfold wpY_saying
    exact sw_yi0 (Or.inl h0) (br_t rfl ⟨rfl, R1⟩)
  · by_cases hs : nI ks ≤ v1
    · refine br_f h0 (br_t hs ?_)
      unfold wpY_saying
      exact sw_yi (fun _ _ => br_f (by decide) (br_t hs ⟨rfl, R1⟩)) (fun _ => br_t rfl ⟨rfl, R1⟩)
    · by_cases h3 : v1 ≤ 39
      · obtain ⟨t, ht, rfl⟩ := sw_of' 39 rfl (by omega) h0 h3
        have it : vp_in (nI t) 40 := vp_in_nI (by omega) (by omega)
        refine br_f h0 (br_f hs (br_t h3 ⟨it, ?_⟩))
        unfold wpY_saying
        exact sw_yi1 h0 (Int32.not_lt.mpr h3) (br_f (by decide) (br_f hs ⟨it, rfl, R1⟩))
      · refine br_f h0 (br_f hs (br_f h3 ?_))
        unfold wpY_saying
        exact sw_yi0 (Or.inr (Int32.not_le.mp h3)) (br_t rfl ⟨rfl, R1⟩)
end
