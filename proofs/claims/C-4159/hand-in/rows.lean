section
/-! pure rows to paste: stores, nI and lN arithmetic, masks, shifts, narrowing, branches by naturals (pk_le, pk_lt, pk_eq), loops (lp1 .. lp16: the measure of the state; rp1 ..: recursion), negatives. Take what you need -/
theorem pk_us {f : Nat → Int32} {k : Nat} {x : Int32} : upd f k x k = x := if_pos rfl
theorem pk_un {f : Nat → Int32} {k j : Nat} {x : Int32} (h : j ≠ k) : upd f k x j = f j := if_neg h
theorem pk_uLs {f : Nat → Int64} {k : Nat} {x : Int64} : vp_updL f k x k = x := if_pos rfl
theorem pk_uLn {f : Nat → Int64} {k j : Nat} {x : Int64} (h : j ≠ k) : vp_updL f k x j = f j := if_neg h
theorem pk_sub {a b : Nat} (h : b ≤ a) : nI a - nI b = nI (a - b) := by
  obtain ⟨c, rfl⟩ : ∃ c, a = c + b := ⟨a - b, by omega⟩
  rw [← nI_add, Int32.add_sub_cancel, Nat.add_sub_cancel]
theorem pk_m1 (n : Nat) : nI (n + 1) + (-1) = nI n := by
  rw [← nI_1, Int32.add_assoc, show (1 : Int32) + (-1) = 0 from rfl, Int32.add_zero]
theorem pk_mul (a b : Nat) : nI a * nI b = nI (a * b) := (Int32.ofNat_mul a b).symm
theorem pk_div {a d : Nat} (ha : a < 2 ^ 31) (h0 : 0 < d) (hd : d < 2 ^ 31) : nI a / nI d = nI (a / d) := by
  apply Int32.toInt_inj.mp
  rw [lg_idiv_nonneg (by rw [nI_toInt ha]; omega) (by rw [nI_toInt hd]; omega), nI_toInt ha, nI_toInt hd, nI_toInt (Nat.lt_of_le_of_lt (Nat.div_le_self a d) ha)]
  first | rfl | exact (Int.natCast_ediv _ _).symm
theorem pk_rem {a d : Nat} (ha : a < 2 ^ 31) (h0 : 0 < d) (hd : d < 2 ^ 31) : nI a - nI a / nI d * nI d = nI (a % d) := by
  rw [pk_div ha h0 hd, pk_mul, pk_sub (Nat.div_mul_le_self a d)]
  exact congrArg nI (by have := Nat.div_add_mod' a d; omega)
theorem pk_sub_toInt {a b : Nat} (ha : a < 2 ^ 30) (hb : b < 2 ^ 30) : (nI a - nI b).toInt = (a : Int) - b := by
  rw [Int32.toInt_sub, nI_toInt (by omega), nI_toInt (by omega)]
  exact Int.bmod_eq_of_le (by omega) (by omega)
theorem pk_sneg {a b : Nat} (hb : b < 2 ^ 30) (h : a < b) : nI a - nI b < 0 := by
  rw [Int32.lt_iff_toInt_lt, pk_sub_toInt (by omega) hb, show (0 : Int32).toInt = 0 from by decide]
  omega
theorem pk_ix (x : Int32) {n : Nat} (hn : n < 2 ^ 31) : x < 0 ∨ nI n ≤ x ∨ ∃ j : Nat, j < n ∧ x = nI j := by
  by_cases h : x < 0
  · exact Or.inl h
  · obtain ⟨j, hj, rfl⟩ := nI_of h
    by_cases h2 : j < n
    · exact Or.inr (Or.inr ⟨j, h2, rfl⟩)
    · exact Or.inr (Or.inl (nI_le (by omega) hj))
theorem pk_le {x y : Int32} {A B : Prop} (a b : Nat) (f : a ≤ b → A) (g : b < a → B) (hx : x = nI a := by rfl) (hy : y = nI b := by rfl) (ha : a < 2 ^ 31 := by omega) (hb : b < 2 ^ 31 := by omega) : (x ≤ y → A) ∧ (¬ x ≤ y → B) := by
  subst hx hy
  rw [nI_leI ha hb]
  exact ⟨f, fun z => g (by omega)⟩
theorem pk_lt {x y : Int32} {A B : Prop} (a b : Nat) (f : a < b → A) (g : b ≤ a → B) (hx : x = nI a := by rfl) (hy : y = nI b := by rfl) (ha : a < 2 ^ 31 := by omega) (hb : b < 2 ^ 31 := by omega) : (x < y → A) ∧ (¬ x < y → B) := by
  subst hx hy
  rw [nI_ltI ha hb]
  exact ⟨f, fun z => g (by omega)⟩
theorem pk_eq {x y : Int32} {A B : Prop} (a b : Nat) (f : a = b → A) (g : a ≠ b → B) (hx : x = nI a := by rfl) (hy : y = nI b := by rfl) (ha : a < 2 ^ 31 := by omega) (hb : b < 2 ^ 31 := by omega) : (x = y → A) ∧ (¬ x = y → B) := by
  subst hx hy
  rw [nI_eq ha hb]
  exact ⟨f, g⟩
theorem pk_in {x : Int32} (n N : Nat) (h : n < N) (hx : x = nI n := by rfl) (hN : N < 2 ^ 31 := by omega) : vp_in x N := by
  subst hx
  exact vp_in_nI h hN
theorem pk_cl {x : Int32} (n : Nat) (hx : x = nI n := by rfl) (h : n < 2 ^ 31 := by omega) : x.toNatClampNeg = n := by
  subst hx
  exact nI_clamp h
theorem pk_tn {n : Nat} (h : n < 2 ^ 32) : (nI n).toBitVec.toNat = n := Nat.mod_eq_of_lt h
theorem pk_and (x : Int32) {m : Int32} (k : Nat) (hm : m.toBitVec.toNat = 2 ^ k - 1) : x &&& m = nI (x.toBitVec.toNat % 2 ^ k) := by
  apply Int32.toBitVec_inj.mp
  apply BitVec.eq_of_toNat_eq
  rw [Int32.toBitVec_and, BitVec.toNat_and, hm, Nat.and_two_pow_sub_one_eq_mod]
  show _ = (BitVec.ofNat 32 _).toNat
  rw [BitVec.toNat_ofNat]
  exact (Nat.mod_eq_of_lt (Nat.lt_of_le_of_lt (Nat.mod_le _ _) x.toBitVec.isLt)).symm
theorem pk_andN {n : Nat} (h : n < 2 ^ 32) {m : Int32} (k : Nat) (hm : m.toBitVec.toNat = 2 ^ k - 1) : nI n &&& m = nI (n % 2 ^ k) := by
  rw [pk_and _ k hm, pk_tn h]
theorem pk_andE (x : Int32) {m : Int32} (k : Nat) (hm : m.toBitVec.toNat = 2 ^ k - 1) : ∃ j : Nat, j < 2 ^ k ∧ x &&& m = nI j := ⟨_, Nat.mod_lt _ (Nat.two_pow_pos k), pk_and x k hm⟩
theorem pk_andIn (x : Int32) {m : Int32} (k : Nat) (hm : m.toBitVec.toNat = 2 ^ k - 1) (hk : k ≤ 30) : vp_in (x &&& m) (2 ^ k) := by
  obtain ⟨j, hj, e⟩ := pk_andE x k hm
  rw [e]
  exact vp_in_nI hj (Nat.lt_of_le_of_lt (Nat.pow_le_pow_right (by decide) hk) (by decide))
theorem pk_shl (a s : Int32) (k : Nat) (hs : (s.toBitVec.smod 32).toNat = k) : (a <<< s).toBitVec.toNat = a.toBitVec.toNat * 2 ^ k % 2 ^ 32 := by
  show (a.toBitVec <<< (s.toBitVec.smod 32).toNat).toNat = _
  rw [hs, BitVec.toNat_shiftLeft, Nat.shiftLeft_eq]
theorem pk_shlN {n : Nat} (s : Int32) (k : Nat) (hs : (s.toBitVec.smod 32).toNat = k) (h : n * 2 ^ k < 2 ^ 32) : nI n <<< s = nI (n * 2 ^ k) := by
  apply Int32.toBitVec_inj.mp
  apply BitVec.eq_of_toNat_eq
  have hn : n < 2 ^ 32 := Nat.lt_of_le_of_lt (Nat.le_mul_of_pos_right n (Nat.two_pow_pos k)) h
  rw [pk_shl _ _ k hs, pk_tn hn, pk_tn h, Nat.mod_eq_of_lt h]
theorem pk_shr (a s : Int32) (k : Nat) (hs : (s.toBitVec.smod 32).toNat = k) : (a >>> s).toInt = a.toInt >>> k := by
  show (a.toBitVec.sshiftRight (s.toBitVec.smod 32).toNat).toInt = _
  rw [hs, BitVec.toInt_sshiftRight]
  rfl
theorem pk_shrN {n : Nat} (h : n < 2 ^ 31) (s : Int32) (k : Nat) (hs : (s.toBitVec.smod 32).toNat = k) : nI n >>> s = nI (n / 2 ^ k) := by
  apply Int32.toInt_inj.mp
  have h2 : n / 2 ^ k ≤ n := Nat.div_le_self _ _
  rw [pk_shr _ _ k hs, nI_toInt h, nI_toInt (by omega), Int.shiftRight_eq_div_pow]
  rfl
theorem pk_ushr (x s : Int32) (k : Nat) (hs : ((s.toUInt32 &&& Int32.toUInt32 31).toBitVec % 32).toNat = k) : (x.toUInt32 >>> (s.toUInt32 &&& Int32.toUInt32 31)).toInt32.toBitVec.toNat = x.toBitVec.toNat / 2 ^ k := by
  have e : (x.toUInt32 >>> (s.toUInt32 &&& Int32.toUInt32 31)).toInt32.toBitVec = x.toBitVec >>> k := by
    rw [← hs]
    exact UInt32.toBitVec_shiftRight _ _
  rw [e, BitVec.toNat_ushiftRight, Nat.shiftRight_eq_div_pow]
theorem pk_ushrN {n : Nat} (hn : n < 2 ^ 32) (s : Int32) (k : Nat) (hs : ((s.toUInt32 &&& Int32.toUInt32 31).toBitVec % 32).toNat = k) : ((nI n).toUInt32 >>> (s.toUInt32 &&& Int32.toUInt32 31)).toInt32 = nI (n / 2 ^ k) := by
  apply Int32.toBitVec_inj.mp
  apply BitVec.eq_of_toNat_eq
  rw [pk_ushr _ s k hs, pk_tn hn, pk_tn (Nat.lt_of_le_of_lt (Nat.div_le_self _ _) hn)]
theorem pk_nb (z : Int32) : narrow .byte (.int z.toInt8.toInt32) = .int z.toInt8.toInt32 := congrArg Value.int (by simp)
theorem pk_ns (z : Int32) : narrow .short (.int z.toInt16.toInt32) = .int z.toInt16.toInt32 := congrArg Value.int (by simp)
theorem pk_fb (r : Int32) : fits .byte (.int r.toInt8.toInt32) = true := by
  have ⟨a, b⟩ := lg_i2b_range r
  have h1 : (-128 : Int32).toInt = -128 := by decide
  have h2 : (127 : Int32).toInt = 127 := by decide
  simp only [fits, Bool.and_eq_true, decide_eq_true_eq, Int32.le_iff_toInt_le, h1, h2]
  omega
theorem pk_fs (r : Int32) : fits .short (.int r.toInt16.toInt32) = true := by
  have ⟨a, b⟩ := lg_i2s_range r
  have h1 : (-32768 : Int32).toInt = -32768 := by decide
  have h2 : (32767 : Int32).toInt = 32767 := by decide
  simp only [fits, Bool.and_eq_true, decide_eq_true_eq, Int32.le_iff_toInt_le, h1, h2]
  omega
theorem pk_charN {q : Nat} (hq : q < 65536) : narrow .char (.int (nI q)) = .int (nI q) ∧ fits .char (.int (nI q)) = true := by
  constructor
  · have e : (nI q).toUInt32.toUInt16.toUInt32.toInt32 = nI q := by
      apply Int32.toBitVec_inj.mp
      apply BitVec.eq_of_toNat_eq
      show (nI q).toUInt32.toUInt16.toUInt32.toNat = q % 2 ^ 32
      rw [UInt16.toNat_toUInt32, UInt32.toNat_toUInt16, show (nI q).toUInt32.toNat = q % 2 ^ 32 from rfl]
      omega
    exact congrArg Value.int e
  · have a : (0 : Int32) ≤ nI q := nI_pos' (by omega)
    have b : nI q ≤ 65535 := nI_le (b := 65535) (by omega) (by decide)
    show (decide ((0 : Int32) ≤ nI q) && decide (nI q ≤ 65535)) = true
    rw [decide_eq_true a, decide_eq_true b]
    rfl
theorem pk_char (x : Int32) : (x.toUInt32 % 65536).toInt32 = nI (x.toBitVec.toNat % 65536) := by
  apply Int32.toBitVec_inj.mp
  apply BitVec.eq_of_toNat_eq
  rw [pk_tn (by omega)]
  show (x.toUInt32 % 65536).toNat = _
  rw [UInt32.toNat_mod]
  rfl
theorem pk_nc (x : Int32) : narrow .char (.int (x.toUInt32 % 65536).toInt32) = .int (x.toUInt32 % 65536).toInt32 := by
  rw [pk_char]
  exact (pk_charN (Nat.mod_lt _ (by decide))).1
theorem pk_fc (x : Int32) : fits .char (.int (x.toUInt32 % 65536).toInt32) = true := by
  rw [pk_char]
  exact (pk_charN (Nat.mod_lt _ (by decide))).2
theorem pk_vb (z : Int32) : vp_nar .byte z.toInt8.toInt32 = z.toInt8.toInt32 := by rw [vp_nar_byte]; simp
theorem pk_vs (z : Int32) : vp_nar .short z.toInt16.toInt32 = z.toInt16.toInt32 := by rw [vp_nar_short]; simp
theorem pk_vc (z : Int32) : vp_nar .char (z.toUInt32 % 65536).toInt32 = (z.toUInt32 % 65536).toInt32 := Value.int.inj (pk_nc z)
theorem pk_lT {n : Nat} (h : n < 2 ^ 63) : (lN n).toInt = (n : Int) := lg_ofNat_toInt h
theorem pk_lLT {a b : Nat} (ha : a < 2 ^ 63) (hb : b < 2 ^ 63) : lN a < lN b ↔ a < b := by
  rw [Int64.lt_iff_toInt_lt, pk_lT ha, pk_lT hb]; omega
theorem pk_lLE {a b : Nat} (ha : a < 2 ^ 63) (hb : b < 2 ^ 63) : lN a ≤ lN b ↔ a ≤ b := by
  rw [Int64.le_iff_toInt_le, pk_lT ha, pk_lT hb]; omega
theorem pk_lEQ {a b : Nat} (ha : a < 2 ^ 63) (hb : b < 2 ^ 63) : lN a = lN b ↔ a = b := by
  rw [← Int64.toInt_inj, pk_lT ha, pk_lT hb]; omega
theorem pk_lOf {x : Int64} (h : ¬ x < 0) : ∃ k : Nat, k < 2 ^ 63 ∧ x = lN k := by
  rw [Int64.lt_iff_toInt_lt] at h
  have h0 : (0 : Int64).toInt = 0 := by decide
  have hx := Int64.toInt_lt x
  refine ⟨x.toInt.toNat, by omega, Int64.toInt_inj.mp ?_⟩
  rw [pk_lT (by omega)]
  omega
theorem pk_lDiv {a b : Nat} (ha : a < 2 ^ 63) (h0 : 0 < b) (hb : b < 2 ^ 63) : lN a / lN b = lN (a / b) := by
  apply Int64.toInt_inj.mp
  rw [lg_ldiv_nonneg (by rw [pk_lT ha]; omega) (by rw [pk_lT hb]; omega), pk_lT ha, pk_lT hb, pk_lT (Nat.lt_of_le_of_lt (Nat.div_le_self a b) ha)]
  rfl
theorem pk_lRem {a b : Nat} (ha : a < 2 ^ 63) (h0 : 0 < b) (hb : b < 2 ^ 63) : lN a - lN a / lN b * lN b = lN (a % b) := by
  rw [pk_lDiv ha h0 hb, lN_mul, lN_sub (Nat.div_mul_le_self a b)]
  exact congrArg lN (by have := Nat.div_add_mod' a b; omega)
theorem pk_loop {σ : Type} (W : Nat → Nat → σ → Prop) (I : Nat → σ → Prop) (e i0 : Nat) (s : σ) (hi : i0 ≤ e) (h0 : I i0 s) (hx : ∀ n s, I e s → W (n + 1) e s)
    (hs : ∀ n i s, i < e → I i s → (∀ s', I (i + 1) s' → W n (i + 1) s') → W (n + 1) i s) : ∃ n, W n i0 s :=
  ⟨e + 1, loop_i W I e hx hs (e + 1) i0 s hi (by omega) h0⟩
theorem pk_loopD {σ : Type} (W : Nat → Nat → σ → Prop) (I : Nat → σ → Prop) (hx : ∀ n s, I 0 s → W (n + 1) 0 s)
    (hs : ∀ n i s, I (i + 1) s → (∀ s', I i s' → W n i s') → W (n + 1) (i + 1) s) : ∀ (e : Nat) (s : σ), I e s → W (e + 1) e s := by
  intro e
  induction e with
  | zero => exact fun s h => hx 0 s h
  | succ e ih => exact fun s h => hs (e + 1) e s h (fun s' h' => ih s' h')
theorem lp1 {A1 : Type} (W : Nat → A1 → Prop) (I : A1 → Prop) (μ : A1 → Nat) (hs : ∀ (n : Nat) (a1 : A1), I a1 → (∀ (b1 : A1), I b1 → μ b1 < μ a1 → W n b1) → W (n + 1) a1) (a1 : A1) (h : I a1) : ∃ n, W n a1 :=
  loop_m (σ := A1) (fun n s => W n s) (fun s => I s) (fun s => μ s) (fun n s hI hk => hs n s hI (fun b1 h9 hm => hk b1 h9 hm)) a1 h
theorem lp2 {A1 A2 : Type} (W : Nat → A1 → A2 → Prop) (I : A1 → A2 → Prop) (μ : A1 → A2 → Nat) (hs : ∀ (n : Nat) (a1 : A1) (a2 : A2), I a1 a2 → (∀ (b1 : A1) (b2 : A2), I b1 b2 → μ b1 b2 < μ a1 a2 → W n b1 b2) → W (n + 1) a1 a2) (a1 : A1) (a2 : A2) (h : I a1 a2) : ∃ n, W n a1 a2 :=
  loop_m (σ := A1 × A2) (fun n s => W n s.1 s.2) (fun s => I s.1 s.2) (fun s => μ s.1 s.2) (fun n s hI hk => hs n s.1 s.2 hI (fun b1 b2 h9 hm => hk (b1, b2) h9 hm)) (a1, a2) h
theorem lp3 {A1 A2 A3 : Type} (W : Nat → A1 → A2 → A3 → Prop) (I : A1 → A2 → A3 → Prop) (μ : A1 → A2 → A3 → Nat) (hs : ∀ (n : Nat) (a1 : A1) (a2 : A2) (a3 : A3), I a1 a2 a3 → (∀ (b1 : A1) (b2 : A2) (b3 : A3), I b1 b2 b3 → μ b1 b2 b3 < μ a1 a2 a3 → W n b1 b2 b3) → W (n + 1) a1 a2 a3) (a1 : A1) (a2 : A2) (a3 : A3) (h : I a1 a2 a3) : ∃ n, W n a1 a2 a3 :=
  loop_m (σ := A1 × A2 × A3) (fun n s => W n s.1 s.2.1 s.2.2) (fun s => I s.1 s.2.1 s.2.2) (fun s => μ s.1 s.2.1 s.2.2) (fun n s hI hk => hs n s.1 s.2.1 s.2.2 hI (fun b1 b2 b3 h9 hm => hk (b1, b2, b3) h9 hm)) (a1, a2, a3) h
theorem lp4 {A1 A2 A3 A4 : Type} (W : Nat → A1 → A2 → A3 → A4 → Prop) (I : A1 → A2 → A3 → A4 → Prop) (μ : A1 → A2 → A3 → A4 → Nat) (hs : ∀ (n : Nat) (a1 : A1) (a2 : A2) (a3 : A3) (a4 : A4), I a1 a2 a3 a4 → (∀ (b1 : A1) (b2 : A2) (b3 : A3) (b4 : A4), I b1 b2 b3 b4 → μ b1 b2 b3 b4 < μ a1 a2 a3 a4 → W n b1 b2 b3 b4) → W (n + 1) a1 a2 a3 a4) (a1 : A1) (a2 : A2) (a3 : A3) (a4 : A4) (h : I a1 a2 a3 a4) : ∃ n, W n a1 a2 a3 a4 :=
  loop_m (σ := A1 × A2 × A3 × A4) (fun n s => W n s.1 s.2.1 s.2.2.1 s.2.2.2) (fun s => I s.1 s.2.1 s.2.2.1 s.2.2.2) (fun s => μ s.1 s.2.1 s.2.2.1 s.2.2.2) (fun n s hI hk => hs n s.1 s.2.1 s.2.2.1 s.2.2.2 hI (fun b1 b2 b3 b4 h9 hm => hk (b1, b2, b3, b4) h9 hm)) (a1, a2, a3, a4) h
theorem lp5 {A1 A2 A3 A4 A5 : Type} (W : Nat → A1 → A2 → A3 → A4 → A5 → Prop) (I : A1 → A2 → A3 → A4 → A5 → Prop) (μ : A1 → A2 → A3 → A4 → A5 → Nat) (hs : ∀ (n : Nat) (a1 : A1) (a2 : A2) (a3 : A3) (a4 : A4) (a5 : A5), I a1 a2 a3 a4 a5 → (∀ (b1 : A1) (b2 : A2) (b3 : A3) (b4 : A4) (b5 : A5), I b1 b2 b3 b4 b5 → μ b1 b2 b3 b4 b5 < μ a1 a2 a3 a4 a5 → W n b1 b2 b3 b4 b5) → W (n + 1) a1 a2 a3 a4 a5) (a1 : A1) (a2 : A2) (a3 : A3) (a4 : A4) (a5 : A5) (h : I a1 a2 a3 a4 a5) : ∃ n, W n a1 a2 a3 a4 a5 :=
  loop_m (σ := A1 × A2 × A3 × A4 × A5) (fun n s => W n s.1 s.2.1 s.2.2.1 s.2.2.2.1 s.2.2.2.2) (fun s => I s.1 s.2.1 s.2.2.1 s.2.2.2.1 s.2.2.2.2) (fun s => μ s.1 s.2.1 s.2.2.1 s.2.2.2.1 s.2.2.2.2) (fun n s hI hk => hs n s.1 s.2.1 s.2.2.1 s.2.2.2.1 s.2.2.2.2 hI (fun b1 b2 b3 b4 b5 h9 hm => hk (b1, b2, b3, b4, b5) h9 hm)) (a1, a2, a3, a4, a5) h
theorem lp6 {A1 A2 A3 A4 A5 A6 : Type} (W : Nat → A1 → A2 → A3 → A4 → A5 → A6 → Prop) (I : A1 → A2 → A3 → A4 → A5 → A6 → Prop) (μ : A1 → A2 → A3 → A4 → A5 → A6 → Nat) (hs : ∀ (n : Nat) (a1 : A1) (a2 : A2) (a3 : A3) (a4 : A4) (a5 : A5) (a6 : A6), I a1 a2 a3 a4 a5 a6 → (∀ (b1 : A1) (b2 : A2) (b3 : A3) (b4 : A4) (b5 : A5) (b6 : A6), I b1 b2 b3 b4 b5 b6 → μ b1 b2 b3 b4 b5 b6 < μ a1 a2 a3 a4 a5 a6 → W n b1 b2 b3 b4 b5 b6) → W (n + 1) a1 a2 a3 a4 a5 a6) (a1 : A1) (a2 : A2) (a3 : A3) (a4 : A4) (a5 : A5) (a6 : A6) (h : I a1 a2 a3 a4 a5 a6) : ∃ n, W n a1 a2 a3 a4 a5 a6 :=
  loop_m (σ := A1 × A2 × A3 × A4 × A5 × A6) (fun n s => W n s.1 s.2.1 s.2.2.1 s.2.2.2.1 s.2.2.2.2.1 s.2.2.2.2.2) (fun s => I s.1 s.2.1 s.2.2.1 s.2.2.2.1 s.2.2.2.2.1 s.2.2.2.2.2) (fun s => μ s.1 s.2.1 s.2.2.1 s.2.2.2.1 s.2.2.2.2.1 s.2.2.2.2.2) (fun n s hI hk => hs n s.1 s.2.1 s.2.2.1 s.2.2.2.1 s.2.2.2.2.1 s.2.2.2.2.2 hI (fun b1 b2 b3 b4 b5 b6 h9 hm => hk (b1, b2, b3, b4, b5, b6) h9 hm)) (a1, a2, a3, a4, a5, a6) h
theorem lp7 {A1 A2 A3 A4 A5 A6 A7 : Type} (W : Nat → A1 → A2 → A3 → A4 → A5 → A6 → A7 → Prop) (I : A1 → A2 → A3 → A4 → A5 → A6 → A7 → Prop) (μ : A1 → A2 → A3 → A4 → A5 → A6 → A7 → Nat) (hs : ∀ (n : Nat) (a1 : A1) (a2 : A2) (a3 : A3) (a4 : A4) (a5 : A5) (a6 : A6) (a7 : A7), I a1 a2 a3 a4 a5 a6 a7 → (∀ (b1 : A1) (b2 : A2) (b3 : A3) (b4 : A4) (b5 : A5) (b6 : A6) (b7 : A7), I b1 b2 b3 b4 b5 b6 b7 → μ b1 b2 b3 b4 b5 b6 b7 < μ a1 a2 a3 a4 a5 a6 a7 → W n b1 b2 b3 b4 b5 b6 b7) → W (n + 1) a1 a2 a3 a4 a5 a6 a7) (a1 : A1) (a2 : A2) (a3 : A3) (a4 : A4) (a5 : A5) (a6 : A6) (a7 : A7) (h : I a1 a2 a3 a4 a5 a6 a7) : ∃ n, W n a1 a2 a3 a4 a5 a6 a7 :=
  loop_m (σ := A1 × A2 × A3 × A4 × A5 × A6 × A7) (fun n s => W n s.1 s.2.1 s.2.2.1 s.2.2.2.1 s.2.2.2.2.1 s.2.2.2.2.2.1 s.2.2.2.2.2.2) (fun s => I s.1 s.2.1 s.2.2.1 s.2.2.2.1 s.2.2.2.2.1 s.2.2.2.2.2.1 s.2.2.2.2.2.2) (fun s => μ s.1 s.2.1 s.2.2.1 s.2.2.2.1 s.2.2.2.2.1 s.2.2.2.2.2.1 s.2.2.2.2.2.2) (fun n s hI hk => hs n s.1 s.2.1 s.2.2.1 s.2.2.2.1 s.2.2.2.2.1 s.2.2.2.2.2.1 s.2.2.2.2.2.2 hI (fun b1 b2 b3 b4 b5 b6 b7 h9 hm => hk (b1, b2, b3, b4, b5, b6, b7) h9 hm)) (a1, a2, a3, a4, a5, a6, a7) h
theorem lp8 {A1 A2 A3 A4 A5 A6 A7 A8 : Type} (W : Nat → A1 → A2 → A3 → A4 → A5 → A6 → A7 → A8 → Prop) (I : A1 → A2 → A3 → A4 → A5 → A6 → A7 → A8 → Prop) (μ : A1 → A2 → A3 → A4 → A5 → A6 → A7 → A8 → Nat) (hs : ∀ (n : Nat) (a1 : A1) (a2 : A2) (a3 : A3) (a4 : A4) (a5 : A5) (a6 : A6) (a7 : A7) (a8 : A8), I a1 a2 a3 a4 a5 a6 a7 a8 → (∀ (b1 : A1) (b2 : A2) (b3 : A3) (b4 : A4) (b5 : A5) (b6 : A6) (b7 : A7) (b8 : A8), I b1 b2 b3 b4 b5 b6 b7 b8 → μ b1 b2 b3 b4 b5 b6 b7 b8 < μ a1 a2 a3 a4 a5 a6 a7 a8 → W n b1 b2 b3 b4 b5 b6 b7 b8) → W (n + 1) a1 a2 a3 a4 a5 a6 a7 a8) (a1 : A1) (a2 : A2) (a3 : A3) (a4 : A4) (a5 : A5) (a6 : A6) (a7 : A7) (a8 : A8) (h : I a1 a2 a3 a4 a5 a6 a7 a8) : ∃ n, W n a1 a2 a3 a4 a5 a6 a7 a8 :=
  loop_m (σ := A1 × A2 × A3 × A4 × A5 × A6 × A7 × A8) (fun n s => W n s.1 s.2.1 s.2.2.1 s.2.2.2.1 s.2.2.2.2.1 s.2.2.2.2.2.1 s.2.2.2.2.2.2.1 s.2.2.2.2.2.2.2) (fun s => I s.1 s.2.1 s.2.2.1 s.2.2.2.1 s.2.2.2.2.1 s.2.2.2.2.2.1 s.2.2.2.2.2.2.1 s.2.2.2.2.2.2.2) (fun s => μ s.1 s.2.1 s.2.2.1 s.2.2.2.1 s.2.2.2.2.1 s.2.2.2.2.2.1 s.2.2.2.2.2.2.1 s.2.2.2.2.2.2.2) (fun n s hI hk => hs n s.1 s.2.1 s.2.2.1 s.2.2.2.1 s.2.2.2.2.1 s.2.2.2.2.2.1 s.2.2.2.2.2.2.1 s.2.2.2.2.2.2.2 hI (fun b1 b2 b3 b4 b5 b6 b7 b8 h9 hm => hk (b1, b2, b3, b4, b5, b6, b7, b8) h9 hm)) (a1, a2, a3, a4, a5, a6, a7, a8) h
theorem lp9 {A1 A2 A3 A4 A5 A6 A7 A8 A9 : Type} (W : Nat → A1 → A2 → A3 → A4 → A5 → A6 → A7 → A8 → A9 → Prop) (I : A1 → A2 → A3 → A4 → A5 → A6 → A7 → A8 → A9 → Prop) (μ : A1 → A2 → A3 → A4 → A5 → A6 → A7 → A8 → A9 → Nat) (hs : ∀ (n : Nat) (a1 : A1) (a2 : A2) (a3 : A3) (a4 : A4) (a5 : A5) (a6 : A6) (a7 : A7) (a8 : A8) (a9 : A9), I a1 a2 a3 a4 a5 a6 a7 a8 a9 → (∀ (b1 : A1) (b2 : A2) (b3 : A3) (b4 : A4) (b5 : A5) (b6 : A6) (b7 : A7) (b8 : A8) (b9 : A9), I b1 b2 b3 b4 b5 b6 b7 b8 b9 → μ b1 b2 b3 b4 b5 b6 b7 b8 b9 < μ a1 a2 a3 a4 a5 a6 a7 a8 a9 → W n b1 b2 b3 b4 b5 b6 b7 b8 b9) → W (n + 1) a1 a2 a3 a4 a5 a6 a7 a8 a9) (a1 : A1) (a2 : A2) (a3 : A3) (a4 : A4) (a5 : A5) (a6 : A6) (a7 : A7) (a8 : A8) (a9 : A9) (h : I a1 a2 a3 a4 a5 a6 a7 a8 a9) : ∃ n, W n a1 a2 a3 a4 a5 a6 a7 a8 a9 :=
  loop_m (σ := A1 × A2 × A3 × A4 × A5 × A6 × A7 × A8 × A9) (fun n s => W n s.1 s.2.1 s.2.2.1 s.2.2.2.1 s.2.2.2.2.1 s.2.2.2.2.2.1 s.2.2.2.2.2.2.1 s.2.2.2.2.2.2.2.1 s.2.2.2.2.2.2.2.2) (fun s => I s.1 s.2.1 s.2.2.1 s.2.2.2.1 s.2.2.2.2.1 s.2.2.2.2.2.1 s.2.2.2.2.2.2.1 s.2.2.2.2.2.2.2.1 s.2.2.2.2.2.2.2.2) (fun s => μ s.1 s.2.1 s.2.2.1 s.2.2.2.1 s.2.2.2.2.1 s.2.2.2.2.2.1 s.2.2.2.2.2.2.1 s.2.2.2.2.2.2.2.1 s.2.2.2.2.2.2.2.2) (fun n s hI hk => hs n s.1 s.2.1 s.2.2.1 s.2.2.2.1 s.2.2.2.2.1 s.2.2.2.2.2.1 s.2.2.2.2.2.2.1 s.2.2.2.2.2.2.2.1 s.2.2.2.2.2.2.2.2 hI (fun b1 b2 b3 b4 b5 b6 b7 b8 b9 h9 hm => hk (b1, b2, b3, b4, b5, b6, b7, b8, b9) h9 hm)) (a1, a2, a3, a4, a5, a6, a7, a8, a9) h
theorem lp10 {A1 A2 A3 A4 A5 A6 A7 A8 A9 A10 : Type} (W : Nat → A1 → A2 → A3 → A4 → A5 → A6 → A7 → A8 → A9 → A10 → Prop) (I : A1 → A2 → A3 → A4 → A5 → A6 → A7 → A8 → A9 → A10 → Prop) (μ : A1 → A2 → A3 → A4 → A5 → A6 → A7 → A8 → A9 → A10 → Nat) (hs : ∀ (n : Nat) (a1 : A1) (a2 : A2) (a3 : A3) (a4 : A4) (a5 : A5) (a6 : A6) (a7 : A7) (a8 : A8) (a9 : A9) (a10 : A10), I a1 a2 a3 a4 a5 a6 a7 a8 a9 a10 → (∀ (b1 : A1) (b2 : A2) (b3 : A3) (b4 : A4) (b5 : A5) (b6 : A6) (b7 : A7) (b8 : A8) (b9 : A9) (b10 : A10), I b1 b2 b3 b4 b5 b6 b7 b8 b9 b10 → μ b1 b2 b3 b4 b5 b6 b7 b8 b9 b10 < μ a1 a2 a3 a4 a5 a6 a7 a8 a9 a10 → W n b1 b2 b3 b4 b5 b6 b7 b8 b9 b10) → W (n + 1) a1 a2 a3 a4 a5 a6 a7 a8 a9 a10) (a1 : A1) (a2 : A2) (a3 : A3) (a4 : A4) (a5 : A5) (a6 : A6) (a7 : A7) (a8 : A8) (a9 : A9) (a10 : A10) (h : I a1 a2 a3 a4 a5 a6 a7 a8 a9 a10) : ∃ n, W n a1 a2 a3 a4 a5 a6 a7 a8 a9 a10 :=
  loop_m (σ := A1 × A2 × A3 × A4 × A5 × A6 × A7 × A8 × A9 × A10) (fun n s => W n s.1 s.2.1 s.2.2.1 s.2.2.2.1 s.2.2.2.2.1 s.2.2.2.2.2.1 s.2.2.2.2.2.2.1 s.2.2.2.2.2.2.2.1 s.2.2.2.2.2.2.2.2.1 s.2.2.2.2.2.2.2.2.2) (fun s => I s.1 s.2.1 s.2.2.1 s.2.2.2.1 s.2.2.2.2.1 s.2.2.2.2.2.1 s.2.2.2.2.2.2.1 s.2.2.2.2.2.2.2.1 s.2.2.2.2.2.2.2.2.1 s.2.2.2.2.2.2.2.2.2) (fun s => μ s.1 s.2.1 s.2.2.1 s.2.2.2.1 s.2.2.2.2.1 s.2.2.2.2.2.1 s.2.2.2.2.2.2.1 s.2.2.2.2.2.2.2.1 s.2.2.2.2.2.2.2.2.1 s.2.2.2.2.2.2.2.2.2) (fun n s hI hk => hs n s.1 s.2.1 s.2.2.1 s.2.2.2.1 s.2.2.2.2.1 s.2.2.2.2.2.1 s.2.2.2.2.2.2.1 s.2.2.2.2.2.2.2.1 s.2.2.2.2.2.2.2.2.1 s.2.2.2.2.2.2.2.2.2 hI (fun b1 b2 b3 b4 b5 b6 b7 b8 b9 b10 h9 hm => hk (b1, b2, b3, b4, b5, b6, b7, b8, b9, b10) h9 hm)) (a1, a2, a3, a4, a5, a6, a7, a8, a9, a10) h
theorem lp11 {A1 A2 A3 A4 A5 A6 A7 A8 A9 A10 A11 : Type} (W : Nat → A1 → A2 → A3 → A4 → A5 → A6 → A7 → A8 → A9 → A10 → A11 → Prop) (I : A1 → A2 → A3 → A4 → A5 → A6 → A7 → A8 → A9 → A10 → A11 → Prop) (μ : A1 → A2 → A3 → A4 → A5 → A6 → A7 → A8 → A9 → A10 → A11 → Nat) (hs : ∀ (n : Nat) (a1 : A1) (a2 : A2) (a3 : A3) (a4 : A4) (a5 : A5) (a6 : A6) (a7 : A7) (a8 : A8) (a9 : A9) (a10 : A10) (a11 : A11), I a1 a2 a3 a4 a5 a6 a7 a8 a9 a10 a11 → (∀ (b1 : A1) (b2 : A2) (b3 : A3) (b4 : A4) (b5 : A5) (b6 : A6) (b7 : A7) (b8 : A8) (b9 : A9) (b10 : A10) (b11 : A11), I b1 b2 b3 b4 b5 b6 b7 b8 b9 b10 b11 → μ b1 b2 b3 b4 b5 b6 b7 b8 b9 b10 b11 < μ a1 a2 a3 a4 a5 a6 a7 a8 a9 a10 a11 → W n b1 b2 b3 b4 b5 b6 b7 b8 b9 b10 b11) → W (n + 1) a1 a2 a3 a4 a5 a6 a7 a8 a9 a10 a11) (a1 : A1) (a2 : A2) (a3 : A3) (a4 : A4) (a5 : A5) (a6 : A6) (a7 : A7) (a8 : A8) (a9 : A9) (a10 : A10) (a11 : A11) (h : I a1 a2 a3 a4 a5 a6 a7 a8 a9 a10 a11) : ∃ n, W n a1 a2 a3 a4 a5 a6 a7 a8 a9 a10 a11 :=
  loop_m (σ := A1 × A2 × A3 × A4 × A5 × A6 × A7 × A8 × A9 × A10 × A11) (fun n s => W n s.1 s.2.1 s.2.2.1 s.2.2.2.1 s.2.2.2.2.1 s.2.2.2.2.2.1 s.2.2.2.2.2.2.1 s.2.2.2.2.2.2.2.1 s.2.2.2.2.2.2.2.2.1 s.2.2.2.2.2.2.2.2.2.1 s.2.2.2.2.2.2.2.2.2.2) (fun s => I s.1 s.2.1 s.2.2.1 s.2.2.2.1 s.2.2.2.2.1 s.2.2.2.2.2.1 s.2.2.2.2.2.2.1 s.2.2.2.2.2.2.2.1 s.2.2.2.2.2.2.2.2.1 s.2.2.2.2.2.2.2.2.2.1 s.2.2.2.2.2.2.2.2.2.2) (fun s => μ s.1 s.2.1 s.2.2.1 s.2.2.2.1 s.2.2.2.2.1 s.2.2.2.2.2.1 s.2.2.2.2.2.2.1 s.2.2.2.2.2.2.2.1 s.2.2.2.2.2.2.2.2.1 s.2.2.2.2.2.2.2.2.2.1 s.2.2.2.2.2.2.2.2.2.2) (fun n s hI hk => hs n s.1 s.2.1 s.2.2.1 s.2.2.2.1 s.2.2.2.2.1 s.2.2.2.2.2.1 s.2.2.2.2.2.2.1 s.2.2.2.2.2.2.2.1 s.2.2.2.2.2.2.2.2.1 s.2.2.2.2.2.2.2.2.2.1 s.2.2.2.2.2.2.2.2.2.2 hI (fun b1 b2 b3 b4 b5 b6 b7 b8 b9 b10 b11 h9 hm => hk (b1, b2, b3, b4, b5, b6, b7, b8, b9, b10, b11) h9 hm)) (a1, a2, a3, a4, a5, a6, a7, a8, a9, a10, a11) h
theorem lp12 {A1 A2 A3 A4 A5 A6 A7 A8 A9 A10 A11 A12 : Type} (W : Nat → A1 → A2 → A3 → A4 → A5 → A6 → A7 → A8 → A9 → A10 → A11 → A12 → Prop) (I : A1 → A2 → A3 → A4 → A5 → A6 → A7 → A8 → A9 → A10 → A11 → A12 → Prop) (μ : A1 → A2 → A3 → A4 → A5 → A6 → A7 → A8 → A9 → A10 → A11 → A12 → Nat) (hs : ∀ (n : Nat) (a1 : A1) (a2 : A2) (a3 : A3) (a4 : A4) (a5 : A5) (a6 : A6) (a7 : A7) (a8 : A8) (a9 : A9) (a10 : A10) (a11 : A11) (a12 : A12), I a1 a2 a3 a4 a5 a6 a7 a8 a9 a10 a11 a12 → (∀ (b1 : A1) (b2 : A2) (b3 : A3) (b4 : A4) (b5 : A5) (b6 : A6) (b7 : A7) (b8 : A8) (b9 : A9) (b10 : A10) (b11 : A11) (b12 : A12), I b1 b2 b3 b4 b5 b6 b7 b8 b9 b10 b11 b12 → μ b1 b2 b3 b4 b5 b6 b7 b8 b9 b10 b11 b12 < μ a1 a2 a3 a4 a5 a6 a7 a8 a9 a10 a11 a12 → W n b1 b2 b3 b4 b5 b6 b7 b8 b9 b10 b11 b12) → W (n + 1) a1 a2 a3 a4 a5 a6 a7 a8 a9 a10 a11 a12) (a1 : A1) (a2 : A2) (a3 : A3) (a4 : A4) (a5 : A5) (a6 : A6) (a7 : A7) (a8 : A8) (a9 : A9) (a10 : A10) (a11 : A11) (a12 : A12) (h : I a1 a2 a3 a4 a5 a6 a7 a8 a9 a10 a11 a12) : ∃ n, W n a1 a2 a3 a4 a5 a6 a7 a8 a9 a10 a11 a12 :=
  loop_m (σ := A1 × A2 × A3 × A4 × A5 × A6 × A7 × A8 × A9 × A10 × A11 × A12) (fun n s => W n s.1 s.2.1 s.2.2.1 s.2.2.2.1 s.2.2.2.2.1 s.2.2.2.2.2.1 s.2.2.2.2.2.2.1 s.2.2.2.2.2.2.2.1 s.2.2.2.2.2.2.2.2.1 s.2.2.2.2.2.2.2.2.2.1 s.2.2.2.2.2.2.2.2.2.2.1 s.2.2.2.2.2.2.2.2.2.2.2) (fun s => I s.1 s.2.1 s.2.2.1 s.2.2.2.1 s.2.2.2.2.1 s.2.2.2.2.2.1 s.2.2.2.2.2.2.1 s.2.2.2.2.2.2.2.1 s.2.2.2.2.2.2.2.2.1 s.2.2.2.2.2.2.2.2.2.1 s.2.2.2.2.2.2.2.2.2.2.1 s.2.2.2.2.2.2.2.2.2.2.2) (fun s => μ s.1 s.2.1 s.2.2.1 s.2.2.2.1 s.2.2.2.2.1 s.2.2.2.2.2.1 s.2.2.2.2.2.2.1 s.2.2.2.2.2.2.2.1 s.2.2.2.2.2.2.2.2.1 s.2.2.2.2.2.2.2.2.2.1 s.2.2.2.2.2.2.2.2.2.2.1 s.2.2.2.2.2.2.2.2.2.2.2) (fun n s hI hk => hs n s.1 s.2.1 s.2.2.1 s.2.2.2.1 s.2.2.2.2.1 s.2.2.2.2.2.1 s.2.2.2.2.2.2.1 s.2.2.2.2.2.2.2.1 s.2.2.2.2.2.2.2.2.1 s.2.2.2.2.2.2.2.2.2.1 s.2.2.2.2.2.2.2.2.2.2.1 s.2.2.2.2.2.2.2.2.2.2.2 hI (fun b1 b2 b3 b4 b5 b6 b7 b8 b9 b10 b11 b12 h9 hm => hk (b1, b2, b3, b4, b5, b6, b7, b8, b9, b10, b11, b12) h9 hm)) (a1, a2, a3, a4, a5, a6, a7, a8, a9, a10, a11, a12) h
theorem lp13 {A1 A2 A3 A4 A5 A6 A7 A8 A9 A10 A11 A12 A13 : Type} (W : Nat → A1 → A2 → A3 → A4 → A5 → A6 → A7 → A8 → A9 → A10 → A11 → A12 → A13 → Prop) (I : A1 → A2 → A3 → A4 → A5 → A6 → A7 → A8 → A9 → A10 → A11 → A12 → A13 → Prop) (μ : A1 → A2 → A3 → A4 → A5 → A6 → A7 → A8 → A9 → A10 → A11 → A12 → A13 → Nat) (hs : ∀ (n : Nat) (a1 : A1) (a2 : A2) (a3 : A3) (a4 : A4) (a5 : A5) (a6 : A6) (a7 : A7) (a8 : A8) (a9 : A9) (a10 : A10) (a11 : A11) (a12 : A12) (a13 : A13), I a1 a2 a3 a4 a5 a6 a7 a8 a9 a10 a11 a12 a13 → (∀ (b1 : A1) (b2 : A2) (b3 : A3) (b4 : A4) (b5 : A5) (b6 : A6) (b7 : A7) (b8 : A8) (b9 : A9) (b10 : A10) (b11 : A11) (b12 : A12) (b13 : A13), I b1 b2 b3 b4 b5 b6 b7 b8 b9 b10 b11 b12 b13 → μ b1 b2 b3 b4 b5 b6 b7 b8 b9 b10 b11 b12 b13 < μ a1 a2 a3 a4 a5 a6 a7 a8 a9 a10 a11 a12 a13 → W n b1 b2 b3 b4 b5 b6 b7 b8 b9 b10 b11 b12 b13) → W (n + 1) a1 a2 a3 a4 a5 a6 a7 a8 a9 a10 a11 a12 a13) (a1 : A1) (a2 : A2) (a3 : A3) (a4 : A4) (a5 : A5) (a6 : A6) (a7 : A7) (a8 : A8) (a9 : A9) (a10 : A10) (a11 : A11) (a12 : A12) (a13 : A13) (h : I a1 a2 a3 a4 a5 a6 a7 a8 a9 a10 a11 a12 a13) : ∃ n, W n a1 a2 a3 a4 a5 a6 a7 a8 a9 a10 a11 a12 a13 :=
  loop_m (σ := A1 × A2 × A3 × A4 × A5 × A6 × A7 × A8 × A9 × A10 × A11 × A12 × A13) (fun n s => W n s.1 s.2.1 s.2.2.1 s.2.2.2.1 s.2.2.2.2.1 s.2.2.2.2.2.1 s.2.2.2.2.2.2.1 s.2.2.2.2.2.2.2.1 s.2.2.2.2.2.2.2.2.1 s.2.2.2.2.2.2.2.2.2.1 s.2.2.2.2.2.2.2.2.2.2.1 s.2.2.2.2.2.2.2.2.2.2.2.1 s.2.2.2.2.2.2.2.2.2.2.2.2) (fun s => I s.1 s.2.1 s.2.2.1 s.2.2.2.1 s.2.2.2.2.1 s.2.2.2.2.2.1 s.2.2.2.2.2.2.1 s.2.2.2.2.2.2.2.1 s.2.2.2.2.2.2.2.2.1 s.2.2.2.2.2.2.2.2.2.1 s.2.2.2.2.2.2.2.2.2.2.1 s.2.2.2.2.2.2.2.2.2.2.2.1 s.2.2.2.2.2.2.2.2.2.2.2.2) (fun s => μ s.1 s.2.1 s.2.2.1 s.2.2.2.1 s.2.2.2.2.1 s.2.2.2.2.2.1 s.2.2.2.2.2.2.1 s.2.2.2.2.2.2.2.1 s.2.2.2.2.2.2.2.2.1 s.2.2.2.2.2.2.2.2.2.1 s.2.2.2.2.2.2.2.2.2.2.1 s.2.2.2.2.2.2.2.2.2.2.2.1 s.2.2.2.2.2.2.2.2.2.2.2.2) (fun n s hI hk => hs n s.1 s.2.1 s.2.2.1 s.2.2.2.1 s.2.2.2.2.1 s.2.2.2.2.2.1 s.2.2.2.2.2.2.1 s.2.2.2.2.2.2.2.1 s.2.2.2.2.2.2.2.2.1 s.2.2.2.2.2.2.2.2.2.1 s.2.2.2.2.2.2.2.2.2.2.1 s.2.2.2.2.2.2.2.2.2.2.2.1 s.2.2.2.2.2.2.2.2.2.2.2.2 hI (fun b1 b2 b3 b4 b5 b6 b7 b8 b9 b10 b11 b12 b13 h9 hm => hk (b1, b2, b3, b4, b5, b6, b7, b8, b9, b10, b11, b12, b13) h9 hm)) (a1, a2, a3, a4, a5, a6, a7, a8, a9, a10, a11, a12, a13) h
theorem lp14 {A1 A2 A3 A4 A5 A6 A7 A8 A9 A10 A11 A12 A13 A14 : Type} (W : Nat → A1 → A2 → A3 → A4 → A5 → A6 → A7 → A8 → A9 → A10 → A11 → A12 → A13 → A14 → Prop) (I : A1 → A2 → A3 → A4 → A5 → A6 → A7 → A8 → A9 → A10 → A11 → A12 → A13 → A14 → Prop) (μ : A1 → A2 → A3 → A4 → A5 → A6 → A7 → A8 → A9 → A10 → A11 → A12 → A13 → A14 → Nat) (hs : ∀ (n : Nat) (a1 : A1) (a2 : A2) (a3 : A3) (a4 : A4) (a5 : A5) (a6 : A6) (a7 : A7) (a8 : A8) (a9 : A9) (a10 : A10) (a11 : A11) (a12 : A12) (a13 : A13) (a14 : A14), I a1 a2 a3 a4 a5 a6 a7 a8 a9 a10 a11 a12 a13 a14 → (∀ (b1 : A1) (b2 : A2) (b3 : A3) (b4 : A4) (b5 : A5) (b6 : A6) (b7 : A7) (b8 : A8) (b9 : A9) (b10 : A10) (b11 : A11) (b12 : A12) (b13 : A13) (b14 : A14), I b1 b2 b3 b4 b5 b6 b7 b8 b9 b10 b11 b12 b13 b14 → μ b1 b2 b3 b4 b5 b6 b7 b8 b9 b10 b11 b12 b13 b14 < μ a1 a2 a3 a4 a5 a6 a7 a8 a9 a10 a11 a12 a13 a14 → W n b1 b2 b3 b4 b5 b6 b7 b8 b9 b10 b11 b12 b13 b14) → W (n + 1) a1 a2 a3 a4 a5 a6 a7 a8 a9 a10 a11 a12 a13 a14) (a1 : A1) (a2 : A2) (a3 : A3) (a4 : A4) (a5 : A5) (a6 : A6) (a7 : A7) (a8 : A8) (a9 : A9) (a10 : A10) (a11 : A11) (a12 : A12) (a13 : A13) (a14 : A14) (h : I a1 a2 a3 a4 a5 a6 a7 a8 a9 a10 a11 a12 a13 a14) : ∃ n, W n a1 a2 a3 a4 a5 a6 a7 a8 a9 a10 a11 a12 a13 a14 :=
  loop_m (σ := A1 × A2 × A3 × A4 × A5 × A6 × A7 × A8 × A9 × A10 × A11 × A12 × A13 × A14) (fun n s => W n s.1 s.2.1 s.2.2.1 s.2.2.2.1 s.2.2.2.2.1 s.2.2.2.2.2.1 s.2.2.2.2.2.2.1 s.2.2.2.2.2.2.2.1 s.2.2.2.2.2.2.2.2.1 s.2.2.2.2.2.2.2.2.2.1 s.2.2.2.2.2.2.2.2.2.2.1 s.2.2.2.2.2.2.2.2.2.2.2.1 s.2.2.2.2.2.2.2.2.2.2.2.2.1 s.2.2.2.2.2.2.2.2.2.2.2.2.2) (fun s => I s.1 s.2.1 s.2.2.1 s.2.2.2.1 s.2.2.2.2.1 s.2.2.2.2.2.1 s.2.2.2.2.2.2.1 s.2.2.2.2.2.2.2.1 s.2.2.2.2.2.2.2.2.1 s.2.2.2.2.2.2.2.2.2.1 s.2.2.2.2.2.2.2.2.2.2.1 s.2.2.2.2.2.2.2.2.2.2.2.1 s.2.2.2.2.2.2.2.2.2.2.2.2.1 s.2.2.2.2.2.2.2.2.2.2.2.2.2) (fun s => μ s.1 s.2.1 s.2.2.1 s.2.2.2.1 s.2.2.2.2.1 s.2.2.2.2.2.1 s.2.2.2.2.2.2.1 s.2.2.2.2.2.2.2.1 s.2.2.2.2.2.2.2.2.1 s.2.2.2.2.2.2.2.2.2.1 s.2.2.2.2.2.2.2.2.2.2.1 s.2.2.2.2.2.2.2.2.2.2.2.1 s.2.2.2.2.2.2.2.2.2.2.2.2.1 s.2.2.2.2.2.2.2.2.2.2.2.2.2) (fun n s hI hk => hs n s.1 s.2.1 s.2.2.1 s.2.2.2.1 s.2.2.2.2.1 s.2.2.2.2.2.1 s.2.2.2.2.2.2.1 s.2.2.2.2.2.2.2.1 s.2.2.2.2.2.2.2.2.1 s.2.2.2.2.2.2.2.2.2.1 s.2.2.2.2.2.2.2.2.2.2.1 s.2.2.2.2.2.2.2.2.2.2.2.1 s.2.2.2.2.2.2.2.2.2.2.2.2.1 s.2.2.2.2.2.2.2.2.2.2.2.2.2 hI (fun b1 b2 b3 b4 b5 b6 b7 b8 b9 b10 b11 b12 b13 b14 h9 hm => hk (b1, b2, b3, b4, b5, b6, b7, b8, b9, b10, b11, b12, b13, b14) h9 hm)) (a1, a2, a3, a4, a5, a6, a7, a8, a9, a10, a11, a12, a13, a14) h
theorem lp15 {A1 A2 A3 A4 A5 A6 A7 A8 A9 A10 A11 A12 A13 A14 A15 : Type} (W : Nat → A1 → A2 → A3 → A4 → A5 → A6 → A7 → A8 → A9 → A10 → A11 → A12 → A13 → A14 → A15 → Prop) (I : A1 → A2 → A3 → A4 → A5 → A6 → A7 → A8 → A9 → A10 → A11 → A12 → A13 → A14 → A15 → Prop) (μ : A1 → A2 → A3 → A4 → A5 → A6 → A7 → A8 → A9 → A10 → A11 → A12 → A13 → A14 → A15 → Nat) (hs : ∀ (n : Nat) (a1 : A1) (a2 : A2) (a3 : A3) (a4 : A4) (a5 : A5) (a6 : A6) (a7 : A7) (a8 : A8) (a9 : A9) (a10 : A10) (a11 : A11) (a12 : A12) (a13 : A13) (a14 : A14) (a15 : A15), I a1 a2 a3 a4 a5 a6 a7 a8 a9 a10 a11 a12 a13 a14 a15 → (∀ (b1 : A1) (b2 : A2) (b3 : A3) (b4 : A4) (b5 : A5) (b6 : A6) (b7 : A7) (b8 : A8) (b9 : A9) (b10 : A10) (b11 : A11) (b12 : A12) (b13 : A13) (b14 : A14) (b15 : A15), I b1 b2 b3 b4 b5 b6 b7 b8 b9 b10 b11 b12 b13 b14 b15 → μ b1 b2 b3 b4 b5 b6 b7 b8 b9 b10 b11 b12 b13 b14 b15 < μ a1 a2 a3 a4 a5 a6 a7 a8 a9 a10 a11 a12 a13 a14 a15 → W n b1 b2 b3 b4 b5 b6 b7 b8 b9 b10 b11 b12 b13 b14 b15) → W (n + 1) a1 a2 a3 a4 a5 a6 a7 a8 a9 a10 a11 a12 a13 a14 a15) (a1 : A1) (a2 : A2) (a3 : A3) (a4 : A4) (a5 : A5) (a6 : A6) (a7 : A7) (a8 : A8) (a9 : A9) (a10 : A10) (a11 : A11) (a12 : A12) (a13 : A13) (a14 : A14) (a15 : A15) (h : I a1 a2 a3 a4 a5 a6 a7 a8 a9 a10 a11 a12 a13 a14 a15) : ∃ n, W n a1 a2 a3 a4 a5 a6 a7 a8 a9 a10 a11 a12 a13 a14 a15 :=
  loop_m (σ := A1 × A2 × A3 × A4 × A5 × A6 × A7 × A8 × A9 × A10 × A11 × A12 × A13 × A14 × A15) (fun n s => W n s.1 s.2.1 s.2.2.1 s.2.2.2.1 s.2.2.2.2.1 s.2.2.2.2.2.1 s.2.2.2.2.2.2.1 s.2.2.2.2.2.2.2.1 s.2.2.2.2.2.2.2.2.1 s.2.2.2.2.2.2.2.2.2.1 s.2.2.2.2.2.2.2.2.2.2.1 s.2.2.2.2.2.2.2.2.2.2.2.1 s.2.2.2.2.2.2.2.2.2.2.2.2.1 s.2.2.2.2.2.2.2.2.2.2.2.2.2.1 s.2.2.2.2.2.2.2.2.2.2.2.2.2.2) (fun s => I s.1 s.2.1 s.2.2.1 s.2.2.2.1 s.2.2.2.2.1 s.2.2.2.2.2.1 s.2.2.2.2.2.2.1 s.2.2.2.2.2.2.2.1 s.2.2.2.2.2.2.2.2.1 s.2.2.2.2.2.2.2.2.2.1 s.2.2.2.2.2.2.2.2.2.2.1 s.2.2.2.2.2.2.2.2.2.2.2.1 s.2.2.2.2.2.2.2.2.2.2.2.2.1 s.2.2.2.2.2.2.2.2.2.2.2.2.2.1 s.2.2.2.2.2.2.2.2.2.2.2.2.2.2) (fun s => μ s.1 s.2.1 s.2.2.1 s.2.2.2.1 s.2.2.2.2.1 s.2.2.2.2.2.1 s.2.2.2.2.2.2.1 s.2.2.2.2.2.2.2.1 s.2.2.2.2.2.2.2.2.1 s.2.2.2.2.2.2.2.2.2.1 s.2.2.2.2.2.2.2.2.2.2.1 s.2.2.2.2.2.2.2.2.2.2.2.1 s.2.2.2.2.2.2.2.2.2.2.2.2.1 s.2.2.2.2.2.2.2.2.2.2.2.2.2.1 s.2.2.2.2.2.2.2.2.2.2.2.2.2.2) (fun n s hI hk => hs n s.1 s.2.1 s.2.2.1 s.2.2.2.1 s.2.2.2.2.1 s.2.2.2.2.2.1 s.2.2.2.2.2.2.1 s.2.2.2.2.2.2.2.1 s.2.2.2.2.2.2.2.2.1 s.2.2.2.2.2.2.2.2.2.1 s.2.2.2.2.2.2.2.2.2.2.1 s.2.2.2.2.2.2.2.2.2.2.2.1 s.2.2.2.2.2.2.2.2.2.2.2.2.1 s.2.2.2.2.2.2.2.2.2.2.2.2.2.1 s.2.2.2.2.2.2.2.2.2.2.2.2.2.2 hI (fun b1 b2 b3 b4 b5 b6 b7 b8 b9 b10 b11 b12 b13 b14 b15 h9 hm => hk (b1, b2, b3, b4, b5, b6, b7, b8, b9, b10, b11, b12, b13, b14, b15) h9 hm)) (a1, a2, a3, a4, a5, a6, a7, a8, a9, a10, a11, a12, a13, a14, a15) h
theorem lp16 {A1 A2 A3 A4 A5 A6 A7 A8 A9 A10 A11 A12 A13 A14 A15 A16 : Type} (W : Nat → A1 → A2 → A3 → A4 → A5 → A6 → A7 → A8 → A9 → A10 → A11 → A12 → A13 → A14 → A15 → A16 → Prop) (I : A1 → A2 → A3 → A4 → A5 → A6 → A7 → A8 → A9 → A10 → A11 → A12 → A13 → A14 → A15 → A16 → Prop) (μ : A1 → A2 → A3 → A4 → A5 → A6 → A7 → A8 → A9 → A10 → A11 → A12 → A13 → A14 → A15 → A16 → Nat) (hs : ∀ (n : Nat) (a1 : A1) (a2 : A2) (a3 : A3) (a4 : A4) (a5 : A5) (a6 : A6) (a7 : A7) (a8 : A8) (a9 : A9) (a10 : A10) (a11 : A11) (a12 : A12) (a13 : A13) (a14 : A14) (a15 : A15) (a16 : A16), I a1 a2 a3 a4 a5 a6 a7 a8 a9 a10 a11 a12 a13 a14 a15 a16 → (∀ (b1 : A1) (b2 : A2) (b3 : A3) (b4 : A4) (b5 : A5) (b6 : A6) (b7 : A7) (b8 : A8) (b9 : A9) (b10 : A10) (b11 : A11) (b12 : A12) (b13 : A13) (b14 : A14) (b15 : A15) (b16 : A16), I b1 b2 b3 b4 b5 b6 b7 b8 b9 b10 b11 b12 b13 b14 b15 b16 → μ b1 b2 b3 b4 b5 b6 b7 b8 b9 b10 b11 b12 b13 b14 b15 b16 < μ a1 a2 a3 a4 a5 a6 a7 a8 a9 a10 a11 a12 a13 a14 a15 a16 → W n b1 b2 b3 b4 b5 b6 b7 b8 b9 b10 b11 b12 b13 b14 b15 b16) → W (n + 1) a1 a2 a3 a4 a5 a6 a7 a8 a9 a10 a11 a12 a13 a14 a15 a16) (a1 : A1) (a2 : A2) (a3 : A3) (a4 : A4) (a5 : A5) (a6 : A6) (a7 : A7) (a8 : A8) (a9 : A9) (a10 : A10) (a11 : A11) (a12 : A12) (a13 : A13) (a14 : A14) (a15 : A15) (a16 : A16) (h : I a1 a2 a3 a4 a5 a6 a7 a8 a9 a10 a11 a12 a13 a14 a15 a16) : ∃ n, W n a1 a2 a3 a4 a5 a6 a7 a8 a9 a10 a11 a12 a13 a14 a15 a16 :=
  loop_m (σ := A1 × A2 × A3 × A4 × A5 × A6 × A7 × A8 × A9 × A10 × A11 × A12 × A13 × A14 × A15 × A16) (fun n s => W n s.1 s.2.1 s.2.2.1 s.2.2.2.1 s.2.2.2.2.1 s.2.2.2.2.2.1 s.2.2.2.2.2.2.1 s.2.2.2.2.2.2.2.1 s.2.2.2.2.2.2.2.2.1 s.2.2.2.2.2.2.2.2.2.1 s.2.2.2.2.2.2.2.2.2.2.1 s.2.2.2.2.2.2.2.2.2.2.2.1 s.2.2.2.2.2.2.2.2.2.2.2.2.1 s.2.2.2.2.2.2.2.2.2.2.2.2.2.1 s.2.2.2.2.2.2.2.2.2.2.2.2.2.2.1 s.2.2.2.2.2.2.2.2.2.2.2.2.2.2.2) (fun s => I s.1 s.2.1 s.2.2.1 s.2.2.2.1 s.2.2.2.2.1 s.2.2.2.2.2.1 s.2.2.2.2.2.2.1 s.2.2.2.2.2.2.2.1 s.2.2.2.2.2.2.2.2.1 s.2.2.2.2.2.2.2.2.2.1 s.2.2.2.2.2.2.2.2.2.2.1 s.2.2.2.2.2.2.2.2.2.2.2.1 s.2.2.2.2.2.2.2.2.2.2.2.2.1 s.2.2.2.2.2.2.2.2.2.2.2.2.2.1 s.2.2.2.2.2.2.2.2.2.2.2.2.2.2.1 s.2.2.2.2.2.2.2.2.2.2.2.2.2.2.2) (fun s => μ s.1 s.2.1 s.2.2.1 s.2.2.2.1 s.2.2.2.2.1 s.2.2.2.2.2.1 s.2.2.2.2.2.2.1 s.2.2.2.2.2.2.2.1 s.2.2.2.2.2.2.2.2.1 s.2.2.2.2.2.2.2.2.2.1 s.2.2.2.2.2.2.2.2.2.2.1 s.2.2.2.2.2.2.2.2.2.2.2.1 s.2.2.2.2.2.2.2.2.2.2.2.2.1 s.2.2.2.2.2.2.2.2.2.2.2.2.2.1 s.2.2.2.2.2.2.2.2.2.2.2.2.2.2.1 s.2.2.2.2.2.2.2.2.2.2.2.2.2.2.2) (fun n s hI hk => hs n s.1 s.2.1 s.2.2.1 s.2.2.2.1 s.2.2.2.2.1 s.2.2.2.2.2.1 s.2.2.2.2.2.2.1 s.2.2.2.2.2.2.2.1 s.2.2.2.2.2.2.2.2.1 s.2.2.2.2.2.2.2.2.2.1 s.2.2.2.2.2.2.2.2.2.2.1 s.2.2.2.2.2.2.2.2.2.2.2.1 s.2.2.2.2.2.2.2.2.2.2.2.2.1 s.2.2.2.2.2.2.2.2.2.2.2.2.2.1 s.2.2.2.2.2.2.2.2.2.2.2.2.2.2.1 s.2.2.2.2.2.2.2.2.2.2.2.2.2.2.2 hI (fun b1 b2 b3 b4 b5 b6 b7 b8 b9 b10 b11 b12 b13 b14 b15 b16 h9 hm => hk (b1, b2, b3, b4, b5, b6, b7, b8, b9, b10, b11, b12, b13, b14, b15, b16) h9 hm)) (a1, a2, a3, a4, a5, a6, a7, a8, a9, a10, a11, a12, a13, a14, a15, a16) h
theorem pk_least (P : Nat → Prop) (h : ∃ k, P k) : ∃ k, P k ∧ ∀ j, j < k → ¬ P j := by
  obtain ⟨k, hk⟩ := h
  induction k using Nat.strongRecOn with
  | ind k ih =>
    by_cases e : ∃ j, j < k ∧ P j
    · obtain ⟨j, hj, pj⟩ := e
      exact ih j hj pj
    · exact ⟨k, hk, fun j hj pj => e ⟨j, hj, pj⟩⟩
theorem rp1 {ρ A1 : Type} (W : Nat → (ρ → Prop) → A1 → Prop) (ok : A1 → Prop) (μ : A1 → Nat) (val : A1 → ρ)
    (hs : ∀ (d : Nat) (post : ρ → Prop) (a1 : A1), ok a1 → post (val a1) → (∀ (post' : ρ → Prop) (b1 : A1), ok b1 → μ b1 < μ a1 → post' (val b1) → W d post' b1) → W (d + 1) post a1) :
    ∀ (d : Nat) (post : ρ → Prop) (a1 : A1), ok a1 → μ a1 < d → post (val a1) → W d post a1 := by
  intro d
  induction d with
  | zero => intro post a1 _ h; omega
  | succ d ih =>
    intro post a1 ho hm hp
    exact hs d post a1 ho hp (fun post' b1 ho' hm' hp' => ih post' b1 ho' (by omega) hp')
theorem rp2 {ρ A1 A2 : Type} (W : Nat → (ρ → Prop) → A1 → A2 → Prop) (ok : A1 → A2 → Prop) (μ : A1 → A2 → Nat) (val : A1 → A2 → ρ)
    (hs : ∀ (d : Nat) (post : ρ → Prop) (a1 : A1) (a2 : A2), ok a1 a2 → post (val a1 a2) → (∀ (post' : ρ → Prop) (b1 : A1) (b2 : A2), ok b1 b2 → μ b1 b2 < μ a1 a2 → post' (val b1 b2) → W d post' b1 b2) → W (d + 1) post a1 a2) :
    ∀ (d : Nat) (post : ρ → Prop) (a1 : A1) (a2 : A2), ok a1 a2 → μ a1 a2 < d → post (val a1 a2) → W d post a1 a2 := by
  intro d
  induction d with
  | zero => intro post a1 a2 _ h; omega
  | succ d ih =>
    intro post a1 a2 ho hm hp
    exact hs d post a1 a2 ho hp (fun post' b1 b2 ho' hm' hp' => ih post' b1 b2 ho' (by omega) hp')
theorem rp3 {ρ A1 A2 A3 : Type} (W : Nat → (ρ → Prop) → A1 → A2 → A3 → Prop) (ok : A1 → A2 → A3 → Prop) (μ : A1 → A2 → A3 → Nat) (val : A1 → A2 → A3 → ρ)
    (hs : ∀ (d : Nat) (post : ρ → Prop) (a1 : A1) (a2 : A2) (a3 : A3), ok a1 a2 a3 → post (val a1 a2 a3) → (∀ (post' : ρ → Prop) (b1 : A1) (b2 : A2) (b3 : A3), ok b1 b2 b3 → μ b1 b2 b3 < μ a1 a2 a3 → post' (val b1 b2 b3) → W d post' b1 b2 b3) → W (d + 1) post a1 a2 a3) :
    ∀ (d : Nat) (post : ρ → Prop) (a1 : A1) (a2 : A2) (a3 : A3), ok a1 a2 a3 → μ a1 a2 a3 < d → post (val a1 a2 a3) → W d post a1 a2 a3 := by
  intro d
  induction d with
  | zero => intro post a1 a2 a3 _ h; omega
  | succ d ih =>
    intro post a1 a2 a3 ho hm hp
    exact hs d post a1 a2 a3 ho hp (fun post' b1 b2 b3 ho' hm' hp' => ih post' b1 b2 b3 ho' (by omega) hp')
theorem rp4 {ρ A1 A2 A3 A4 : Type} (W : Nat → (ρ → Prop) → A1 → A2 → A3 → A4 → Prop) (ok : A1 → A2 → A3 → A4 → Prop) (μ : A1 → A2 → A3 → A4 → Nat) (val : A1 → A2 → A3 → A4 → ρ)
    (hs : ∀ (d : Nat) (post : ρ → Prop) (a1 : A1) (a2 : A2) (a3 : A3) (a4 : A4), ok a1 a2 a3 a4 → post (val a1 a2 a3 a4) → (∀ (post' : ρ → Prop) (b1 : A1) (b2 : A2) (b3 : A3) (b4 : A4), ok b1 b2 b3 b4 → μ b1 b2 b3 b4 < μ a1 a2 a3 a4 → post' (val b1 b2 b3 b4) → W d post' b1 b2 b3 b4) → W (d + 1) post a1 a2 a3 a4) :
    ∀ (d : Nat) (post : ρ → Prop) (a1 : A1) (a2 : A2) (a3 : A3) (a4 : A4), ok a1 a2 a3 a4 → μ a1 a2 a3 a4 < d → post (val a1 a2 a3 a4) → W d post a1 a2 a3 a4 := by
  intro d
  induction d with
  | zero => intro post a1 a2 a3 a4 _ h; omega
  | succ d ih =>
    intro post a1 a2 a3 a4 ho hm hp
    exact hs d post a1 a2 a3 a4 ho hp (fun post' b1 b2 b3 b4 ho' hm' hp' => ih post' b1 b2 b3 b4 ho' (by omega) hp')
theorem rp5 {ρ A1 A2 A3 A4 A5 : Type} (W : Nat → (ρ → Prop) → A1 → A2 → A3 → A4 → A5 → Prop) (ok : A1 → A2 → A3 → A4 → A5 → Prop) (μ : A1 → A2 → A3 → A4 → A5 → Nat) (val : A1 → A2 → A3 → A4 → A5 → ρ)
    (hs : ∀ (d : Nat) (post : ρ → Prop) (a1 : A1) (a2 : A2) (a3 : A3) (a4 : A4) (a5 : A5), ok a1 a2 a3 a4 a5 → post (val a1 a2 a3 a4 a5) → (∀ (post' : ρ → Prop) (b1 : A1) (b2 : A2) (b3 : A3) (b4 : A4) (b5 : A5), ok b1 b2 b3 b4 b5 → μ b1 b2 b3 b4 b5 < μ a1 a2 a3 a4 a5 → post' (val b1 b2 b3 b4 b5) → W d post' b1 b2 b3 b4 b5) → W (d + 1) post a1 a2 a3 a4 a5) :
    ∀ (d : Nat) (post : ρ → Prop) (a1 : A1) (a2 : A2) (a3 : A3) (a4 : A4) (a5 : A5), ok a1 a2 a3 a4 a5 → μ a1 a2 a3 a4 a5 < d → post (val a1 a2 a3 a4 a5) → W d post a1 a2 a3 a4 a5 := by
  intro d
  induction d with
  | zero => intro post a1 a2 a3 a4 a5 _ h; omega
  | succ d ih =>
    intro post a1 a2 a3 a4 a5 ho hm hp
    exact hs d post a1 a2 a3 a4 a5 ho hp (fun post' b1 b2 b3 b4 b5 ho' hm' hp' => ih post' b1 b2 b3 b4 b5 ho' (by omega) hp')
theorem rp6 {ρ A1 A2 A3 A4 A5 A6 : Type} (W : Nat → (ρ → Prop) → A1 → A2 → A3 → A4 → A5 → A6 → Prop) (ok : A1 → A2 → A3 → A4 → A5 → A6 → Prop) (μ : A1 → A2 → A3 → A4 → A5 → A6 → Nat) (val : A1 → A2 → A3 → A4 → A5 → A6 → ρ)
    (hs : ∀ (d : Nat) (post : ρ → Prop) (a1 : A1) (a2 : A2) (a3 : A3) (a4 : A4) (a5 : A5) (a6 : A6), ok a1 a2 a3 a4 a5 a6 → post (val a1 a2 a3 a4 a5 a6) → (∀ (post' : ρ → Prop) (b1 : A1) (b2 : A2) (b3 : A3) (b4 : A4) (b5 : A5) (b6 : A6), ok b1 b2 b3 b4 b5 b6 → μ b1 b2 b3 b4 b5 b6 < μ a1 a2 a3 a4 a5 a6 → post' (val b1 b2 b3 b4 b5 b6) → W d post' b1 b2 b3 b4 b5 b6) → W (d + 1) post a1 a2 a3 a4 a5 a6) :
    ∀ (d : Nat) (post : ρ → Prop) (a1 : A1) (a2 : A2) (a3 : A3) (a4 : A4) (a5 : A5) (a6 : A6), ok a1 a2 a3 a4 a5 a6 → μ a1 a2 a3 a4 a5 a6 < d → post (val a1 a2 a3 a4 a5 a6) → W d post a1 a2 a3 a4 a5 a6 := by
  intro d
  induction d with
  | zero => intro post a1 a2 a3 a4 a5 a6 _ h; omega
  | succ d ih =>
    intro post a1 a2 a3 a4 a5 a6 ho hm hp
    exact hs d post a1 a2 a3 a4 a5 a6 ho hp (fun post' b1 b2 b3 b4 b5 b6 ho' hm' hp' => ih post' b1 b2 b3 b4 b5 b6 ho' (by omega) hp')
theorem rec_p {σ ρ : Type} (W : Nat → (ρ → Prop) → σ → Prop) (ok : σ → Prop) (μ : σ → Nat) (val : σ → ρ)
    (hs : ∀ d s post, ok s → post (val s) → (∀ s' post', ok s' → μ s' < μ s → post' (val s') → W d post' s') → W (d + 1) post s) :
    ∀ d s post, ok s → μ s < d → post (val s) → W d post s := by
  intro d
  induction d with
  | zero => intro s post _ h; omega
  | succ d ih =>
    intro s post ho hm hp
    exact hs d s post ho hp (fun s' post' ho' hm' hp' => ih s' post' ho' (by omega) hp')
theorem rec_q {σ ρ : Type} (W : Nat → (ρ → Prop) → σ → Prop) (ok : σ → Prop) (μ : σ → Nat) (Q : σ → ρ → Prop)
    (hs : ∀ d s post, ok s → (∀ r, Q s r → post r) → (∀ s' post', ok s' → μ s' < μ s → (∀ r, Q s' r → post' r) → W d post' s') → W (d + 1) post s) :
    ∀ d s post, ok s → μ s < d → (∀ r, Q s r → post r) → W d post s := by
  intro d
  induction d with
  | zero => intro s post _ h; omega
  | succ d ih =>
    intro s post ho hm hp
    exact hs d s post ho hp (fun s' post' ho' hm' hp' => ih s' post' ho' (by omega) hp')
def bx_sum (f : Nat → Int32) : Nat → Int32
  | 0 => 0
  | n + 1 => bx_sum f n + f n
theorem ek_u {A : Prop} {B : Nat → Prop} {k N : Nat} (hk : k < N) (h : B k) : (some k = none → A) ∧ (∀ y : Nat, some k = some y → (y < N ∧ B y)) :=
  ⟨fun z => absurd z (Option.some_ne_none k), fun _ e => (by cases e; exact ⟨hk, h⟩)⟩
theorem ek_nu {A : Prop} {B : Nat → Prop} (h : A) : ((none : Option Nat) = none → A) ∧ (∀ y : Nat, (none : Option Nat) = some y → B y) :=
  ⟨fun _ => h, fun _ e => (by cases e)⟩
theorem ek_if {c d A B : Prop} (e : c ↔ d) (f : d → A) (g : ¬ d → B) : (c → A) ∧ (¬ c → B) :=
  ⟨fun z => f (e.mp z), fun z => g (fun y => z (e.mpr y))⟩
theorem ek_v {α : Sort _} {P : α → Prop} {a b : α} (e : a = b) (h : P b) : P a := e ▸ h
theorem co_some {x : Option Nat} {A : Prop} {B : Nat → Prop} (i : Nat) (h : B i) (hx : x = some i := by rfl) : (x = none → A) ∧ (∀ y : Nat, x = some y → B y) := by
  subst hx
  exact ⟨fun e => (nomatch e), fun y e => Option.some.inj e ▸ h⟩
theorem co_none {x : Option Nat} {A : Prop} {B : Nat → Prop} (h : A) (hx : x = none := by rfl) : (x = none → A) ∧ (∀ y : Nat, x = some y → B y) := by
  subst hx
  exact ⟨fun _ => h, fun y e => (nomatch e)⟩
theorem co_any {x : Option Nat} {A : Prop} {B : Nat → Prop} (hn : x = none → A) (hs : ∀ i : Nat, x = some i → B i) : (x = none → A) ∧ (∀ y : Nat, x = some y → B y) := ⟨hn, hs⟩
theorem co_2 {P : Nat → Prop} (h0 : P 0) (h1 : P 1) {i : Nat} (hi : i < 2) : P i :=
  match i, hi with
  | 0, _ => h0
  | 1, _ => h1
theorem co_3 {P : Nat → Prop} (h0 : P 0) (h1 : P 1) (h2 : P 2) {i : Nat} (hi : i < 3) : P i :=
  match i, hi with
  | 0, _ => h0
  | 1, _ => h1
  | 2, _ => h2
theorem co_4 {P : Nat → Prop} (h0 : P 0) (h1 : P 1) (h2 : P 2) (h3 : P 3) {i : Nat} (hi : i < 4) : P i :=
  match i, hi with
  | 0, _ => h0
  | 1, _ => h1
  | 2, _ => h2
  | 3, _ => h3
theorem co_dec {N : Nat} {P : Nat → Prop} [DecidablePred P] (h : (List.range N).all (fun i => decide (P i)) = true) {i : Nat} (hi : i < N) : P i := by
  have := List.all_eq_true.mp h i (List.mem_range.mpr hi)
  exact of_decide_eq_true this
theorem co_tab {α : Type} {l : List α} {d : α} {P : α → Prop} (h : ∀ a, a ∈ l → P a) {i : Nat} (hi : i < l.length) : P (l.getD i d) := by
  rw [List.getD_eq_getElem?_getD, List.getElem?_eq_getElem hi]
  exact h _ (List.getElem_mem hi)
theorem pk_mu {x : Int32} {L : Nat} (h0 : ¬ x < 0) (h : ¬ nI L ≤ x) (hL : L < 2 ^ 31) : ∃ j : Nat, j < L ∧ x = nI j ∧ x + 1 = nI (j + 1) ∧ x.toNatClampNeg = j ∧ L - (x + 1).toNatClampNeg < L - x.toNatClampNeg := by
  obtain ⟨j, hj, rfl⟩ := nI_of h0
  have hl : j < L := Nat.not_le.mp fun q => h (nI_le q hj)
  refine ⟨j, hl, rfl, nI_1 j, nI_clamp hj, ?_⟩
  rw [nI_1, nI_clamp (by omega), nI_clamp hj]
  omega
theorem op_s {α : Type} {r : Option α} {A : Prop} {B : α → Prop} {y : α} (h : r = some y) (b : B y) : (r = none → A) ∧ ∀ z, r = some z → B z :=
  ⟨fun e => (by rw [h] at e; cases e), fun z e => (by rw [h] at e; cases e; exact b)⟩
def l_holds {α : Type} (a : Nat → Option Nat) (LP : List Nat) (p : Nat → α) (c : Nat) (b : Nat → α) : Prop :=
  ∀ j, j < c → ∃ y, a j = some y ∧ y ∈ LP ∧ p y = b j
theorem l_holds_0 {α : Type} {a : Nat → Option Nat} {LP : List Nat} {p b : Nat → α} : l_holds a LP p 0 b := fun j h => absurd h (Nat.not_lt_zero j)
theorem l_in_new (LP : List Nat) (q : Nat) : q ∈ LP ++ [q] := List.mem_append.mpr (Or.inr (List.mem_singleton.mpr rfl))
def l_sum (b : Nat → Int32) : Nat → Int32
  | 0 => 0
  | k + 1 => l_sum b k + b k
theorem sb_shr0 (x : Int32) : x >>> ((0 : Int32) &&& 31) = x := by
  rw [show ((0 : Int32) &&& 31) = 0 by decide]
  simp
theorem sb_shl0 (x : Int32) : x <<< ((0 : Int32) &&& 31) = x := by
  rw [show ((0 : Int32) &&& 31) = 0 by decide]
  simp
theorem sb_cl0 : (0 : Int32).toNatClampNeg = 0 := by decide
theorem sb_m1 {p : Nat} (h : 0 < p) : nI p + (-1) = nI (p - 1) := by
  obtain ⟨q, rfl⟩ : ∃ q, p = q + 1 := ⟨p - 1, by omega⟩
  exact pk_m1 q
def sb_b (c : Nat) : Int32 := (nI c).toInt8.toInt32
theorem sb_byte : ∀ c, c < 256 → sb_b c &&& 255 = nI c ∧ ((nI c).toUInt32 % 65536).toInt32 = nI c ∧ nI c ≤ 255 := by decide +kernel
def sb_Fit (a : Nat → Int32) : Prop := ∀ j, fits .byte (.int (a j)) = true
def sb_Lat (t : Nat → Nat) (n : Nat) (a : Nat → Int32) : Prop := ∀ j, j < n → t j < 256 ∧ a j = sb_b (t j)
theorem sb_fitB (c : Nat) : fits .byte (.int (sb_b c)) = true := pk_fb _
theorem sb_fit0 : sb_Fit (fun _ => 0) := fun _ => by
  show fits .byte (.int 0) = true
  decide
theorem sb_fitU {a : Nat → Int32} {k : Nat} {x : Int32} (h : sb_Fit a) (hx : fits .byte (.int x) = true) : sb_Fit (upd a k x) := by
  intro j
  by_cases e : j = k
  · subst e
    rw [pk_us]
    exact hx
  · rw [pk_un e]
    exact h j
def sb_cat (t : Nat → Nat) (n : Nat) (s : Nat → Nat) : Nat → Nat := fun j => if j < n then t j else s (j - n)
theorem sb_cat_lo {t s : Nat → Nat} {n j : Nat} (h : j < n) : sb_cat t n s j = t j := if_pos h
theorem sb_cat_hi {t s : Nat → Nat} {n j : Nat} : sb_cat t n s (n + j) = s j := by
  show (if n + j < n then t (n + j) else s (n + j - n)) = s j
  rw [if_neg (by omega), Nat.add_sub_cancel_left]
theorem sb_latPut {t s : Nat → Nat} {n w : Nat} {a a' : Nat → Int32} (h : sb_Lat t n a) (hk : ∀ j, j < n → a' j = a j) (hs : ∀ i, i < w → s i < 256 ∧ a' (n + i) = sb_b (s i)) : sb_Lat (sb_cat t n s) (n + w) a' := by
  intro j hj
  by_cases e : j < n
  · rw [sb_cat_lo e, hk j e]
    exact h j e
  · obtain ⟨i, rfl⟩ : ∃ i, j = n + i := ⟨j - n, by omega⟩
    rw [sb_cat_hi]
    exact hs i (by omega)
theorem sb_latKeep {t : Nat → Nat} {n : Nat} {a a' : Nat → Int32} (h : sb_Lat t n a) (hk : ∀ j, j < n → a' j = a j) : sb_Lat t n a' := fun j hj => by
  rw [hk j hj]
  exact h j hj
def sb_cap (q m : Nat) : Nat := if q ≤ m then m else if 2 * m + 2 < q then q else 2 * m + 2
def sb_Room (q m mc ms : Nat) : Prop := q ≤ m ∨ (1 ≤ mc ∧ sb_cap q m ≤ ms ∧ sb_cap q m ≤ 65536)
theorem sb_cap_ge (q m : Nat) : q ≤ sb_cap q m := by
  unfold sb_cap
  split
  · omega
  · split <;> omega
theorem sb_cap_gem (q m : Nat) : m ≤ sb_cap q m := by
  unfold sb_cap
  split
  · omega
  · split <;> omega
theorem sb_cap_le {q m mc ms : Nat} (hm : m ≤ 65536) (hr : sb_Room q m mc ms) : sb_cap q m ≤ 65536 := by
  rcases hr with h | h
  · rw [sb_cap, if_pos h]
    exact hm
  · exact h.2.2
theorem sb_at {P : Int32 → Prop} {x y : Int32} (e : x = y) (h : P y) : P x := e ▸ h
def sb_dg (w : Nat) : Nat := if w < 10 then 1 else if w < 100 then 2 else if w < 1000 then 3 else if w < 10000 then 4 else if w < 100000 then 5 else if w < 1000000 then 6 else if w < 10000000 then 7 else if w < 100000000 then 8 else if w < 1000000000 then 9 else 10
def sb_dec (v : Nat) : Nat → Nat := fun i => 48 + v / 10 ^ (sb_dg v - 1 - i) % 10
theorem sb_dg_in (w : Nat) : 1 ≤ sb_dg w ∧ sb_dg w ≤ 10 := by
  unfold sb_dg
  constructor <;> (repeat' split) <;> omega
theorem sb_dg100 {w : Nat} (h : 100 ≤ w) (hw : w < 2 ^ 31) : sb_dg w = sb_dg (w / 100) + 2 := by
  rw [sb_dg, sb_dg, if_neg (show ¬ w < 10 by omega), if_neg (show ¬ w < 100 by omega)]
  by_cases h3 : w < 1000
  · rw [if_pos h3, if_pos (show w / 100 < 10 by omega)]
  rw [if_neg h3, if_neg (show ¬ w / 100 < 10 by omega)]
  by_cases h4 : w < 10000
  · rw [if_pos h4, if_pos (show w / 100 < 100 by omega)]
  rw [if_neg h4, if_neg (show ¬ w / 100 < 100 by omega)]
  by_cases h5 : w < 100000
  · rw [if_pos h5, if_pos (show w / 100 < 1000 by omega)]
  rw [if_neg h5, if_neg (show ¬ w / 100 < 1000 by omega)]
  by_cases h6 : w < 1000000
  · rw [if_pos h6, if_pos (show w / 100 < 10000 by omega)]
  rw [if_neg h6, if_neg (show ¬ w / 100 < 10000 by omega)]
  by_cases h7 : w < 10000000
  · rw [if_pos h7, if_pos (show w / 100 < 100000 by omega)]
  rw [if_neg h7, if_neg (show ¬ w / 100 < 100000 by omega)]
  by_cases h8 : w < 100000000
  · rw [if_pos h8, if_pos (show w / 100 < 1000000 by omega)]
  rw [if_neg h8, if_neg (show ¬ w / 100 < 1000000 by omega)]
  by_cases h9 : w < 1000000000
  · rw [if_pos h9, if_pos (show w / 100 < 10000000 by omega)]
  rw [if_neg h9, if_neg (show ¬ w / 100 < 10000000 by omega)]
  rw [if_pos (show w / 100 < 100000000 by omega)]
theorem sb_negT {w : Nat} (h : w < 2 ^ 31) : (-nI w).toInt = -(w : Int) := by
  rw [Int32.toInt_neg, nI_toInt h]
  exact Int.bmod_eq_of_le (by omega) (by omega)
theorem sb_nle {a b : Nat} (ha : a < 2 ^ 31) (hb : b < 2 ^ 31) : -nI a ≤ -nI b ↔ b ≤ a := by
  rw [Int32.le_iff_toInt_le, sb_negT ha, sb_negT hb]
  omega
theorem sb_nlt {a b : Nat} (ha : a < 2 ^ 31) (hb : b < 2 ^ 31) : -nI a < -nI b ↔ b < a := by
  rw [Int32.lt_iff_toInt_lt, sb_negT ha, sb_negT hb]
  omega
theorem sb_cmp {A B : Prop} {x : Int32} (v c : Nat) (f : c ≤ v → A) (g : v < c → B) (hv : v < 2 ^ 31) (hx : x = -nI c := by rfl) (hc : c < 2 ^ 31 := by omega) : (-nI v ≤ x → A) ∧ (¬ -nI v ≤ x → B) := by
  subst hx
  rw [sb_nle hv hc]
  exact ⟨f, fun z => g (by omega)⟩
theorem sb_ndiv {w : Nat} (hw : w < 2 ^ 31) : (-nI w) / 100 = -nI (w / 100) := by
  apply Int32.toInt_inj.mp
  have h100 : (100 : Int32).toInt = 100 := by decide
  rw [Int32.toInt_div, sb_negT hw, h100, sb_negT (by omega), Int.neg_tdiv, Int.tdiv_eq_ediv_of_nonneg (by omega), Int.bmod_eq_of_le (by omega) (by omega)]
  omega
theorem sb_nrem {w : Nat} (hw : w < 2 ^ 31) : (-nI (w / 100)) * 100 - (-nI w) = nI (w % 100) := by
  have h := pk_rem (a := w) (d := 100) hw (by decide) (by decide)
  rw [pk_div hw (by decide) (by decide)] at h
  rw [← h]
  show (-nI (w / 100)) * nI 100 - (-nI w) = nI w - nI (w / 100) * nI 100
  rw [Int32.neg_mul, Int32.sub_neg, Int32.add_comm, ← Int32.sub_eq_add_neg]
end
section
/-! trees by parents: pure -/
abbrev zt_nd (c x : Nat) : Prop := x < c ∨ (8 ≤ x ∧ x < 7 + c)
abbrev zt_in (c x : Nat) : Prop := 8 ≤ x ∧ x < 7 + c
/-- x stands at depth n -/
def zt_R (top : Nat) (pr : Nat → Nat) : Nat → Nat → Prop
  | 0, x => x = top
  | n + 1, x => x ≠ top ∧ zt_R top pr n (pr x)
def zt_TR (c top : Nat) (pr : Nat → Nat) : Prop :=
  1 ≤ c ∧ c ≤ 7 ∧ zt_nd c top ∧ pr top = 4294967295 ∧ (∀ x, zt_nd c x → x ≠ top → zt_in c (pr x)) ∧ (∀ x, zt_nd c x → ∃ n, zt_R top pr n x)
def zt_CH (c top : Nat) (pr f1 f2 : Nat → Nat) : Prop :=
  (∀ p, zt_in c p → zt_nd c (f1 p) ∧ zt_nd c (f2 p) ∧ f1 p ≠ f2 p ∧ f1 p ≠ top ∧ f2 p ≠ top ∧ pr (f1 p) = p ∧ pr (f2 p) = p) ∧ (∀ x, zt_nd c x → x ≠ top → f1 (pr x) = x ∨ f2 (pr x) = x)
theorem zt_Ru {top : Nat} {pr : Nat → Nat} : ∀ (n m x : Nat), zt_R top pr n x → zt_R top pr m x → n = m := by
  intro n
  induction n with
  | zero =>
    intro m x h1 h2
    cases m with
    | zero => rfl
    | succ m => exact absurd h1 h2.1
  | succ n ih =>
    intro m x h1 h2
    cases m with
    | zero => exact absurd h2 h1.1
    | succ m => exact congrArg (· + 1) (ih m _ h1.2 h2.2)
/-- n numbers below n that differ -/
theorem zt_pg : ∀ (n M : Nat) (o : Nat → Nat), (∀ i, i < M → o i < n) → (∀ i j, i < j → j < M → o i ≠ o j) → M ≤ n := by
  intro n
  induction n with
  | zero =>
    intro M o h _
    cases M with
    | zero => exact Nat.le_refl 0
    | succ M => exact absurd (h 0 (by omega)) (by omega)
  | succ n ih =>
    intro M o h hd
    by_cases hx : ∃ i, i < M ∧ o i = n
    · obtain ⟨i0, hi0, e0⟩ := hx
      have hM := ih (M - 1) (fun j => if j < i0 then o j else o (j + 1)) (by
        intro i hi
        show (if i < i0 then o i else o (i + 1)) < n
        split
        · have h1 := h i (by omega)
          have h2 := hd i i0 (by omega) hi0
          omega
        · have h1 := h (i + 1) (by omega)
          have h2 := hd i0 (i + 1) (by omega) (by omega)
          omega) (by
        intro i j hij hj
        show (if i < i0 then o i else o (i + 1)) ≠ (if j < i0 then o j else o (j + 1))
        split
        · split
          · exact hd i j hij (by omega)
          · exact hd i (j + 1) (by omega) (by omega)
        · split
          · omega
          · exact hd (i + 1) (j + 1) (by omega) (by omega))
      omega
    · have hM := ih M o (by
        intro i hi
        have h1 := h i hi
        have h2 : o i ≠ n := fun e => hx ⟨i, hi, e⟩
        omega) hd
      omega
def zt_an (pr : Nat → Nat) : Nat → Nat → Nat
  | 0, x => x
  | k + 1, x => pr (zt_an pr k x)
theorem zt_an_R {c top : Nat} {pr : Nat → Nat} (hT : zt_TR c top pr) {x d : Nat} (hx : zt_nd c x) (hd : zt_R top pr d x) :
    ∀ k, k ≤ d → zt_R top pr (d - k) (zt_an pr k x) ∧ zt_nd c (zt_an pr k x) ∧ (0 < k → zt_in c (zt_an pr k x)) := by
  intro k
  induction k with
  | zero => intro _; exact ⟨hd, hx, fun h => absurd h (by omega)⟩
  | succ k ih =>
    intro hk
    obtain ⟨h1, h2, _⟩ := ih (by omega)
    obtain ⟨e, he⟩ : ∃ e, d - k = e + 1 := ⟨d - k - 1, by omega⟩
    rw [he] at h1
    have e2 : d - (k + 1) = e := by omega
    have h3 := hT.2.2.2.2.1 _ h2 h1.1
    rw [e2]
    exact ⟨h1.2, Or.inr h3, fun _ => h3⟩
theorem zt_dep {c top : Nat} {pr : Nat → Nat} (hT : zt_TR c top pr) {x d : Nat} (hx : zt_nd c x) (hd : zt_R top pr d x) : d ≤ 6 := by
  have hA := zt_an_R hT hx hd
  have hc := hT.2.1
  refine zt_pg 6 d (fun i => zt_an pr (i + 1) x - 8) ?_ ?_
  · intro i hi
    have h := (hA (i + 1) (by omega)).2.2 (by omega)
    show zt_an pr (i + 1) x - 8 < 6
    omega
  · intro i j hij hj e
    have hi1 := hA (i + 1) (by omega)
    have hj1 := hA (j + 1) (by omega)
    have hi2 := hi1.2.2 (by omega)
    have hj2 := hj1.2.2 (by omega)
    have e2 : zt_an pr (i + 1) x = zt_an pr (j + 1) x := by
      have e3 : zt_an pr (i + 1) x - 8 = zt_an pr (j + 1) x - 8 := e
      omega
    have h3 := hi1.1
    rw [e2] at h3
    have := zt_Ru _ _ _ h3 hj1.1
    omega
theorem zt_td {c top : Nat} {pr : Nat → Nat} (hT : zt_TR c top pr) {P : Nat → Prop} (h0 : P top) (hs : ∀ x, zt_nd c x → x ≠ top → P (pr x) → P x) : ∀ x, zt_nd c x → P x := by
  have H : ∀ (n x : Nat), zt_nd c x → zt_R top pr n x → P x := by
    intro n
    induction n with
    | zero => intro x _ h; cases h; exact h0
    | succ n ih =>
      intro x hx h
      exact hs x hx h.1 (ih _ (Or.inr (hT.2.2.2.2.1 x hx h.1)) h.2)
  intro x hx
  obtain ⟨n, hn⟩ := hT.2.2.2.2.2 x hx
  exact H n x hx hn
theorem zt_chR {c top : Nat} {pr f1 f2 : Nat → Nat} (hC : zt_CH c top pr f1 f2) {p d : Nat} (hp : zt_in c p) (hd : zt_R top pr d p) : zt_R top pr (d + 1) (f1 p) ∧ zt_R top pr (d + 1) (f2 p) := by
  obtain ⟨_, _, _, h4, h5, h6, h7⟩ := hC.1 p hp
  refine ⟨⟨h4, ?_⟩, ⟨h5, ?_⟩⟩
  · rw [h6]; exact hd
  · rw [h7]; exact hd
theorem zt_bu {c top : Nat} {pr f1 f2 : Nat → Nat} (hT : zt_TR c top pr) (hC : zt_CH c top pr f1 f2) {P : Nat → Prop} (hs : ∀ x, zt_nd c x → (zt_in c x → P (f1 x) ∧ P (f2 x)) → P x) : ∀ x, zt_nd c x → P x := by
  have H : ∀ (k x d : Nat), zt_nd c x → zt_R top pr d x → 7 ≤ d + k → P x := by
    intro k
    induction k with
    | zero =>
      intro x d hx hd h
      have := zt_dep hT hx hd
      omega
    | succ k ih =>
      intro x d hx hd h
      refine hs x hx (fun hp => ?_)
      have h1 := hC.1 x hp
      have h2 := zt_chR hC hp hd
      exact ⟨ih _ (d + 1) h1.1 h2.1 (by omega), ih _ (d + 1) h1.2.1 h2.2 (by omega)⟩
  intro x hx
  obtain ⟨n, hn⟩ := hT.2.2.2.2.2 x hx
  exact H 7 x n hx hn (by omega)
/-- recursion from the top down -/
def zt_tdf {β : Type} (top : Nat) (pr : Nat → Nat) (v0 : β) (G : Nat → β → β) : Nat → Nat → β
  | 0, _ => v0
  | n + 1, x => if x = top then v0 else G x (zt_tdf top pr v0 G n (pr x))
theorem zt_tdf_st {β : Type} {top : Nat} {pr : Nat → Nat} {v0 : β} {G : Nat → β → β} : ∀ (d n x : Nat), zt_R top pr d x → d ≤ n → zt_tdf top pr v0 G n x = zt_tdf top pr v0 G d x := by
  intro d
  induction d with
  | zero =>
    intro n x h _
    cases n with
    | zero => rfl
    | succ n => exact if_pos h
  | succ d ih =>
    intro n x h hn
    obtain ⟨m, rfl⟩ : ∃ m, n = m + 1 := ⟨n - 1, by omega⟩
    have e1 : zt_tdf top pr v0 G (m + 1) x = G x (zt_tdf top pr v0 G m (pr x)) := if_neg h.1
    have e2 : zt_tdf top pr v0 G (d + 1) x = G x (zt_tdf top pr v0 G d (pr x)) := if_neg h.1
    rw [e1, e2, ih m _ h.2 (by omega)]
theorem zt_tdS {c top : Nat} {pr : Nat → Nat} (hT : zt_TR c top pr) {β : Type} (v0 : β) (G : Nat → β → β) : zt_tdf top pr v0 G 7 top = v0 ∧ ∀ x, zt_nd c x → x ≠ top → zt_tdf top pr v0 G 7 x = G x (zt_tdf top pr v0 G 7 (pr x)) := by
  refine ⟨if_pos rfl, fun x hx hne => ?_⟩
  have hp := hT.2.2.2.2.1 x hx hne
  obtain ⟨n, hn⟩ := hT.2.2.2.2.2 _ (Or.inr hp)
  have h6 : n + 1 ≤ 6 := zt_dep hT (d := n + 1) hx ⟨hne, hn⟩
  have e1 : zt_tdf top pr v0 G 7 x = G x (zt_tdf top pr v0 G 6 (pr x)) := if_neg hne
  rw [e1, zt_tdf_st n 6 _ hn (by omega), zt_tdf_st n 7 _ hn (by omega)]
/-- recursion from the leaves up -/
def zt_buf {β : Type} (j : β) (lf : Nat → β) (cb : Nat → β → β → β) (f1 f2 : Nat → Nat) : Nat → Nat → β
  | 0, _ => j
  | n + 1, x => if x < 8 then lf x else cb x (zt_buf j lf cb f1 f2 n (f1 x)) (zt_buf j lf cb f1 f2 n (f2 x))
theorem zt_buf_st {c top : Nat} {pr f1 f2 : Nat → Nat} (hT : zt_TR c top pr) (hC : zt_CH c top pr f1 f2) {β : Type} {j : β} {lf : Nat → β} {cb : Nat → β → β → β} :
    ∀ (n x d : Nat), zt_nd c x → zt_R top pr d x → 7 ≤ d + n → zt_buf j lf cb f1 f2 n x = zt_buf j lf cb f1 f2 (n + 1) x := by
  intro n
  induction n with
  | zero =>
    intro x d hx hd h
    have := zt_dep hT hx hd
    omega
  | succ n ih =>
    intro x d hx hd h
    by_cases h8 : x < 8
    · exact (if_pos h8).trans (if_pos h8).symm
    · have hp : zt_in c x := by have := hT.2.1; omega
      have h1 := hC.1 x hp
      have h2 := zt_chR hC hp hd
      have e1 : zt_buf j lf cb f1 f2 (n + 1) x = cb x (zt_buf j lf cb f1 f2 n (f1 x)) (zt_buf j lf cb f1 f2 n (f2 x)) := if_neg h8
      have e2 : zt_buf j lf cb f1 f2 (n + 1 + 1) x = cb x (zt_buf j lf cb f1 f2 (n + 1) (f1 x)) (zt_buf j lf cb f1 f2 (n + 1) (f2 x)) := if_neg h8
      rw [e1, e2, ih _ (d + 1) h1.1 h2.1 (by omega), ih _ (d + 1) h1.2.1 h2.2 (by omega)]
theorem zt_buS {c top : Nat} {pr f1 f2 : Nat → Nat} (hT : zt_TR c top pr) (hC : zt_CH c top pr f1 f2) {β : Type} (j : β) (lf : Nat → β) (cb : Nat → β → β → β) :
    ∃ V : Nat → β, (∀ x, zt_nd c x → x < 8 → V x = lf x) ∧ (∀ x, zt_in c x → V x = cb x (V (f1 x)) (V (f2 x))) := by
  refine ⟨zt_buf j lf cb f1 f2 7, fun x _ h8 => if_pos h8, fun x hp => ?_⟩
  obtain ⟨n, hn⟩ := hT.2.2.2.2.2 x (Or.inr hp)
  rw [zt_buf_st hT hC 7 x n (Or.inr hp) hn (by omega)]
  exact if_neg (by omega)
/-- y is x or below it -/
def zt_un (top : Nat) (pr : Nat → Nat) (y x : Nat) : Bool := zt_tdf top pr (fun x => decide (top = x)) (fun y V x => decide (y = x) || V x) 7 y x
theorem zt_un0 {c top : Nat} {pr : Nat → Nat} (hT : zt_TR c top pr) (x : Nat) : zt_un top pr top x = true ↔ top = x := by
  have h := congrFun (zt_tdS hT (fun x => decide (top = x)) (fun y V x => decide (y = x) || V x)).1 x
  unfold zt_un
  rw [h]
  exact decide_eq_true_iff
theorem zt_un1 {c top : Nat} {pr : Nat → Nat} (hT : zt_TR c top pr) {y : Nat} (hy : zt_nd c y) (hne : y ≠ top) (x : Nat) : zt_un top pr y x = true ↔ y = x ∨ zt_un top pr (pr y) x = true := by
  have h := congrFun ((zt_tdS hT (fun x => decide (top = x)) (fun y V x => decide (y = x) || V x)).2 y hy hne) x
  unfold zt_un
  rw [h]
  rw [Bool.or_eq_true, decide_eq_true_iff]
theorem zt_un_self {c top : Nat} {pr : Nat → Nat} (hT : zt_TR c top pr) {y : Nat} (hy : zt_nd c y) : zt_un top pr y y = true := by
  by_cases h : y = top
  · rw [h]; exact (zt_un0 hT top).mpr rfl
  · exact (zt_un1 hT hy h y).mpr (Or.inl rfl)
theorem zt_un_top {c top : Nat} {pr : Nat → Nat} (hT : zt_TR c top pr) : ∀ y, zt_nd c y → zt_un top pr y top = true :=
  zt_td hT ((zt_un0 hT top).mpr rfl) (fun x hx hne ih => (zt_un1 hT hx hne top).mpr (Or.inr ih))
/-- who is above stands no deeper, and is a node -/
theorem zt_un_dep {c top : Nat} {pr : Nat → Nat} (hT : zt_TR c top pr) : ∀ (d y x : Nat), zt_nd c y → zt_R top pr d y → zt_un top pr y x = true → zt_nd c x ∧ ∃ e, e ≤ d ∧ zt_R top pr e x ∧ (e = d → y = x) := by
  intro d
  induction d with
  | zero =>
    intro y x hy hd h
    cases hd
    have e := (zt_un0 hT x).mp h
    subst e
    exact ⟨hy, 0, Nat.le_refl 0, rfl, fun _ => rfl⟩
  | succ d ih =>
    intro y x hy hd h
    rcases (zt_un1 hT hy hd.1 x).mp h with e | h2
    · subst e
      exact ⟨hy, d + 1, Nat.le_refl _, hd, fun _ => rfl⟩
    · obtain ⟨h3, e, he, hR, _⟩ := ih _ x (Or.inr (hT.2.2.2.2.1 y hy hd.1)) hd.2 h2
      exact ⟨h3, e, by omega, hR, fun e2 => by omega⟩
theorem zt_un_pr {c top : Nat} {pr : Nat → Nat} (hT : zt_TR c top pr) {y : Nat} (hy : zt_nd c y) (hne : y ≠ top) : ¬ zt_un top pr (pr y) y = true := by
  intro h
  have hp := hT.2.2.2.2.1 y hy hne
  obtain ⟨n, hn⟩ := hT.2.2.2.2.2 _ (Or.inr hp)
  obtain ⟨_, e, he, hR, _⟩ := zt_un_dep hT n _ y (Or.inr hp) hn h
  have h2 : zt_R top pr (n + 1) y := ⟨hne, hn⟩
  have := zt_Ru _ _ _ hR h2
  omega
theorem zt_un_tr {c top : Nat} {pr : Nat → Nat} (hT : zt_TR c top pr) {a b : Nat} (hab : zt_un top pr a b = true) : ∀ y, zt_nd c y → zt_un top pr y a = true → zt_un top pr y b = true := by
  refine zt_td hT ?_ ?_
  · intro h
    have e := (zt_un0 hT a).mp h
    subst e; exact hab
  · intro x hx hne ih h
    rcases (zt_un1 hT hx hne a).mp h with e | h2
    · rw [e]; exact hab
    · exact (zt_un1 hT hx hne b).mpr (Or.inr (ih h2))
theorem zt_un_anti {c top : Nat} {pr : Nat → Nat} (hT : zt_TR c top pr) {a b : Nat} (ha : zt_nd c a) (h1 : zt_un top pr a b = true) (h2 : zt_un top pr b a = true) : a = b := by
  obtain ⟨n, hn⟩ := hT.2.2.2.2.2 a ha
  obtain ⟨hb, e, he, hR, h3⟩ := zt_un_dep hT n a b ha hn h1
  obtain ⟨_, e', he', hR', _⟩ := zt_un_dep hT e b a hb hR h2
  have := zt_Ru _ _ _ hR' hn
  exact h3 (by omega)
theorem zt_un_add {c top : Nat} {pr f1 f2 : Nat → Nat} (hT : zt_TR c top pr) (hC : zt_CH c top pr f1 f2) {x : Nat} (hx : zt_in c x) : ∀ y, zt_nd c y → y ≠ x → (zt_un top pr y x = true ↔ zt_un top pr y (f1 x) = true ∨ zt_un top pr y (f2 x) = true) := by
  obtain ⟨k1, k2, k3, k4, k5, k6, k7⟩ := hC.1 x hx
  refine zt_td hT ?_ ?_
  · intro hne
    rw [zt_un0 hT, zt_un0 hT, zt_un0 hT]
    exact ⟨fun h => absurd h hne, fun h => h.elim (fun e => absurd e.symm k4) (fun e => absurd e.symm k5)⟩
  · intro y hy hnt ih hne
    rw [zt_un1 hT hy hnt, zt_un1 hT hy hnt, zt_un1 hT hy hnt]
    by_cases hp : pr y = x
    · rw [hp]
      have hs := zt_un_self hT (y := x) (Or.inr hx)
      have hc := hC.2 y hy hnt
      rw [hp] at hc
      exact ⟨fun _ => hc.elim (fun e => Or.inl (Or.inl e.symm)) (fun e => Or.inr (Or.inl e.symm)), fun _ => Or.inr hs⟩
    · have ih2 := ih hp
      rw [ih2]
      constructor
      · intro h
        rcases h with e | h | h
        · exact absurd e hne
        · exact Or.inl (Or.inr h)
        · exact Or.inr (Or.inr h)
      · intro h
        rcases h with (e | h) | (e | h)
        · rw [e] at hp; exact absurd k6 hp
        · exact Or.inr (Or.inl h)
        · rw [e] at hp; exact absurd k7 hp
        · exact Or.inr (Or.inr h)
theorem zt_un_ex {c top : Nat} {pr : Nat → Nat} (hT : zt_TR c top pr) {a b d : Nat} (ha : zt_R top pr d a) (hb : zt_R top pr d b) : ∀ (n y : Nat), zt_nd c y → zt_R top pr n y → zt_un top pr y a = true → zt_un top pr y b = true → a = b := by
  intro n
  induction n with
  | zero =>
    intro y hy hn h1 h2
    cases hn
    exact ((zt_un0 hT a).mp h1).symm.trans ((zt_un0 hT b).mp h2)
  | succ n ih =>
    intro y hy hn h1 h2
    have hpn := hT.2.2.2.2.1 y hy hn.1
    rcases (zt_un1 hT hy hn.1 a).mp h1 with e1 | h1
    · rcases (zt_un1 hT hy hn.1 b).mp h2 with e2 | h2
      · exact e1.symm.trans e2
      · subst e1
        obtain ⟨_, e, he, hR, _⟩ := zt_un_dep hT n _ b (Or.inr hpn) hn.2 h2
        have q1 := zt_Ru _ _ _ hR hb
        have q2 := zt_Ru _ _ _ ha hn
        omega
    · rcases (zt_un1 hT hy hn.1 b).mp h2 with e2 | h2
      · subst e2
        obtain ⟨_, e, he, hR, _⟩ := zt_un_dep hT n _ a (Or.inr hpn) hn.2 h1
        have q1 := zt_Ru _ _ _ hR ha
        have q2 := zt_Ru _ _ _ hb hn
        omega
      · exact ih _ (Or.inr hpn) hn.2 h1 h2
theorem zt_un_x12 {c top : Nat} {pr f1 f2 : Nat → Nat} (hT : zt_TR c top pr) (hC : zt_CH c top pr f1 f2) {x : Nat} (hx : zt_in c x) {y : Nat} (hy : zt_nd c y) (h1 : zt_un top pr y (f1 x) = true) (h2 : zt_un top pr y (f2 x) = true) : False := by
  obtain ⟨n, hn⟩ := hT.2.2.2.2.2 x (Or.inr hx)
  obtain ⟨m, hm⟩ := hT.2.2.2.2.2 y hy
  have h := zt_chR hC hx hn
  exact (hC.1 x hx).2.2.1 (zt_un_ex hT h.1 h.2 m y hy hm h1 h2)
theorem zt_un_leaf {c top : Nat} {pr : Nat → Nat} (hT : zt_TR c top pr) {x : Nat} (hx : x < 8) : ∀ y, zt_nd c y → zt_un top pr y x = true → y = x := by
  refine zt_td hT (fun h => (zt_un0 hT x).mp h) (fun y hy hne ih h => ?_)
  rcases (zt_un1 hT hy hne x).mp h with e | h2
  · exact e
  · have h3 := ih h2
    have h4 := hT.2.2.2.2.1 y hy hne
    omega
/-- how many of the first n leaves are below x -/
def zt_K (c top : Nat) (pr : Nat → Nat) (x : Nat) : Nat → Nat
  | 0 => 0
  | n + 1 => zt_K c top pr x n + (if (decide (n < c) && zt_un top pr n x) = true then 1 else 0)
theorem zt_K_le {c top : Nat} {pr : Nat → Nat} {x : Nat} : ∀ n, zt_K c top pr x n ≤ n := by
  intro n
  induction n with
  | zero => exact Nat.le_refl 0
  | succ n ih =>
    show zt_K c top pr x n + (if (decide (n < c) && zt_un top pr n x) = true then 1 else 0) ≤ n + 1
    split <;> omega
theorem zt_K_leaf {c top : Nat} {pr : Nat → Nat} (hT : zt_TR c top pr) {x : Nat} (hx : x < c) : ∀ n, x < n → 1 ≤ zt_K c top pr x n := by
  intro n
  induction n with
  | zero => intro h; omega
  | succ n ih =>
    intro h
    show 1 ≤ zt_K c top pr x n + (if (decide (n < c) && zt_un top pr n x) = true then 1 else 0)
    by_cases e : x = n
    · subst e
      rw [if_pos (by rw [zt_un_self hT (Or.inl hx), decide_eq_true hx]; rfl)]
      omega
    · have := ih (by omega)
      omega
theorem zt_K_add {c top : Nat} {pr f1 f2 : Nat → Nat} (hT : zt_TR c top pr) (hC : zt_CH c top pr f1 f2) {x : Nat} (hx : zt_in c x) : ∀ n, n ≤ 7 → zt_K c top pr x n = zt_K c top pr (f1 x) n + zt_K c top pr (f2 x) n := by
  intro n
  induction n with
  | zero => intro _; rfl
  | succ n ih =>
    intro hn
    have ih2 := ih (by omega)
    show zt_K c top pr x n + (if (decide (n < c) && zt_un top pr n x) = true then 1 else 0) = (zt_K c top pr (f1 x) n + (if (decide (n < c) && zt_un top pr n (f1 x)) = true then 1 else 0)) + (zt_K c top pr (f2 x) n + (if (decide (n < c) && zt_un top pr n (f2 x)) = true then 1 else 0))
    by_cases hc : n < c
    · have ha := zt_un_add hT hC hx n (Or.inl hc) (by omega)
      have hb := fun h1 h2 => zt_un_x12 hT hC hx (Or.inl hc) (y := n) h1 h2
      rw [decide_eq_true hc, Bool.true_and, Bool.true_and, Bool.true_and]
      by_cases h1 : zt_un top pr n (f1 x) = true
      · by_cases h2 : zt_un top pr n (f2 x) = true
        · exact (hb h1 h2).elim
        · rw [if_pos h1, if_neg h2, if_pos (ha.mpr (Or.inl h1))]; omega
      · by_cases h2 : zt_un top pr n (f2 x) = true
        · rw [if_neg h1, if_pos h2, if_pos (ha.mpr (Or.inr h2))]; omega
        · rw [if_neg h1, if_neg h2, if_neg (fun h => (ha.mp h).elim h1 h2)]; omega
    · rw [decide_eq_false hc, Bool.false_and, Bool.false_and, Bool.false_and, if_neg (by decide)]
      omega
end
section
/-! least costs, numbers of ways, sums: pure -/
/-- the least of a cap and the first n values -/
def zd_mn (cap : Nat) (q : Nat → Nat) : Nat → Nat
  | 0 => cap
  | t + 1 => min (zd_mn cap q t) (q t)
theorem zd_mn_cap {cap : Nat} {q : Nat → Nat} : ∀ n, zd_mn cap q n ≤ cap := by
  intro n
  induction n with
  | zero => exact Nat.le_refl cap
  | succ n ih => exact Nat.le_trans (Nat.min_le_left _ _) ih
theorem zd_mn_le {cap : Nat} {q : Nat → Nat} : ∀ n t, t < n → zd_mn cap q n ≤ q t := by
  intro n
  induction n with
  | zero => intro t h; omega
  | succ n ih =>
    intro t h
    by_cases e : t = n
    · rw [e]; exact Nat.min_le_right _ _
    · exact Nat.le_trans (Nat.min_le_left _ _) (ih t (by omega))
theorem zd_mn_att {cap : Nat} {q : Nat → Nat} : ∀ n, zd_mn cap q n = cap ∨ ∃ t, t < n ∧ zd_mn cap q n = q t := by
  intro n
  induction n with
  | zero => exact Or.inl rfl
  | succ n ih =>
    have e : zd_mn cap q (n + 1) = min (zd_mn cap q n) (q n) := rfl
    by_cases h : zd_mn cap q n ≤ q n
    · rw [e, Nat.min_eq_left h]
      rcases ih with h1 | ⟨t, ht, h1⟩
      · exact Or.inl h1
      · exact Or.inr ⟨t, by omega, h1⟩
    · rw [e, Nat.min_eq_right (by omega)]
      exact Or.inr ⟨n, by omega, rfl⟩
theorem zd_mn_congr {cap : Nat} {q q' : Nat → Nat} : ∀ n, (∀ t, t < n → q t = q' t) → zd_mn cap q n = zd_mn cap q' n := by
  intro n
  induction n with
  | zero => intro _; rfl
  | succ n ih =>
    intro h
    show min (zd_mn cap q n) (q n) = min (zd_mn cap q' n) (q' n)
    rw [ih (fun t ht => h t (by omega)), h n (by omega)]
theorem zd_mn_k {q q' : Nat → Nat} : ∀ n, (∀ t, t < n → min 1000 (q t) = min 1000 (q' t)) → zd_mn 1000 q n = min 1000 (zd_mn 100000 q' n) := by
  intro n
  induction n with
  | zero => intro _; rfl
  | succ n ih =>
    intro h
    have h1 := ih (fun t ht => h t (by omega))
    have h2 := h n (by omega)
    show min (zd_mn 1000 q n) (q n) = min 1000 (min (zd_mn 100000 q' n) (q' n))
    omega
/-- the sum of the first ones -/
def zd_sm (f : Nat → Int32) : Nat → Int32
  | 0 => 0
  | t + 1 => zd_sm f t + f t
def zd_sL (f : Nat → Int64) : Nat → Int64
  | 0 => 0
  | t + 1 => zd_sL f t + f t
theorem zd_sm_congr {f g : Nat → Int32} : ∀ n, (∀ t, t < n → f t = g t) → zd_sm f n = zd_sm g n := by
  intro n
  induction n with
  | zero => intro _; rfl
  | succ n ih =>
    intro h
    show zd_sm f n + f n = zd_sm g n + g n
    rw [ih (fun t ht => h t (by omega)), h n (by omega)]
theorem zd_sL_congr {f g : Nat → Int64} : ∀ n, (∀ t, t < n → f t = g t) → zd_sL f n = zd_sL g n := by
  intro n
  induction n with
  | zero => intro _; rfl
  | succ n ih =>
    intro h
    show zd_sL f n + f n = zd_sL g n + g n
    rw [ih (fun t ht => h t (by omega)), h n (by omega)]
theorem zd_sm_0 {f : Nat → Int32} : ∀ n, (∀ t, t < n → f t = 0) → zd_sm f n = 0 := by
  intro n
  induction n with
  | zero => intro _; rfl
  | succ n ih =>
    intro h
    show zd_sm f n + f n = 0
    rw [ih (fun t ht => h t (by omega)), h n (by omega)]
    rfl
/-- the reference's count of ways along its scan -/
def zd_wy (q : Nat → Nat) (u : Nat → Int32) : Nat → Int32
  | 0 => 0
  | t + 1 => (if q t = min (zd_mn 1000 q t) (q t) then (if zd_mn 1000 q t ≤ q t then zd_wy q u t else 0) + u t else (if zd_mn 1000 q t ≤ q t then zd_wy q u t else 0))
theorem zd_wy_eq (q : Nat → Nat) (u : Nat → Int32) : ∀ n, zd_wy q u n = zd_sm (fun t => if q t = zd_mn 1000 q n then u t else 0) n := by
  intro n
  induction n with
  | zero => rfl
  | succ n ih =>
    have e : zd_mn 1000 q (n + 1) = min (zd_mn 1000 q n) (q n) := rfl
    have hr : zd_sm (fun t => if q t = zd_mn 1000 q (n + 1) then u t else 0) (n + 1) = zd_sm (fun t => if q t = zd_mn 1000 q (n + 1) then u t else 0) n + (if q n = zd_mn 1000 q (n + 1) then u n else 0) := rfl
    rw [hr]
    show (if q n = min (zd_mn 1000 q n) (q n) then (if zd_mn 1000 q n ≤ q n then zd_wy q u n else 0) + u n else (if zd_mn 1000 q n ≤ q n then zd_wy q u n else 0)) = _
    by_cases h : zd_mn 1000 q n ≤ q n
    · rw [e, Nat.min_eq_left h, if_pos h, ih]
      split
      · rfl
      · exact (Int32.add_zero _).symm
    · rw [e, Nat.min_eq_right (by omega), if_neg h, if_pos rfl, if_pos rfl]
      rw [zd_sm_0 n (fun t ht => ?_)]
      have := zd_mn_le (cap := 1000) (q := q) n t ht
      exact if_neg (by omega)
section
variable {c top : Nat} {pr f1 f2 g1 g2 : Nat → Nat} {cs : Nat → Nat} {mb : Nat → Nat → Bool}
/-- the component's least costs below -/
def zd_L (c : Nat) (f1 f2 cs : Nat → Nat) (mb : Nat → Nat → Bool) (L : Nat → Nat → Nat) : Prop :=
  (∀ x, zt_nd c x → x < 8 → ∀ s, L x s = if mb x s = true then 0 else 100000) ∧
  (∀ x, zt_in c x → ∀ s, L x s = zd_mn 100000 (fun t => cs (4 * s + t) + L (f1 x) t) 4 + zd_mn 100000 (fun t => cs (4 * s + t) + L (f2 x) t) 4)
/-- the number of ways to a child -/
def zd_nu (cs : Nat → Nat) (Lc : Nat → Nat) (Mc : Nat → Int32) (s : Nat) : Int32 :=
  zd_sm (fun t => if cs (4 * s + t) + Lc t = zd_mn 100000 (fun t => cs (4 * s + t) + Lc t) 4 then Mc t else 0) 4
def zd_M (c : Nat) (f1 f2 cs : Nat → Nat) (mb : Nat → Nat → Bool) (L : Nat → Nat → Nat) (M : Nat → Nat → Int32) : Prop :=
  (∀ x, zt_nd c x → x < 8 → ∀ s, M x s = if mb x s = true then 1 else 0) ∧
  (∀ x, zt_in c x → ∀ s, M x s = zd_nu cs (L (f1 x)) (M (f1 x)) s * zd_nu cs (L (f2 x)) (M (f2 x)) s)
def zd_so (rt : Nat → Int32) (Sc : Nat → Int64) (s : Nat) : Int64 := zd_sL (fun t => (rt (4 * s + t)).toInt64 * Sc t) 4
def zd_S (c : Nat) (f1 f2 : Nat → Nat) (rt : Nat → Int32) (mb : Nat → Nat → Bool) (S : Nat → Nat → Int64) : Prop :=
  (∀ x, zt_nd c x → x < 8 → ∀ s, S x s = if mb x s = true then 1 else 0) ∧
  (∀ x, zt_in c x → ∀ s, S x s = zd_so rt (S (f1 x)) s * zd_so rt (S (f2 x)) s)
theorem zd_L_ex (hT : zt_TR c top pr) (hC : zt_CH c top pr f1 f2) (cs : Nat → Nat) (mb : Nat → Nat → Bool) : ∃ L, zd_L c f1 f2 cs mb L := by
  obtain ⟨V, h1, h2⟩ := zt_buS hT hC (fun _ => 0) (fun x s => if mb x s = true then 0 else 100000) (fun _ u v s => zd_mn 100000 (fun t => cs (4 * s + t) + u t) 4 + zd_mn 100000 (fun t => cs (4 * s + t) + v t) 4)
  exact ⟨V, fun x hx h8 s => congrFun (h1 x hx h8) s, fun x hx s => congrFun (h2 x hx) s⟩
theorem zd_M_ex (hT : zt_TR c top pr) (hC : zt_CH c top pr f1 f2) (cs : Nat → Nat) (mb : Nat → Nat → Bool) (L : Nat → Nat → Nat) : ∃ M, zd_M c f1 f2 cs mb L M := by
  obtain ⟨V, h1, h2⟩ := zt_buS hT hC (fun _ => 0) (fun x s => if mb x s = true then 1 else 0) (fun x u v s => zd_nu cs (L (f1 x)) u s * zd_nu cs (L (f2 x)) v s)
  exact ⟨V, fun x hx h8 s => congrFun (h1 x hx h8) s, fun x hx s => congrFun (h2 x hx) s⟩
theorem zd_S_ex (hT : zt_TR c top pr) (hC : zt_CH c top pr f1 f2) (rt : Nat → Int32) (mb : Nat → Nat → Bool) : ∃ S, zd_S c f1 f2 rt mb S := by
  obtain ⟨V, h1, h2⟩ := zt_buS hT hC (fun _ => 0) (fun x s => if mb x s = true then 1 else 0) (fun _ u v s => zd_so rt u s * zd_so rt v s)
  exact ⟨V, fun x hx h8 s => congrFun (h1 x hx h8) s, fun x hx s => congrFun (h2 x hx) s⟩
theorem zd_L_big {L : Nat → Nat → Nat} (hL : zd_L c f1 f2 cs mb L) {x : Nat} (hx : zt_nd c x) (s : Nat) : L x s ≤ 200000 := by
  by_cases h8 : x < 8
  · rw [hL.1 x hx h8 s]; split <;> omega
  · rw [hL.2 x (by omega) s]
    have h1 := zd_mn_cap (cap := 100000) (q := fun t => cs (4 * s + t) + L (f1 x) t) 4
    have h2 := zd_mn_cap (cap := 100000) (q := fun t => cs (4 * s + t) + L (f2 x) t) 4
    omega
/-- a cheap state everywhere -/
theorem zd_L_low (hT : zt_TR c top pr) (hC : zt_CH c top pr f1 f2) (hcs : ∀ j, j < 16 → cs j ≤ 9) (hmb : ∀ x, x < 8 → ∃ s, s < 4 ∧ mb x s = true) {L : Nat → Nat → Nat} (hL : zd_L c f1 f2 cs mb L) :
    ∀ x, zt_nd c x → ∃ s, s < 4 ∧ L x s + 18 ≤ 18 * zt_K c top pr x 7 := by
  refine zt_bu hT hC (fun x hx ih => ?_)
  by_cases h8 : x < 8
  · obtain ⟨s, hs, h⟩ := hmb x h8
    have hc := hT.2.1
    have hk := zt_K_leaf hT (x := x) (by omega) 7 (by omega)
    refine ⟨s, hs, ?_⟩
    rw [hL.1 x hx h8 s, if_pos h]
    omega
  · have hp : zt_in c x := by omega
    obtain ⟨⟨s1, hs1, h1⟩, ⟨s2, hs2, h2⟩⟩ := ih hp
    refine ⟨0, by omega, ?_⟩
    have hk := zt_K_add hT hC hp 7 (by omega)
    have m1 := zd_mn_le (cap := 100000) (q := fun t => cs (4 * 0 + t) + L (f1 x) t) 4 s1 hs1
    have m2 := zd_mn_le (cap := 100000) (q := fun t => cs (4 * 0 + t) + L (f2 x) t) 4 s2 hs2
    have c1 := hcs (4 * 0 + s1) (by omega)
    have c2 := hcs (4 * 0 + s2) (by omega)
    rw [hL.2 x hp 0, hk]
    try dsimp only at m1 m2
    omega
theorem zd_L_108 (hT : zt_TR c top pr) (hC : zt_CH c top pr f1 f2) (hcs : ∀ j, j < 16 → cs j ≤ 9) (hmb : ∀ x, x < 8 → ∃ s, s < 4 ∧ mb x s = true) {L : Nat → Nat → Nat} (hL : zd_L c f1 f2 cs mb L) {x : Nat} (hx : zt_nd c x) : ∃ s, s < 4 ∧ L x s ≤ 108 := by
  obtain ⟨s, hs, h⟩ := zd_L_low hT hC hcs hmb hL x hx
  have := zt_K_le (c := c) (top := top) (pr := pr) (x := x) 7
  exact ⟨s, hs, by omega⟩
theorem zd_L_mn (hT : zt_TR c top pr) (hC : zt_CH c top pr f1 f2) (hcs : ∀ j, j < 16 → cs j ≤ 9) (hmb : ∀ x, x < 8 → ∃ s, s < 4 ∧ mb x s = true) {L : Nat → Nat → Nat} (hL : zd_L c f1 f2 cs mb L) {x : Nat} (hx : zt_nd c x) {s : Nat} (hs : s < 4) : zd_mn 100000 (fun t => cs (4 * s + t) + L x t) 4 ≤ 117 := by
  obtain ⟨t, ht, h⟩ := zd_L_108 hT hC hcs hmb hL hx
  have m1 := zd_mn_le (cap := 100000) (q := fun t => cs (4 * s + t) + L x t) 4 t ht
  have c1 := hcs (4 * s + t) (by omega)
  try dsimp only at m1
  omega
/-- children in the reference's order -/
theorem zd_swap (hC : zt_CH c top pr f1 f2) (hD : zt_CH c top pr g1 g2) {x : Nat} (hx : zt_in c x) : (g1 x = f1 x ∧ g2 x = f2 x) ∨ (g1 x = f2 x ∧ g2 x = f1 x) := by
  obtain ⟨k1, k2, k3, k4, k5, k6, k7⟩ := hD.1 x hx
  have h1 := hC.2 _ k1 k4
  have h2 := hC.2 _ k2 k5
  rw [k6] at h1
  rw [k7] at h2
  rcases h1 with e1 | e1 <;> rcases h2 with e2 | e2
  · exact absurd (e1.symm.trans e2) k3
  · exact Or.inl ⟨e1.symm, e2.symm⟩
  · exact Or.inr ⟨e1.symm, e2.symm⟩
  · exact absurd (e1.symm.trans e2) k3
/-- what the reference settles: ok x s: the node may have the state -/
def zd_Y (c : Nat) (g1 g2 cs : Nat → Nat) (ok : Nat → Nat → Bool) (lo : Nat → Nat → Nat) : Prop :=
  (∀ x, zt_nd c x → x < 8 → ∀ s, s < 4 → lo x s = if ok x s = true then 0 else 1000) ∧
  (∀ x, zt_in c x → ∀ s, s < 4 → lo x s = min 1000 ((if ok x s = true then 0 else 1000) + zd_mn 1000 (fun t => cs (4 * s + t) + lo (g1 x) t) 4 + zd_mn 1000 (fun t => cs (4 * s + t) + lo (g2 x) t) 4))
def zd_YM (c : Nat) (g1 g2 cs : Nat → Nat) (ok : Nat → Nat → Bool) (lo : Nat → Nat → Nat) (M : Nat → Nat → Int32) : Prop :=
  (∀ x, zt_nd c x → x < 8 → ∀ s, s < 4 → M x s = if ok x s = true then 1 else 0) ∧
  (∀ x, zt_in c x → ∀ s, s < 4 → M x s = (if ok x s = true then 1 else 0) * zd_wy (fun t => cs (4 * s + t) + lo (g1 x) t) (M (g1 x)) 4 * zd_wy (fun t => cs (4 * s + t) + lo (g2 x) t) (M (g2 x)) 4)
def zd_YS (c : Nat) (g1 g2 : Nat → Nat) (rt : Nat → Int32) (ok : Nat → Nat → Bool) (S : Nat → Nat → Int64) : Prop :=
  (∀ x, zt_nd c x → x < 8 → ∀ s, s < 4 → S x s = if ok x s = true then 1 else 0) ∧
  (∀ x, zt_in c x → ∀ s, s < 4 → S x s = (if ok x s = true then 1 else 0) * zd_so rt (S (g1 x)) s * zd_so rt (S (g2 x)) s)
def zd_ok (mb : Nat → Nat → Bool) (x s : Nat) : Bool := decide (6 < x) || mb x s
def zd_okf (mb : Nat → Nat → Bool) (x0 s0 x s : Nat) : Bool := !(decide (x = x0) && !decide (s = s0)) && zd_ok mb x s
theorem zd_ok_l {x : Nat} (hx : x < 7) (s : Nat) : zd_ok mb x s = mb x s := by
  unfold zd_ok
  rw [decide_eq_false (by omega), Bool.false_or]
theorem zd_ok_i {x : Nat} (hx : 8 ≤ x) (s : Nat) : zd_ok mb x s = true := by
  unfold zd_ok
  rw [decide_eq_true (by omega), Bool.true_or]
theorem zd_okf_n {x0 s0 x : Nat} (hx : x ≠ x0) (s : Nat) : zd_okf mb x0 s0 x s = zd_ok mb x s := by
  unfold zd_okf
  rw [decide_eq_false hx, Bool.false_and, Bool.not_false, Bool.true_and]
theorem zd_okf_s {x0 s0 : Nat} : zd_okf mb x0 s0 x0 s0 = zd_ok mb x0 s0 := by
  unfold zd_okf
  rw [decide_eq_true rfl, decide_eq_true rfl]
  rfl
theorem zd_okf_f {x0 s0 s : Nat} (hs : s ≠ s0) : zd_okf mb x0 s0 x0 s = false := by
  unfold zd_okf
  rw [decide_eq_true rfl, decide_eq_false hs]
  rfl
theorem zd_Y_ex (hT : zt_TR c top pr) (hC : zt_CH c top pr g1 g2) (cs : Nat → Nat) (ok : Nat → Nat → Bool) : ∃ lo, zd_Y c g1 g2 cs ok lo := by
  obtain ⟨V, h1, h2⟩ := zt_buS hT hC (fun _ => 0) (fun x s => if ok x s = true then 0 else 1000) (fun x u v s => min 1000 ((if ok x s = true then 0 else 1000) + zd_mn 1000 (fun t => cs (4 * s + t) + u t) 4 + zd_mn 1000 (fun t => cs (4 * s + t) + v t) 4))
  exact ⟨V, fun x hx h8 s _ => congrFun (h1 x hx h8) s, fun x hx s _ => congrFun (h2 x hx) s⟩
theorem zd_capq (cs : Nat → Nat) (Lc lc : Nat → Nat) (s : Nat) (h : ∀ t, t < 4 → lc t = min 1000 (Lc t)) : zd_mn 1000 (fun t => cs (4 * s + t) + lc t) 4 = min 1000 (zd_mn 100000 (fun t => cs (4 * s + t) + Lc t) 4) := by
  refine zd_mn_k 4 (fun t ht => ?_)
  try dsimp only
  rw [h t ht]
  omega
/-- unforced: the reference's values are the component's, capped -/
theorem zd_Y_L (hc : c ≤ 7) (hC : zt_CH c top pr f1 f2) (hD : zt_CH c top pr g1 g2) {L : Nat → Nat → Nat} (hL : zd_L c f1 f2 cs mb L) : zd_Y c g1 g2 cs (zd_ok mb) (fun x s => min 1000 (L x s)) := by
  refine ⟨fun x hx h8 s _ => ?_, fun x hx s _ => ?_⟩
  · try dsimp only
    rw [hL.1 x hx h8 s, zd_ok_l (by omega)]
    split <;> rfl
  · try dsimp only
    rw [hL.2 x hx s, zd_ok_i (by omega), if_pos rfl, zd_capq cs (L (g1 x)) _ s (fun t _ => rfl), zd_capq cs (L (g2 x)) _ s (fun t _ => rfl)]
    rcases zd_swap hC hD hx with ⟨e1, e2⟩ | ⟨e1, e2⟩
    · rw [e1, e2]; omega
    · rw [e1, e2]; omega
theorem zd_wy_nu (cs : Nat → Nat) (Lc : Nat → Nat) (u : Nat → Int32) (s : Nat) (h : zd_mn 100000 (fun t => cs (4 * s + t) + Lc t) 4 < 1000) : zd_wy (fun t => cs (4 * s + t) + min 1000 (Lc t)) u 4 = zd_nu cs Lc u s := by
  rw [zd_wy_eq, zd_capq cs Lc _ s (fun t _ => rfl)]
  refine zd_sm_congr 4 (fun t ht => ?_)
  try dsimp only
  by_cases e : cs (4 * s + t) + Lc t = zd_mn 100000 (fun t => cs (4 * s + t) + Lc t) 4
  · rw [if_pos e, if_pos (by omega)]
  · rw [if_neg e, if_neg (by omega)]
theorem zd_Y_M (hT : zt_TR c top pr) (hC : zt_CH c top pr f1 f2) (hD : zt_CH c top pr g1 g2) (hcs : ∀ j, j < 16 → cs j ≤ 9) (hmb : ∀ x, x < 8 → ∃ s, s < 4 ∧ mb x s = true) {L : Nat → Nat → Nat} (hL : zd_L c f1 f2 cs mb L) {M : Nat → Nat → Int32} (hM : zd_M c f1 f2 cs mb L M) : zd_YM c g1 g2 cs (zd_ok mb) (fun x s => min 1000 (L x s)) M := by
  have hc := hT.2.1
  refine ⟨fun x hx h8 s _ => ?_, fun x hx s hs => ?_⟩
  · rw [hM.1 x hx h8 s, zd_ok_l (by omega)]
  · have k := hD.1 x hx
    have b1 := zd_L_mn hT hC hcs hmb hL k.1 hs
    have b2 := zd_L_mn hT hC hcs hmb hL k.2.1 hs
    try dsimp only
    rw [hM.2 x hx s, zd_ok_i (by omega), if_pos rfl, Int32.one_mul, zd_wy_nu cs (L (g1 x)) _ s (by omega), zd_wy_nu cs (L (g2 x)) _ s (by omega)]
    rcases zd_swap hC hD hx with ⟨e1, e2⟩ | ⟨e1, e2⟩
    · rw [e1, e2]
    · rw [e1, e2, Int32.mul_comm]
theorem zd_Y_S (hc : c ≤ 7) (hC : zt_CH c top pr f1 f2) (hD : zt_CH c top pr g1 g2) {rt : Nat → Int32} {S : Nat → Nat → Int64} (hS : zd_S c f1 f2 rt mb S) : zd_YS c g1 g2 rt (zd_ok mb) S := by
  refine ⟨fun x hx h8 s _ => ?_, fun x hx s hs => ?_⟩
  · rw [hS.1 x hx h8 s, zd_ok_l (by omega)]
  · rw [hS.2 x hx s, zd_ok_i (by omega), if_pos rfl, Int64.one_mul]
    rcases zd_swap hC hD hx with ⟨e1, e2⟩ | ⟨e1, e2⟩
    · rw [e1, e2]
    · rw [e1, e2, Int64.mul_comm]
/-- the least at the root -/
theorem zd_best (hT : zt_TR c top pr) (hC : zt_CH c top pr f1 f2) (hcs : ∀ j, j < 16 → cs j ≤ 9) (hmb : ∀ x, x < 8 → ∃ s, s < 4 ∧ mb x s = true) {L : Nat → Nat → Nat} (hL : zd_L c f1 f2 cs mb L) : zd_mn 100000 (L top) 4 ≤ 108 ∧ zd_mn 1000 (fun s => min 1000 (L top s)) 4 = zd_mn 100000 (L top) 4 := by
  obtain ⟨s, hs, h⟩ := zd_L_108 hT hC hcs hmb hL hT.2.2.1
  have h1 := zd_mn_le (cap := 100000) (q := L top) 4 s hs
  have h2 := zd_mn_k (q := fun s => min 1000 (L top s)) (q' := L top) 4 (fun t _ => by omega)
  exact ⟨by omega, by omega⟩
/-! forced -/
def zd_sib (pr f1 f2 : Nat → Nat) (x : Nat) : Nat := if f1 (pr x) = x then f2 (pr x) else f1 (pr x)
def zd_A (c top : Nat) (pr f1 f2 cs : Nat → Nat) (L A : Nat → Nat → Nat) : Prop :=
  (∀ s, A top s = 0) ∧
  (∀ x, zt_nd c x → x ≠ top → ∀ s, A x s = zd_mn 100000 (fun t => A (pr x) t + zd_mn 100000 (fun v => cs (4 * t + v) + L (zd_sib pr f1 f2 x) v) 4 + cs (4 * t + s)) 4)
theorem zd_A_ex (hT : zt_TR c top pr) (f1 f2 cs : Nat → Nat) (L : Nat → Nat → Nat) : ∃ A, zd_A c top pr f1 f2 cs L A := by
  obtain ⟨h1, h2⟩ := zt_tdS hT (fun (_ : Nat) => 0) (fun x V s => zd_mn 100000 (fun t => V t + zd_mn 100000 (fun v => cs (4 * t + v) + L (zd_sib pr f1 f2 x) v) 4 + cs (4 * t + s)) 4)
  exact ⟨_, fun s => congrFun h1 s, fun x hx hne s => congrFun (h2 x hx hne) s⟩
theorem zd_sib_or (hC : zt_CH c top pr f1 f2) {x : Nat} (hx : zt_nd c x) (hne : x ≠ top) : (f1 (pr x) = x ∧ f2 (pr x) = zd_sib pr f1 f2 x) ∨ (f2 (pr x) = x ∧ f1 (pr x) = zd_sib pr f1 f2 x) := by
  unfold zd_sib
  by_cases e : f1 (pr x) = x
  · rw [if_pos e]; exact Or.inl ⟨e, rfl⟩
  · rw [if_neg e]; exact Or.inr ⟨(hC.2 x hx hne).resolve_left e, rfl⟩
theorem zd_f_other (hT : zt_TR c top pr) (hC : zt_CH c top pr f1 f2) (hD : zt_CH c top pr g1 g2) {L : Nat → Nat → Nat} (hL : zd_L c f1 f2 cs mb L) {x0 s0 : Nat} (h0 : zt_nd c x0) {lo : Nat → Nat → Nat} (hlo : zd_Y c g1 g2 cs (zd_okf mb x0 s0) lo) :
    ∀ z, zt_nd c z → ¬ zt_un top pr x0 z = true → ∀ s, s < 4 → lo z s = min 1000 (L z s) := by
  have hc := hT.2.1
  refine zt_bu hT hD (fun z hz ih hu s hs => ?_)
  have hne : z ≠ x0 := by intro e; rw [e] at hu; exact hu (zt_un_self hT h0)
  by_cases h8 : z < 8
  · rw [hlo.1 z hz h8 s hs, hL.1 z hz h8 s, zd_okf_n hne, zd_ok_l (by omega)]
    split <;> rfl
  · have hp : zt_in c z := by omega
    obtain ⟨i1, i2⟩ := ih hp
    have ha := zt_un_add hT hD hp x0 h0 (fun e => hne e.symm)
    have j1 := i1 (fun h => hu (ha.mpr (Or.inl h)))
    have j2 := i2 (fun h => hu (ha.mpr (Or.inr h)))
    rw [hlo.2 z hp s hs, hL.2 z hp s, zd_okf_n hne, zd_ok_i (by omega), if_pos rfl, zd_capq cs (L (g1 z)) _ s j1, zd_capq cs (L (g2 z)) _ s j2]
    rcases zd_swap hC hD hp with ⟨e1, e2⟩ | ⟨e1, e2⟩
    · rw [e1, e2]; omega
    · rw [e1, e2]; omega
theorem zd_f_step (hT : zt_TR c top pr) (hC : zt_CH c top pr f1 f2) (hD : zt_CH c top pr g1 g2) {L A : Nat → Nat → Nat} (hL : zd_L c f1 f2 cs mb L) (hA : zd_A c top pr f1 f2 cs L A) {x0 s0 : Nat} (h0 : zt_nd c x0) {lo : Nat → Nat → Nat} (hlo : zd_Y c g1 g2 cs (zd_okf mb x0 s0) lo)
    {b : Nat} (hb : zt_nd c b) (hbt : b ≠ top) (hub : zt_un top pr x0 b = true) :
    zd_mn 1000 (fun t => lo (pr b) t + A (pr b) t) 4 = zd_mn 1000 (fun t => lo b t + A b t) 4 := by
  have hp := hT.2.2.2.2.1 b hb hbt
  have kC := hC.1 _ hp
  have hzx : pr b ≠ x0 := by
    intro e
    rw [← e] at hub
    exact zt_un_pr hT hb hbt hub
  have hsib := zd_sib_or hC hb hbt
  have hno : ¬ zt_un top pr x0 (zd_sib pr f1 f2 b) = true := by
    intro h
    rcases hsib with ⟨e1, e2⟩ | ⟨e1, e2⟩
    · exact zt_un_x12 hT hC hp h0 (by rw [e1]; exact hub) (by rw [e2]; exact h)
    · exact zt_un_x12 hT hC hp h0 (by rw [e2]; exact h) (by rw [e1]; exact hub)
  have hso : zt_nd c (zd_sib pr f1 f2 b) := by
    rcases hsib with ⟨e1, e2⟩ | ⟨e1, e2⟩
    · rw [← e2]; exact kC.2.1
    · rw [← e2]; exact kC.1
  have ho := zd_f_other hT hC hD hL h0 hlo _ hso hno
  have hz : ∀ t, t < 4 → lo (pr b) t = min 1000 (zd_mn 1000 (fun u => cs (4 * t + u) + lo b u) 4 + min 1000 (zd_mn 100000 (fun v => cs (4 * t + v) + L (zd_sib pr f1 f2 b) v) 4)) := by
    intro t ht
    have hq := zd_capq cs (L (zd_sib pr f1 f2 b)) _ t ho
    rw [hlo.2 _ hp t ht, zd_okf_n hzx, zd_ok_i (by omega), if_pos rfl, ← hq]
    rcases zd_swap hC hD hp with ⟨e1, e2⟩ | ⟨e1, e2⟩ <;> rcases hsib with ⟨e3, e4⟩ | ⟨e3, e4⟩ <;> rw [e1, e2, e3, e4] <;> omega
  have hAb := hA.2 b hb hbt
  apply Nat.le_antisymm
  · rcases zd_mn_att (cap := 1000) (q := fun t => lo b t + A b t) 4 with h | ⟨u, hu, h⟩
    · rw [h]; exact zd_mn_cap 4
    · have c1 := zd_mn_cap (cap := 1000) (q := fun t => lo (pr b) t + A (pr b) t) 4
      rw [h]
      try dsimp only
      rw [hAb u]
      rcases zd_mn_att (cap := 100000) (q := fun t => A (pr b) t + zd_mn 100000 (fun v => cs (4 * t + v) + L (zd_sib pr f1 f2 b) v) 4 + cs (4 * t + u)) 4 with h2 | ⟨t, ht, h2⟩
      · rw [h2]; omega
      · rw [h2]
        have l1 := zd_mn_le (cap := 1000) (q := fun t => lo (pr b) t + A (pr b) t) 4 t ht
        have l2 := zd_mn_le (cap := 1000) (q := fun u => cs (4 * t + u) + lo b u) 4 u hu
        try dsimp only at l1 l2 ⊢
        rw [hz t ht] at l1
        omega
  · rcases zd_mn_att (cap := 1000) (q := fun t => lo (pr b) t + A (pr b) t) 4 with h | ⟨t, ht, h⟩
    · rw [h]; exact zd_mn_cap 4
    · have c1 := zd_mn_cap (cap := 1000) (q := fun t => lo b t + A b t) 4
      rw [h]
      try dsimp only
      rw [hz t ht]
      rcases zd_mn_att (cap := 1000) (q := fun u => cs (4 * t + u) + lo b u) 4 with h2 | ⟨u, hu, h2⟩
      · rw [h2]; omega
      · rw [h2]
        have l1 := zd_mn_le (cap := 1000) (q := fun t => lo b t + A b t) 4 u hu
        have l2 := zd_mn_le (cap := 100000) (q := fun t => A (pr b) t + zd_mn 100000 (fun v => cs (4 * t + v) + L (zd_sib pr f1 f2 b) v) 4 + cs (4 * t + u)) 4 t ht
        rw [← hAb u] at l2
        try dsimp only at l1 l2 ⊢
        omega
theorem zd_f_path (hT : zt_TR c top pr) (hC : zt_CH c top pr f1 f2) (hD : zt_CH c top pr g1 g2) {L A : Nat → Nat → Nat} (hL : zd_L c f1 f2 cs mb L) (hA : zd_A c top pr f1 f2 cs L A) {x0 s0 : Nat} (h0 : zt_nd c x0) {lo : Nat → Nat → Nat} (hlo : zd_Y c g1 g2 cs (zd_okf mb x0 s0) lo) :
    ∀ (n b : Nat), zt_nd c b → zt_R top pr n b → zt_un top pr x0 b = true → zd_mn 1000 (fun t => lo top t + A top t) 4 = zd_mn 1000 (fun t => lo b t + A b t) 4 := by
  intro n
  induction n with
  | zero => intro b _ hn _; cases hn; rfl
  | succ n ih =>
    intro b hb hn hu
    have hp := hT.2.2.2.2.1 b hb hn.1
    have h2 : zt_un top pr b (pr b) = true := (zt_un1 hT hb hn.1 _).mpr (Or.inr (zt_un_self hT (Or.inr hp)))
    rw [ih (pr b) (Or.inr hp) hn.2 (zt_un_tr hT h2 x0 h0 hu)]
    exact zd_f_step hT hC hD hL hA h0 hlo hb hn.1 hu
theorem zd_forced (hT : zt_TR c top pr) (hC : zt_CH c top pr f1 f2) (hD : zt_CH c top pr g1 g2) {L A : Nat → Nat → Nat} (hL : zd_L c f1 f2 cs mb L) (hA : zd_A c top pr f1 f2 cs L A) {x0 s0 : Nat} (h0 : zt_nd c x0) (hs0 : s0 < 4) {lo : Nat → Nat → Nat} (hlo : zd_Y c g1 g2 cs (zd_okf mb x0 s0) lo) :
    zd_mn 1000 (lo top) 4 = min 1000 (L x0 s0 + A x0 s0) := by
  have hc := hT.2.1
  obtain ⟨n, hn⟩ := hT.2.2.2.2.2 x0 h0
  have h1 := zd_f_path hT hC hD hL hA h0 hlo n x0 h0 hn (zt_un_self hT h0)
  have h2 : zd_mn 1000 (fun t => lo top t + A top t) 4 = zd_mn 1000 (lo top) 4 := zd_mn_congr 4 (fun t _ => by rw [hA.1 t]; rfl)
  rw [← h2, h1]
  have hx : lo x0 s0 = min 1000 (L x0 s0) := by
    by_cases h8 : x0 < 8
    · rw [hlo.1 x0 h0 h8 s0 hs0, hL.1 x0 h0 h8 s0, zd_okf_s, zd_ok_l (by omega)]
      split <;> rfl
    · have hp : zt_in c x0 := by omega
      have k := hD.1 x0 hp
      have j1 := zd_f_other hT hC hD hL h0 hlo (g1 x0) k.1 (by
        have h := zt_un_pr hT k.1 k.2.2.2.1
        rw [k.2.2.2.2.2.1] at h
        exact h)
      have j2 := zd_f_other hT hC hD hL h0 hlo (g2 x0) k.2.1 (by
        have h := zt_un_pr hT k.2.1 k.2.2.2.2.1
        rw [k.2.2.2.2.2.2] at h
        exact h)
      rw [hlo.2 x0 hp s0 hs0, hL.2 x0 hp s0, zd_okf_s, zd_ok_i (by omega), if_pos rfl, zd_capq cs (L (g1 x0)) _ s0 j1, zd_capq cs (L (g2 x0)) _ s0 j2]
      rcases zd_swap hC hD hp with ⟨e1, e2⟩ | ⟨e1, e2⟩
      · rw [e1, e2]; omega
      · rw [e1, e2]; omega
  have hy : ∀ s, s < 4 → s ≠ s0 → lo x0 s = 1000 := by
    intro s hs hne
    by_cases h8 : x0 < 8
    · rw [hlo.1 x0 h0 h8 s hs, zd_okf_f hne]; rfl
    · rw [hlo.2 x0 (by omega) s hs, zd_okf_f hne, if_neg (by decide)]; omega
  have c1 := zd_mn_cap (cap := 1000) (q := fun t => lo x0 t + A x0 t) 4
  have l1 := zd_mn_le (cap := 1000) (q := fun t => lo x0 t + A x0 t) 4 s0 hs0
  try dsimp only at l1
  rcases zd_mn_att (cap := 1000) (q := fun t => lo x0 t + A x0 t) 4 with h | ⟨t, ht, h⟩
  · omega
  · try dsimp only at h
    by_cases e : t = s0
    · rw [e] at h; omega
    · have := hy t ht e
      omega
end
end
section
/-! attach, exchange, move on trees by parents: pure -/
section
variable {c top top' x y p o : Nat} {pr pr' f1 f2 h1 h2 : Nat → Nat}
theorem zo_R_congr (hpr : ∀ z, zt_nd c z → pr' z = pr z) (hT : zt_TR c top pr) : ∀ (n z : Nat), zt_nd c z → zt_R top pr n z → zt_R top pr' n z := by
  intro n
  induction n with
  | zero => intro z _ h; exact h
  | succ n ih =>
    intro z hz h
    refine ⟨h.1, ?_⟩
    rw [hpr z hz]
    exact ih _ (Or.inr (hT.2.2.2.2.1 z hz h.1)) h.2
theorem zo_T_congr (hpr : ∀ z, zt_nd c z → pr' z = pr z) (hT : zt_TR c top pr) : zt_TR c top pr' := by
  refine ⟨hT.1, hT.2.1, hT.2.2.1, ?_, ?_, ?_⟩
  · rw [hpr _ hT.2.2.1]; exact hT.2.2.2.1
  · intro z hz hne
    rw [hpr z hz]; exact hT.2.2.2.2.1 z hz hne
  · intro z hz
    obtain ⟨n, hn⟩ := hT.2.2.2.2.2 z hz
    exact ⟨n, zo_R_congr hpr hT n z hz hn⟩
theorem zo_C_congr (hpr : ∀ z, zt_nd c z → pr' z = pr z) (e1 : ∀ z, zt_in c z → h1 z = f1 z) (e2 : ∀ z, zt_in c z → h2 z = f2 z) (hT : zt_TR c top pr) (hC : zt_CH c top pr f1 f2) : zt_CH c top pr' h1 h2 := by
  refine ⟨fun q hq => ?_, fun z hz hne => ?_⟩
  · obtain ⟨k1, k2, k3, k4, k5, k6, k7⟩ := hC.1 q hq
    rw [e1 q hq, e2 q hq, hpr _ k1, hpr _ k2]
    exact ⟨k1, k2, k3, k4, k5, k6, k7⟩
  · have hp := hT.2.2.2.2.1 z hz hne
    rw [hpr z hz, e1 _ hp, e2 _ hp]
    exact hC.2 z hz hne
/-! attach -/
theorem zo_att_T (hT : zt_TR c top pr) (hc : c ≤ 6) (hx : zt_nd c x) (q1 : pr' c = 7 + c) (q2 : pr' x = 7 + c) (q3 : pr' (7 + c) = pr x) (q4 : ∀ z, zt_nd c z → z ≠ x → pr' z = pr z) (qt : top' = if x = top then 7 + c else top) : zt_TR (c + 1) top' pr' := by
  obtain ⟨t1, t2, t3, t4, t5, t6⟩ := hT
  have hA : ∀ z, zt_nd c z → ∃ n, zt_R top' pr' n z := by
    refine zt_td ⟨t1, t2, t3, t4, t5, t6⟩ ?_ ?_
    · by_cases e : x = top
      · rw [if_pos e] at qt
        rw [e] at q2
        refine ⟨1, ?_, ?_⟩
        · omega
        · show pr' top = top'
          omega
      · rw [if_neg e] at qt
        exact ⟨0, qt.symm⟩
    · intro z hz hne ⟨n, hn⟩
      by_cases e : z = x
      · subst e
        rw [if_neg hne] at qt
        refine ⟨n + 2, by omega, ?_, ?_⟩
        · rw [q2]; omega
        · rw [q2, q3]; exact hn
      · refine ⟨n + 1, ?_, ?_⟩
        · intro e2
          rw [e2] at hz hne
          by_cases e3 : x = top
          · rw [if_pos e3] at qt; omega
          · rw [if_neg e3] at qt; exact hne qt
        · rw [q4 z hz e]; exact hn
  have hI : ∃ n, zt_R top' pr' n (7 + c) := by
    by_cases e : x = top
    · rw [if_pos e] at qt
      exact ⟨0, qt.symm⟩
    · rw [if_neg e] at qt
      obtain ⟨n, hn⟩ := hA (pr x) (Or.inr (t5 x hx e))
      refine ⟨n + 1, by omega, ?_⟩
      rw [q3]; exact hn
  refine ⟨by omega, by omega, ?_, ?_, ?_, ?_⟩
  · by_cases e : x = top
    · rw [if_pos e] at qt; omega
    · rw [if_neg e] at qt; omega
  · by_cases e : x = top
    · rw [if_pos e] at qt
      rw [qt, q3, e]; exact t4
    · rw [if_neg e] at qt
      rw [qt, q4 top t3 (fun e2 => e e2.symm)]; exact t4
  · intro z hz hne
    by_cases e1 : z = c
    · rw [e1, q1]; omega
    · by_cases e2 : z = 7 + c
      · rw [e2, q3]
        by_cases e : x = top
        · rw [if_pos e] at qt; omega
        · have := t5 x hx e; omega
      · by_cases e3 : z = x
        · rw [e3, q2]; omega
        · have hz2 : zt_nd c z := by omega
          rw [q4 z hz2 e3]
          by_cases e : x = top
          · have := t5 z hz2 (by omega); omega
          · rw [if_neg e] at qt
            have := t5 z hz2 (by omega); omega
  · intro z hz
    by_cases e1 : z = c
    · obtain ⟨n, hn⟩ := hI
      refine ⟨n + 1, ?_, ?_⟩
      · by_cases e : x = top
        · rw [if_pos e] at qt; omega
        · rw [if_neg e] at qt; omega
      · rw [e1, q1]; exact hn
    · by_cases e2 : z = 7 + c
      · rw [e2]; exact hI
      · exact hA z (by omega)
theorem zo_att_C (hT : zt_TR c top pr) (hC : zt_CH c top pr f1 f2) (hc : c ≤ 6) (hx : zt_nd c x) (q1 : pr' c = 7 + c) (q2 : pr' x = 7 + c) (q3 : pr' (7 + c) = pr x) (q4 : ∀ z, zt_nd c z → z ≠ x → pr' z = pr z) (qt : top' = if x = top then 7 + c else top)
    (a1 : h1 (7 + c) = x) (a2 : h2 (7 + c) = c) (b1 : ∀ q, zt_in c q → h1 q = if f1 q = x then 7 + c else f1 q) (b2 : ∀ q, zt_in c q → h2 q = if f2 q = x then 7 + c else f2 q) : zt_CH (c + 1) top' pr' h1 h2 := by
  obtain ⟨t1, t2, t3, t4, t5, t6⟩ := hT
  obtain ⟨C1, C2⟩ := hC
  have hone : ∀ a q, zt_nd c a → a ≠ top → pr a = q → zt_nd (c + 1) (if a = x then 7 + c else a) ∧ (if a = x then 7 + c else a) ≠ top' ∧ pr' (if a = x then 7 + c else a) = q := by
    intro a q ha hne e
    by_cases ex : a = x
    · rw [if_pos ex]
      subst ex
      rw [if_neg hne] at qt
      exact ⟨by omega, by omega, q3.trans e⟩
    · rw [if_neg ex]
      refine ⟨by omega, ?_, (q4 a ha ex).trans e⟩
      by_cases e2 : x = top
      · rw [if_pos e2] at qt; omega
      · rw [if_neg e2] at qt; omega
  refine ⟨fun q hq => ?_, fun z hz hne => ?_⟩
  · by_cases e : q = 7 + c
    · rw [e, a1, a2]
      refine ⟨by omega, by omega, by omega, ?_, ?_, q2, q1⟩
      · by_cases e2 : x = top
        · rw [if_pos e2] at qt; omega
        · rw [if_neg e2] at qt; omega
      · by_cases e2 : x = top
        · rw [if_pos e2] at qt; omega
        · rw [if_neg e2] at qt; omega
    · have hq2 : zt_in c q := by omega
      obtain ⟨k1, k2, k3, k4, k5, k6, k7⟩ := C1 q hq2
      rw [b1 q hq2, b2 q hq2]
      obtain ⟨m1, m2, m3⟩ := hone _ q k1 k4 k6
      obtain ⟨n1, n2, n3⟩ := hone _ q k2 k5 k7
      refine ⟨m1, n1, ?_, m2, n2, m3, n3⟩
      split <;> split <;> omega
  · by_cases e1 : z = c
    · rw [e1, q1]; exact Or.inr a2
    · by_cases e2 : z = x
      · rw [e2, q2]; exact Or.inl a1
      · by_cases e3 : z = 7 + c
        · have ex : x ≠ top := by
            intro e; rw [if_pos e] at qt; omega
          have hp := t5 x hx ex
          rw [e3, q3, b1 _ hp, b2 _ hp]
          rcases C2 x hx ex with h | h
          · exact Or.inl (if_pos h)
          · exact Or.inr (if_pos h)
        · have hz2 : zt_nd c z := by omega
          have hzt : z ≠ top := by
            intro e
            by_cases e4 : x = top
            · omega
            · rw [if_neg e4] at qt; omega
          have hp := t5 z hz2 hzt
          rw [q4 z hz2 e2, b1 _ hp, b2 _ hp]
          rcases C2 z hz2 hzt with h | h
          · exact Or.inl (by rw [h, if_neg e2])
          · exact Or.inr (by rw [h, if_neg e2])
/-! exchange -/
theorem zo_exc_T (hT : zt_TR c top pr) (hx : zt_nd c x) (hy : zt_nd c y) (u1 : ¬ zt_un top pr x y = true) (u2 : ¬ zt_un top pr y x = true) (q1 : pr' x = pr y) (q2 : pr' y = pr x) (q3 : ∀ z, zt_nd c z → z ≠ x → z ≠ y → pr' z = pr z) : zt_TR c top pr' := by
  have hxt : x ≠ top := fun e => u2 (by rw [e]; exact zt_un_top hT y hy)
  have hyt : y ≠ top := fun e => u1 (by rw [e]; exact zt_un_top hT x hx)
  have hpx := hT.2.2.2.2.1 x hx hxt
  have hpy := hT.2.2.2.2.1 y hy hyt
  have hA : ∀ z, zt_nd c z → ¬ zt_un top pr z x = true → ¬ zt_un top pr z y = true → ∃ n, zt_R top pr' n z := by
    refine zt_td hT (fun _ _ => ⟨0, rfl⟩) ?_
    intro z hz hne ih n1 n2
    have e1 : z ≠ x := fun e => n1 (by rw [e]; exact zt_un_self hT hx)
    have e2 : z ≠ y := fun e => n2 (by rw [e]; exact zt_un_self hT hy)
    obtain ⟨n, hn⟩ := ih (fun h => n1 ((zt_un1 hT hz hne x).mpr (Or.inr h))) (fun h => n2 ((zt_un1 hT hz hne y).mpr (Or.inr h)))
    refine ⟨n + 1, hne, ?_⟩
    rw [q3 z hz e1 e2]; exact hn
  obtain ⟨n1, hn1⟩ := hA (pr x) (Or.inr hpx) (zt_un_pr hT hx hxt) (fun h => u1 ((zt_un1 hT hx hxt y).mpr (Or.inr h)))
  obtain ⟨n2, hn2⟩ := hA (pr y) (Or.inr hpy) (fun h => u2 ((zt_un1 hT hy hyt x).mpr (Or.inr h))) (zt_un_pr hT hy hyt)
  refine ⟨hT.1, hT.2.1, hT.2.2.1, ?_, ?_, ?_⟩
  · rw [q3 top hT.2.2.1 (fun e => hxt e.symm) (fun e => hyt e.symm)]; exact hT.2.2.2.1
  · intro z hz hne
    by_cases e1 : z = x
    · rw [e1, q1]; exact hpy
    · by_cases e2 : z = y
      · rw [e2, q2]; exact hpx
      · rw [q3 z hz e1 e2]; exact hT.2.2.2.2.1 z hz hne
  · refine zt_td hT ⟨0, rfl⟩ ?_
    intro z hz hne ⟨n, hn⟩
    by_cases e1 : z = x
    · refine ⟨n2 + 1, hne, ?_⟩
      rw [e1, q1]; exact hn2
    · by_cases e2 : z = y
      · refine ⟨n1 + 1, hne, ?_⟩
        rw [e2, q2]; exact hn1
      · refine ⟨n + 1, hne, ?_⟩
        rw [q3 z hz e1 e2]; exact hn
def zo_sg (x y a : Nat) : Nat := if a = x then y else if a = y then x else a
theorem zo_sg_1 : zo_sg x y x = y := if_pos rfl
theorem zo_sg_2 : zo_sg x y y = x := by
  unfold zo_sg
  split
  · assumption
  · rw [if_pos rfl]
theorem zo_sg_n {a : Nat} (h1 : a ≠ x) (h2 : a ≠ y) : zo_sg x y a = a := by
  unfold zo_sg
  rw [if_neg h1, if_neg h2]
theorem zo_sg_sg (a : Nat) : zo_sg x y (zo_sg x y a) = a := by
  by_cases e1 : a = x
  · rw [e1, zo_sg_1, zo_sg_2]
  · by_cases e2 : a = y
    · rw [e2, zo_sg_2, zo_sg_1]
    · rw [zo_sg_n e1 e2, zo_sg_n e1 e2]
theorem zo_exc_C (hT : zt_TR c top pr) (hC : zt_CH c top pr f1 f2) (hx : zt_nd c x) (hy : zt_nd c y) (hxt : x ≠ top) (hyt : y ≠ top) (q1 : pr' x = pr y) (q2 : pr' y = pr x) (q3 : ∀ z, zt_nd c z → z ≠ x → z ≠ y → pr' z = pr z)
    (b1 : ∀ q, zt_in c q → h1 q = zo_sg x y (f1 q)) (b2 : ∀ q, zt_in c q → h2 q = zo_sg x y (f2 q)) : zt_CH c top pr' h1 h2 := by
  have hone : ∀ a, zt_nd c a → a ≠ top → zt_nd c (zo_sg x y a) ∧ zo_sg x y a ≠ top ∧ pr' (zo_sg x y a) = pr a := by
    intro a ha hne
    by_cases e1 : a = x
    · rw [e1, zo_sg_1]; exact ⟨hy, hyt, q2⟩
    · by_cases e2 : a = y
      · rw [e2, zo_sg_2]; exact ⟨hx, hxt, q1⟩
      · rw [zo_sg_n e1 e2]; exact ⟨ha, hne, q3 a ha e1 e2⟩
  refine ⟨fun q hq => ?_, fun z hz hne => ?_⟩
  · obtain ⟨k1, k2, k3, k4, k5, k6, k7⟩ := hC.1 q hq
    rw [b1 q hq, b2 q hq]
    obtain ⟨m1, m2, m3⟩ := hone _ k1 k4
    obtain ⟨n1, n2, n3⟩ := hone _ k2 k5
    refine ⟨m1, n1, ?_, m2, n2, m3.trans k6, n3.trans k7⟩
    intro e
    have e2 := congrArg (zo_sg x y) e
    rw [zo_sg_sg, zo_sg_sg] at e2
    exact k3 e2
  · obtain ⟨m1, m2, m3⟩ := hone z hz hne
    have e : pr' z = pr (zo_sg x y z) := by
      obtain ⟨_, _, m⟩ := hone (zo_sg x y z) m1 m2
      rw [zo_sg_sg] at m
      exact m
    have hp := hT.2.2.2.2.1 _ m1 m2
    rw [e, b1 _ hp, b2 _ hp]
    rcases hC.2 _ m1 m2 with h | h
    · exact Or.inl (by rw [h, zo_sg_sg])
    · exact Or.inr (by rw [h, zo_sg_sg])
/-! move: x goes beside y -/
theorem zo_mov_T (hT : zt_TR c top pr) (hx : zt_nd c x) (hy : zt_nd c y) (ho : zt_nd c o) (hxt : x ≠ top) (hp : pr x = p) (hot : o ≠ top) (hop : pr o = p) (hox : o ≠ x) (hch : ∀ z, zt_nd c z → z ≠ top → pr z = p → z = x ∨ z = o)
    (u : ¬ zt_un top pr y x = true) (hyp : y ≠ p) (hyo : y ≠ o)
    (q1 : pr' x = p) (q2 : pr' y = p) (q3 : pr' p = pr y) (q4 : pr' o = pr p) (q5 : ∀ z, zt_nd c z → z ≠ x → z ≠ y → z ≠ p → z ≠ o → pr' z = pr z)
    (qt : top' = if y = top then p else if p = top then o else top) : zt_TR c top' pr' := by
  have hpi : zt_in c p := by have := hT.2.2.2.2.1 x hx hxt; rw [hp] at this; exact this
  have hyx : y ≠ x := fun e => u (by rw [e]; exact zt_un_self hT hx)
  have hux : ∀ z, zt_nd c z → z ≠ top → zt_un top pr (pr z) x = true → zt_un top pr z x = true := fun z hz hne h => (zt_un1 hT hz hne x).mpr (Or.inr h)
  have hup : ¬ zt_un top pr p x = true := by
    have h := zt_un_pr hT hx hxt
    rw [hp] at h; exact h
  have hpo : p ≠ o := by
    intro e
    have h := zt_un_pr hT ho hot
    rw [hop, e] at h
    exact h (zt_un_self hT ho)
  have hpx : p ≠ x := by
    intro e
    exact hup (by rw [e]; exact zt_un_self hT hx)
  have hA : ∀ z, zt_nd c z → ¬ zt_un top pr z x = true → (z ≠ p → ∃ n, zt_R top' pr' n z) ∧ (z = p → p ≠ top → ∃ n, zt_R top' pr' n (pr p)) := by
    refine zt_td hT ?_ ?_
    · intro _
      refine ⟨fun hne => ?_, fun e e2 => absurd e.symm e2⟩
      by_cases e : y = top
      · rw [if_pos e] at qt
        refine ⟨1, ?_, ?_⟩
        · rw [qt]; exact hne
        · show pr' top = top'
          rw [← e, q2, qt]
      · rw [if_neg e, if_neg (fun e2 => hne e2.symm)] at qt
        exact ⟨0, qt.symm⟩
    · intro z hz hne ih hu
      have ih2 := ih (fun h => hu (hux z hz hne h))
      have hzx : z ≠ x := fun e => hu (by rw [e]; exact zt_un_self hT hx)
      refine ⟨fun hzp => ?_, fun e e2 => ?_⟩
      · by_cases e1 : z = o
        · subst e1
          rw [hop] at ih2
          by_cases e3 : p = top
          · rw [if_neg (fun e4 => hyp (e4.trans e3.symm)), if_pos e3] at qt
            exact ⟨0, qt.symm⟩
          · obtain ⟨n, hn⟩ := ih2.2 rfl e3
            refine ⟨n + 1, ?_, ?_⟩
            · rw [qt, if_neg e3]
              split
              · exact hzp
              · exact hot
            · rw [q4]; exact hn
        · by_cases e2 : z = y
          · subst e2
            rw [if_neg hne] at qt
            have hne2 : pr z ≠ p := by
              intro e4
              rcases hch z hz hne e4 with h | h
              · exact hzx h
              · exact e1 h
            obtain ⟨n, hn⟩ := ih2.1 hne2
            refine ⟨n + 2, ?_, ?_, ?_⟩
            · rw [qt]; split
              · exact e1
              · exact hne
            · rw [q2, qt]; split
              · exact hpo
              · assumption
            · rw [q2, q3]; exact hn
          · have hne2 : pr z ≠ p := by
              intro e4
              rcases hch z hz hne e4 with h | h
              · exact hzx h
              · exact e1 h
            obtain ⟨n, hn⟩ := ih2.1 hne2
            refine ⟨n + 1, ?_, ?_⟩
            · rw [qt]; split
              · exact hzp
              · split
                · exact e1
                · exact hne
            · rw [q5 z hz hzx e2 hzp e1]; exact hn
      · subst e
        refine ih2.1 ?_
        intro e3
        have h := zt_un_pr hT hz hne
        rw [e3] at h
        exact h (zt_un_self hT hz)
  have hP : ∃ n, zt_R top' pr' n p := by
    by_cases e : y = top
    · rw [if_pos e] at qt
      exact ⟨0, qt.symm⟩
    · rw [if_neg e] at qt
      have hne2 : pr y ≠ p := by
        intro e4
        rcases hch y hy e e4 with h | h
        · exact hyx h
        · exact hyo h
      obtain ⟨n, hn⟩ := (hA (pr y) (Or.inr (hT.2.2.2.2.1 y hy e)) (fun h => u (hux y hy e h))).1 hne2
      refine ⟨n + 1, ?_, ?_⟩
      · rw [qt]; split
        · exact hpo
        · assumption
      · rw [q3]; exact hn
  have hB : ∀ z, zt_nd c z → ∃ n, zt_R top' pr' n z := by
    refine zt_td hT ?_ ?_
    · by_cases e : top = p
      · rw [e]; exact hP
      · exact (hA top hT.2.2.1 (fun h => hxt ((zt_un0 hT x).mp h).symm)).1 e
    · intro z hz hne ⟨n, hn⟩
      by_cases e1 : z = p
      · rw [e1]; exact hP
      · by_cases hu : zt_un top pr z x = true
        · by_cases e2 : z = x
          · obtain ⟨m, hm⟩ := hP
            subst e2
            refine ⟨m + 1, ?_, ?_⟩
            · rw [qt]; split
              · exact e1
              · split
                · exact fun e => hox e.symm
                · exact hne
            · rw [q1]; exact hm
          · have e3 : z ≠ y := by intro e; rw [e] at hu; exact u hu
            have e4 : z ≠ o := by
              intro e
              rw [e] at hu
              rcases (zt_un1 hT ho hot x).mp hu with h | h
              · exact hox h
              · rw [hop] at h; exact hup h
            refine ⟨n + 1, ?_, ?_⟩
            · rw [qt]; split
              · exact e1
              · split
                · exact e4
                · exact hne
            · rw [q5 z hz e2 e3 e1 e4]; exact hn
        · exact (hA z hz hu).1 e1
  refine ⟨hT.1, hT.2.1, ?_, ?_, ?_, hB⟩
  · rw [qt]; split
    · exact Or.inr hpi
    · split
      · exact ho
      · exact hT.2.2.1
  · by_cases e : y = top
    · rw [if_pos e] at qt
      rw [qt, q3, e]; exact hT.2.2.2.1
    · rw [if_neg e] at qt
      by_cases e2 : p = top
      · rw [if_pos e2] at qt
        rw [qt, q4, e2]; exact hT.2.2.2.1
      · rw [if_neg e2] at qt
        rw [qt, q5 top hT.2.2.1 (fun e3 => hxt e3.symm) (fun e3 => e e3.symm) (fun e3 => e2 e3.symm) (fun e3 => hot e3.symm)]; exact hT.2.2.2.1
  · intro z hz hne
    by_cases e1 : z = x
    · rw [e1, q1]; exact hpi
    · by_cases e2 : z = y
      · rw [e2, q2]; exact hpi
      · by_cases e3 : z = p
        · rw [e3, q3]
          refine hT.2.2.2.2.1 y hy ?_
          intro e
          rw [if_pos e] at qt
          exact hne (e3.trans qt.symm)
        · by_cases e4 : z = o
          · rw [e4, q4]
            refine hT.2.2.2.2.1 p (Or.inr hpi) ?_
            intro e
            rw [if_neg (fun e5 => hyp (e5.trans e.symm)), if_pos e] at qt
            exact hne (e4.trans qt.symm)
          · rw [q5 z hz e1 e2 e3 e4]
            refine hT.2.2.2.2.1 z hz ?_
            intro e
            rw [if_neg (fun e5 => e2 (e.trans e5.symm)), if_neg (fun e5 => e3 (e.trans e5.symm))] at qt
            exact hne (e.trans qt.symm)
def zo_mv (y p o a : Nat) : Nat := if a = p then o else if a = y then p else a
theorem zo_mv_ne {a b : Nat} (hpo : p ≠ o) (ao : a ≠ o) (bo : b ≠ o) (hab : a ≠ b) : zo_mv y p o a ≠ zo_mv y p o b := by
  unfold zo_mv
  by_cases e1 : a = p
  · rw [if_pos e1]
    by_cases e2 : b = p
    · omega
    · rw [if_neg e2]; split <;> omega
  · rw [if_neg e1]
    by_cases e2 : b = p
    · rw [if_pos e2]; split <;> omega
    · rw [if_neg e2]; split <;> split <;> omega
theorem zo_mov_C (hT : zt_TR c top pr) (hC : zt_CH c top pr f1 f2) (hx : zt_nd c x) (hy : zt_nd c y) (ho : zt_nd c o) (hxt : x ≠ top) (hp : pr x = p) (hot : o ≠ top) (hop : pr o = p) (hox : o ≠ x) (hch : ∀ z, zt_nd c z → z ≠ top → pr z = p → z = x ∨ z = o)
    (u : ¬ zt_un top pr y x = true) (hyp : y ≠ p) (hyo : y ≠ o)
    (q1 : pr' x = p) (q2 : pr' y = p) (q3 : pr' p = pr y) (q4 : pr' o = pr p) (q5 : ∀ z, zt_nd c z → z ≠ x → z ≠ y → z ≠ p → z ≠ o → pr' z = pr z)
    (qt : top' = if y = top then p else if p = top then o else top)
    (a1 : h1 p = y) (a2 : h2 p = x) (b1 : ∀ q, zt_in c q → q ≠ p → h1 q = zo_mv y p o (f1 q)) (b2 : ∀ q, zt_in c q → q ≠ p → h2 q = zo_mv y p o (f2 q)) : zt_CH c top' pr' h1 h2 := by
  have hpi : zt_in c p := by have := hT.2.2.2.2.1 x hx hxt; rw [hp] at this; exact this
  have hyx : y ≠ x := fun e => u (by rw [e]; exact zt_un_self hT hx)
  have hpo : p ≠ o := by
    intro e
    have h := zt_un_pr hT ho hot
    rw [hop, e] at h
    exact h (zt_un_self hT ho)
  have hpx : p ≠ x := by
    intro e
    have h := zt_un_pr hT hx hxt
    rw [hp, e] at h
    exact h (zt_un_self hT hx)
  have hone : ∀ a q, zt_nd c a → a ≠ top → pr a = q → q ≠ p → zt_nd c (zo_mv y p o a) ∧ zo_mv y p o a ≠ top' ∧ pr' (zo_mv y p o a) = q := by
    intro a q ha hne e hq
    have ax : a ≠ x := by intro e2; rw [e2, hp] at e; exact hq e.symm
    have ao : a ≠ o := by intro e2; rw [e2, hop] at e; exact hq e.symm
    unfold zo_mv
    by_cases e1 : a = p
    · rw [if_pos e1]
      have e2 : p ≠ top := by rw [← e1]; exact hne
      refine ⟨ho, ?_, ?_⟩
      · rw [qt, if_neg e2]; split
        · exact fun e3 => hpo e3.symm
        · exact hot
      · rw [q4, ← e1]; exact e
    · rw [if_neg e1]
      by_cases e2 : a = y
      · rw [if_pos e2]
        refine ⟨Or.inr hpi, ?_, ?_⟩
        · rw [qt, if_neg (by rw [← e2]; exact hne)]; split
          · exact hpo
          · assumption
        · rw [q3, ← e2]; exact e
      · rw [if_neg e2]
        refine ⟨ha, ?_, (q5 a ha ax e2 e1 ao).trans e⟩
        rw [qt]; split
        · exact e1
        · split
          · exact ao
          · exact hne
  refine ⟨fun q hq => ?_, fun z hz hne => ?_⟩
  · by_cases e : q = p
    · rw [e, a1, a2]
      refine ⟨hy, hx, hyx, ?_, ?_, q2, q1⟩
      · rw [qt]; split
        · exact hyp
        · split
          · exact hyo
          · assumption
      · rw [qt]; split
        · exact fun e3 => hpx e3.symm
        · split
          · exact fun e3 => hox e3.symm
          · exact hxt
    · obtain ⟨k1, k2, k3, k4, k5, k6, k7⟩ := hC.1 q hq
      rw [b1 q hq e, b2 q hq e]
      obtain ⟨m1, m2, m3⟩ := hone _ q k1 k4 k6 e
      obtain ⟨n1, n2, n3⟩ := hone _ q k2 k5 k7 e
      refine ⟨m1, n1, ?_, m2, n2, m3, n3⟩
      have ao1 : f1 q ≠ o := by intro e2; rw [e2, hop] at k6; exact e k6.symm
      have ao2 : f2 q ≠ o := by intro e2; rw [e2, hop] at k7; exact e k7.symm
      exact zo_mv_ne hpo ao1 ao2 k3
  · by_cases e1 : z = x
    · rw [e1, q1]; exact Or.inr a2
    · by_cases e2 : z = y
      · rw [e2, q2]; exact Or.inl a1
      · by_cases e3 : z = p
        · have e5 : y ≠ top := by
            intro e
            rw [if_pos e] at qt
            exact hne (e3.trans qt.symm)
          have hi := hT.2.2.2.2.1 y hy e5
          have hne2 : pr y ≠ p := by
            intro e4
            rcases hch y hy e5 e4 with h | h
            · exact hyx h
            · exact hyo h
          rw [e3, q3, b1 _ hi hne2, b2 _ hi hne2]
          unfold zo_mv
          rcases hC.2 y hy e5 with h | h
          · exact Or.inl (by rw [h, if_neg hyp, if_pos rfl])
          · exact Or.inr (by rw [h, if_neg hyp, if_pos rfl])
        · by_cases e4 : z = o
          · have e5 : p ≠ top := by
              intro e
              rw [if_neg (fun e5 => hyp (e5.trans e.symm)), if_pos e] at qt
              exact hne (e4.trans qt.symm)
            have hi := hT.2.2.2.2.1 p (Or.inr hpi) e5
            have hne2 : pr p ≠ p := by
              intro e6
              have h := zt_un_pr hT (Or.inr hpi) e5
              rw [e6] at h
              exact h (zt_un_self hT (Or.inr hpi))
            rw [e4, q4, b1 _ hi hne2, b2 _ hi hne2]
            unfold zo_mv
            rcases hC.2 p (Or.inr hpi) e5 with h | h
            · exact Or.inl (by rw [h, if_pos rfl])
            · exact Or.inr (by rw [h, if_pos rfl])
          · have e5 : z ≠ top := by
              intro e
              rw [if_neg (fun e5 => e2 (e.trans e5.symm)), if_neg (fun e5 => e3 (e.trans e5.symm))] at qt
              exact hne (e.trans qt.symm)
            have hi := hT.2.2.2.2.1 z hz e5
            have hne2 : pr z ≠ p := by
              intro e6
              rcases hch z hz e5 e6 with h | h
              · exact e1 h
              · exact e4 h
            rw [q5 z hz e1 e2 e3 e4, b1 _ hi hne2, b2 _ hi hne2]
            unfold zo_mv
            rcases hC.2 z hz e5 with h | h
            · exact Or.inl (by rw [h, if_neg e3, if_neg e2])
            · exact Or.inr (by rw [h, if_neg e3, if_neg e2])
end
end
section
/-! the component's picture, and its small methods -/
def zx_S (c top : Nat) (pr f1 f2 ow cs : Nat → Nat) (rt : Nat → Int32) (u : SX) : Prop := match u with
  | (f_leafCount, f_innerCount, f_top, f_listed, a_parents, a_firsts, a_seconds, a_own, a_costs, a_rates, a_order, a_sets, a_below, a_many, a_above, a_sums, a_groups) => f_leafCount = nI c ∧ f_innerCount = nI (c - 1) ∧ f_top = nI top ∧ (∀ x, zt_nd c x → a_parents x = nI (pr x)) ∧ (∀ x, zt_in c x → a_firsts x = nI (f1 x)) ∧ (∀ x, zt_in c x → a_seconds x = nI (f2 x)) ∧ (∀ x, x < c → a_own x = nI (ow x)) ∧ (∀ j, j < 16 → a_costs j = nI (cs j)) ∧ (∀ j, j < 16 → a_rates j = rt j)
theorem zx_8c {c : Nat} (h : 1 ≤ c) : (8 : Int32) + nI (c - 1) = nI (7 + c) := by
  show nI 8 + nI (c - 1) = nI (7 + c)
  rw [nI_add]
  exact congrArg nI (by omega)
theorem zx_m1 : nI 4294967295 = -1 := by decide
theorem zx_nm1 {n : Nat} (h : n < 2 ^ 31) : ¬ nI n = -1 := by
  intro e
  have h2 := nI_pos h
  rw [e] at h2
  exact h2 (by decide)
theorem zx_isStates {post : Int32 → Prop} {x : Int32} (p1 : ∀ m, m < 256 → x = nI m → post 1) (p0 : (¬ ∃ m, m < 256 ∧ x = nI m) → post 0) : wpX_isStates post x := by
  unfold wpX_isStates
  by_cases hn : x < 0
  · refine br_t hn (p0 ?_)
    rintro ⟨j, hj, rfl⟩
    exact absurd hn (nI_pos (by omega))
  · obtain ⟨j, hj, rfl⟩ := nI_of hn
    refine br_f hn (pk_lt 255 j (fun h => p0 ?_) (fun h => p1 j (by omega) rfl))
    rintro ⟨i, hi, e⟩
    rw [nI_eq hj (by omega)] at e
    omega
theorem zx_isState {post : Int32 → Prop} {x : Int32} (p1 : ∀ m, m < 4 → x = nI m → post 1) (p0 : (¬ ∃ m, m < 4 ∧ x = nI m) → post 0) : wpX_isState post x := by
  unfold wpX_isState
  by_cases hn : x < 0
  · refine br_t hn (p0 ?_)
    rintro ⟨j, hj, rfl⟩
    exact absurd hn (nI_pos (by omega))
  · obtain ⟨j, hj, rfl⟩ := nI_of hn
    refine br_f hn (pk_lt 3 j (fun h => p0 ?_) (fun h => p1 j (by omega) rfl))
    rintro ⟨i, hi, e⟩
    rw [nI_eq hj (by omega)] at e
    omega
section
variable {c top : Nat} {pr f1 f2 ow cs : Nat → Nat} {rt : Nat → Int32}
theorem zx_isNode {post : Int32 → Prop} {u : SX} {x : Int32} (hc1 : 1 ≤ c) (hc7 : c ≤ 7) (hS : zx_S c top pr f1 f2 ow cs rt u) (p1 : ∀ j, zt_nd c j → x = nI j → post 1) (p0 : (¬ ∃ j, zt_nd c j ∧ x = nI j) → post 0) : wpX_isNode post u x := by
  obtain ⟨f_leafCount, f_innerCount, f_top, f_listed, a_parents, a_firsts, a_seconds, a_own, a_costs, a_rates, a_order, a_sets, a_below, a_many, a_above, a_sums, a_groups⟩ := u
  obtain ⟨e1, e2, e3, e4, e5, e6, e7, e8, e9⟩ := hS
  subst e1 e2
  unfold wpX_isNode
  by_cases hn : x < 0
  · refine br_t hn ?_
    unfold wX_isNode_12
    refine br_t (Int32.lt_trans hn (by decide)) (p0 ?_)
    rintro ⟨j, hj, rfl⟩
    exact absurd hn (nI_pos (by omega))
  · obtain ⟨j, hj, rfl⟩ := nI_of hn
    refine br_f hn ?_
    refine pk_lt j c (fun h => p1 j (Or.inl h) rfl) (fun h => ?_)
    unfold wX_isNode_12
    refine pk_lt j 8 (fun h2 => p0 ?_) (fun h2 => ?_)
    · rintro ⟨i, hi, e⟩
      rw [nI_eq hj (by omega)] at e
      omega
    · refine pk_le (7 + c) j (fun h3 => p0 ?_) (fun h3 => p1 j (by omega) rfl) (zx_8c hc1)
      rintro ⟨i, hi, e⟩
      rw [nI_eq hj (by omega)] at e
      omega
theorem zx_isNode1 {post : Int32 → Prop} {u : SX} {x : Nat} (hc1 : 1 ≤ c) (hc7 : c ≤ 7) (hS : zx_S c top pr f1 f2 ow cs rt u) (hx : zt_nd c x) (p : post 1) : wpX_isNode post u (nI x) :=
  zx_isNode hc1 hc7 hS (fun _ _ _ => p) (fun h => absurd ⟨x, hx, rfl⟩ h)
theorem zx_isNode0 {post : Int32 → Prop} {u : SX} {x : Int32} (hc1 : 1 ≤ c) (hc7 : c ≤ 7) (hS : zx_S c top pr f1 f2 ow cs rt u) (hx : ¬ ∃ j, zt_nd c j ∧ x = nI j) (p : post 0) : wpX_isNode post u x :=
  zx_isNode hc1 hc7 hS (fun j h e => absurd ⟨j, h, e⟩ hx) (fun _ => p)
theorem zx_iu2 {f_leafCount f_innerCount f_top f_listed : Int32} {a_parents a_firsts a_seconds a_own a_costs a_rates a_order a_sets a_below a_many a_above : Nat → Int32} {a_sums : Nat → Int64} {a_groups : Nat → Int32} {post : Int32 → Prop} (hT : zt_TR c top pr) (hS : zx_S c top pr f1 f2 ow cs rt (f_leafCount, f_innerCount, f_top, f_listed, a_parents, a_firsts, a_seconds, a_own, a_costs, a_rates, a_order, a_sets, a_below, a_many, a_above, a_sums, a_groups)) {y : Nat} (hy : zt_nd c y) :
    ∀ (d x n : Nat), zt_nd c x → zt_R top pr d x → d < n → (zt_un top pr x y = true → post 1) → (¬ zt_un top pr x y = true → post 0) → wX_isUnder_2 post (nI y) f_leafCount f_innerCount f_top f_listed a_parents a_firsts a_seconds a_own a_costs a_rates a_order a_sets a_below a_many a_above a_sums a_groups n (nI x) := by
  have hc := hT.2.1
  have e4 := hS.2.2.2.1
  intro d
  induction d with
  | zero =>
    intro x n hx hd hn p1 p0
    obtain ⟨m, rfl⟩ : ∃ m, n = m + 1 := ⟨n - 1, by omega⟩
    have hd2 : x = top := hd
    subst hd2
    have q := e4 x hx
    by_cases e : x = y
    · subst e
      exact br_t rfl (br_t rfl (p1 (zt_un_self hT hx)))
    · have hne : ¬ nI x = nI y := fun h => e ((nI_eq (by omega) (by omega)).mp h)
      refine br_f hne ⟨vp_in_nI (by omega) (by omega), ?_⟩
      rw [nI_clamp (by omega), q, hT.2.2.2.1, zx_m1]
      exact br_t rfl (br_f hne (p0 (fun h => e ((zt_un0 hT y).mp h))))
  | succ d ih =>
    intro x n hx hd hn p1 p0
    obtain ⟨m, rfl⟩ : ∃ m, n = m + 1 := ⟨n - 1, by omega⟩
    have q := e4 x hx
    have hp := hT.2.2.2.2.1 x hx hd.1
    have hu := zt_un1 hT hx hd.1 y
    by_cases e : x = y
    · subst e
      exact br_t rfl (br_t rfl (p1 (zt_un_self hT hx)))
    · have hne : ¬ nI x = nI y := fun h => e ((nI_eq (by omega) (by omega)).mp h)
      refine br_f hne ⟨vp_in_nI (by omega) (by omega), ?_⟩
      rw [nI_clamp (by omega), q]
      refine br_f (zx_nm1 (by omega)) ⟨vp_in_nI (by omega) (by omega), nm_e ?_⟩
      exact ih (pr x) m (Or.inr hp) hd.2 (by omega) (fun h => p1 (hu.mpr (Or.inr h))) (fun h => p0 (fun h2 => (hu.mp h2).elim e h))
theorem zx_isUnder {post : Int32 → Prop} {u : SX} (hT : zt_TR c top pr) (hS : zx_S c top pr f1 f2 ow cs rt u) {x y : Nat} (hx : zt_nd c x) (hy : zt_nd c y) (p1 : zt_un top pr x y = true → post 1) (p0 : ¬ zt_un top pr x y = true → post 0) : wpX_isUnder post u (nI x) (nI y) := by
  obtain ⟨f_leafCount, f_innerCount, f_top, f_listed, a_parents, a_firsts, a_seconds, a_own, a_costs, a_rates, a_order, a_sets, a_below, a_many, a_above, a_sums, a_groups⟩ := u
  obtain ⟨d, hd⟩ := hT.2.2.2.2.2 x hx
  exact ⟨d + 1, zx_iu2 hT hS hy d x (d + 1) hx hd (by omega) p1 p0⟩
theorem zx_replace {f_leafCount f_innerCount f_top f_listed : Int32} {a_parents a_firsts a_seconds a_own a_costs a_rates a_order a_sets a_below a_many a_above : Nat → Int32} {a_sums : Nat → Int64} {a_groups : Nat → Int32} {post : SX → Prop} {x y p : Nat} (hx : x < 14) (hy : y < 14) (hq : a_parents x = nI p) (hp : p = 4294967295 ∨ p < 14)
    (k0 : p = 4294967295 → post (f_leafCount, f_innerCount, nI y, f_listed, upd a_parents y (nI p), a_firsts, a_seconds, a_own, a_costs, a_rates, a_order, a_sets, a_below, a_many, a_above, a_sums, a_groups))
    (k1 : p < 14 → a_firsts p = nI x → post (f_leafCount, f_innerCount, f_top, f_listed, upd a_parents y (nI p), upd a_firsts p (nI y), a_seconds, a_own, a_costs, a_rates, a_order, a_sets, a_below, a_many, a_above, a_sums, a_groups))
    (k2 : p < 14 → ¬ a_firsts p = nI x → post (f_leafCount, f_innerCount, f_top, f_listed, upd a_parents y (nI p), a_firsts, upd a_seconds p (nI y), a_own, a_costs, a_rates, a_order, a_sets, a_below, a_many, a_above, a_sums, a_groups)) : wpX_replace post (f_leafCount, f_innerCount, f_top, f_listed, a_parents, a_firsts, a_seconds, a_own, a_costs, a_rates, a_order, a_sets, a_below, a_many, a_above, a_sums, a_groups) (nI x) (nI y) := by
  unfold wpX_replace
  dsimp only
  rw [nI_clamp (by omega), nI_clamp (by omega), hq]
  refine ⟨vp_in_nI hx (by omega), nm_e ⟨vp_in_nI hy (by omega), nm_e ?_⟩⟩
  rcases hp with e | hp
  · refine br_t ?_ (k0 e)
    rw [e]; exact zx_m1
  · refine br_f (zx_nm1 (by omega)) ⟨vp_in_nI hp (by omega), ?_⟩
    rw [nI_clamp (by omega)]
    refine br_c (fun h => ⟨vp_in_nI hp (by omega), nm_e (k1 hp h)⟩) (fun h => ⟨vp_in_nI hp (by omega), nm_e (k2 hp h)⟩)
end
/-! arrays against functions -/
def zo_up (f : Nat → Nat) (k v : Nat) : Nat → Nat := fun j => if j = k then v else f j
def zo_rn (f : Nat → Nat) (x y : Nat) : Nat → Nat := fun j => if f j = x then y else f j
theorem zo_up_s {f : Nat → Nat} {k v : Nat} : zo_up f k v k = v := if_pos rfl
theorem zo_up_n {f : Nat → Nat} {k v j : Nat} (h : j ≠ k) : zo_up f k v j = f j := if_neg h
theorem zo_rn_s {f : Nat → Nat} {x y j : Nat} (h : f j = x) : zo_rn f x y j = y := if_pos h
theorem zo_rn_n {f : Nat → Nat} {x y j : Nat} (h : f j ≠ x) : zo_rn f x y j = f j := if_neg h
theorem zx_upN {a : Nat → Int32} {f : Nat → Nat} {k v z : Nat} (h : z ≠ k → a z = nI (f z)) : upd a k (nI v) z = nI (zo_up f k v z) := by
  by_cases e : z = k
  · rw [e, pk_us, zo_up_s]
  · rw [pk_un e, zo_up_n e]; exact h e
section
variable {I : Nat → Prop} {a b : Nat → Int32} {f1 f2 : Nat → Nat} {x y p q : Nat}
theorem zr_0 (ha : ∀ r, I r → a r = nI (f1 r)) (h1 : ∀ r, I r → f1 r ≠ x) : ∀ r, I r → a r = nI (zo_rn f1 x y r) := by
  intro r hr
  rw [zo_rn_n (h1 r hr)]; exact ha r hr
theorem zr_1 (ha : ∀ r, I r → a r = nI (f1 r)) (h1 : ∀ r, I r → f1 r = x → r = p) (e : f1 p = x) : ∀ r, I r → upd a p (nI y) r = nI (zo_rn f1 x y r) := by
  intro r hr
  by_cases er : r = p
  · rw [er, pk_us, zo_rn_s e]
  · rw [pk_un er, zo_rn_n (fun e2 => er (h1 r hr e2))]; exact ha r hr
theorem zg_0 (ha : ∀ r, I r → a r = nI (f1 r)) (h1 : ∀ r, I r → f1 r ≠ x) (h2 : ∀ r, I r → f1 r ≠ y) : ∀ r, I r → a r = nI (zo_sg x y (f1 r)) := by
  intro r hr
  rw [zo_sg_n (h1 r hr) (h2 r hr)]; exact ha r hr
theorem zg_1 (ha : ∀ r, I r → a r = nI (f1 r)) (h1 : ∀ r, I r → f1 r = x → r = p) (h2 : ∀ r, I r → f1 r ≠ y) (e : f1 p = x) : ∀ r, I r → upd a p (nI y) r = nI (zo_sg x y (f1 r)) := by
  intro r hr
  by_cases er : r = p
  · rw [er, pk_us, e, zo_sg_1]
  · rw [pk_un er, zo_sg_n (fun e2 => er (h1 r hr e2)) (h2 r hr)]; exact ha r hr
theorem zg_2 (ha : ∀ r, I r → a r = nI (f1 r)) (h1 : ∀ r, I r → f1 r ≠ x) (h2 : ∀ r, I r → f1 r = y → r = q) (e : f1 q = y) : ∀ r, I r → upd a q (nI x) r = nI (zo_sg x y (f1 r)) := by
  intro r hr
  by_cases er : r = q
  · rw [er, pk_us, e, zo_sg_2]
  · rw [pk_un er, zo_sg_n (h1 r hr) (fun e2 => er (h2 r hr e2))]; exact ha r hr
theorem zg_3 (ha : ∀ r, I r → a r = nI (f1 r)) (h1 : ∀ r, I r → f1 r = x → r = p) (h2 : ∀ r, I r → f1 r = y → r = q) (e : f1 p = x) (e2 : f1 q = y) (hne : p ≠ q) : ∀ r, I r → upd (upd a p (nI y)) q (nI x) r = nI (zo_sg x y (f1 r)) := by
  intro r hr
  by_cases er : r = q
  · rw [er, pk_us, e2, zo_sg_2]
  · rw [pk_un er]
    by_cases ep : r = p
    · rw [ep, pk_us, e, zo_sg_1]
    · rw [pk_un ep, zo_sg_n (fun e3 => ep (h1 r hr e3)) (fun e3 => er (h2 r hr e3))]; exact ha r hr
end
section
variable {c top : Nat} {pr f1 f2 : Nat → Nat}
/-- who has x as a child -/
theorem zx_ch1 (hC : zt_CH c top pr f1 f2) {r x : Nat} (hr : zt_in c r) (e : f1 r = x) : r = pr x ∧ f2 r ≠ x ∧ x ≠ top := by
  obtain ⟨k1, k2, k3, k4, k5, k6, k7⟩ := hC.1 r hr
  subst e
  exact ⟨k6.symm, fun e => k3 e.symm, k4⟩
theorem zx_ch2 (hC : zt_CH c top pr f1 f2) {r x : Nat} (hr : zt_in c r) (e : f2 r = x) : r = pr x ∧ f1 r ≠ x ∧ x ≠ top := by
  obtain ⟨k1, k2, k3, k4, k5, k6, k7⟩ := hC.1 r hr
  subst e
  exact ⟨k7.symm, fun e => k3 e, k5⟩
theorem zx_prv (hT : zt_TR c top pr) {x : Nat} (hx : zt_nd c x) : (pr x = 4294967295 ∧ x = top) ∨ (zt_in c (pr x) ∧ x ≠ top) := by
  by_cases e : x = top
  · exact Or.inl ⟨by rw [e]; exact hT.2.2.2.1, e⟩
  · exact Or.inr ⟨hT.2.2.2.2.1 x hx e, e⟩
end
end
section
/-! the component's changes of the tree -/
theorem zx_c14 {n : Nat} (h : n < 14) : (nI n).toNatClampNeg = n := nI_clamp (by omega)
theorem zx_i14 {n : Nat} (h : n < 14) : vp_in (nI n) 14 := vp_in_nI h (by omega)
theorem zx_e14 {a b : Nat} (ha : a < 14) (hb : b < 14) : nI a = nI b ↔ a = b := nI_eq (by omega) (by omega)
theorem zx_l14 {c x : Nat} (hc : c ≤ 7) (h : zt_nd c x) : x < 14 := by omega
section
variable {c top : Nat} {pr f1 f2 ow cs : Nat → Nat} {rt : Nat → Int32}
theorem zx_addLeaf {post : SX → Prop} {u : SX} (hc : c ≤ 6) (hT : zt_TR c top pr) (hC : zt_CH c top pr f1 f2) (hS : zx_S c top pr f1 f2 ow cs rt u) {x : Nat} (hx : zt_nd c x) (st : Nat)
    (hp : ∀ u', zx_S (c + 1) (if x = top then 7 + c else top) (zo_up (zo_up (zo_up pr (7 + c) (pr x)) x (7 + c)) c (7 + c)) (zo_up (zo_rn f1 x (7 + c)) (7 + c) x) (zo_up (zo_rn f2 x (7 + c)) (7 + c) c) (zo_up ow c st) cs rt u' → post u') : wpX_addLeaf post u (nI x) (nI st) := by
  obtain ⟨f_leafCount, f_innerCount, f_top, f_listed, a_parents, a_firsts, a_seconds, a_own, a_costs, a_rates, a_order, a_sets, a_below, a_many, a_above, a_sums, a_groups⟩ := u
  obtain ⟨e1, e2, e3, e4, e5, e6, e7, e8, e9⟩ := hS
  have hc1 := hT.1
  have hpv := zx_prv hT hx
  subst e1 e2
  unfold wpX_addLeaf
  dsimp only
  refine nm_r (zx_8c hc1) (nm_r (nI_1 c) (nm_r (e' := nI c) ?_ ⟨vp_in_nI (by omega) (by omega), nm_e ?_⟩))
  · rw [nI_1]; exact congrArg nI (by omega)
  rw [nI_clamp (by omega)]
  have hown : ∀ z, z < c + 1 → upd a_own c (nI st) z = nI (zo_up ow c st z) := fun z hz => zx_upN (fun h => e7 z (by omega))
  have hpar : ∀ z, zt_nd (c + 1) z → upd (upd (upd a_parents (7 + c) (nI (pr x))) x (nI (7 + c))) c (nI (7 + c)) z = nI (zo_up (zo_up (zo_up pr (7 + c) (pr x)) x (7 + c)) c (7 + c) z) :=
    fun z hz => zx_upN (fun h1 => zx_upN (fun h2 => zx_upN (fun h3 => e4 z (by omega))))
  refine zx_replace (p := pr x) (by omega) (by omega) (e4 x hx) (by omega) ?_ ?_ ?_
  · intro h
    have ht : x = top := by omega
    dsimp only
    rw [nI_clamp (by omega), nI_clamp (by omega)]
    refine ⟨vp_in_nI (by omega) (by omega), nm_e ⟨vp_in_nI (by omega) (by omega), nm_e ⟨vp_in_nI (by omega) (by omega), nm_e ⟨vp_in_nI (by omega) (by omega), nm_e (hp _ ⟨rfl, rfl, ?_, hpar, ?_, ?_, hown, e8, e9⟩)⟩⟩⟩⟩
    · rw [if_pos ht]
    · exact fun z hz => zx_upN (fun h1 => zr_0 (I := zt_in c) e5 (fun r hr e => (zx_ch1 hC hr e).2.2 ht) z (by omega))
    · exact fun z hz => zx_upN (fun h1 => zr_0 (I := zt_in c) e6 (fun r hr e => (zx_ch2 hC hr e).2.2 ht) z (by omega))
  · intro h hf
    have ht : x ≠ top := by omega
    have hi : zt_in c (pr x) := by omega
    have k := hC.1 _ hi
    rw [e5 _ hi] at hf
    have hf2 := (nI_eq (by omega) (by omega)).mp hf
    dsimp only
    rw [nI_clamp (by omega), nI_clamp (by omega)]
    refine ⟨vp_in_nI (by omega) (by omega), nm_e ⟨vp_in_nI (by omega) (by omega), nm_e ⟨vp_in_nI (by omega) (by omega), nm_e ⟨vp_in_nI (by omega) (by omega), nm_e (hp _ ⟨rfl, rfl, ?_, hpar, ?_, ?_, hown, e8, e9⟩)⟩⟩⟩⟩
    · rw [if_neg ht]; exact e3
    · exact fun z hz => zx_upN (fun h1 => zr_1 (I := zt_in c) e5 (fun r hr e => (zx_ch1 hC hr e).1) hf2 z (by omega))
    · exact fun z hz => zx_upN (fun h1 => zr_0 (I := zt_in c) e6 (fun r hr e => by
        have h2 := zx_ch2 hC hr e
        rw [h2.1] at h2
        exact h2.2.1 hf2) z (by omega))
  · intro h hf
    have ht : x ≠ top := by omega
    have hi : zt_in c (pr x) := by omega
    have k := hC.1 _ hi
    rw [e5 _ hi] at hf
    have hf2 : f1 (pr x) ≠ x := fun e => hf (by rw [e])
    have hf3 := (hC.2 x hx ht).resolve_left hf2
    dsimp only
    rw [nI_clamp (by omega), nI_clamp (by omega)]
    refine ⟨vp_in_nI (by omega) (by omega), nm_e ⟨vp_in_nI (by omega) (by omega), nm_e ⟨vp_in_nI (by omega) (by omega), nm_e ⟨vp_in_nI (by omega) (by omega), nm_e (hp _ ⟨rfl, rfl, ?_, hpar, ?_, ?_, hown, e8, e9⟩)⟩⟩⟩⟩
    · rw [if_neg ht]; exact e3
    · exact fun z hz => zx_upN (fun h1 => zr_0 (I := zt_in c) e5 (fun r hr e => by
        have h2 := zx_ch1 hC hr e
        rw [h2.1] at e
        exact hf2 e) z (by omega))
    · exact fun z hz => zx_upN (fun h1 => zr_1 (I := zt_in c) e6 (fun r hr e => (zx_ch2 hC hr e).1) hf3 z (by omega))
/-- out again -/
theorem zx_dropLeaf {post : SX → Prop} {u : SX} (hc : c ≤ 6) (hT : zt_TR c top pr) (hC : zt_CH c top pr f1 f2) {x st : Nat} (hx : zt_nd c x)
    (hS : zx_S (c + 1) (if x = top then 7 + c else top) (zo_up (zo_up (zo_up pr (7 + c) (pr x)) x (7 + c)) c (7 + c)) (zo_up (zo_rn f1 x (7 + c)) (7 + c) x) (zo_up (zo_rn f2 x (7 + c)) (7 + c) c) (zo_up ow c st) cs rt u)
    (hp : ∀ u', zx_S c top pr f1 f2 ow cs rt u' → post u') : wpX_dropLeaf post u (nI x) := by
  obtain ⟨f_leafCount, f_innerCount, f_top, f_listed, a_parents, a_firsts, a_seconds, a_own, a_costs, a_rates, a_order, a_sets, a_below, a_many, a_above, a_sums, a_groups⟩ := u
  obtain ⟨e1, e2, e3, e4, e5, e6, e7, e8, e9⟩ := hS
  have hc1 := hT.1
  have hpv := zx_prv hT hx
  subst e1 e2
  have q1 : a_parents x = nI (7 + c) := by
    rw [e4 x (by omega), zo_up_n (by omega), zo_up_s]
  have q2 : a_parents (7 + c) = nI (pr x) := by
    rw [e4 (7 + c) (by omega), zo_up_n (by omega), zo_up_n (by omega), zo_up_s]
  have q3 : ∀ z, zt_nd c z → upd a_parents x (nI (pr x)) z = nI (pr z) := by
    intro z hz
    by_cases e : z = x
    · rw [e, pk_us]
    · rw [pk_un e, e4 z (by omega), zo_up_n (by omega), zo_up_n e, zo_up_n (by omega)]
  have w1 : ∀ r, zt_in c r → a_firsts r = nI (zo_rn f1 x (7 + c) r) := fun r hr => by rw [e5 r (by omega), zo_up_n (by omega)]
  have w2 : ∀ r, zt_in c r → a_seconds r = nI (zo_rn f2 x (7 + c) r) := fun r hr => by rw [e6 r (by omega), zo_up_n (by omega)]
  have hown : ∀ z, z < c → a_own z = nI (ow z) := fun z hz => by rw [e7 z (by omega), zo_up_n (by omega)]
  have s1 : nI (c + 1) - 1 = nI c := nI_pred c
  have s2 : nI (c + 1 - 1) - 1 = nI (c - 1) := by
    obtain ⟨d, rfl⟩ : ∃ d, c = d + 1 := ⟨c - 1, by omega⟩
    exact nI_pred d
  unfold wpX_dropLeaf
  dsimp only
  rw [nI_clamp (by omega), q1]
  refine ⟨vp_in_nI (by omega) (by omega), ?_⟩
  refine zx_replace (p := pr x) (by omega) (by omega) q2 (by omega) ?_ ?_ ?_
  · intro h
    have ht : x = top := by omega
    dsimp only
    refine nm_r s1 (nm_r s2 (hp _ ⟨rfl, rfl, ?_, q3, ?_, ?_, hown, e8, e9⟩))
    · rw [ht]
    · intro r hr
      rw [w1 r hr, zo_rn_n (fun e => (zx_ch1 hC hr e).2.2 ht)]
    · intro r hr
      rw [w2 r hr, zo_rn_n (fun e => (zx_ch2 hC hr e).2.2 ht)]
  · intro h hf
    have ht : x ≠ top := by omega
    have hi : zt_in c (pr x) := by omega
    have k := hC.1 _ hi
    have hf2 : f1 (pr x) = x := by
      by_cases e : f1 (pr x) = x
      · exact e
      · rw [w1 _ hi, zo_rn_n e, nI_eq (by omega) (by omega)] at hf
        omega
    dsimp only
    refine nm_r s1 (nm_r s2 (hp _ ⟨rfl, rfl, ?_, q3, ?_, ?_, hown, e8, e9⟩))
    · rw [e3, if_neg ht]
    · intro r hr
      by_cases e : r = pr x
      · rw [e, pk_us, hf2]
      · rw [pk_un e, w1 r hr, zo_rn_n (fun e2 => e (zx_ch1 hC hr e2).1)]
    · intro r hr
      rw [w2 r hr, zo_rn_n (fun e2 => by
        have h2 := zx_ch2 hC hr e2
        rw [h2.1] at h2
        exact h2.2.1 hf2)]
  · intro h hf
    have ht : x ≠ top := by omega
    have hi : zt_in c (pr x) := by omega
    have k := hC.1 _ hi
    have hf2 : f1 (pr x) ≠ x := by
      intro e
      rw [w1 _ hi, zo_rn_s e] at hf
      exact hf rfl
    have hf3 := (hC.2 x hx ht).resolve_left hf2
    dsimp only
    refine nm_r s1 (nm_r s2 (hp _ ⟨rfl, rfl, ?_, q3, ?_, ?_, hown, e8, e9⟩))
    · rw [e3, if_neg ht]
    · intro r hr
      rw [w1 r hr, zo_rn_n (fun e2 => by
        have h2 := zx_ch1 hC hr e2
        rw [h2.1] at e2
        exact hf2 e2)]
    · intro r hr
      by_cases e : r = pr x
      · rw [e, pk_us, hf3]
      · rw [pk_un e, w2 r hr, zo_rn_n (fun e2 => e (zx_ch2 hC hr e2).1)]
theorem zx_setChild {f_leafCount f_innerCount f_top f_listed : Int32} {a_parents a_firsts a_seconds a_own a_costs a_rates a_order a_sets a_below a_many a_above : Nat → Int32} {a_sums : Nat → Int64} {a_groups : Nat → Int32} {post : SX → Prop} {p b y : Nat} (hp : p < 14)
    (k1 : b ≠ 0 → post (f_leafCount, f_innerCount, f_top, f_listed, a_parents, upd a_firsts p (nI y), a_seconds, a_own, a_costs, a_rates, a_order, a_sets, a_below, a_many, a_above, a_sums, a_groups)) (k2 : b = 0 → post (f_leafCount, f_innerCount, f_top, f_listed, a_parents, a_firsts, upd a_seconds p (nI y), a_own, a_costs, a_rates, a_order, a_sets, a_below, a_many, a_above, a_sums, a_groups)) (hb : b < 2) : wpX_setChild post (f_leafCount, f_innerCount, f_top, f_listed, a_parents, a_firsts, a_seconds, a_own, a_costs, a_rates, a_order, a_sets, a_below, a_many, a_above, a_sums, a_groups) (nI p) (nI b) (nI y) := by
  unfold wpX_setChild
  dsimp only
  rw [nI_clamp (by omega)]
  exact pk_eq b 0 (fun h => ⟨vp_in_nI hp (by omega), nm_e (k2 h)⟩) (fun h => ⟨vp_in_nI hp (by omega), nm_e (k1 h)⟩)
/-- the stores of an exchange, given where the two stand -/
theorem zx_exch48 {f_leafCount f_innerCount f_top f_listed : Int32} {a_parents a_firsts a_seconds a_own a_costs a_rates a_order a_sets a_below a_many a_above : Nat → Int32} {a_sums : Nat → Int64} {a_groups : Nat → Int32} {post : SX → Prop} {x y p q : Nat} (hx : x < 14) (hy : y < 14) (hp : p < 14) (hq : q < 14) {b d : Nat} (hb : b < 2) (hd : d < 2)
    (k11 : b ≠ 0 → d ≠ 0 → post (f_leafCount, f_innerCount, f_top, f_listed, upd (upd a_parents x (nI q)) y (nI p), upd (upd a_firsts p (nI y)) q (nI x), a_seconds, a_own, a_costs, a_rates, a_order, a_sets, a_below, a_many, a_above, a_sums, a_groups))
    (k10 : b ≠ 0 → d = 0 → post (f_leafCount, f_innerCount, f_top, f_listed, upd (upd a_parents x (nI q)) y (nI p), upd a_firsts p (nI y), upd a_seconds q (nI x), a_own, a_costs, a_rates, a_order, a_sets, a_below, a_many, a_above, a_sums, a_groups))
    (k01 : b = 0 → d ≠ 0 → post (f_leafCount, f_innerCount, f_top, f_listed, upd (upd a_parents x (nI q)) y (nI p), upd a_firsts q (nI x), upd a_seconds p (nI y), a_own, a_costs, a_rates, a_order, a_sets, a_below, a_many, a_above, a_sums, a_groups))
    (k00 : b = 0 → d = 0 → post (f_leafCount, f_innerCount, f_top, f_listed, upd (upd a_parents x (nI q)) y (nI p), a_firsts, upd (upd a_seconds p (nI y)) q (nI x), a_own, a_costs, a_rates, a_order, a_sets, a_below, a_many, a_above, a_sums, a_groups)) :
    wX_exchange_48 post (nI x) (nI y) (nI p) (nI q) (nI b) (nI d) f_leafCount f_innerCount f_top f_listed a_parents a_firsts a_seconds a_own a_costs a_rates a_order a_sets a_below a_many a_above a_sums a_groups := by
  unfold wX_exchange_48
  refine zx_setChild hp (fun h => ?_) (fun h => ?_) hb
  · dsimp only
    refine zx_setChild hq (fun h2 => ?_) (fun h2 => ?_) hd
    · dsimp only
      rw [zx_c14 hx, zx_c14 hy]
      exact ⟨zx_i14 hx, nm_e ⟨zx_i14 hy, nm_e (k11 h h2)⟩⟩
    · dsimp only
      rw [zx_c14 hx, zx_c14 hy]
      exact ⟨zx_i14 hx, nm_e ⟨zx_i14 hy, nm_e (k10 h h2)⟩⟩
  · dsimp only
    refine zx_setChild hq (fun h2 => ?_) (fun h2 => ?_) hd
    · dsimp only
      rw [zx_c14 hx, zx_c14 hy]
      exact ⟨zx_i14 hx, nm_e ⟨zx_i14 hy, nm_e (k01 h h2)⟩⟩
    · dsimp only
      rw [zx_c14 hx, zx_c14 hy]
      exact ⟨zx_i14 hx, nm_e ⟨zx_i14 hy, nm_e (k00 h h2)⟩⟩
theorem zx_exch {f_leafCount f_innerCount f_top f_listed : Int32} {a_parents a_firsts a_seconds a_own a_costs a_rates a_order a_sets a_below a_many a_above : Nat → Int32} {a_sums : Nat → Int64} {a_groups : Nat → Int32} {post : SX → Prop} {x y p q v w : Nat} (hx : x < 14) (hy : y < 14) (hp : p < 14) (hq : q < 14) (hv : v < 14) (hw : w < 14) (px : a_parents x = nI p) (py : a_parents y = nI q) (fx : a_firsts p = nI v) (fy : a_firsts q = nI w)
    (k11 : v = x → w = y → post (f_leafCount, f_innerCount, f_top, f_listed, upd (upd a_parents x (nI q)) y (nI p), upd (upd a_firsts p (nI y)) q (nI x), a_seconds, a_own, a_costs, a_rates, a_order, a_sets, a_below, a_many, a_above, a_sums, a_groups))
    (k10 : v = x → w ≠ y → post (f_leafCount, f_innerCount, f_top, f_listed, upd (upd a_parents x (nI q)) y (nI p), upd a_firsts p (nI y), upd a_seconds q (nI x), a_own, a_costs, a_rates, a_order, a_sets, a_below, a_many, a_above, a_sums, a_groups))
    (k01 : v ≠ x → w = y → post (f_leafCount, f_innerCount, f_top, f_listed, upd (upd a_parents x (nI q)) y (nI p), upd a_firsts q (nI x), upd a_seconds p (nI y), a_own, a_costs, a_rates, a_order, a_sets, a_below, a_many, a_above, a_sums, a_groups))
    (k00 : v ≠ x → w ≠ y → post (f_leafCount, f_innerCount, f_top, f_listed, upd (upd a_parents x (nI q)) y (nI p), a_firsts, upd (upd a_seconds p (nI y)) q (nI x), a_own, a_costs, a_rates, a_order, a_sets, a_below, a_many, a_above, a_sums, a_groups)) :
    wpX_exchange post (f_leafCount, f_innerCount, f_top, f_listed, a_parents, a_firsts, a_seconds, a_own, a_costs, a_rates, a_order, a_sets, a_below, a_many, a_above, a_sums, a_groups) (nI x) (nI y) := by
  unfold wpX_exchange
  dsimp only
  rw [zx_c14 hx, zx_c14 hy, px, py]
  refine ⟨zx_i14 hx, nm_e ⟨zx_i14 hy, nm_e ⟨zx_i14 hp, ?_⟩⟩⟩
  rw [zx_c14 hp, fx]
  refine br_c (fun h => ?_) (fun h => ?_)
  · have hv2 := (zx_e14 hv hx).mp h
    unfold wX_exchange_30
    rw [zx_c14 hq, fy]
    refine ⟨zx_i14 hq, br_c (fun h2 => ?_) (fun h2 => ?_)⟩
    · have hw2 := (zx_e14 hw hy).mp h2
      exact zx_exch48 (b := 1) (d := 1) hx hy hp hq (by decide) (by decide) (fun _ _ => k11 hv2 hw2) (fun _ z => absurd z (by decide)) (fun z => absurd z (by decide)) (fun z => absurd z (by decide))
    · have hw2 : w ≠ y := fun e => h2 (by rw [e])
      exact zx_exch48 (b := 1) (d := 0) hx hy hp hq (by decide) (by decide) (fun _ z => absurd rfl z) (fun _ _ => k10 hv2 hw2) (fun z => absurd z (by decide)) (fun z => absurd z (by decide))
  · have hv2 : v ≠ x := fun e => h (by rw [e])
    unfold wX_exchange_30
    rw [zx_c14 hq, fy]
    refine ⟨zx_i14 hq, br_c (fun h2 => ?_) (fun h2 => ?_)⟩
    · have hw2 := (zx_e14 hw hy).mp h2
      exact zx_exch48 (b := 0) (d := 1) hx hy hp hq (by decide) (by decide) (fun z => absurd rfl z) (fun z => absurd rfl z) (fun _ _ => k01 hv2 hw2) (fun _ z => absurd z (by decide))
    · have hw2 : w ≠ y := fun e => h2 (by rw [e])
      exact zx_exch48 (b := 0) (d := 0) hx hy hp hq (by decide) (by decide) (fun z => absurd rfl z) (fun z => absurd rfl z) (fun _ z => absurd rfl z) (fun _ _ => k00 hv2 hw2)
theorem zx_exchange {post : SX → Prop} {f_leafCount f_innerCount f_top f_listed : Int32} {a_parents a_firsts a_seconds a_own a_costs a_rates a_order a_sets a_below a_many a_above : Nat → Int32} {a_sums : Nat → Int64} {a_groups : Nat → Int32} (hT : zt_TR c top pr) (hC : zt_CH c top pr f1 f2) (hS : zx_S c top pr f1 f2 ow cs rt (f_leafCount, f_innerCount, f_top, f_listed, a_parents, a_firsts, a_seconds, a_own, a_costs, a_rates, a_order, a_sets, a_below, a_many, a_above, a_sums, a_groups)) {x y : Nat} (hx : zt_nd c x) (hy : zt_nd c y) (hxy : x ≠ y) (hxt : x ≠ top) (hyt : y ≠ top)
    (hp : ∀ P F G, zx_S c top (zo_up (zo_up pr x (pr y)) y (pr x)) (fun r => zo_sg x y (f1 r)) (fun r => zo_sg x y (f2 r)) ow cs rt (f_leafCount, f_innerCount, f_top, f_listed, P, F, G, a_own, a_costs, a_rates, a_order, a_sets, a_below, a_many, a_above, a_sums, a_groups) → post (f_leafCount, f_innerCount, f_top, f_listed, P, F, G, a_own, a_costs, a_rates, a_order, a_sets, a_below, a_many, a_above, a_sums, a_groups)) : wpX_exchange post (f_leafCount, f_innerCount, f_top, f_listed, a_parents, a_firsts, a_seconds, a_own, a_costs, a_rates, a_order, a_sets, a_below, a_many, a_above, a_sums, a_groups) (nI x) (nI y) := by
  obtain ⟨e1, e2, e3, e4, e5, e6, e7, e8, e9⟩ := hS
  have hc7 := hT.2.1
  have hix := hT.2.2.2.2.1 x hx hxt
  have hiy := hT.2.2.2.2.1 y hy hyt
  have kx := hC.1 _ hix
  have ky := hC.1 _ hiy
  have hpar : ∀ z, zt_nd c z → upd (upd a_parents x (nI (pr y))) y (nI (pr x)) z = nI (zo_up (zo_up pr x (pr y)) y (pr x) z) :=
    fun z hz => zx_upN (fun h1 => zx_upN (fun h2 => e4 z hz))
  have A1 : ∀ z, zt_in c z → f1 z = x → z = pr x := fun z hz e => (zx_ch1 hC hz e).1
  have A2 : ∀ z, zt_in c z → f2 z = x → z = pr x := fun z hz e => (zx_ch2 hC hz e).1
  have B1 : ∀ z, zt_in c z → f1 z = y → z = pr y := fun z hz e => (zx_ch1 hC hz e).1
  have B2 : ∀ z, zt_in c z → f2 z = y → z = pr y := fun z hz e => (zx_ch2 hC hz e).1
  have N1 : f1 (pr x) = x → ∀ z, zt_in c z → f2 z ≠ x := by
    intro h z hz e
    have h2 := A2 z hz e
    rw [h2] at e
    exact kx.2.2.1 (h.trans e.symm)
  have N2 : f1 (pr x) ≠ x → ∀ z, zt_in c z → f1 z ≠ x := by
    intro h z hz e
    have h2 := A1 z hz e
    rw [h2] at e
    exact h e
  have N3 : f1 (pr y) = y → ∀ z, zt_in c z → f2 z ≠ y := by
    intro h z hz e
    have h2 := B2 z hz e
    rw [h2] at e
    exact ky.2.2.1 (h.trans e.symm)
  have N4 : f1 (pr y) ≠ y → ∀ z, zt_in c z → f1 z ≠ y := by
    intro h z hz e
    have h2 := B1 z hz e
    rw [h2] at e
    exact h e
  have O1 := hC.2 x hx hxt
  have O2 := hC.2 y hy hyt
  have hne : f1 (pr x) = x → f1 (pr y) = y → pr x ≠ pr y := by
    intro h1 h2 e
    rw [← e] at h2
    exact hxy (h1.symm.trans h2)
  have hne2 : f2 (pr x) = x → f2 (pr y) = y → pr x ≠ pr y := by
    intro h1 h2 e
    rw [← e] at h2
    exact hxy (h1.symm.trans h2)
  refine zx_exch (p := pr x) (q := pr y) (v := f1 (pr x)) (w := f1 (pr y)) (zx_l14 hc7 hx) (zx_l14 hc7 hy) (zx_l14 hc7 (Or.inr hix)) (zx_l14 hc7 (Or.inr hiy)) (zx_l14 hc7 kx.1) (zx_l14 hc7 ky.1) (e4 x hx) (e4 y hy) (e5 _ hix) (e5 _ hiy) ?_ ?_ ?_ ?_
  · intro hb1 hd1
    exact hp _ _ _ ⟨e1, e2, e3, hpar, zg_3 e5 A1 B1 hb1 hd1 (hne hb1 hd1), zg_0 e6 (N1 hb1) (N3 hd1), e7, e8, e9⟩
  · intro hb1 hd1
    exact hp _ _ _ ⟨e1, e2, e3, hpar, zg_1 e5 A1 (N4 hd1) hb1, zg_2 e6 (N1 hb1) B2 (O2.resolve_left hd1), e7, e8, e9⟩
  · intro hb1 hd1
    exact hp _ _ _ ⟨e1, e2, e3, hpar, zg_2 e5 (N2 hb1) B1 hd1, zg_1 e6 A2 (N3 hd1) (O1.resolve_left hb1), e7, e8, e9⟩
  · intro hb1 hd1
    exact hp _ _ _ ⟨e1, e2, e3, hpar, zg_0 e5 (N2 hb1) (N4 hd1), zg_3 e6 A2 B2 (O1.resolve_left hb1) (O2.resolve_left hd1) (hne2 (O1.resolve_left hb1) (O2.resolve_left hd1)), e7, e8, e9⟩
end
end
section
/-! move -/
section
variable {c top : Nat} {pr f1 f2 ow cs : Nat → Nat} {rt : Nat → Int32}
theorem zx_replaceA {f_leafCount f_innerCount f_top f_listed : Int32} {a_parents a_firsts a_seconds a_own a_costs a_rates a_order a_sets a_below a_many a_above : Nat → Int32} {a_sums : Nat → Int64} {a_groups : Nat → Int32} {post : SX → Prop} {I : Nat → Prop} {x y p : Nat} (hx : x < 14) (hy : y < 14) (hq : a_parents x = nI p) (hp : p = 4294967295 ∨ p < 14)
    (ha : ∀ r, I r → a_firsts r = nI (f1 r)) (hb : ∀ r, I r → a_seconds r = nI (f2 r)) (H1 : ∀ r, I r → f1 r = x → r = p) (H2 : ∀ r, I r → f2 r = x → r = p)
    (hN : p = 4294967295 → ∀ r, I r → r ≠ p) (hI : p < 14 → I p ∧ f1 p < 14 ∧ (f1 p = x ∨ f2 p = x) ∧ f1 p ≠ f2 p)
    (k : ∀ t F G, (p = 4294967295 → t = nI y) → (p < 14 → t = f_top) → (∀ r, I r → F r = nI (zo_rn f1 x y r)) → (∀ r, I r → G r = nI (zo_rn f2 x y r)) → post (f_leafCount, f_innerCount, t, f_listed, upd a_parents y (nI p), F, G, a_own, a_costs, a_rates, a_order, a_sets, a_below, a_many, a_above, a_sums, a_groups)) : wpX_replace post (f_leafCount, f_innerCount, f_top, f_listed, a_parents, a_firsts, a_seconds, a_own, a_costs, a_rates, a_order, a_sets, a_below, a_many, a_above, a_sums, a_groups) (nI x) (nI y) := by
  refine zx_replace hx hy hq hp ?_ ?_ ?_
  · intro h
    exact k _ _ _ (fun _ => rfl) (fun h2 => by omega) (zr_0 ha (fun r hr e => hN h r hr (H1 r hr e))) (zr_0 hb (fun r hr e => hN h r hr (H2 r hr e)))
  · intro h hf
    obtain ⟨i1, i2, i3, i4⟩ := hI h
    rw [ha p i1, zx_e14 i2 hx] at hf
    refine k _ _ _ (fun h2 => by omega) (fun _ => rfl) (zr_1 ha H1 hf) (zr_0 hb (fun r hr e => ?_))
    rw [H2 r hr e] at e
    exact i4 (hf.trans e.symm)
  · intro h hf
    obtain ⟨i1, i2, i3, i4⟩ := hI h
    rw [ha p i1, zx_e14 i2 hx] at hf
    refine k _ _ _ (fun h2 => by omega) (fun _ => rfl) (zr_0 ha (fun r hr e => ?_)) (zr_1 hb H2 (i3.resolve_left hf))
    rw [H1 r hr e] at e
    exact hf e
/-- what the second replacement of a move finds -/
theorem zo_mv2 (hT : zt_TR c top pr) (hC : zt_CH c top pr f1 f2) {x y p o : Nat} (hx : zt_nd c x) (hy : zt_nd c y) (hxt : x ≠ top) (hpx : pr x = p) (ho : zt_nd c o) (hot : o ≠ top) (hop : pr o = p) (hch : ∀ z, zt_nd c z → z ≠ top → pr z = p → z = x ∨ z = o)
    (hyx : y ≠ x) (hyp : y ≠ p) :
    (∀ r, (zt_in c r ∧ r ≠ p) → zo_rn f1 p o r = y → r = zo_up pr o (pr p) y) ∧ (∀ r, (zt_in c r ∧ r ≠ p) → zo_rn f2 p o r = y → r = zo_up pr o (pr p) y) ∧
    (zo_up pr o (pr p) y = 4294967295 ∨ ((zt_in c (zo_up pr o (pr p) y) ∧ zo_up pr o (pr p) y ≠ p) ∧ zo_rn f1 p o (zo_up pr o (pr p) y) < 14 ∧ (zo_rn f1 p o (zo_up pr o (pr p) y) = y ∨ zo_rn f2 p o (zo_up pr o (pr p) y) = y) ∧ zo_rn f1 p o (zo_up pr o (pr p) y) ≠ zo_rn f2 p o (zo_up pr o (pr p) y))) := by
  have hc7 := hT.2.1
  have hpi : zt_in c p := by have := hT.2.2.2.2.1 x hx hxt; rw [hpx] at this; exact this
  refine ⟨?_, ?_, ?_⟩
  · intro r hr e
    by_cases e1 : f1 r = p
    · rw [zo_rn_s e1] at e
      subst e
      rw [zo_up_s]
      exact (zx_ch1 hC hr.1 e1).1
    · rw [zo_rn_n e1] at e
      have h := (zx_ch1 hC hr.1 e).1
      have hyo : y ≠ o := by
        intro e2; rw [e2, hop] at h; exact hr.2 h
      rw [zo_up_n hyo]; exact h
  · intro r hr e
    by_cases e1 : f2 r = p
    · rw [zo_rn_s e1] at e
      subst e
      rw [zo_up_s]
      exact (zx_ch2 hC hr.1 e1).1
    · rw [zo_rn_n e1] at e
      have h := (zx_ch2 hC hr.1 e).1
      have hyo : y ≠ o := by
        intro e2; rw [e2, hop] at h; exact hr.2 h
      rw [zo_up_n hyo]; exact h
  · have hgen : ∀ q, zt_in c q → q ≠ p → (zo_rn f1 p o q = y ∨ zo_rn f2 p o q = y) → ((zt_in c q ∧ q ≠ p) ∧ zo_rn f1 p o q < 14 ∧ (zo_rn f1 p o q = y ∨ zo_rn f2 p o q = y) ∧ zo_rn f1 p o q ≠ zo_rn f2 p o q) := by
      intro q hq hne h
      obtain ⟨k1, k2, k3, k4, k5, k6, k7⟩ := hC.1 q hq
      have l1 := zx_l14 hc7 k1
      have l2 := zx_l14 hc7 ho
      have n1 : f1 q ≠ o := by intro e; rw [e, hop] at k6; exact hne k6.symm
      have n2 : f2 q ≠ o := by intro e; rw [e, hop] at k7; exact hne k7.symm
      clear k1 k2 hx hy ho
      refine ⟨⟨hq, hne⟩, ?_, h, ?_⟩
      · unfold zo_rn; split <;> assumption
      · unfold zo_rn
        split
        · split
          · intro _; exact k3 (by omega)
          · exact fun e => n2 e.symm
        · split
          · exact n1
          · exact k3
    by_cases hyo : y = o
    · subst hyo
      rw [zo_up_s]
      by_cases e : p = top
      · rw [e]; exact Or.inl hT.2.2.2.1
      · have hpp := hT.2.2.2.2.1 p (Or.inr hpi) e
        refine Or.inr (hgen _ hpp ?_ ?_)
        · intro e6
          have h := zt_un_pr hT (Or.inr hpi) e
          rw [e6] at h
          exact h (zt_un_self hT (Or.inr hpi))
        · rcases hC.2 p (Or.inr hpi) e with h | h
          · exact Or.inl (zo_rn_s h)
          · exact Or.inr (zo_rn_s h)
    · rw [zo_up_n hyo]
      by_cases e : y = top
      · rw [e]; exact Or.inl hT.2.2.2.1
      · have hpp := hT.2.2.2.2.1 y hy e
        refine Or.inr (hgen _ hpp ?_ ?_)
        · intro e6
          rcases hch y hy e e6 with h | h
          · exact hyx h
          · exact hyo h
        · rcases hC.2 y hy e with h | h
          · exact Or.inl (by rw [zo_rn_n (by rw [h]; exact hyp), h])
          · exact Or.inr (by rw [zo_rn_n (by rw [h]; exact hyp), h])
theorem zo_sibs (hT : zt_TR c top pr) (hC : zt_CH c top pr f1 f2) {x : Nat} (hx : zt_nd c x) (hxt : x ≠ top) :
    zt_nd c (zd_sib pr f1 f2 x) ∧ zd_sib pr f1 f2 x ≠ top ∧ pr (zd_sib pr f1 f2 x) = pr x ∧ zd_sib pr f1 f2 x ≠ x ∧ (∀ z, zt_nd c z → z ≠ top → pr z = pr x → z = x ∨ z = zd_sib pr f1 f2 x) := by
  have hi := hT.2.2.2.2.1 x hx hxt
  obtain ⟨k1, k2, k3, k4, k5, k6, k7⟩ := hC.1 _ hi
  rcases zd_sib_or hC hx hxt with ⟨h1, h2⟩ | ⟨h1, h2⟩
  · rw [← h2]
    refine ⟨k2, k5, k7, fun e => k3 (h1.trans e.symm), fun z hz hne e => ?_⟩
    have h := hC.2 z hz hne
    rw [e, h1] at h
    exact h.imp Eq.symm Eq.symm
  · rw [← h2]
    refine ⟨k1, k4, k6, fun e => k3 (e.trans h1.symm), fun z hz hne e => ?_⟩
    have h := hC.2 z hz hne
    rw [e, h1] at h
    exact h.symm.imp Eq.symm Eq.symm
def zo_mp (pr : Nat → Nat) (x y p o : Nat) : Nat → Nat := zo_up (zo_up (zo_up (zo_up pr o (pr p)) p (zo_up pr o (pr p) y)) y p) x p
def zo_mt (pr : Nat → Nat) (top y p o : Nat) : Nat := if zo_up pr o (pr p) y = 4294967295 then p else if pr p = 4294967295 then o else top
def zo_mf (f : Nat → Nat) (y p o w : Nat) : Nat → Nat := zo_up (zo_rn (zo_rn f p o) y p) p w
theorem zo_mov (hT : zt_TR c top pr) (hC : zt_CH c top pr f1 f2) {x y : Nat} (hx : zt_nd c x) (hy : zt_nd c y) (hxt : x ≠ top) (u : ¬ zt_un top pr y x = true) (hyp : y ≠ pr x) :
    zt_TR c (zo_mt pr top y (pr x) (zd_sib pr f1 f2 x)) (zo_mp pr x y (pr x) (zd_sib pr f1 f2 x)) ∧ zt_CH c (zo_mt pr top y (pr x) (zd_sib pr f1 f2 x)) (zo_mp pr x y (pr x) (zd_sib pr f1 f2 x)) (zo_mf f1 y (pr x) (zd_sib pr f1 f2 x) y) (zo_mf f2 y (pr x) (zd_sib pr f1 f2 x) x) := by
  obtain ⟨s1, s2, s3, s4, s5⟩ := zo_sibs hT hC hx hxt
  generalize hp : pr x = p at *
  have hsib : (f1 p = x ∧ f2 p = zd_sib pr f1 f2 x) ∨ (f2 p = x ∧ f1 p = zd_sib pr f1 f2 x) := by
    have := zd_sib_or hC hx hxt
    rw [hp] at this; exact this
  generalize ho : zd_sib pr f1 f2 x = o at *
  have hpi : zt_in c p := by have := hT.2.2.2.2.1 x hx hxt; rw [hp] at this; exact this
  have hyx : y ≠ x := fun e => u (by rw [e]; exact zt_un_self hT hx)
  have hpx : p ≠ x := by
    intro e
    have h := zt_un_pr hT hx hxt
    rw [hp, e] at h
    exact h (zt_un_self hT hx)
  have hpo : p ≠ o := by
    intro e
    have h := zt_un_pr hT s1 s2
    rw [s3, e] at h
    exact h (zt_un_self hT s1)
  have ptop : pr p = 4294967295 ↔ p = top := by
    constructor
    · intro h
      rcases zx_prv hT (Or.inr hpi) with h2 | h2
      · exact h2.2
      · have := h2.1; have := hT.2.1; omega
    · intro h; rw [h]; exact hT.2.2.2.1
  have ytop : pr y = 4294967295 ↔ y = top := by
    constructor
    · intro h
      rcases zx_prv hT hy with h2 | h2
      · exact h2.2
      · have := h2.1; have := hT.2.1; omega
    · intro h; rw [h]; exact hT.2.2.2.1
  by_cases hyo : y = o
  · have et : zo_mt pr top y p o = top := by
      unfold zo_mt
      rw [hyo, zo_up_s]
      split
      · exact ptop.mp (by assumption)
      · rfl
    have ep : ∀ z, zt_nd c z → zo_mp pr x y p o z = pr z := by
      intro z hz
      unfold zo_mp
      by_cases z1 : z = x
      · rw [z1, zo_up_s, hp]
      · rw [zo_up_n z1]
        by_cases z2 : z = y
        · rw [z2, zo_up_s, hyo, s3]
        · rw [zo_up_n z2]
          by_cases z3 : z = p
          · rw [z3, zo_up_s, hyo, zo_up_s]
          · rw [zo_up_n z3, zo_up_n (by rw [← hyo]; exact z2)]
    rw [et]
    refine ⟨zo_T_congr ep hT, ?_⟩
    have hrn : ∀ (f : Nat → Nat) (r : Nat), f r ≠ o → zo_rn (zo_rn f p o) y p r = f r := by
      intro f r h
      by_cases e : f r = p
      · rw [zo_rn_s (by rw [zo_rn_s e]; exact hyo.symm), e]
      · rw [zo_rn_n (by rw [zo_rn_n e, hyo]; exact h), zo_rn_n e]
    have hno : ∀ r, zt_in c r → r ≠ p → f1 r ≠ o ∧ f2 r ≠ o := by
      intro r hr hne
      constructor
      · intro e
        have h := (zx_ch1 hC hr e).1
        rw [s3] at h; exact hne h
      · intro e
        have h := (zx_ch2 hC hr e).1
        rw [s3] at h; exact hne h
    have hC2 : zt_CH c top pr (zo_mf f1 y p o y) (zo_mf f2 y p o x) := by
      unfold zo_mf
      refine ⟨fun q hq => ?_, fun z hz hne => ?_⟩
      · by_cases e : q = p
        · rw [e, zo_up_s, zo_up_s, hyo]
          exact ⟨s1, hx, s4, s2, hxt, s3, hp⟩
        · have h := hno q hq e
          rw [zo_up_n e, zo_up_n e, hrn f1 q h.1, hrn f2 q h.2]
          exact hC.1 q hq
      · by_cases e : pr z = p
        · rw [e, zo_up_s, zo_up_s, hyo]
          exact (s5 z hz hne e).symm.imp Eq.symm Eq.symm
        · have hq := hT.2.2.2.2.1 z hz hne
          have h := hno _ hq e
          rw [zo_up_n e, zo_up_n e, hrn f1 _ h.1, hrn f2 _ h.2]
          exact hC.2 z hz hne
    exact zo_C_congr ep (fun _ _ => rfl) (fun _ _ => rfl) hT hC2
  · have qt : zo_mt pr top y p o = if y = top then p else if p = top then o else top := by
      unfold zo_mt
      rw [zo_up_n hyo]
      simp only [ytop, ptop]
    have q1 : zo_mp pr x y p o x = p := zo_up_s
    have q2 : zo_mp pr x y p o y = p := by unfold zo_mp; rw [zo_up_n hyx, zo_up_s]
    have q3 : zo_mp pr x y p o p = pr y := by unfold zo_mp; rw [zo_up_n hpx, zo_up_n (fun e => hyp e.symm), zo_up_s, zo_up_n hyo]
    have q4 : zo_mp pr x y p o o = pr p := by unfold zo_mp; rw [zo_up_n s4, zo_up_n (fun e => hyo e.symm), zo_up_n (fun e => hpo e.symm), zo_up_s]
    have q5 : ∀ z, zt_nd c z → z ≠ x → z ≠ y → z ≠ p → z ≠ o → zo_mp pr x y p o z = pr z := by
      intro z _ z1 z2 z3 z4
      unfold zo_mp
      rw [zo_up_n z1, zo_up_n z2, zo_up_n z3, zo_up_n z4]
    have hrn : ∀ (f : Nat → Nat) (r : Nat), zo_rn (zo_rn f p o) y p r = zo_mv y p o (f r) := by
      intro f r
      unfold zo_mv
      by_cases e : f r = p
      · rw [if_pos e, zo_rn_n (by rw [zo_rn_s e]; exact fun e => hyo e.symm), zo_rn_s e]
      · rw [if_neg e]
        by_cases e2 : f r = y
        · rw [if_pos e2, zo_rn_s (by rw [zo_rn_n e]; exact e2)]
        · rw [if_neg e2, zo_rn_n (by rw [zo_rn_n e]; exact e2), zo_rn_n e]
    refine ⟨zo_mov_T hT hx hy s1 hxt hp s2 s3 s4 s5 u hyp hyo q1 q2 q3 q4 q5 qt, zo_mov_C hT hC hx hy s1 hxt hp s2 s3 s4 s5 u hyp hyo q1 q2 q3 q4 q5 qt zo_up_s zo_up_s ?_ ?_⟩
    · intro q hq hne
      unfold zo_mf
      rw [zo_up_n hne, hrn]
    · intro q hq hne
      unfold zo_mf
      rw [zo_up_n hne, hrn]
theorem zx_move78 {post : Int32 → SX → Prop} {f_leafCount f_innerCount f_top f_listed : Int32} {a_parents a_firsts a_seconds a_own a_costs a_rates a_order a_sets a_below a_many a_above : Nat → Int32} {a_sums : Nat → Int64} {a_groups : Nat → Int32} (hT : zt_TR c top pr) (hC : zt_CH c top pr f1 f2) (hS : zx_S c top pr f1 f2 ow cs rt (f_leafCount, f_innerCount, f_top, f_listed, a_parents, a_firsts, a_seconds, a_own, a_costs, a_rates, a_order, a_sets, a_below, a_many, a_above, a_sums, a_groups)) {x y : Nat} (hx : zt_nd c x) (hy : zt_nd c y) (hxt : x ≠ top) (hyx : y ≠ x) (hyp : y ≠ pr x)
    (hp : ∀ u', zx_S c (zo_mt pr top y (pr x) (zd_sib pr f1 f2 x)) (zo_mp pr x y (pr x) (zd_sib pr f1 f2 x)) (zo_mf f1 y (pr x) (zd_sib pr f1 f2 x) y) (zo_mf f2 y (pr x) (zd_sib pr f1 f2 x) x) ow cs rt u' → post 0 u') :
    wX_move_78 post (nI x) (nI y) (nI (pr x)) (nI (zd_sib pr f1 f2 x)) f_leafCount f_innerCount f_top f_listed a_parents a_firsts a_seconds a_own a_costs a_rates a_order a_sets a_below a_many a_above a_sums a_groups := by
  obtain ⟨e1, e2, e3, e4, e5, e6, e7, e8, e9⟩ := hS
  have hc7 := hT.2.1
  obtain ⟨s1, s2, s3, s4, s5⟩ := zo_sibs hT hC hx hxt
  have hi := hT.2.2.2.2.1 x hx hxt
  have hm := zo_mv2 hT hC hx hy hxt rfl s1 s2 s3 s5 hyx hyp
  have lx := zx_l14 hc7 hx
  have ly := zx_l14 hc7 hy
  have lo := zx_l14 hc7 s1
  have lp := zx_l14 hc7 (Or.inr hi)
  have hpv := zx_prv hT (Or.inr hi)
  have hpp : pr (pr x) = 4294967295 ∨ pr (pr x) < 14 := hpv.imp (fun h => h.1) (fun h => zx_l14 hc7 (Or.inr h.1))
  generalize hpx : pr x = p at *
  generalize hox : zd_sib pr f1 f2 x = o at *
  obtain ⟨m1, m2, m3⟩ := hm
  have hq14 : zo_up pr o (pr p) y = 4294967295 ∨ zo_up pr o (pr p) y < 14 := m3.imp id (fun h => zx_l14 hc7 (Or.inr h.1.1))
  have hN : ∀ (q : Nat) (J : Nat → Prop), (∀ r, J r → zt_in c r) → q = 4294967295 → ∀ r, J r → r ≠ q := by
    intro q J hJ hq r hr e
    have := hJ r hr
    omega
  unfold wX_move_78
  refine zx_replaceA (I := zt_in c) (f1 := f1) (f2 := f2) lp lo (e4 p (Or.inr hi)) hpp e5 e6 (fun r hr e => (zx_ch1 hC hr e).1) (fun r hr e => (zx_ch2 hC hr e).1) (fun h => hN _ _ (fun _ h => h) h) ?_ ?_
  · intro hl
    have ht : p ≠ top := by
      rcases hpv with h | h
      · omega
      · exact h.2
    have hi2 := hT.2.2.2.2.1 p (Or.inr hi) ht
    have k := hC.1 _ hi2
    exact ⟨hi2, zx_l14 hc7 k.1, hC.2 p (Or.inr hi) ht, k.2.2.1⟩
  · intro t F G t1 t2 hF hG
    dsimp only
    have hq1 : upd a_parents o (nI (pr p)) y = nI (zo_up pr o (pr p) y) := zx_upN (fun _ => e4 y hy)
    refine zx_replaceA (I := fun r => zt_in c r ∧ r ≠ p) (f1 := zo_rn f1 p o) (f2 := zo_rn f2 p o) ly lp hq1 hq14 (fun r hr => hF r hr.1) (fun r hr => hG r hr.1) m1 m2 (fun h => hN _ _ (fun _ h => h.1) h) ?_ ?_
    · intro hl
      rcases m3 with h | h
      · omega
      · exact h
    · intro t' F' G' t1' t2' hF' hG'
      dsimp only
      rw [zx_c14 lp, zx_c14 ly, zx_c14 lx]
      refine ⟨zx_i14 lp, nm_e ⟨zx_i14 lp, nm_e ⟨zx_i14 ly, nm_e ⟨zx_i14 lx, nm_e (hp _ ⟨e1, e2, ?_, ?_, ?_, ?_, e7, e8, e9⟩)⟩⟩⟩⟩
      · unfold zo_mt
        split
        · exact t1' (by assumption)
        · rename_i h1
          rw [t2' (hq14.resolve_left h1)]
          split
          · exact t1 (by assumption)
          · rename_i h2
            rw [t2 (hpp.resolve_left h2)]
            exact e3
      · exact fun z hz => zx_upN (fun _ => zx_upN (fun _ => zx_upN (fun _ => zx_upN (fun _ => e4 z hz))))
      · exact fun z hz => zx_upN (fun h => hF' z ⟨hz, h⟩)
      · exact fun z hz => zx_upN (fun h => hG' z ⟨hz, h⟩)
end
end
section
/-! the reference's picture, its small methods, its changes of the tree -/
def zy_S (c top : Nat) (pr g1 g2 ow cs : Nat → Nat) (rt : Nat → Int32) (v : SY) : Prop := match v with
  | (f_count, f_top, a_own, a_above, a_one, a_two, a_costs, a_rates, a_low, a_many, a_sums, a_others) => f_count = nI c ∧ f_top = nI top ∧ (∀ x, x < c → ∀ s, s < 4 → a_own (4 * x + s) = nI (ow x / 4 ^ (3 - s) % 4)) ∧ (∀ x, zt_nd c x → a_above x = nI (pr x)) ∧ (∀ x, zt_in c x → a_one x = nI (g1 x)) ∧ (∀ x, zt_in c x → a_two x = nI (g2 x)) ∧ (∀ j, j < 16 → a_costs j = nI (cs j)) ∧ (∀ j, j < 16 → a_rates j = rt j) ∧ (∀ j, j < 64 → ∃ n, n ≤ 1000 ∧ a_low j = nI n)
theorem zy_7c {c : Nat} : (7 : Int32) + nI c = nI (7 + c) := nI_add 7 c
theorem zy_i16 {n : Nat} (h : n < 14) : vp_in (nI n) 16 := vp_in_nI (by omega) (by omega)
theorem zy_badStates {post : Int32 → Prop} {v : SY} {x : Int32} (p0 : ∀ m, m < 256 → x = nI m → post 0) (p1 : (¬ ∃ m, m < 256 ∧ x = nI m) → post 1) : wpY_badStates post v x := by
  obtain ⟨f_count, f_top, a_own, a_above, a_one, a_two, a_costs, a_rates, a_low, a_many, a_sums, a_others⟩ := v
  unfold wpY_badStates
  by_cases hn : x < 0
  · refine br_t hn (p1 ?_)
    rintro ⟨j, hj, rfl⟩
    exact absurd hn (nI_pos (by omega))
  · obtain ⟨j, hj, rfl⟩ := nI_of hn
    refine br_f hn (pk_le j 255 (fun h => p0 j (by omega) rfl) (fun h => p1 ?_))
    rintro ⟨i, hi, e⟩
    rw [nI_eq hj (by omega)] at e
    omega
theorem zy_badState {post : Int32 → Prop} {v : SY} {x : Int32} (p0 : ∀ m, m < 4 → x = nI m → post 0) (p1 : (¬ ∃ m, m < 4 ∧ x = nI m) → post 1) : wpY_badState post v x := by
  obtain ⟨f_count, f_top, a_own, a_above, a_one, a_two, a_costs, a_rates, a_low, a_many, a_sums, a_others⟩ := v
  unfold wpY_badState
  by_cases hn : x < 0
  · refine br_t hn (p1 ?_)
    rintro ⟨j, hj, rfl⟩
    exact absurd hn (nI_pos (by omega))
  · obtain ⟨j, hj, rfl⟩ := nI_of hn
    refine br_f hn (pk_le j 3 (fun h => p0 j (by omega) rfl) (fun h => p1 ?_))
    rintro ⟨i, hi, e⟩
    rw [nI_eq hj (by omega)] at e
    omega
section
variable {c top : Nat} {pr g1 g2 ow cs : Nat → Nat} {rt : Nat → Int32}
theorem zy_bad {post : Int32 → Prop} {v : SY} {x : Int32} (hc7 : c ≤ 7) (hS : zy_S c top pr g1 g2 ow cs rt v) (p0 : ∀ j, zt_nd c j → x = nI j → post 0) (p1 : (¬ ∃ j, zt_nd c j ∧ x = nI j) → post 1) : wpY_bad post v x := by
  obtain ⟨f_count, f_top, a_own, a_above, a_one, a_two, a_costs, a_rates, a_low, a_many, a_sums, a_others⟩ := v
  obtain ⟨e1, e2, e3, e4, e5, e6, e7, e8, e9⟩ := hS
  subst e1
  unfold wpY_bad
  by_cases hn : x < 0
  · refine br_t hn (p1 ?_)
    rintro ⟨j, hj, rfl⟩
    exact absurd hn (nI_pos (by omega))
  · obtain ⟨j, hj, rfl⟩ := nI_of hn
    have hno : ¬ zt_nd c j → ¬ ∃ i, zt_nd c i ∧ nI j = nI i := by
      rintro h ⟨i, hi, e⟩
      rw [nI_eq hj (by omega)] at e
      exact h (by rw [e]; exact hi)
    refine br_f hn (pk_le j 13 (fun h => ?_) (fun h => p1 (hno (by omega))))
    refine pk_le 8 j (fun h2 => ?_) (fun h2 => ?_)
    · exact pk_lt j (7 + c) (fun h3 => p0 j (by omega) rfl) (fun h3 => p1 (hno (by omega))) rfl zy_7c
    · exact pk_le c j (fun h3 => p1 (hno (by omega))) (fun h3 => pk_le j 6 (fun h4 => p0 j (by omega) rfl) (fun h4 => p1 (hno (by omega))))
theorem zy_bad0 {post : Int32 → Prop} {v : SY} {x : Nat} (hc7 : c ≤ 7) (hS : zy_S c top pr g1 g2 ow cs rt v) (hx : zt_nd c x) (p : post 0) : wpY_bad post v (nI x) :=
  zy_bad hc7 hS (fun _ _ _ => p) (fun h => absurd ⟨x, hx, rfl⟩ h)
theorem zy_bad1 {post : Int32 → Prop} {v : SY} {x : Int32} (hc7 : c ≤ 7) (hS : zy_S c top pr g1 g2 ow cs rt v) (hx : ¬ ∃ j, zt_nd c j ∧ x = nI j) (p : post 1) : wpY_bad post v x :=
  zy_bad hc7 hS (fun j h e => absurd ⟨j, h, e⟩ hx) (fun _ => p)
theorem zy_ov5 {f_count f_top : Int32} {a_own a_above a_one a_two a_costs a_rates a_low a_many : Nat → Int32} {a_sums : Nat → Int64} {a_others : Nat → Int32} {post : Int32 → Prop} (hT : zt_TR c top pr) (hS : zy_S c top pr g1 g2 ow cs rt (f_count, f_top, a_own, a_above, a_one, a_two, a_costs, a_rates, a_low, a_many, a_sums, a_others)) {x : Nat} (hx : zt_nd c x) :
    ∀ (d z k n : Nat), zt_nd c z → zt_R top pr d z → d + k ≤ 14 → d + 1 < n → (zt_un top pr z x = true → post 1) → (¬ zt_un top pr z x = true → post 0) → wY_over_5 post (nI x) f_count f_top a_own a_above a_one a_two a_costs a_rates a_low a_many a_sums a_others n (nI z) (nI k) := by
  have hc := hT.2.1
  have e4 := hS.2.2.2.1
  have lx := zx_l14 hc hx
  intro d
  induction d with
  | zero =>
    intro z k n hz hd hk hn p1 p0
    obtain ⟨m, rfl⟩ : ∃ m, n = m + 1 + 1 := ⟨n - 2, by omega⟩
    have hd2 : z = top := hd
    have lz := zx_l14 hc hz
    have q := e4 z hz
    rw [hd2, hT.2.2.2.1, zx_m1] at q
    clear hx hz
    refine br_f (nI_ge (b := 16) (by omega) (by omega)) (br_f (nI_pos (by omega)) (br_c (fun e => ?_) (fun e => ?_)))
    · rw [zx_e14 lz lx] at e
      exact p1 (by rw [hd2]; rw [hd2] at e; exact (zt_un0 hT x).mpr e)
    · rw [zx_c14 lz, hd2, q, nI_1]
      refine ⟨by rw [← hd2]; exact zy_i16 lz, nm_e (nm_e ?_)⟩
      exact br_f (nI_ge (b := 16) (by omega) (by omega)) (br_t (by decide) (p0 (fun h => e (by rw [hd2] at h ⊢; rw [(zt_un0 hT x).mp h]))))
  | succ d ih =>
    intro z k n hz hd hk hn p1 p0
    obtain ⟨m, rfl⟩ : ∃ m, n = m + 1 := ⟨n - 1, by omega⟩
    have lz := zx_l14 hc hz
    have q := e4 z hz
    have hp := hT.2.2.2.2.1 z hz hd.1
    have hu := zt_un1 hT hz hd.1 x
    refine br_f (nI_ge (b := 16) (by omega) (by omega)) (br_f (nI_pos (by omega)) (br_c (fun e => ?_) (fun e => ?_)))
    · rw [zx_e14 lz lx] at e
      exact p1 (hu.mpr (Or.inl e))
    · rw [zx_c14 lz, q, nI_1]
      refine ⟨zy_i16 lz, nm_e (nm_e ?_)⟩
      exact ih (pr z) (k + 1) m (Or.inr hp) hd.2 (by omega) (by omega) (fun h => p1 (hu.mpr (Or.inr h))) (fun h => p0 (fun h2 => (hu.mp h2).elim (fun e2 => e (by rw [e2])) h))
/-- over x y: y is x or below it -/
theorem zy_over {post : Int32 → Prop} {v : SY} (hT : zt_TR c top pr) (hS : zy_S c top pr g1 g2 ow cs rt v) {x y : Nat} (hx : zt_nd c x) (hy : zt_nd c y) (p1 : zt_un top pr y x = true → post 1) (p0 : ¬ zt_un top pr y x = true → post 0) : wpY_over post v (nI x) (nI y) := by
  obtain ⟨f_count, f_top, a_own, a_above, a_one, a_two, a_costs, a_rates, a_low, a_many, a_sums, a_others⟩ := v
  obtain ⟨d, hd⟩ := hT.2.2.2.2.2 y hy
  have := zt_dep hT hy hd
  exact ⟨d + 2, zy_ov5 hT hS hx d y 0 (d + 2) hy hd (by omega) (by omega) p1 p0⟩
theorem zy_dig : ∀ m, m < 256 → ∀ t, t < 4 → (nI m >>> ((6 - (2 * nI t)) &&& 31)) &&& 3 = nI (m / 4 ^ (3 - t) % 4) := by decide +kernel
theorem zy_ix {x s : Nat} : (4 : Int32) * nI x + nI s = nI (4 * x + s) := by
  show nI 4 * nI x + nI s = _
  rw [pk_mul, nI_add]
theorem zy_give2 {post : SY → Prop} {A : Nat → Int32} {l m : Nat} (hl : l < 7) (hm : m < 256) {f_count f_top : Int32} {a_own a_above a_one a_two a_costs a_rates a_low a_many : Nat → Int32} {a_sums : Nat → Int64} {a_others : Nat → Int32}
    (k : ∀ O, (∀ s, s < 4 → O (4 * l + s) = nI (m / 4 ^ (3 - s) % 4)) → (∀ j, (j < 4 * l ∨ 4 * l + 4 ≤ j) → O j = A j) → post (f_count, f_top, O, a_above, a_one, a_two, a_costs, a_rates, a_low, a_many, a_sums, a_others)) :
    ∀ (d t n : Nat) (O : Nat → Int32), t + d = 4 → d < n → (∀ s, s < t → O (4 * l + s) = nI (m / 4 ^ (3 - s) % 4)) → (∀ j, (j < 4 * l ∨ 4 * l + 4 ≤ j) → O j = A j) → wY_give_2 post (nI l) (nI m) f_count f_top n (nI t) O a_above a_one a_two a_costs a_rates a_low a_many a_sums a_others := by
  intro d
  induction d with
  | zero =>
    intro t n O ht hn h1 h2
    obtain ⟨q, rfl⟩ : ∃ q, n = q + 1 := ⟨n - 1, by omega⟩
    have e : t = 4 := by omega
    subst e
    exact br_t (nI_le (a := 4) (b := 4) (by omega) (by omega)) (k O h1 h2)
  | succ d ih =>
    intro t n O ht hn h1 h2
    obtain ⟨q, rfl⟩ : ∃ q, n = q + 1 := ⟨n - 1, by omega⟩
    refine br_f (nI_ge (b := 4) (by omega) (by omega)) ?_
    rw [zy_ix, nI_clamp (by omega), zy_dig m hm t (by omega), nI_1]
    refine ⟨vp_in_nI (by omega) (by omega), nm_e (nm_e ?_)⟩
    refine ih (t + 1) q _ (by omega) (by omega) ?_ ?_
    · intro s hs
      by_cases e : s = t
      · rw [e, pk_us]
      · rw [pk_un (by omega)]; exact h1 s (by omega)
    · intro j hj
      rw [pk_un (by omega)]; exact h2 j hj
theorem zy_give {post : SY → Prop} {f_count f_top : Int32} {a_own a_above a_one a_two a_costs a_rates a_low a_many : Nat → Int32} {a_sums : Nat → Int64} {a_others : Nat → Int32} {l m : Nat} (hl : l < 7) (hm : m < 256)
    (k : ∀ O, (∀ s, s < 4 → O (4 * l + s) = nI (m / 4 ^ (3 - s) % 4)) → (∀ j, (j < 4 * l ∨ 4 * l + 4 ≤ j) → O j = a_own j) → post (f_count, f_top, O, a_above, a_one, a_two, a_costs, a_rates, a_low, a_many, a_sums, a_others)) : wpY_give post (f_count, f_top, a_own, a_above, a_one, a_two, a_costs, a_rates, a_low, a_many, a_sums, a_others) (nI l) (nI m) :=
  ⟨5, zy_give2 (A := a_own) (a_own := a_own) hl hm k 4 0 5 a_own (by omega) (by omega) (fun s hs => absurd hs (by omega)) (fun _ _ => rfl)⟩
theorem zy_replaceA {f_count f_top : Int32} {a_own a_above a_one a_two a_costs a_rates a_low a_many : Nat → Int32} {a_sums : Nat → Int64} {a_others : Nat → Int32} {post : SY → Prop} {I : Nat → Prop} {x y p : Nat} (hx : x < 14) (hy : y < 14) (hq : a_above x = nI p) (hp : p = 4294967295 ∨ p < 14)
    (ha : ∀ r, I r → a_one r = nI (g1 r)) (hb : ∀ r, I r → a_two r = nI (g2 r)) (H1 : ∀ r, I r → g1 r = x → r = p) (H2 : ∀ r, I r → g2 r = x → r = p)
    (hN : p = 4294967295 → ∀ r, I r → r ≠ p) (hI : p < 14 → I p ∧ g1 p < 14 ∧ (g1 p = x ∨ g2 p = x) ∧ g1 p ≠ g2 p)
    (k : ∀ t F G, (p = 4294967295 → t = nI y) → (p < 14 → t = f_top) → (∀ r, I r → F r = nI (zo_rn g1 x y r)) → (∀ r, I r → G r = nI (zo_rn g2 x y r)) → post (f_count, t, a_own, upd a_above y (nI p), F, G, a_costs, a_rates, a_low, a_many, a_sums, a_others)) : wpY_replace post (f_count, f_top, a_own, a_above, a_one, a_two, a_costs, a_rates, a_low, a_many, a_sums, a_others) (nI x) (nI y) := by
  unfold wpY_replace
  dsimp only
  rw [zx_c14 hx, zx_c14 hy, hq]
  refine ⟨zy_i16 hx, nm_e ⟨zy_i16 hy, nm_e ?_⟩⟩
  rcases hp with h | h
  · refine br_f (by rw [h]; decide) ?_
    exact k _ _ _ (fun _ => rfl) (fun h2 => by omega) (zr_0 ha (fun r hr e => hN h r hr (H1 r hr e))) (zr_0 hb (fun r hr e => hN h r hr (H2 r hr e)))
  · refine br_t (nI_pos' (by omega)) ⟨zy_i16 h, ?_⟩
    obtain ⟨i1, i2, i3, i4⟩ := hI h
    rw [zx_c14 h, ha p i1]
    refine br_c (fun hf => ⟨zy_i16 h, nm_e ?_⟩) (fun hf => ⟨zy_i16 h, nm_e ?_⟩)
    · rw [zx_e14 i2 hx] at hf
      refine k _ _ _ (fun h2 => by omega) (fun _ => rfl) (zr_1 ha H1 hf) (zr_0 hb (fun r hr e => ?_))
      rw [H2 r hr e] at e
      exact i4 (hf.trans e.symm)
    · rw [zx_e14 i2 hx] at hf
      refine k _ _ _ (fun h2 => by omega) (fun _ => rfl) (zr_0 ha (fun r hr e => ?_)) (zr_1 hb H2 (i3.resolve_left hf))
      rw [H1 r hr e] at e
      exact hf e
theorem zy_join {f_count f_top : Int32} {a_own a_above a_one a_two a_costs a_rates a_low a_many : Nat → Int32} {a_sums : Nat → Int64} {a_others : Nat → Int32} {post : SY → Prop} {p x y : Nat} (hp : p < 14) (hx : x < 14) (hy : y < 14)
    (k : post (f_count, f_top, a_own, upd (upd a_above x (nI p)) y (nI p), upd a_one p (nI x), upd a_two p (nI y), a_costs, a_rates, a_low, a_many, a_sums, a_others)) : wpY_join post (f_count, f_top, a_own, a_above, a_one, a_two, a_costs, a_rates, a_low, a_many, a_sums, a_others) (nI p) (nI x) (nI y) := by
  unfold wpY_join
  dsimp only
  rw [zx_c14 hp, zx_c14 hx, zx_c14 hy]
  exact ⟨zy_i16 hp, nm_e ⟨zy_i16 hp, nm_e ⟨zy_i16 hx, nm_e ⟨zy_i16 hy, nm_e k⟩⟩⟩⟩
theorem zy_nN {c : Nat} (hc : c ≤ 7) {q : Nat} {J : Nat → Prop} (hJ : ∀ r, J r → zt_in c r) (hq : q = 4294967295) : ∀ r, J r → r ≠ q := by
  intro r hr e
  have := hJ r hr
  omega
theorem zy_putIn {post : SY → Prop} {v : SY} (hc : c ≤ 6) (hT : zt_TR c top pr) (hC : zt_CH c top pr g1 g2) (hS : zy_S c top pr g1 g2 ow cs rt v) {x : Nat} (hx : zt_nd c x) {st : Nat} (hst : st < 256)
    (hp : ∀ v', zy_S (c + 1) (if x = top then 7 + c else top) (zo_up (zo_up (zo_up pr (7 + c) (pr x)) x (7 + c)) c (7 + c)) (zo_up (zo_rn g1 x (7 + c)) (7 + c) x) (zo_up (zo_rn g2 x (7 + c)) (7 + c) c) (zo_up ow c st) cs rt v' → post v') : wpY_putIn post v (nI x) (nI st) := by
  obtain ⟨f_count, f_top, a_own, a_above, a_one, a_two, a_costs, a_rates, a_low, a_many, a_sums, a_others⟩ := v
  obtain ⟨e1, e2, e3, e4, e5, e6, e7, e8, e9⟩ := hS
  have hc7 := hT.2.1
  have hpv := zx_prv hT hx
  have lx := zx_l14 hc7 hx
  have hpp : pr x = 4294967295 ∨ pr x < 14 := hpv.imp (fun h => h.1) (fun h => zx_l14 hc7 (Or.inr h.1))
  have li : 7 + c < 14 := by omega
  have lc : c < 14 := by omega
  have hpar : ∀ z, zt_nd (c + 1) z → upd (upd (upd a_above (7 + c) (nI (pr x))) x (nI (7 + c))) c (nI (7 + c)) z = nI (zo_up (zo_up (zo_up pr (7 + c) (pr x)) x (7 + c)) c (7 + c) z) :=
    fun z hz => zx_upN (fun h1 => zx_upN (fun h2 => zx_upN (fun h3 => e4 z (by omega))))
  subst e1
  unfold wpY_putIn
  dsimp only
  refine nm_r zy_7c (nm_r (nI_1 c) ?_)
  refine zy_give (by omega) hst (fun O hO1 hO2 => ?_)
  dsimp only
  refine zy_replaceA (I := zt_in c) (g1 := g1) (g2 := g2) lx li (e4 x hx) hpp e5 e6 (fun r hr e => (zx_ch1 hC hr e).1) (fun r hr e => (zx_ch2 hC hr e).1) (zy_nN hc7 (fun _ h => h)) ?_ ?_
  · intro hl
    have ht : x ≠ top := by
      rcases hpv with h | h
      · omega
      · exact h.2
    have hi2 := hT.2.2.2.2.1 x hx ht
    have k := hC.1 _ hi2
    exact ⟨hi2, zx_l14 hc7 k.1, hC.2 x hx ht, k.2.2.1⟩
  · intro t F G t1 t2 hF hG
    dsimp only
    refine zy_join li lx lc ?_
    dsimp only
    refine hp _ ⟨rfl, ?_, ?_, hpar, ?_, ?_, e7, e8, e9⟩
    · rcases hpv with h | h
      · rw [t1 h.1, if_pos h.2]
      · rw [t2 (zx_l14 hc7 (Or.inr h.1)), if_neg h.2]; exact e2
    · intro z hz s hs
      by_cases e : z = c
      · rw [e, zo_up_s]; exact hO1 s hs
      · rw [zo_up_n e, hO2 _ (by omega)]; exact e3 z (by omega) s hs
    · exact fun z hz => zx_upN (fun h => hF z (by omega))
    · exact fun z hz => zx_upN (fun h => hG z (by omega))
theorem zy_ex57 {f_count f_top : Int32} {a_own a_above a_one a_two a_costs a_rates a_low a_many : Nat → Int32} {a_sums : Nat → Int64} {a_others : Nat → Int32} {post : SY → Prop} {x y p q w : Nat} (hx : x < 14) (hy : y < 14) (hq : q < 14) (hw : w < 14) (fy : a_one q = nI w)
    (k1 : w = y → post (f_count, f_top, a_own, upd (upd a_above x (nI q)) y (nI p), upd a_one q (nI x), a_two, a_costs, a_rates, a_low, a_many, a_sums, a_others))
    (k0 : w ≠ y → post (f_count, f_top, a_own, upd (upd a_above x (nI q)) y (nI p), a_one, upd a_two q (nI x), a_costs, a_rates, a_low, a_many, a_sums, a_others)) : wY_exchange_57 post (nI x) (nI y) (nI p) (nI q) f_count f_top a_own a_above a_one a_two a_costs a_rates a_low a_many a_sums a_others := by
  unfold wY_exchange_57 wY_exchange_87
  rw [zx_c14 hq, fy, zx_c14 hx, zx_c14 hy]
  refine ⟨zy_i16 hq, br_c (fun h => ?_) (fun h => ?_)⟩
  · rw [zx_e14 hw hy] at h
    exact ⟨zy_i16 hq, nm_e ⟨zy_i16 hx, nm_e ⟨zy_i16 hy, nm_e (k1 h)⟩⟩⟩
  · rw [zx_e14 hw hy] at h
    exact ⟨zy_i16 hq, nm_e ⟨zy_i16 hx, nm_e ⟨zy_i16 hy, nm_e (k0 h)⟩⟩⟩
theorem zy_exch {f_count f_top : Int32} {a_own a_above a_one a_two a_costs a_rates a_low a_many : Nat → Int32} {a_sums : Nat → Int64} {a_others : Nat → Int32} {post : SY → Prop} {x y p q v w : Nat} (hx : x < 14) (hy : y < 14) (hp : p < 14) (hq : q < 14) (hv : v < 14) (hw : w < 14) (px : a_above x = nI p) (py : a_above y = nI q) (fx : a_one p = nI v) (fy : a_one q = nI w)
    (ke : p = q → post (f_count, f_top, a_own, a_above, a_one, a_two, a_costs, a_rates, a_low, a_many, a_sums, a_others))
    (k11 : p ≠ q → v = x → w = y → post (f_count, f_top, a_own, upd (upd a_above x (nI q)) y (nI p), upd (upd a_one p (nI y)) q (nI x), a_two, a_costs, a_rates, a_low, a_many, a_sums, a_others))
    (k10 : p ≠ q → v = x → w ≠ y → post (f_count, f_top, a_own, upd (upd a_above x (nI q)) y (nI p), upd a_one p (nI y), upd a_two q (nI x), a_costs, a_rates, a_low, a_many, a_sums, a_others))
    (k01 : p ≠ q → v ≠ x → w = y → post (f_count, f_top, a_own, upd (upd a_above x (nI q)) y (nI p), upd a_one q (nI x), upd a_two p (nI y), a_costs, a_rates, a_low, a_many, a_sums, a_others))
    (k00 : p ≠ q → v ≠ x → w ≠ y → post (f_count, f_top, a_own, upd (upd a_above x (nI q)) y (nI p), a_one, upd (upd a_two p (nI y)) q (nI x), a_costs, a_rates, a_low, a_many, a_sums, a_others)) :
    wpY_exchange post (f_count, f_top, a_own, a_above, a_one, a_two, a_costs, a_rates, a_low, a_many, a_sums, a_others) (nI x) (nI y) := by
  unfold wpY_exchange
  dsimp only
  rw [zx_c14 hx, zx_c14 hy, px, py]
  refine ⟨zy_i16 hx, nm_e ⟨zy_i16 hy, nm_e ?_⟩⟩
  refine br_c (fun h => ke ((zx_e14 hp hq).mp h)) (fun h => ?_)
  have hne : p ≠ q := fun e => h (by rw [e])
  refine br_f (nI_pos (by omega)) (br_f (nI_pos (by omega)) ⟨zy_i16 hp, ?_⟩)
  rw [zx_c14 hp, fx]
  refine br_c (fun h1 => ?_) (fun h1 => ?_)
  · rw [zx_e14 hv hx] at h1
    refine ⟨zy_i16 hp, nm_e ?_⟩
    refine zy_ex57 hx hy hq hw (by rw [pk_un (fun e => hne e.symm)]; exact fy) (fun h2 => k11 hne h1 h2) (fun h2 => k10 hne h1 h2)
  · rw [zx_e14 hv hx] at h1
    refine ⟨zy_i16 hp, nm_e ?_⟩
    refine zy_ex57 hx hy hq hw fy (fun h2 => k01 hne h1 h2) (fun h2 => k00 hne h1 h2)
theorem zy_exchange {post : SY → Prop} {f_count f_top : Int32} {a_own a_above a_one a_two a_costs a_rates a_low a_many : Nat → Int32} {a_sums : Nat → Int64} {a_others : Nat → Int32} (hT : zt_TR c top pr) (hC : zt_CH c top pr g1 g2) (hS : zy_S c top pr g1 g2 ow cs rt (f_count, f_top, a_own, a_above, a_one, a_two, a_costs, a_rates, a_low, a_many, a_sums, a_others)) {x y : Nat} (hx : zt_nd c x) (hy : zt_nd c y) (hxy : x ≠ y) (hxt : x ≠ top) (hyt : y ≠ top)
    (hpe : pr x = pr y → post (f_count, f_top, a_own, a_above, a_one, a_two, a_costs, a_rates, a_low, a_many, a_sums, a_others))
    (hp : pr x ≠ pr y → ∀ P F G, zy_S c top (zo_up (zo_up pr x (pr y)) y (pr x)) (fun r => zo_sg x y (g1 r)) (fun r => zo_sg x y (g2 r)) ow cs rt (f_count, f_top, a_own, P, F, G, a_costs, a_rates, a_low, a_many, a_sums, a_others) → post (f_count, f_top, a_own, P, F, G, a_costs, a_rates, a_low, a_many, a_sums, a_others)) : wpY_exchange post (f_count, f_top, a_own, a_above, a_one, a_two, a_costs, a_rates, a_low, a_many, a_sums, a_others) (nI x) (nI y) := by
  obtain ⟨e1, e2, e3, e4, e5, e6, e7, e8, e9⟩ := hS
  have hc7 := hT.2.1
  have hix := hT.2.2.2.2.1 x hx hxt
  have hiy := hT.2.2.2.2.1 y hy hyt
  have kx := hC.1 _ hix
  have ky := hC.1 _ hiy
  have hpar : ∀ z, zt_nd c z → upd (upd a_above x (nI (pr y))) y (nI (pr x)) z = nI (zo_up (zo_up pr x (pr y)) y (pr x) z) :=
    fun z hz => zx_upN (fun h1 => zx_upN (fun h2 => e4 z hz))
  have A1 : ∀ z, zt_in c z → g1 z = x → z = pr x := fun z hz e => (zx_ch1 hC hz e).1
  have A2 : ∀ z, zt_in c z → g2 z = x → z = pr x := fun z hz e => (zx_ch2 hC hz e).1
  have B1 : ∀ z, zt_in c z → g1 z = y → z = pr y := fun z hz e => (zx_ch1 hC hz e).1
  have B2 : ∀ z, zt_in c z → g2 z = y → z = pr y := fun z hz e => (zx_ch2 hC hz e).1
  have N1 : g1 (pr x) = x → ∀ z, zt_in c z → g2 z ≠ x := by
    intro h z hz e
    have h2 := A2 z hz e
    rw [h2] at e
    exact kx.2.2.1 (h.trans e.symm)
  have N2 : g1 (pr x) ≠ x → ∀ z, zt_in c z → g1 z ≠ x := by
    intro h z hz e
    have h2 := A1 z hz e
    rw [h2] at e
    exact h e
  have N3 : g1 (pr y) = y → ∀ z, zt_in c z → g2 z ≠ y := by
    intro h z hz e
    have h2 := B2 z hz e
    rw [h2] at e
    exact ky.2.2.1 (h.trans e.symm)
  have N4 : g1 (pr y) ≠ y → ∀ z, zt_in c z → g1 z ≠ y := by
    intro h z hz e
    have h2 := B1 z hz e
    rw [h2] at e
    exact h e
  have O1 := hC.2 x hx hxt
  have O2 := hC.2 y hy hyt
  refine zy_exch (p := pr x) (q := pr y) (v := g1 (pr x)) (w := g1 (pr y)) (zx_l14 hc7 hx) (zx_l14 hc7 hy) (zx_l14 hc7 (Or.inr hix)) (zx_l14 hc7 (Or.inr hiy)) (zx_l14 hc7 kx.1) (zx_l14 hc7 ky.1) (e4 x hx) (e4 y hy) (e5 _ hix) (e5 _ hiy) hpe ?_ ?_ ?_ ?_
  · intro hne hb1 hd1
    exact hp hne _ _ _ ⟨e1, e2, e3, hpar, zg_3 e5 A1 B1 hb1 hd1 hne, zg_0 e6 (N1 hb1) (N3 hd1), e7, e8, e9⟩
  · intro hne hb1 hd1
    exact hp hne _ _ _ ⟨e1, e2, e3, hpar, zg_1 e5 A1 (N4 hd1) hb1, zg_2 e6 (N1 hb1) B2 (O2.resolve_left hd1), e7, e8, e9⟩
  · intro hne hb1 hd1
    exact hp hne _ _ _ ⟨e1, e2, e3, hpar, zg_2 e5 (N2 hb1) B1 hd1, zg_1 e6 A2 (N3 hd1) (O1.resolve_left hb1), e7, e8, e9⟩
  · intro hne hb1 hd1
    exact hp hne _ _ _ ⟨e1, e2, e3, hpar, zg_0 e5 (N2 hb1) (N4 hd1), zg_3 e6 A2 B2 (O1.resolve_left hb1) (O2.resolve_left hd1) hne, e7, e8, e9⟩
theorem zo_ex_pr (pr : Nat → Nat) {x y : Nat} (hxy : x ≠ y) : zo_up (zo_up pr x (pr y)) y (pr x) x = pr y ∧ zo_up (zo_up pr x (pr y)) y (pr x) y = pr x ∧ (∀ z, z ≠ x → z ≠ y → zo_up (zo_up pr x (pr y)) y (pr x) z = pr z) := by
  refine ⟨by rw [zo_up_n hxy, zo_up_s], zo_up_s, fun z h1 h2 => by rw [zo_up_n h2, zo_up_n h1]⟩
theorem zy_S_pr {f_count f_top : Int32} {a_own a_above a_one a_two a_costs a_rates a_low a_many : Nat → Int32} {a_sums : Nat → Int64} {a_others : Nat → Int32} {pr' : Nat → Nat} (hpr : ∀ z, zt_nd c z → pr' z = pr z) (hS : zy_S c top pr g1 g2 ow cs rt (f_count, f_top, a_own, a_above, a_one, a_two, a_costs, a_rates, a_low, a_many, a_sums, a_others)) : zy_S c top pr' g1 g2 ow cs rt (f_count, f_top, a_own, a_above, a_one, a_two, a_costs, a_rates, a_low, a_many, a_sums, a_others) := by
  obtain ⟨e1, e2, e3, e4, e5, e6, e7, e8, e9⟩ := hS
  exact ⟨e1, e2, e3, fun z hz => by rw [hpr z hz]; exact e4 z hz, e5, e6, e7, e8, e9⟩
theorem zy_exchange2 {post : SY → Prop} {f_count f_top : Int32} {a_own a_above a_one a_two a_costs a_rates a_low a_many : Nat → Int32} {a_sums : Nat → Int64} {a_others : Nat → Int32} (hT : zt_TR c top pr) (hC : zt_CH c top pr g1 g2) (hS : zy_S c top pr g1 g2 ow cs rt (f_count, f_top, a_own, a_above, a_one, a_two, a_costs, a_rates, a_low, a_many, a_sums, a_others)) {x y : Nat} (hx : zt_nd c x) (hy : zt_nd c y) (hxy : x ≠ y) (hxt : x ≠ top) (hyt : y ≠ top)
    (hp : ∀ h1 h2 P F G, zt_CH c top (zo_up (zo_up pr x (pr y)) y (pr x)) h1 h2 → zy_S c top (zo_up (zo_up pr x (pr y)) y (pr x)) h1 h2 ow cs rt (f_count, f_top, a_own, P, F, G, a_costs, a_rates, a_low, a_many, a_sums, a_others) → post (f_count, f_top, a_own, P, F, G, a_costs, a_rates, a_low, a_many, a_sums, a_others)) : wpY_exchange post (f_count, f_top, a_own, a_above, a_one, a_two, a_costs, a_rates, a_low, a_many, a_sums, a_others) (nI x) (nI y) := by
  obtain ⟨q1, q2, q3⟩ := zo_ex_pr pr hxy
  refine zy_exchange hT hC hS hx hy hxy hxt hyt ?_ ?_
  · intro e
    have hpr : ∀ z, zt_nd c z → zo_up (zo_up pr x (pr y)) y (pr x) z = pr z := by
      intro z _
      by_cases e1 : z = x
      · rw [e1, q1, e]
      · by_cases e2 : z = y
        · rw [e2, q2, e]
        · exact q3 z e1 e2
    exact hp g1 g2 _ _ _ (zo_C_congr hpr (fun _ _ => rfl) (fun _ _ => rfl) hT hC) (zy_S_pr hpr hS)
  · intro _ P F G h
    exact hp _ _ P F G (zo_exc_C hT hC hx hy hxt hyt q1 q2 (fun z _ h1 h2 => q3 z h1 h2) (fun _ _ => rfl) (fun _ _ => rfl)) h
theorem zy_move78 {post : Int32 → SY → Prop} {f_count f_top : Int32} {a_own a_above a_one a_two a_costs a_rates a_low a_many : Nat → Int32} {a_sums : Nat → Int64} {a_others : Nat → Int32} (hT : zt_TR c top pr) (hC : zt_CH c top pr g1 g2) (hS : zy_S c top pr g1 g2 ow cs rt (f_count, f_top, a_own, a_above, a_one, a_two, a_costs, a_rates, a_low, a_many, a_sums, a_others)) {x y : Nat} (hx : zt_nd c x) (hy : zt_nd c y) (hxt : x ≠ top) (hyx : y ≠ x) (hyp : y ≠ pr x)
    (hp : ∀ v', zy_S c (zo_mt pr top y (pr x) (zd_sib pr g1 g2 x)) (zo_mp pr x y (pr x) (zd_sib pr g1 g2 x)) (zo_mf g1 y (pr x) (zd_sib pr g1 g2 x) y) (zo_mf g2 y (pr x) (zd_sib pr g1 g2 x) x) ow cs rt v' → post 0 v') :
    wY_move_78 post (nI x) (nI y) (nI (pr x)) (nI (zd_sib pr g1 g2 x)) f_count f_top a_own a_above a_one a_two a_costs a_rates a_low a_many a_sums a_others := by
  obtain ⟨e1, e2, e3, e4, e5, e6, e7, e8, e9⟩ := hS
  have hc7 := hT.2.1
  obtain ⟨s1, s2, s3, s4, s5⟩ := zo_sibs hT hC hx hxt
  have hi := hT.2.2.2.2.1 x hx hxt
  have hm := zo_mv2 hT hC hx hy hxt rfl s1 s2 s3 s5 hyx hyp
  have lx := zx_l14 hc7 hx
  have ly := zx_l14 hc7 hy
  have lo := zx_l14 hc7 s1
  have lp := zx_l14 hc7 (Or.inr hi)
  have hpv := zx_prv hT (Or.inr hi)
  have hpp : pr (pr x) = 4294967295 ∨ pr (pr x) < 14 := hpv.imp (fun h => h.1) (fun h => zx_l14 hc7 (Or.inr h.1))
  generalize hpx : pr x = p at *
  generalize hox : zd_sib pr g1 g2 x = o at *
  obtain ⟨m1, m2, m3⟩ := hm
  have hq14 : zo_up pr o (pr p) y = 4294967295 ∨ zo_up pr o (pr p) y < 14 := m3.imp id (fun h => zx_l14 hc7 (Or.inr h.1.1))
  unfold wY_move_78
  refine zy_replaceA (I := zt_in c) (g1 := g1) (g2 := g2) lp lo (e4 p (Or.inr hi)) hpp e5 e6 (fun r hr e => (zx_ch1 hC hr e).1) (fun r hr e => (zx_ch2 hC hr e).1) (zy_nN hc7 (fun _ h => h)) ?_ ?_
  · intro hl
    have ht : p ≠ top := by
      rcases hpv with h | h
      · omega
      · exact h.2
    have hi2 := hT.2.2.2.2.1 p (Or.inr hi) ht
    have k := hC.1 _ hi2
    exact ⟨hi2, zx_l14 hc7 k.1, hC.2 p (Or.inr hi) ht, k.2.2.1⟩
  · intro t F G t1 t2 hF hG
    dsimp only
    have hq1 : upd a_above o (nI (pr p)) y = nI (zo_up pr o (pr p) y) := zx_upN (fun _ => e4 y hy)
    refine zy_replaceA (I := fun r => zt_in c r ∧ r ≠ p) (g1 := zo_rn g1 p o) (g2 := zo_rn g2 p o) ly lp hq1 hq14 (fun r hr => hF r hr.1) (fun r hr => hG r hr.1) m1 m2 (zy_nN hc7 (fun _ h => h.1)) ?_ ?_
    · intro hl
      rcases m3 with h | h
      · omega
      · exact h
    · intro t' F' G' t1' t2' hF' hG'
      dsimp only
      refine zy_join lp ly lx ?_
      dsimp only
      refine hp _ ⟨e1, ?_, e3, ?_, ?_, ?_, e7, e8, e9⟩
      · unfold zo_mt
        split
        · exact t1' (by assumption)
        · rename_i h1
          rw [t2' (hq14.resolve_left h1)]
          split
          · exact t1 (by assumption)
          · rename_i h2
            rw [t2 (hpp.resolve_left h2)]
            exact e2
      · exact fun z hz => zx_upN (fun _ => zx_upN (fun _ => zx_upN (fun _ => zx_upN (fun _ => e4 z hz))))
      · exact fun z hz => zx_upN (fun h => hF' z ⟨hz, h⟩)
      · exact fun z hz => zx_upN (fun h => hG' z ⟨hz, h⟩)
/-- the reference takes the new leaf out -/
theorem zy_drop {post : SY → Prop} {f_count f_top : Int32} {a_own a_above a_one a_two a_costs a_rates a_low a_many : Nat → Int32} {a_sums : Nat → Int64} {a_others : Nat → Int32} (hc : c ≤ 6) (hT : zt_TR c top pr) (hC : zt_CH c top pr g1 g2) {x st : Nat} (hx : zt_nd c x)
    (hS : zy_S (c + 1) (if x = top then 7 + c else top) (zo_up (zo_up (zo_up pr (7 + c) (pr x)) x (7 + c)) c (7 + c)) (zo_up (zo_rn g1 x (7 + c)) (7 + c) x) (zo_up (zo_rn g2 x (7 + c)) (7 + c) c) (zo_up ow c st) cs rt (f_count, f_top, a_own, a_above, a_one, a_two, a_costs, a_rates, a_low, a_many, a_sums, a_others))
    (hp : ∀ (f_count' : Int32) (f_top' : Int32) (a_own' : Nat → Int32) (a_above' : Nat → Int32) (a_one' : Nat → Int32) (a_two' : Nat → Int32) (a_costs' : Nat → Int32) (a_rates' : Nat → Int32) (a_low' : Nat → Int32) (a_many' : Nat → Int32) (a_sums' : Nat → Int64) (a_others' : Nat → Int32), f_count' = nI (c + 1) → zy_S c top pr g1 g2 ow cs rt (nI c, f_top', a_own', a_above', a_one', a_two', a_costs', a_rates', a_low', a_many', a_sums', a_others') → post (f_count', f_top', a_own', a_above', a_one', a_two', a_costs', a_rates', a_low', a_many', a_sums', a_others')) : wpY_replace post (f_count, f_top, a_own, a_above, a_one, a_two, a_costs, a_rates, a_low, a_many, a_sums, a_others) (nI (7 + c)) (nI x) := by
  obtain ⟨e1, e2, e3, e4, e5, e6, e7, e8, e9⟩ := hS
  have hc1 := hT.1
  have hc7 := hT.2.1
  have hpv := zx_prv hT hx
  have lx := zx_l14 hc7 hx
  have hpp : pr x = 4294967295 ∨ pr x < 14 := hpv.imp (fun h => h.1) (fun h => zx_l14 hc7 (Or.inr h.1))
  have q2 : a_above (7 + c) = nI (pr x) := by
    rw [e4 (7 + c) (by omega), zo_up_n (by omega), zo_up_n (by omega), zo_up_s]
  have q3 : ∀ z, zt_nd c z → upd a_above x (nI (pr x)) z = nI (pr z) := by
    intro z hz
    by_cases e : z = x
    · rw [e, pk_us]
    · rw [pk_un e, e4 z (by omega), zo_up_n (by omega), zo_up_n e, zo_up_n (by omega)]
  have w1 : ∀ r, zt_in c r → a_one r = nI (zo_rn g1 x (7 + c) r) := fun r hr => by rw [e5 r (by omega), zo_up_n (by omega)]
  have w2 : ∀ r, zt_in c r → a_two r = nI (zo_rn g2 x (7 + c) r) := fun r hr => by rw [e6 r (by omega), zo_up_n (by omega)]
  have hown : ∀ z, z < c → ∀ s, s < 4 → a_own (4 * z + s) = nI (ow z / 4 ^ (3 - s) % 4) := fun z hz s hs => by rw [e3 z (by omega) s hs, zo_up_n (by omega)]
  have n1 : ∀ r, zt_in c r → g1 r ≠ 7 + c := fun r hr => by have := (hC.1 r hr).1; omega
  have n2 : ∀ r, zt_in c r → g2 r ≠ 7 + c := fun r hr => by have := (hC.1 r hr).2.1; omega
  have r1 : ∀ r, zt_in c r → zo_rn g1 x (7 + c) r = 7 + c → g1 r = x := by
    intro r hr e
    by_cases e2 : g1 r = x
    · exact e2
    · rw [zo_rn_n e2] at e; exact absurd e (n1 r hr)
  have r2 : ∀ r, zt_in c r → zo_rn g2 x (7 + c) r = 7 + c → g2 r = x := by
    intro r hr e
    by_cases e2 : g2 r = x
    · exact e2
    · rw [zo_rn_n e2] at e; exact absurd e (n2 r hr)
  have b1 : ∀ r, zt_in c r → zo_rn (zo_rn g1 x (7 + c)) (7 + c) x r = g1 r := by
    intro r hr
    by_cases e : g1 r = x
    · rw [zo_rn_s (zo_rn_s e), e]
    · rw [zo_rn_n (by rw [zo_rn_n e]; exact n1 r hr), zo_rn_n e]
  have b2 : ∀ r, zt_in c r → zo_rn (zo_rn g2 x (7 + c)) (7 + c) x r = g2 r := by
    intro r hr
    by_cases e : g2 r = x
    · rw [zo_rn_s (zo_rn_s e), e]
    · rw [zo_rn_n (by rw [zo_rn_n e]; exact n2 r hr), zo_rn_n e]
  refine zy_replaceA (I := zt_in c) (g1 := zo_rn g1 x (7 + c)) (g2 := zo_rn g2 x (7 + c)) (by omega) lx q2 hpp w1 w2 (fun r hr e => (zx_ch1 hC hr (r1 r hr e)).1) (fun r hr e => (zx_ch2 hC hr (r2 r hr e)).1) (zy_nN hc7 (fun _ h => h)) ?_ ?_
  · intro hl
    have ht : x ≠ top := by
      rcases hpv with h | h
      · omega
      · exact h.2
    have hi2 := hT.2.2.2.2.1 x hx ht
    have k := hC.1 _ hi2
    have l1 := zx_l14 hc7 k.1
    have m1 := n1 _ hi2
    have m2 := n2 _ hi2
    refine ⟨hi2, ?_, ?_, ?_⟩
    · unfold zo_rn; split
      · omega
      · exact l1
    · rcases hC.2 x hx ht with h | h
      · exact Or.inl (zo_rn_s h)
      · exact Or.inr (zo_rn_s h)
    · intro e
      have e2 : zo_rn (zo_rn g1 x (7 + c)) (7 + c) x (pr x) = zo_rn (zo_rn g2 x (7 + c)) (7 + c) x (pr x) := by
        show (if zo_rn g1 x (7 + c) (pr x) = 7 + c then x else zo_rn g1 x (7 + c) (pr x)) = (if zo_rn g2 x (7 + c) (pr x) = 7 + c then x else zo_rn g2 x (7 + c) (pr x))
        rw [e]
      rw [b1 _ hi2, b2 _ hi2] at e2
      exact k.2.2.1 e2
  · intro t F G t1 t2 hF hG
    refine hp _ _ _ _ _ _ _ _ _ _ _ _ e1 ⟨rfl, ?_, hown, q3, ?_, ?_, e7, e8, e9⟩
    · rcases hpv with h | h
      · rw [t1 h.1, h.2]
      · rw [t2 (zx_l14 hc7 (Or.inr h.1)), e2, if_neg h.2]
    · intro r hr; rw [hF r hr, b1 r hr]
    · intro r hr; rw [hG r hr, b2 r hr]
end
end
section
/-! the list of all nodes, each after its parent -/
def zx_O (c top : Nat) (pr f1 f2 : Nat → Nat) (N : Nat) (o : Nat → Nat) : Prop :=
  (N ≤ 13 ∧ 1 ≤ N) ∧ o 0 = top ∧ (∀ i, i < N → zt_nd c (o i)) ∧ (∀ i j, i < j → j < N → o i ≠ o j) ∧
  (∀ i, i < N → zt_in c (o i) → ∃ j k, i < j ∧ j < N ∧ i < k ∧ k < N ∧ o j = f1 (o i) ∧ o k = f2 (o i)) ∧
  (∀ i, 0 < i → i < N → ∃ j, j < i ∧ o j = pr (o i)) ∧ (∀ x, zt_nd c x → ∃ i, i < N ∧ o i = x)
def zl_I (c top : Nat) (pr f1 f2 : Nat → Nat) (i N : Nat) (o : Nat → Nat) : Prop :=
  i ≤ N ∧ 1 ≤ N ∧ o 0 = top ∧ (∀ k, k < N → zt_nd c (o k)) ∧ (∀ k l, k < l → l < N → o k ≠ o l) ∧
  (∀ k, k < i → zt_in c (o k) → ∃ j l, k < j ∧ j < N ∧ k < l ∧ l < N ∧ o j = f1 (o k) ∧ o l = f2 (o k)) ∧
  (∀ k, 0 < k → k < N → ∃ j, j < i ∧ j < k ∧ o j = pr (o k))
section
variable {c top : Nat} {pr f1 f2 ow cs : Nat → Nat} {rt : Nat → Int32}
theorem zl_13 (hc : c ≤ 7) {M : Nat} {o : Nat → Nat} (h1 : ∀ k, k < M → zt_nd c (o k)) (h2 : ∀ k l, k < l → l < M → o k ≠ o l) : M ≤ 13 := by
  refine zt_pg 13 M (fun k => if o k < 7 then o k else o k - 1) ?_ ?_
  · intro k hk
    have := h1 k hk
    show (if o k < 7 then o k else o k - 1) < 13
    split <;> omega
  · intro k l hkl hl
    have a := h1 k (by omega)
    have b := h1 l hl
    have d := h2 k l hkl hl
    show (if o k < 7 then o k else o k - 1) ≠ (if o l < 7 then o l else o l - 1)
    split <;> split <;> omega
theorem zl_0 (hT : zt_TR c top pr) : zl_I c top pr f1 f2 0 1 (fun _ => top) :=
  ⟨by omega, by omega, rfl, fun _ _ => hT.2.2.1, fun k l h1 h2 => by omega, fun k h => by omega, fun k h1 h2 => by omega⟩
theorem zl_leaf {i N : Nat} {o : Nat → Nat} (h : zl_I c top pr f1 f2 i N o) (hi : i < N) (h8 : o i < 8) : zl_I c top pr f1 f2 (i + 1) N o := by
  obtain ⟨a1, a2, a3, a4, a5, a6, a7⟩ := h
  refine ⟨by omega, a2, a3, a4, a5, ?_, ?_⟩
  · intro k hk hin
    by_cases e : k = i
    · subst e; omega
    · exact a6 k (by omega) hin
  · intro k h1 h2
    obtain ⟨j, j1, j2, j3⟩ := a7 k h1 h2
    exact ⟨j, by omega, j2, j3⟩
theorem zl_step (hC : zt_CH c top pr f1 f2) {i N : Nat} {o : Nat → Nat} (h : zl_I c top pr f1 f2 i N o) (hi : i < N) (hin : zt_in c (o i)) : zl_I c top pr f1 f2 (i + 1) (N + 2) (zo_up (zo_up o N (f1 (o i))) (N + 1) (f2 (o i))) := by
  obtain ⟨a1, a2, a3, a4, a5, a6, a7⟩ := h
  obtain ⟨k1, k2, k3, k4, k5, k6, k7⟩ := hC.1 _ hin
  have hfr : ∀ a, a ≠ top → pr a = o i → ∀ k, k < N → o k ≠ a := by
    intro a ha hpa k hk e
    by_cases e0 : k = 0
    · rw [e0, a3] at e; exact ha e.symm
    · obtain ⟨j, j1, j2, j3⟩ := a7 k (by omega) hk
      rw [e, hpa] at j3
      exact a5 j i j1 hi j3
  have v0 : ∀ k, k < N → zo_up (zo_up o N (f1 (o i))) (N + 1) (f2 (o i)) k = o k := by
    intro k hk
    rw [zo_up_n (by omega), zo_up_n (by omega)]
  have v1 : zo_up (zo_up o N (f1 (o i))) (N + 1) (f2 (o i)) N = f1 (o i) := by
    rw [zo_up_n (by omega), zo_up_s]
  have v2 : zo_up (zo_up o N (f1 (o i))) (N + 1) (f2 (o i)) (N + 1) = f2 (o i) := zo_up_s
  generalize zo_up (zo_up o N (f1 (o i))) (N + 1) (f2 (o i)) = o' at *
  refine ⟨by omega, by omega, ?_, ?_, ?_, ?_, ?_⟩
  · rw [v0 0 (by omega)]; exact a3
  · intro k hk
    by_cases e1 : k = N
    · rw [e1, v1]; exact k1
    · by_cases e2 : k = N + 1
      · rw [e2, v2]; exact k2
      · rw [v0 k (by omega)]; exact a4 k (by omega)
  · intro k l hkl hl
    by_cases e1 : l = N
    · rw [e1, v1, v0 k (by omega)]; exact hfr _ k4 k6 k (by omega)
    · by_cases e2 : l = N + 1
      · rw [e2, v2]
        by_cases e3 : k = N
        · rw [e3, v1]; exact k3
        · rw [v0 k (by omega)]; exact hfr _ k5 k7 k (by omega)
      · rw [v0 k (by omega), v0 l (by omega)]; exact a5 k l hkl (by omega)
  · intro k hk hin2
    rw [v0 k (by omega)] at hin2 ⊢
    by_cases e : k = i
    · refine ⟨N, N + 1, by omega, by omega, by omega, by omega, ?_, ?_⟩
      · rw [v1, e]
      · rw [v2, e]
    · obtain ⟨j, l, j1, j2, j3, j4, j5, j6⟩ := a6 k (by omega) hin2
      exact ⟨j, l, j1, by omega, j3, by omega, by rw [v0 j j2]; exact j5, by rw [v0 l j4]; exact j6⟩
  · intro k h1 h2
    by_cases e1 : k = N
    · exact ⟨i, by omega, by omega, by rw [v0 i hi, e1, v1, k6]⟩
    · by_cases e2 : k = N + 1
      · exact ⟨i, by omega, by omega, by rw [v0 i hi, e2, v2, k7]⟩
      · obtain ⟨j, j1, j2, j3⟩ := a7 k h1 (by omega)
        exact ⟨j, by omega, j2, by rw [v0 j (by omega), v0 k (by omega)]; exact j3⟩
theorem zl_end (hT : zt_TR c top pr) (hC : zt_CH c top pr f1 f2) {N : Nat} {o : Nat → Nat} (h : zl_I c top pr f1 f2 N N o) : zx_O c top pr f1 f2 N o := by
  obtain ⟨a1, a2, a3, a4, a5, a6, a7⟩ := h
  refine ⟨⟨zl_13 hT.2.1 a4 a5, a2⟩, a3, a4, a5, a6, ?_, ?_⟩
  · intro i h1 h2
    obtain ⟨j, j1, j2, j3⟩ := a7 i h1 h2
    exact ⟨j, j2, j3⟩
  · refine zt_td hT ⟨0, by omega, a3⟩ ?_
    intro x hx hne ⟨i, hi, e⟩
    have hin := hT.2.2.2.2.1 x hx hne
    obtain ⟨j, l, j1, j2, j3, j4, j5, j6⟩ := a6 i hi (by rw [e]; exact hin)
    rcases hC.2 x hx hne with h | h
    · exact ⟨j, j2, by rw [j5, e]; exact h⟩
    · exact ⟨l, j4, by rw [j6, e]; exact h⟩
theorem zx_ln17 {post : SX → Prop} {f_leafCount f_innerCount f_top f_listed : Int32} {a_parents a_firsts a_seconds a_own a_costs a_rates a_order a_sets a_below a_many a_above : Nat → Int32} {a_sums : Nat → Int64} {a_groups : Nat → Int32} (hT : zt_TR c top pr) (hC : zt_CH c top pr f1 f2) (hS : zx_S c top pr f1 f2 ow cs rt (f_leafCount, f_innerCount, f_top, f_listed, a_parents, a_firsts, a_seconds, a_own, a_costs, a_rates, a_order, a_sets, a_below, a_many, a_above, a_sums, a_groups))
    (k : ∀ N o O, zx_O c top pr f1 f2 N o → (∀ i, i < N → O i = nI (o i)) → post (f_leafCount, f_innerCount, f_top, nI N, a_parents, a_firsts, a_seconds, a_own, a_costs, a_rates, O, a_sets, a_below, a_many, a_above, a_sums, a_groups)) :
    ∀ (m i N n : Nat) (o : Nat → Nat) (O : Nat → Int32), i + m = 14 → m < n → zl_I c top pr f1 f2 i N o → (∀ k, k < N → O k = nI (o k)) → wX_listNodes_17 post f_leafCount f_innerCount f_top n (nI i) (nI N) a_parents a_firsts a_seconds a_own a_costs a_rates O a_sets a_below a_many a_above a_sums a_groups := by
  obtain ⟨e1, e2, e3, e4, e5, e6, e7, e8, e9⟩ := hS
  have hc7 := hT.2.1
  intro m
  induction m with
  | zero =>
    intro i N n o O hi hn hI hO
    have := zl_13 hc7 hI.2.2.2.1 hI.2.2.2.2.1
    have := hI.1
    omega
  | succ m ih =>
    intro i N n o O hi hn hI hO
    obtain ⟨q, rfl⟩ : ∃ q, n = q + 1 := ⟨n - 1, by omega⟩
    have hN := zl_13 hc7 hI.2.2.2.1 hI.2.2.2.2.1
    have hiN := hI.1
    refine br_f (nI_ge (b := 14) (by omega) (by omega)) ?_
    by_cases e : i = N
    · subst e
      exact br_t (nI_le (by omega) (by omega)) (k i o O (zl_end hT hC hI) hO)
    · have hlt : i < N := by omega
      have hnd := hI.2.2.2.1 i hlt
      have l14 := zx_l14 hc7 hnd
      refine br_f (nI_ge hlt (by omega)) ?_
      rw [nI_clamp (by omega), hO i hlt, nI_1 i]
      refine ⟨vp_in_nI (by omega) (by omega), nm_e ?_⟩
      by_cases h8 : o i < 8
      · exact br_t (nI_lt (b := 8) h8 (by decide)) (nm_e (ih (i + 1) N q o O (by omega) (by omega) (zl_leaf hI hlt h8) hO))
      · have hin : zt_in c (o i) := by omega
        have hI2 := zl_step hC hI hlt hin
        have hN2 := zl_13 hc7 hI2.2.2.2.1 hI2.2.2.2.2.1
        refine br_f (nI_nlt (b := 8) (by omega) (by omega)) ⟨zx_i14 l14, vp_in_nI (by omega) (by omega), nm_e ⟨zx_i14 l14, ?_⟩⟩
        rw [nI_1 N, zx_c14 l14, nI_clamp (n := N) (by omega), nI_clamp (n := N + 1) (by omega), e5 _ hin, e6 _ hin]
        refine ⟨vp_in_nI (by omega) (by omega), nm_e (nm_r (nI_add N 2) (nm_e ?_))⟩
        refine ih (i + 1) (N + 2) q _ _ (by omega) (by omega) hI2 ?_
        intro z hz
        exact zx_upN (fun h1 => zx_upN (fun h2 => hO z (by omega)))
theorem zx_listNodes {post : SX → Prop} {f_leafCount f_innerCount f_top f_listed : Int32} {a_parents a_firsts a_seconds a_own a_costs a_rates a_order a_sets a_below a_many a_above : Nat → Int32} {a_sums : Nat → Int64} {a_groups : Nat → Int32} (hT : zt_TR c top pr) (hC : zt_CH c top pr f1 f2) (hS : zx_S c top pr f1 f2 ow cs rt (f_leafCount, f_innerCount, f_top, f_listed, a_parents, a_firsts, a_seconds, a_own, a_costs, a_rates, a_order, a_sets, a_below, a_many, a_above, a_sums, a_groups))
    (k : ∀ N o O, zx_O c top pr f1 f2 N o → (∀ i, i < N → O i = nI (o i)) → post (f_leafCount, f_innerCount, f_top, nI N, a_parents, a_firsts, a_seconds, a_own, a_costs, a_rates, O, a_sets, a_below, a_many, a_above, a_sums, a_groups)) : wpX_listNodes post (f_leafCount, f_innerCount, f_top, f_listed, a_parents, a_firsts, a_seconds, a_own, a_costs, a_rates, a_order, a_sets, a_below, a_many, a_above, a_sums, a_groups) := by
  unfold wpX_listNodes
  dsimp only
  refine nm_e ⟨15, ?_⟩
  refine zx_ln17 hT hC hS k 14 0 1 15 (fun _ => top) _ (by omega) (by omega) (zl_0 hT) ?_
  intro z hz
  have e : z = 0 := by omega
  rw [e, pk_us]
  exact hS.2.2.1
end
end
section
/-! sets of leaves below -/
def zt_bs (top : Nat) (pr : Nat → Nat) (x : Nat) : Nat → Int32
  | 0 => 0
  | n + 1 => if zt_un top pr n x = true then zt_bs top pr x n ||| ((1 : Int32) <<< (nI n &&& 31)) else zt_bs top pr x n
def zx_dk : Nat → Int32
  | 0 => -1
  | k + 1 => nI k
theorem zx_dk_s (k : Nat) : nI k + (-1) = zx_dk k := by
  cases k with
  | zero => decide
  | succ k => exact pk_m1 k
theorem zx_dk_N {N : Nat} (h : 1 ≤ N) : nI N - 1 = zx_dk N := by
  obtain ⟨m, rfl⟩ : ∃ m, N = m + 1 := ⟨N - 1, by omega⟩
  exact nI_pred m
section
variable {c top : Nat} {pr f1 f2 ow cs : Nat → Nat} {rt : Nat → Int32}
theorem zt_bs_leaf (hT : zt_TR c top pr) {x : Nat} (hx : x < c) : ∀ n, n ≤ c → zt_bs top pr x n = if x < n then (1 : Int32) <<< (nI x &&& 31) else 0 := by
  have hc := hT.2.1
  intro n
  induction n with
  | zero => intro _; rfl
  | succ n ih =>
    intro hn
    have h := ih (by omega)
    show (if zt_un top pr n x = true then zt_bs top pr x n ||| ((1 : Int32) <<< (nI n &&& 31)) else zt_bs top pr x n) = _
    by_cases e : n = x
    · subst e
      rw [if_pos (zt_un_self hT (Or.inl hx)), h, if_neg (by omega), if_pos (by omega), Int32.zero_or]
    · rw [if_neg (fun h2 => e (zt_un_leaf hT (by omega) n (Or.inl (by omega)) h2)), h]
      by_cases e2 : x < n
      · rw [if_pos e2, if_pos (by omega)]
      · rw [if_neg e2, if_neg (by omega)]
theorem zt_bs_in (hT : zt_TR c top pr) (hC : zt_CH c top pr f1 f2) {x : Nat} (hx : zt_in c x) : ∀ n, n ≤ c → zt_bs top pr x n = zt_bs top pr (f1 x) n ||| zt_bs top pr (f2 x) n := by
  have hc := hT.2.1
  intro n
  induction n with
  | zero => intro _; exact (Int32.or_self (a := 0)).symm
  | succ n ih =>
    intro hn
    have h := ih (by omega)
    have ha := zt_un_add hT hC hx n (Or.inl (by omega)) (by omega)
    show (if zt_un top pr n x = true then zt_bs top pr x n ||| ((1 : Int32) <<< (nI n &&& 31)) else zt_bs top pr x n) = (if zt_un top pr n (f1 x) = true then zt_bs top pr (f1 x) n ||| ((1 : Int32) <<< (nI n &&& 31)) else zt_bs top pr (f1 x) n) ||| (if zt_un top pr n (f2 x) = true then zt_bs top pr (f2 x) n ||| ((1 : Int32) <<< (nI n &&& 31)) else zt_bs top pr (f2 x) n)
    rw [h]
    generalize (1 : Int32) <<< (nI n &&& 31) = w
    generalize zt_bs top pr (f1 x) n = A
    generalize zt_bs top pr (f2 x) n = B
    by_cases h1 : zt_un top pr n (f1 x) = true
    · by_cases h2 : zt_un top pr n (f2 x) = true
      · exact (zt_un_x12 hT hC hx (Or.inl (by omega)) h1 h2).elim
      · rw [if_pos h1, if_neg h2, if_pos (ha.mpr (Or.inl h1)), Int32.or_assoc, Int32.or_assoc, Int32.or_comm B w]
    · by_cases h2 : zt_un top pr n (f2 x) = true
      · rw [if_neg h1, if_pos h2, if_pos (ha.mpr (Or.inr h2)), Int32.or_assoc]
      · rw [if_neg h1, if_neg h2, if_neg (fun h3 => (ha.mp h3).elim h1 h2)]
theorem zx_fs11 {post : SX → Prop} {f_leafCount f_innerCount f_top f_listed : Int32} {a_parents a_firsts a_seconds a_own a_costs a_rates a_order a_sets a_below a_many a_above : Nat → Int32} {a_sums : Nat → Int64} {a_groups : Nat → Int32} (hT : zt_TR c top pr) (hC : zt_CH c top pr f1 f2) (hS : zx_S c top pr f1 f2 ow cs rt (f_leafCount, f_innerCount, f_top, f_listed, a_parents, a_firsts, a_seconds, a_own, a_costs, a_rates, a_order, a_sets, a_below, a_many, a_above, a_sums, a_groups)) {N : Nat} {o : Nat → Nat} (hO : zx_O c top pr f1 f2 N o) (ho : ∀ i, i < N → a_order i = nI (o i))
    (k : ∀ Z, (∀ x, zt_nd c x → Z x = zt_bs top pr x c) → post (f_leafCount, f_innerCount, f_top, f_listed, a_parents, a_firsts, a_seconds, a_own, a_costs, a_rates, a_order, Z, a_below, a_many, a_above, a_sums, a_groups)) :
    ∀ (i n : Nat) (Z : Nat → Int32), i ≤ N → i < n → (∀ k, i ≤ k → k < N → Z (o k) = zt_bs top pr (o k) c) → wX_findSets_11 post f_leafCount f_innerCount f_top f_listed n (zx_dk i) a_parents a_firsts a_seconds a_own a_costs a_rates a_order Z a_below a_many a_above a_sums a_groups := by
  obtain ⟨e1, e2, e3, e4, e5, e6, e7, e8, e9⟩ := hS
  have hc7 := hT.2.1
  intro i
  induction i with
  | zero =>
    intro n Z hi hn hZ
    obtain ⟨q, rfl⟩ : ∃ q, n = q + 1 := ⟨n - 1, by omega⟩
    refine br_t (by decide) (k Z ?_)
    intro x hx
    obtain ⟨j, hj, e⟩ := hO.2.2.2.2.2.2 x hx
    rw [← e]
    exact hZ j (by omega) hj
  | succ i ih =>
    intro n Z hi hn hZ
    obtain ⟨q, rfl⟩ : ∃ q, n = q + 1 := ⟨n - 1, by omega⟩
    have hN := hO.1.1
    have hnd := hO.2.2.1 i (by omega)
    have l14 := zx_l14 hc7 hnd
    have hinj := hO.2.2.2.1
    show wX_findSets_11 post f_leafCount f_innerCount f_top f_listed (q + 1) (nI i) a_parents a_firsts a_seconds a_own a_costs a_rates a_order Z a_below a_many a_above a_sums a_groups
    refine br_f (nI_pos (by omega)) ?_
    rw [nI_clamp (by omega), ho i (by omega), zx_dk_s]
    refine ⟨vp_in_nI (by omega) (by omega), nm_e ?_⟩
    rw [zx_c14 l14]
    have hnext : ∀ w, w = zt_bs top pr (o i) c → wX_findSets_11 post f_leafCount f_innerCount f_top f_listed q (zx_dk i) a_parents a_firsts a_seconds a_own a_costs a_rates a_order (upd Z (o i) w) a_below a_many a_above a_sums a_groups := by
      intro w hw
      refine ih q _ (by omega) (by omega) ?_
      intro k h1 h2
      by_cases e : k = i
      · rw [e, pk_us, hw]
      · rw [pk_un (fun e2 => hinj i k (by omega) h2 e2.symm)]
        exact hZ k (by omega) h2
    by_cases h8 : o i < 8
    · refine br_f (nI_ge (b := 8) h8 (by decide)) ⟨zx_i14 l14, nm_e (nm_e (hnext _ ?_))⟩
      rw [zt_bs_leaf hT (by omega) c (by omega), if_pos (by omega)]
    · have hin : zt_in c (o i) := by omega
      have kk := hC.1 _ hin
      have l1 := zx_l14 hc7 kk.1
      have l2 := zx_l14 hc7 kk.2.1
      obtain ⟨j, l, j1, j2, j3, j4, j5, j6⟩ := hO.2.2.2.2.1 i (by omega) hin
      rw [e5 _ hin, e6 _ hin, zx_c14 l1, zx_c14 l2]
      refine br_t (nI_le (a := 8) (by omega) (by omega)) ⟨zx_i14 l14, zx_i14 l1, zx_i14 l14, zx_i14 l2, zx_i14 l14, nm_e (nm_e (hnext _ ?_))⟩
      rw [zt_bs_in hT hC hin c (by omega), ← j5, ← j6, hZ j (by omega) j2, hZ l (by omega) j4]
theorem zx_findSets {post : SX → Prop} {f_leafCount f_innerCount f_top f_listed : Int32} {a_parents a_firsts a_seconds a_own a_costs a_rates a_order a_sets a_below a_many a_above : Nat → Int32} {a_sums : Nat → Int64} {a_groups : Nat → Int32} (hT : zt_TR c top pr) (hC : zt_CH c top pr f1 f2) (hS : zx_S c top pr f1 f2 ow cs rt (f_leafCount, f_innerCount, f_top, f_listed, a_parents, a_firsts, a_seconds, a_own, a_costs, a_rates, a_order, a_sets, a_below, a_many, a_above, a_sums, a_groups))
    (k : ∀ w O Z, (∀ x, zt_nd c x → Z x = zt_bs top pr x c) → post (f_leafCount, f_innerCount, f_top, w, a_parents, a_firsts, a_seconds, a_own, a_costs, a_rates, O, Z, a_below, a_many, a_above, a_sums, a_groups)) : wpX_findSets post (f_leafCount, f_innerCount, f_top, f_listed, a_parents, a_firsts, a_seconds, a_own, a_costs, a_rates, a_order, a_sets, a_below, a_many, a_above, a_sums, a_groups) := by
  unfold wpX_findSets
  dsimp only
  refine zx_listNodes hT hC hS (fun N o O hO ho => ?_)
  dsimp only
  refine nm_r (zx_dk_N hO.1.2) ⟨N + 1, ?_⟩
  exact zx_fs11 (a_order := O) (f_listed := nI N) (a_sets := a_sets) hT hC hS hO ho (fun Z hZ => k _ _ _ hZ) N (N + 1) _ (by omega) (by omega) (fun k h1 h2 => by omega)
end
/-! least costs and numbers of ways below -/
theorem zx_dd (r d : Nat) : r / 4 / 4 ^ d = r / 4 ^ (d + 1) := by
  rw [Nat.div_div_eq_div_mul, Nat.pow_succ, Nat.mul_comm]
section
variable {c top : Nat} {pr f1 f2 ow cs : Nat → Nat} {rt : Nat → Int32}
theorem zx_mb19 {post : Int32 → Prop} {f_leafCount f_innerCount f_top f_listed : Int32} {a_parents a_firsts a_seconds a_own a_costs a_rates a_order a_sets a_below a_many a_above : Nat → Int32} {a_sums : Nat → Int64} {a_groups : Nat → Int32} {site s : Nat} (hs : s < 4) (hsite : site < 4) :
    ∀ (d r n : Nat), r < 256 → site + d < 4 → d < n → (r / 4 ^ d % 4 = s → post 1) → (r / 4 ^ d % 4 ≠ s → post 0) → wX_mayBe_19 post (nI site) (nI s) f_leafCount f_innerCount f_top f_listed a_parents a_firsts a_seconds a_own a_costs a_rates a_order a_sets a_below a_many a_above a_sums a_groups n (nI r) (nI (site + d)) := by
  intro d
  induction d with
  | zero =>
    intro r n hr hd hn p1 p0
    obtain ⟨q, rfl⟩ : ∃ q, n = q + 1 := ⟨n - 1, by omega⟩
    rw [Nat.pow_zero, Nat.div_one] at p1 p0
    refine br_t (nI_le (by omega) (by omega)) ⟨by decide, ?_⟩
    exact pk_eq (r % 4) s p1 p0 (pk_rem (d := 4) (by omega) (by omega) (by omega)) rfl (by omega) (by omega)
  | succ d ih =>
    intro r n hr hd hn p1 p0
    obtain ⟨q, rfl⟩ : ∃ q, n = q + 1 := ⟨n - 1, by omega⟩
    rw [← zx_dd] at p1 p0
    refine br_f (nI_ge (by omega) (by omega)) ⟨by decide, nm_r (pk_div (d := 4) (by omega) (by omega) (by omega)) (nm_r (pk_m1 (site + d)) ?_)⟩
    exact ih (r / 4) q (by omega) (by omega) (by omega) p1 p0
/-- the state of a leaf at a site -/
def zx_mb (ow : Nat → Nat) (site x s : Nat) : Bool := decide (ow x / 4 ^ (3 - site) % 4 = s)
theorem zx_mb_ex (ow : Nat → Nat) (site x : Nat) : ∃ s, s < 4 ∧ zx_mb ow site x s = true :=
  ⟨ow x / 4 ^ (3 - site) % 4, Nat.mod_lt _ (by decide), decide_eq_true rfl⟩
theorem zx_mayBeL {post : Int32 → Prop} {u : SX} (hc7 : c ≤ 7) (hS : zx_S c top pr f1 f2 ow cs rt u) (how : ∀ x, x < c → ow x < 256) {x site s : Nat} (hx : x < c) (hsite : site < 4) (hs : s < 4)
    (p1 : zx_mb ow site x s = true → post 1) (p0 : ¬ zx_mb ow site x s = true → post 0) : wpX_mayBe post u (nI x) (nI site) (nI s) := by
  obtain ⟨f_leafCount, f_innerCount, f_top, f_listed, a_parents, a_firsts, a_seconds, a_own, a_costs, a_rates, a_order, a_sets, a_below, a_many, a_above, a_sums, a_groups⟩ := u
  obtain ⟨e1, e2, e3, e4, e5, e6, e7, e8, e9⟩ := hS
  unfold wpX_mayBe
  dsimp only
  rw [nI_clamp (by omega), e7 x hx]
  refine br_t (nI_lt (b := 8) (by omega) (by decide)) ⟨vp_in_nI (by omega) (by omega), nm_e ⟨5, ?_⟩⟩
  have h := zx_mb19 (post := post) (f_leafCount := f_leafCount) (f_innerCount := f_innerCount) (f_top := f_top) (f_listed := f_listed) (a_parents := a_parents) (a_firsts := a_firsts) (a_seconds := a_seconds) (a_own := a_own) (a_costs := a_costs) (a_rates := a_rates) (a_order := a_order) (a_sets := a_sets) (a_below := a_below) (a_many := a_many) (a_above := a_above) (a_sums := a_sums) (a_groups := a_groups) hs hsite (3 - site) (ow x) 5 (how x hx) (by omega) (by omega) (fun e => p1 (decide_eq_true e)) (fun e => p0 (fun h => e (of_decide_eq_true h)))
  rw [show site + (3 - site) = 3 from by omega] at h
  exact h
theorem zx_mayBeI {post : Int32 → Prop} {u : SX} {x : Nat} (hx : 8 ≤ x) (hx2 : x < 14) {a b : Int32} (p1 : post 1) : wpX_mayBe post u (nI x) a b := by
  obtain ⟨f_leafCount, f_innerCount, f_top, f_listed, a_parents, a_firsts, a_seconds, a_own, a_costs, a_rates, a_order, a_sets, a_below, a_many, a_above, a_sums, a_groups⟩ := u
  exact br_f (nI_nlt (b := 8) hx (by omega)) p1
theorem zx_lu6 {post : Int32 → Prop} {f_leafCount f_innerCount f_top f_listed : Int32} {a_parents a_firsts a_seconds a_own a_costs a_rates a_order a_sets a_below a_many a_above : Nat → Int32} {a_sums : Nat → Int64} {a_groups : Nat → Int32} {ch s : Nat} {Lc : Nat → Nat} (hch : ch < 14) (hs : s < 4) (hcs : ∀ j, j < 16 → cs j ≤ 9) (hco : ∀ j, j < 16 → a_costs j = nI (cs j)) (hL : ∀ t, t < 4 → a_below (4 * ch + t) = nI (Lc t) ∧ Lc t ≤ 200000)
    (k : post (nI (zd_mn 100000 (fun t => cs (4 * s + t) + Lc t) 4))) :
    ∀ (d t n : Nat), t + d = 4 → d < n → wX_leastUnder_6 post (nI ch) (nI s) f_leafCount f_innerCount f_top f_listed a_parents a_firsts a_seconds a_own a_costs a_rates a_order a_sets a_below a_many a_above a_sums a_groups n (nI (zd_mn 100000 (fun t => cs (4 * s + t) + Lc t) t)) (nI t) := by
  intro d
  induction d with
  | zero =>
    intro t n ht hn
    obtain ⟨q, rfl⟩ : ∃ q, n = q + 1 := ⟨n - 1, by omega⟩
    have e : t = 4 := by omega
    subst e
    exact br_t (nI_le (a := 4) (b := 4) (by omega) (by omega)) k
  | succ d ih =>
    intro t n ht hn
    obtain ⟨q, rfl⟩ : ∃ q, n = q + 1 := ⟨n - 1, by omega⟩
    have h1 := hL t (by omega)
    have h2 := hcs (4 * s + t) (by omega)
    have h3 := zd_mn_cap (cap := 100000) (q := fun t => cs (4 * s + t) + Lc t) t
    have hi := ih (t + 1) q (by omega) (by omega)
    have e : zd_mn 100000 (fun t => cs (4 * s + t) + Lc t) (t + 1) = min (zd_mn 100000 (fun t => cs (4 * s + t) + Lc t) t) (cs (4 * s + t) + Lc t) := rfl
    rw [e] at hi
    generalize zd_mn 100000 (fun t => cs (4 * s + t) + Lc t) t = m at *
    refine br_f (nI_ge (b := 4) (by omega) (by omega)) ?_
    rw [zy_ix, zy_ix, nI_clamp (by omega), nI_clamp (by omega), hco _ (by omega), h1.1, nI_add, nI_1 t]
    refine ⟨vp_in_nI (by omega) (by omega), vp_in_nI (by omega) (by omega), nm_e ?_⟩
    refine pk_le m (cs (4 * s + t) + Lc t) (fun h => nm_e ?_) (fun h => nm_e ?_)
    · rw [Nat.min_eq_left h] at hi; exact hi
    · rw [Nat.min_eq_right (by omega)] at hi; exact hi
theorem zx_leastUnder {post : Int32 → Prop} {f_leafCount f_innerCount f_top f_listed : Int32} {a_parents a_firsts a_seconds a_own a_costs a_rates a_order a_sets a_below a_many a_above : Nat → Int32} {a_sums : Nat → Int64} {a_groups : Nat → Int32} {ch s : Nat} {Lc : Nat → Nat} (hch : ch < 14) (hs : s < 4) (hcs : ∀ j, j < 16 → cs j ≤ 9) (hco : ∀ j, j < 16 → a_costs j = nI (cs j)) (hL : ∀ t, t < 4 → a_below (4 * ch + t) = nI (Lc t) ∧ Lc t ≤ 200000)
    (k : post (nI (zd_mn 100000 (fun t => cs (4 * s + t) + Lc t) 4))) : wpX_leastUnder post (f_leafCount, f_innerCount, f_top, f_listed, a_parents, a_firsts, a_seconds, a_own, a_costs, a_rates, a_order, a_sets, a_below, a_many, a_above, a_sums, a_groups) (nI ch) (nI s) :=
  ⟨5, zx_lu6 hch hs hcs hco hL k 4 0 5 (by omega) (by omega)⟩
theorem zx_ac14 {post : SX → Prop} {f_leafCount f_innerCount f_top f_listed : Int32} {a_parents a_firsts a_seconds a_own a_costs a_rates a_order a_sets a_below a_many a_above : Nat → Int32} {a_sums : Nat → Int64} {a_groups : Nat → Int32} {x ch s b : Nat} {Lc : Nat → Nat} {Mc : Nat → Int32} (hx : x < 14) (hch : ch < 14) (hs : s < 4) (hcs : ∀ j, j < 16 → cs j ≤ 9) (hco : ∀ j, j < 16 → a_costs j = nI (cs j)) (hL : ∀ t, t < 4 → a_below (4 * ch + t) = nI (Lc t) ∧ Lc t ≤ 200000) (hM : ∀ t, t < 4 → a_many (4 * ch + t) = Mc t) (hb : b ≤ 100000)
    (k : post (f_leafCount, f_innerCount, f_top, f_listed, a_parents, a_firsts, a_seconds, a_own, a_costs, a_rates, a_order, a_sets, upd a_below (4 * x + s) (a_below (4 * x + s) + nI b), upd a_many (4 * x + s) (a_many (4 * x + s) * zd_sm (fun t => if cs (4 * s + t) + Lc t = b then Mc t else 0) 4), a_above, a_sums, a_groups)) :
    ∀ (d t n : Nat), t + d = 4 → d < n → wX_addChild_14 post (nI x) (nI s) (nI ch) (nI b) f_leafCount f_innerCount f_top f_listed a_parents a_firsts a_seconds a_own a_costs a_rates a_order a_sets a_below a_many a_above a_sums a_groups n (zd_sm (fun t => if cs (4 * s + t) + Lc t = b then Mc t else 0) t) (nI t) := by
  intro d
  induction d with
  | zero =>
    intro t n ht hn
    obtain ⟨q, rfl⟩ : ∃ q, n = q + 1 := ⟨n - 1, by omega⟩
    have e : t = 4 := by omega
    subst e
    refine br_t (nI_le (a := 4) (b := 4) (by omega) (by omega)) ?_
    rw [zy_ix, nI_clamp (by omega)]
    exact ⟨vp_in_nI (by omega) (by omega), vp_in_nI (by omega) (by omega), nm_e ⟨vp_in_nI (by omega) (by omega), vp_in_nI (by omega) (by omega), nm_e k⟩⟩
  | succ d ih =>
    intro t n ht hn
    obtain ⟨q, rfl⟩ : ∃ q, n = q + 1 := ⟨n - 1, by omega⟩
    have h1 := hL t (by omega)
    have h2 := hcs (4 * s + t) (by omega)
    have h3 := hM t (by omega)
    have hi := ih (t + 1) q (by omega) (by omega)
    have e : zd_sm (fun t => if cs (4 * s + t) + Lc t = b then Mc t else 0) (t + 1) = zd_sm (fun t => if cs (4 * s + t) + Lc t = b then Mc t else 0) t + (if cs (4 * s + t) + Lc t = b then Mc t else 0) := rfl
    rw [e] at hi
    generalize zd_sm (fun t => if cs (4 * s + t) + Lc t = b then Mc t else 0) t = m at *
    refine br_f (nI_ge (b := 4) (by omega) (by omega)) ?_
    rw [zy_ix (x := s) (s := t), zy_ix (x := ch) (s := t), nI_clamp (n := 4 * s + t) (by omega), nI_clamp (n := 4 * ch + t) (by omega), hco _ (by omega), h1.1, h3, nI_add, nI_1 t]
    refine ⟨vp_in_nI (by omega) (by omega), vp_in_nI (by omega) (by omega), ?_⟩
    refine pk_eq (cs (4 * s + t) + Lc t) b (fun h => ⟨vp_in_nI (by omega) (by omega), nm_e (nm_e ?_)⟩) (fun h => nm_e (nm_e ?_))
    · rw [if_pos h] at hi; exact hi
    · rw [if_neg h] at hi; exact hi
theorem zx_addChild {post : SX → Prop} {f_leafCount f_innerCount f_top f_listed : Int32} {a_parents a_firsts a_seconds a_own a_costs a_rates a_order a_sets a_below a_many a_above : Nat → Int32} {a_sums : Nat → Int64} {a_groups : Nat → Int32} {x ch s : Nat} {Lc : Nat → Nat} {Mc : Nat → Int32} (hx : x < 14) (hch : ch < 14) (hs : s < 4) (hcs : ∀ j, j < 16 → cs j ≤ 9) (hco : ∀ j, j < 16 → a_costs j = nI (cs j)) (hL : ∀ t, t < 4 → a_below (4 * ch + t) = nI (Lc t) ∧ Lc t ≤ 200000) (hM : ∀ t, t < 4 → a_many (4 * ch + t) = Mc t)
    (k : post (f_leafCount, f_innerCount, f_top, f_listed, a_parents, a_firsts, a_seconds, a_own, a_costs, a_rates, a_order, a_sets, upd a_below (4 * x + s) (a_below (4 * x + s) + nI (zd_mn 100000 (fun t => cs (4 * s + t) + Lc t) 4)), upd a_many (4 * x + s) (a_many (4 * x + s) * zd_nu cs Lc Mc s), a_above, a_sums, a_groups)) : wpX_addChild post (f_leafCount, f_innerCount, f_top, f_listed, a_parents, a_firsts, a_seconds, a_own, a_costs, a_rates, a_order, a_sets, a_below, a_many, a_above, a_sums, a_groups) (nI x) (nI s) (nI ch) := by
  unfold wpX_addChild
  refine zx_leastUnder hch hs hcs hco hL ?_
  exact ⟨5, zx_ac14 hx hch hs hcs hco hL hM (zd_mn_cap 4) k 4 0 5 (by omega) (by omega)⟩
end
end
section
/-! leastFor -/
theorem zx_n4 {x z s t : Nat} (hs : s < 4) (ht : t < 4) (h : z ≠ x) : 4 * z + t ≠ 4 * x + s := by omega
section
variable {c top : Nat} {pr f1 f2 ow cs : Nat → Nat} {rt : Nat → Int32} {L : Nat → Nat → Nat} {M : Nat → Nat → Int32} {site : Nat}
/-- the picture doesn't speak of scratch -/
theorem zx_Sf {f_leafCount f_innerCount f_top f_listed : Int32} {a_parents a_firsts a_seconds a_own a_costs a_rates a_order a_sets a_below a_many a_above : Nat → Int32} {a_sums : Nat → Int64} {a_groups : Nat → Int32} (hS : zx_S c top pr f1 f2 ow cs rt (f_leafCount, f_innerCount, f_top, f_listed, a_parents, a_firsts, a_seconds, a_own, a_costs, a_rates, a_order, a_sets, a_below, a_many, a_above, a_sums, a_groups)) (w : Int32) (O Z B M' Ab : Nat → Int32) (Sm : Nat → Int64) (Gr : Nat → Int32) : zx_S c top pr f1 f2 ow cs rt (f_leafCount, f_innerCount, f_top, w, a_parents, a_firsts, a_seconds, a_own, a_costs, a_rates, O, Z, B, M', Ab, Sm, Gr) := hS
theorem zx_lf85I {post : Int32 → SX → Prop} {J11 J25 : Int32 → Int32 → Int32 → Int32 → Int32 → (Nat → Int32) → (Nat → Int32) → (Nat → Int32) → (Nat → Int32) → (Nat → Int32) → (Nat → Int32) → (Nat → Int32) → (Nat → Int32) → (Nat → Int32) → (Nat → Int32) → (Nat → Int32) → (Nat → Int64) → (Nat → Int32) → Prop} {x1 x2 : Int32} {f_leafCount f_innerCount f_top f_listed : Int32} {a_parents a_firsts a_seconds a_own a_costs a_rates a_order a_sets a_below a_many a_above : Nat → Int32} {a_sums : Nat → Int64} {a_groups : Nat → Int32} {x s a b : Nat} {La Lb : Nat → Nat} {Ma Mb : Nat → Int32} (h8 : 8 ≤ x) (hx : x < 14) (ha : a < 14) (hb : b < 14) (hs : s < 4) (hax : a ≠ x) (hbx : b ≠ x) (ea : a_firsts x = nI a) (eb : a_seconds x = nI b) (hcs : ∀ j, j < 16 → cs j ≤ 9) (hco : ∀ j, j < 16 → a_costs j = nI (cs j))
    (hLa : ∀ t, t < 4 → a_below (4 * a + t) = nI (La t) ∧ La t ≤ 200000) (hLb : ∀ t, t < 4 → a_below (4 * b + t) = nI (Lb t) ∧ Lb t ≤ 200000) (hMa : ∀ t, t < 4 → a_many (4 * a + t) = Ma t) (hMb : ∀ t, t < 4 → a_many (4 * b + t) = Mb t) (h0 : a_below (4 * x + s) = 0)
    (k : ∀ B M', B (4 * x + s) = nI (zd_mn 100000 (fun t => cs (4 * s + t) + La t) 4 + zd_mn 100000 (fun t => cs (4 * s + t) + Lb t) 4) → M' (4 * x + s) = zd_nu cs La Ma s * zd_nu cs Lb Mb s → (∀ j, j ≠ 4 * x + s → B j = a_below j ∧ M' j = a_many j) → J25 (nI (s + 1)) f_leafCount f_innerCount f_top f_listed a_parents a_firsts a_seconds a_own a_costs a_rates a_order a_sets B M' a_above a_sums a_groups) :
    wX_leastFor_85 post J11 J25 x1 x2 (nI x) (nI s) 1 (nI (4 * x + s)) f_leafCount f_innerCount f_top f_listed a_parents a_firsts a_seconds a_own a_costs a_rates a_order a_sets a_below a_many a_above a_sums a_groups := by
  unfold wX_leastFor_85
  rw [nI_clamp (by omega), zx_c14 hx, ea, nI_1 s]
  refine ⟨vp_in_nI (by omega) (by omega), nm_e (br_f (nI_nlt (b := 8) h8 (by omega)) ⟨zx_i14 hx, ?_⟩)⟩
  refine zx_addChild (Lc := La) (Mc := Ma) hx ha hs hcs hco hLa (fun t ht => by rw [pk_un (zx_n4 hs ht hax)]; exact hMa t ht) ?_
  dsimp only
  rw [eb]
  refine ⟨zx_i14 hx, ?_⟩
  refine zx_addChild (Lc := Lb) (Mc := Mb) hx hb hs hcs hco (fun t ht => by rw [pk_un (zx_n4 hs ht hbx)]; exact hLb t ht) (fun t ht => by rw [pk_un (zx_n4 hs ht hbx), pk_un (zx_n4 hs ht hbx)]; exact hMb t ht) ?_
  dsimp only
  refine nm_e (k _ _ ?_ ?_ ?_)
  · rw [pk_us, pk_us, h0, Int32.zero_add, nI_add]
  · rw [pk_us, pk_us, pk_us, Int32.one_mul]
  · intro j hj
    rw [pk_un hj, pk_un hj, pk_un hj, pk_un hj, pk_un hj]
    exact ⟨rfl, rfl⟩
theorem zx_lf25s {post : Int32 → SX → Prop} {J11 : Int32 → Int32 → Int32 → Int32 → Int32 → (Nat → Int32) → (Nat → Int32) → (Nat → Int32) → (Nat → Int32) → (Nat → Int32) → (Nat → Int32) → (Nat → Int32) → (Nat → Int32) → (Nat → Int32) → (Nat → Int32) → (Nat → Int32) → (Nat → Int64) → (Nat → Int32) → Prop} {x2 : Int32} {f_leafCount f_innerCount f_top f_listed : Int32} {a_parents a_firsts a_seconds a_own a_costs a_rates a_order a_sets a_below a_many a_above : Nat → Int32} {a_sums : Nat → Int64} {a_groups : Nat → Int32} (hc7 : c ≤ 7) (hC : zt_CH c top pr f1 f2) (hS : zx_S c top pr f1 f2 ow cs rt (f_leafCount, f_innerCount, f_top, f_listed, a_parents, a_firsts, a_seconds, a_own, a_costs, a_rates, a_order, a_sets, a_below, a_many, a_above, a_sums, a_groups)) (hcs : ∀ j, j < 16 → cs j ≤ 9) (how : ∀ x, x < c → ow x < 256) (hsite : site < 4) (hL : zd_L c f1 f2 cs (zx_mb ow site) L) (hM : zd_M c f1 f2 cs (zx_mb ow site) L M)
    {x s q : Nat} (hx : zt_nd c x) (hs : s < 4)
    (hch : zt_in c x → (f1 x ≠ x ∧ ∀ t, t < 4 → a_below (4 * f1 x + t) = nI (L (f1 x) t) ∧ a_many (4 * f1 x + t) = M (f1 x) t) ∧ (f2 x ≠ x ∧ ∀ t, t < 4 → a_below (4 * f2 x + t) = nI (L (f2 x) t) ∧ a_many (4 * f2 x + t) = M (f2 x) t))
    (k : ∀ B M', B (4 * x + s) = nI (L x s) → M' (4 * x + s) = M x s → (∀ j, j ≠ 4 * x + s → B j = a_below j ∧ M' j = a_many j) → wX_leastFor_25 post J11 (nI site) x2 (nI x) q (nI (s + 1)) f_leafCount f_innerCount f_top f_listed a_parents a_firsts a_seconds a_own a_costs a_rates a_order a_sets B M' a_above a_sums a_groups) :
    wX_leastFor_25 post J11 (nI site) x2 (nI x) (q + 1) (nI s) f_leafCount f_innerCount f_top f_listed a_parents a_firsts a_seconds a_own a_costs a_rates a_order a_sets a_below a_many a_above a_sums a_groups := by
  have l14 := zx_l14 hc7 hx
  refine br_f (nI_ge (b := 4) (by omega) (by omega)) ?_
  by_cases h8 : x < 8
  · have hxc : x < c := by omega
    have hLx := hL.1 x hx h8 s
    have hMx := hM.1 x hx h8 s
    have hgo : ∀ z : Int32, z = nI (L x s) → wX_leastFor_58 post J11 (wX_leastFor_25 post J11 (nI site) x2 (nI x) q) (nI site) x2 (nI x) (nI s) z (4 * nI x + nI s) f_leafCount f_innerCount f_top f_listed a_parents a_firsts a_seconds a_own a_costs a_rates a_order a_sets a_below a_many a_above a_sums a_groups := by
      intro z hb
      unfold wX_leastFor_58
      rw [zy_ix, nI_clamp (by omega)]
      refine ⟨vp_in_nI (by omega) (by omega), nm_e ?_⟩
      refine zx_mayBeL hc7 (zx_Sf hS f_listed a_order a_sets (upd a_below (4 * x + s) z) a_many a_above a_sums a_groups) how hxc hsite hs (fun h => br_f (by decide) ?_) (fun h => br_t rfl ?_)
      · unfold wX_leastFor_85
        rw [nI_clamp (by omega), nI_1 s]
        refine ⟨vp_in_nI (by omega) (by omega), nm_e (br_t (nI_lt (b := 8) h8 (by decide)) (nm_e (k _ _ ?_ ?_ ?_)))⟩
        · rw [pk_us, hb]
        · rw [pk_us, hMx, if_pos h]
        · intro j hj; rw [pk_un hj, pk_un hj]; exact ⟨rfl, rfl⟩
      · unfold wX_leastFor_85
        rw [nI_clamp (by omega), nI_1 s]
        refine ⟨vp_in_nI (by omega) (by omega), nm_e (br_t (nI_lt (b := 8) h8 (by decide)) (nm_e (k _ _ ?_ ?_ ?_)))⟩
        · rw [pk_us, hb]
        · rw [pk_us, hMx, if_neg h]
        · intro j hj; rw [pk_un hj, pk_un hj]; exact ⟨rfl, rfl⟩
    refine zx_mayBeL hc7 hS how hxc hsite hs (fun h => br_f (by decide) ?_) (fun h => br_t rfl ?_)
    · exact hgo 0 (by rw [hLx, if_pos h]; decide)
    · exact hgo 100000 (by rw [hLx, if_neg h]; decide)
  · have hin : zt_in c x := by omega
    have kk := hC.1 _ hin
    obtain ⟨⟨a1, a2⟩, ⟨b1, b2⟩⟩ := hch hin
    obtain ⟨e1, e2, e3, e4, e5, e6, e7, e8, e9⟩ := hS
    refine zx_mayBeI (by omega) l14 (br_f (by decide) ?_)
    unfold wX_leastFor_58
    rw [zy_ix, nI_clamp (by omega)]
    refine ⟨vp_in_nI (by omega) (by omega), nm_e ?_⟩
    refine zx_mayBeI (by omega) l14 (br_f (by decide) ?_)
    refine zx_lf85I (cs := cs) (a := f1 x) (b := f2 x) (La := L (f1 x)) (Lb := L (f2 x)) (Ma := M (f1 x)) (Mb := M (f2 x)) (by omega) l14 (zx_l14 hc7 kk.1) (zx_l14 hc7 kk.2.1) hs a1 b1 (e5 x hin) (e6 x hin) hcs e8 ?_ ?_ ?_ ?_ pk_us ?_
    · intro t ht
      rw [pk_un (zx_n4 hs ht a1)]
      exact ⟨(a2 t ht).1, zd_L_big hL kk.1 t⟩
    · intro t ht
      rw [pk_un (zx_n4 hs ht b1)]
      exact ⟨(b2 t ht).1, zd_L_big hL kk.2.1 t⟩
    · exact fun t ht => (a2 t ht).2
    · exact fun t ht => (b2 t ht).2
    · intro B M' h1 h2 h3
      refine k B M' ?_ ?_ ?_
      · rw [h1, hL.2 x hin s]
      · rw [h2, hM.2 x hin s]
      · intro j hj
        have h4 := h3 j hj
        rw [pk_un hj] at h4
        exact h4
def zx_gd (L : Nat → Nat → Nat) (M : Nat → Nat → Int32) (B M' : Nat → Int32) (z : Nat) : Prop := ∀ t, t < 4 → B (4 * z + t) = nI (L z t) ∧ M' (4 * z + t) = M z t
theorem zx_lf25 {post : Int32 → SX → Prop} {J11 : Int32 → Int32 → Int32 → Int32 → Int32 → (Nat → Int32) → (Nat → Int32) → (Nat → Int32) → (Nat → Int32) → (Nat → Int32) → (Nat → Int32) → (Nat → Int32) → (Nat → Int32) → (Nat → Int32) → (Nat → Int32) → (Nat → Int32) → (Nat → Int64) → (Nat → Int32) → Prop} {x2 : Int32} {f_leafCount f_innerCount f_top f_listed : Int32} {a_parents a_firsts a_seconds a_own a_costs a_rates a_order a_sets a_below a_many a_above : Nat → Int32} {a_sums : Nat → Int64} {a_groups : Nat → Int32} (hc7 : c ≤ 7) (hC : zt_CH c top pr f1 f2) (hS : zx_S c top pr f1 f2 ow cs rt (f_leafCount, f_innerCount, f_top, f_listed, a_parents, a_firsts, a_seconds, a_own, a_costs, a_rates, a_order, a_sets, a_below, a_many, a_above, a_sums, a_groups)) (hcs : ∀ j, j < 16 → cs j ≤ 9) (how : ∀ x, x < c → ow x < 256) (hsite : site < 4) (hL : zd_L c f1 f2 cs (zx_mb ow site) L) (hM : zd_M c f1 f2 cs (zx_mb ow site) L M)
    {x : Nat} (hx : zt_nd c x) {D : Nat → Prop} (hD : ¬ D x) (hch : zt_in c x → D (f1 x) ∧ D (f2 x))
    (k : ∀ B M', zx_gd L M B M' x → (∀ z, D z → zx_gd L M B M' z) → J11 (x2 + (-1)) f_leafCount f_innerCount f_top f_listed a_parents a_firsts a_seconds a_own a_costs a_rates a_order a_sets B M' a_above a_sums a_groups) :
    ∀ (d s n : Nat) (B M' : Nat → Int32), s + d = 4 → d < n → (∀ t, t < s → B (4 * x + t) = nI (L x t) ∧ M' (4 * x + t) = M x t) → (∀ z, D z → zx_gd L M B M' z) → wX_leastFor_25 post J11 (nI site) x2 (nI x) n (nI s) f_leafCount f_innerCount f_top f_listed a_parents a_firsts a_seconds a_own a_costs a_rates a_order a_sets B M' a_above a_sums a_groups := by
  intro d
  induction d with
  | zero =>
    intro s n B M' hs hn h1 h2
    obtain ⟨q, rfl⟩ : ∃ q, n = q + 1 := ⟨n - 1, by omega⟩
    have e : s = 4 := by omega
    subst e
    exact br_t (nI_le (a := 4) (b := 4) (by omega) (by omega)) (nm_e (k B M' h1 h2))
  | succ d ih =>
    intro s n B M' hs hn h1 h2
    obtain ⟨q, rfl⟩ : ∃ q, n = q + 1 := ⟨n - 1, by omega⟩
    refine zx_lf25s (a_below := B) (a_many := M') hc7 hC (zx_Sf hS f_listed a_order a_sets B M' a_above a_sums a_groups) hcs how hsite hL hM hx (by omega) ?_ ?_
    · intro hin
      have hd := hch hin
      exact ⟨⟨fun e => hD (by rw [e] at hd; exact hd.1), h2 _ hd.1⟩, ⟨fun e => hD (by rw [e] at hd; exact hd.2), h2 _ hd.2⟩⟩
    · intro B2 M2 w1 w2 w3
      refine ih (s + 1) q B2 M2 (by omega) (by omega) ?_ ?_
      · intro t ht
        by_cases e : t = s
        · rw [e]; exact ⟨w1, w2⟩
        · have h := w3 (4 * x + t) (by omega)
          rw [h.1, h.2]
          exact h1 t (by omega)
      · intro z hz t ht
        have hne : z ≠ x := fun e => hD (by rw [← e]; exact hz)
        have h := w3 (4 * z + t) (zx_n4 (by omega) ht hne)
        rw [h.1, h.2]
        exact h2 z hz t ht
theorem zx_lf135 {post : Int32 → SX → Prop} {f_leafCount f_innerCount f_top f_listed : Int32} {a_parents a_firsts a_seconds a_own a_costs a_rates a_order a_sets a_below a_many a_above : Nat → Int32} {a_sums : Nat → Int64} {a_groups : Nat → Int32} {Lc : Nat → Nat} (ht14 : top < 14) (e3 : f_top = nI top) (hLc : ∀ t, t < 4 → a_below (4 * top + t) = nI (Lc t) ∧ Lc t ≤ 200000) (k : post (nI (zd_mn 100000 Lc 4)) (f_leafCount, f_innerCount, f_top, f_listed, a_parents, a_firsts, a_seconds, a_own, a_costs, a_rates, a_order, a_sets, a_below, a_many, a_above, a_sums, a_groups)) :
    ∀ (d t n : Nat), t + d = 4 → d < n → wX_leastFor_135 post f_leafCount f_innerCount f_top f_listed a_parents a_firsts a_seconds a_own a_costs a_rates a_order a_sets a_below a_many a_above a_sums a_groups n (nI (zd_mn 100000 Lc t)) (nI t) := by
  subst e3
  intro d
  induction d with
  | zero =>
    intro t n ht hn
    obtain ⟨q, rfl⟩ : ∃ q, n = q + 1 := ⟨n - 1, by omega⟩
    have e : t = 4 := by omega
    subst e
    exact br_t (nI_le (a := 4) (b := 4) (by omega) (by omega)) k
  | succ d ih =>
    intro t n ht hn
    obtain ⟨q, rfl⟩ : ∃ q, n = q + 1 := ⟨n - 1, by omega⟩
    have h1 := hLc t (by omega)
    have h3 := zd_mn_cap (cap := 100000) (q := Lc) t
    have hi := ih (t + 1) q (by omega) (by omega)
    have e : zd_mn 100000 Lc (t + 1) = min (zd_mn 100000 Lc t) (Lc t) := rfl
    rw [e] at hi
    generalize zd_mn 100000 Lc t = m at *
    refine br_f (nI_ge (b := 4) (by omega) (by omega)) ?_
    rw [zy_ix, nI_clamp (by omega), h1.1, nI_1 t]
    refine ⟨vp_in_nI (by omega) (by omega), ?_⟩
    refine pk_le m (Lc t) (fun h => nm_e ?_) (fun h => ⟨vp_in_nI (by omega) (by omega), nm_e (nm_e ?_)⟩)
    · rw [Nat.min_eq_left h] at hi; exact hi
    · rw [Nat.min_eq_right (by omega)] at hi; exact hi
theorem zx_lf11 {post : Int32 → SX → Prop} {f_leafCount f_innerCount f_top f_listed : Int32} {a_parents a_firsts a_seconds a_own a_costs a_rates a_order a_sets a_below a_many a_above : Nat → Int32} {a_sums : Nat → Int64} {a_groups : Nat → Int32} (hT : zt_TR c top pr) (hC : zt_CH c top pr f1 f2) (hS : zx_S c top pr f1 f2 ow cs rt (f_leafCount, f_innerCount, f_top, f_listed, a_parents, a_firsts, a_seconds, a_own, a_costs, a_rates, a_order, a_sets, a_below, a_many, a_above, a_sums, a_groups)) (hcs : ∀ j, j < 16 → cs j ≤ 9) (how : ∀ x, x < c → ow x < 256) (hsite : site < 4) (hL : zd_L c f1 f2 cs (zx_mb ow site) L) (hM : zd_M c f1 f2 cs (zx_mb ow site) L M)
    {N : Nat} {o : Nat → Nat} (hO : zx_O c top pr f1 f2 N o) (ho : ∀ i, i < N → a_order i = nI (o i))
    (k : ∀ B M', (∀ x, zt_nd c x → zx_gd L M B M' x) → post (nI (zd_mn 100000 (L top) 4)) (f_leafCount, f_innerCount, f_top, f_listed, a_parents, a_firsts, a_seconds, a_own, a_costs, a_rates, a_order, a_sets, B, M', a_above, a_sums, a_groups)) :
    ∀ (i n : Nat) (B M' : Nat → Int32), i ≤ N → i < n → (∀ k, i ≤ k → k < N → zx_gd L M B M' (o k)) → wX_leastFor_11 post (nI site) n (zx_dk i) f_leafCount f_innerCount f_top f_listed a_parents a_firsts a_seconds a_own a_costs a_rates a_order a_sets B M' a_above a_sums a_groups := by
  have hc7 := hT.2.1
  intro i
  induction i with
  | zero =>
    intro n B M' hi hn hZ
    obtain ⟨q, rfl⟩ : ∃ q, n = q + 1 := ⟨n - 1, by omega⟩
    have hall : ∀ x, zt_nd c x → zx_gd L M B M' x := by
      intro x hx
      obtain ⟨j, hj, e⟩ := hO.2.2.2.2.2.2 x hx
      rw [← e]
      exact hZ j (by omega) hj
    refine br_t (by decide) ⟨5, ?_⟩
    exact zx_lf135 (a_below := B) (a_many := M') (Lc := L top) (zx_l14 hc7 hT.2.2.1) hS.2.2.1 (fun t ht => ⟨(hall top hT.2.2.1 t ht).1, zd_L_big hL hT.2.2.1 t⟩) (k B M' hall) 4 0 5 (by omega) (by omega)
  | succ i ih =>
    intro n B M' hi hn hZ
    obtain ⟨q, rfl⟩ : ∃ q, n = q + 1 := ⟨n - 1, by omega⟩
    have hN := hO.1.1
    have hnd := hO.2.2.1 i (by omega)
    have hinj := hO.2.2.2.1
    show wX_leastFor_11 post (nI site) (q + 1) (nI i) f_leafCount f_innerCount f_top f_listed a_parents a_firsts a_seconds a_own a_costs a_rates a_order a_sets B M' a_above a_sums a_groups
    refine br_f (nI_pos (by omega)) ?_
    rw [nI_clamp (by omega), ho i (by omega)]
    refine ⟨vp_in_nI (by omega) (by omega), nm_e ⟨5, ?_⟩⟩
    refine zx_lf25 (a_below := B) (a_many := M') (D := fun z => ∃ k, i + 1 ≤ k ∧ k < N ∧ o k = z) hc7 hC (zx_Sf hS f_listed a_order a_sets B M' a_above a_sums a_groups) hcs how hsite hL hM hnd ?_ ?_ ?_ 4 0 5 B M' (by omega) (by omega) (fun t ht => by omega) ?_
    · rintro ⟨k, k1, k2, k3⟩
      exact hinj i k (by omega) k2 k3.symm
    · intro hin
      obtain ⟨j, l, j1, j2, j3, j4, j5, j6⟩ := hO.2.2.2.2.1 i (by omega) hin
      exact ⟨⟨j, by omega, j2, j5⟩, ⟨l, by omega, j4, j6⟩⟩
    · intro B2 M2 g1 g2
      rw [zx_dk_s]
      refine ih q B2 M2 (by omega) (by omega) ?_
      intro k k1 k2
      by_cases e : k = i
      · rw [e]; exact g1
      · exact g2 _ ⟨k, by omega, k2, rfl⟩
    · rintro z ⟨k, k1, k2, rfl⟩
      exact hZ k (by omega) k2
theorem zx_leastFor {post : Int32 → SX → Prop} {f_leafCount f_innerCount f_top f_listed : Int32} {a_parents a_firsts a_seconds a_own a_costs a_rates a_order a_sets a_below a_many a_above : Nat → Int32} {a_sums : Nat → Int64} {a_groups : Nat → Int32} (hT : zt_TR c top pr) (hC : zt_CH c top pr f1 f2) (hS : zx_S c top pr f1 f2 ow cs rt (f_leafCount, f_innerCount, f_top, f_listed, a_parents, a_firsts, a_seconds, a_own, a_costs, a_rates, a_order, a_sets, a_below, a_many, a_above, a_sums, a_groups)) (hcs : ∀ j, j < 16 → cs j ≤ 9) (how : ∀ x, x < c → ow x < 256) (hsite : site < 4) (hL : zd_L c f1 f2 cs (zx_mb ow site) L) (hM : zd_M c f1 f2 cs (zx_mb ow site) L M)
    (k : ∀ N o O B M', zx_O c top pr f1 f2 N o → (∀ i, i < N → O i = nI (o i)) → (∀ x, zt_nd c x → zx_gd L M B M' x) → post (nI (zd_mn 100000 (L top) 4)) (f_leafCount, f_innerCount, f_top, nI N, a_parents, a_firsts, a_seconds, a_own, a_costs, a_rates, O, a_sets, B, M', a_above, a_sums, a_groups)) : wpX_leastFor post (f_leafCount, f_innerCount, f_top, f_listed, a_parents, a_firsts, a_seconds, a_own, a_costs, a_rates, a_order, a_sets, a_below, a_many, a_above, a_sums, a_groups) (nI site) := by
  unfold wpX_leastFor
  dsimp only
  refine zx_listNodes hT hC hS (fun N o O hO ho => ?_)
  dsimp only
  refine nm_r (zx_dk_N hO.1.2) ⟨N + 1, ?_⟩
  exact zx_lf11 (a_order := O) (f_listed := nI N) (a_below := a_below) (a_many := a_many) hT hC (zx_Sf hS (nI N) O a_sets a_below a_many a_above a_sums a_groups) hcs how hsite hL hM hO ho (fun B M' h => k N o O B M' hO ho h) N (N + 1) _ _ (by omega) (by omega) (fun k h1 h2 => by omega)
end
end
section
/-! workDown, the sums -/
def zd_bt (p : Nat → Bool) : Nat → Int32
  | 0 => 0
  | s + 1 => if p s = true then zd_bt p s ||| ((1 : Int32) <<< (nI s &&& 31)) else zd_bt p s
theorem zd_bt_congr {p q : Nat → Bool} : ∀ n, (∀ s, s < n → p s = q s) → zd_bt p n = zd_bt q n := by
  intro n
  induction n with
  | zero => intro _; rfl
  | succ n ih =>
    intro h
    show (if p n = true then zd_bt p n ||| ((1 : Int32) <<< (nI n &&& 31)) else zd_bt p n) = (if q n = true then zd_bt q n ||| ((1 : Int32) <<< (nI n &&& 31)) else zd_bt q n)
    rw [ih (fun s hs => h s (by omega)), h n (by omega)]
section
variable {c top : Nat} {pr f1 f2 ow cs : Nat → Nat} {rt : Nat → Int32} {L A : Nat → Nat → Nat} {S : Nat → Nat → Int64} {site : Nat}
theorem zx_wd94 {post : SX → Prop} {J29 J81 : Int32 → (Nat → Int32) → (Nat → Int32) → (Nat → Int32) → (Nat → Int32) → (Nat → Int32) → (Nat → Int32) → (Nat → Int32) → (Nat → Int32) → (Nat → Int32) → (Nat → Int32) → (Nat → Int32) → (Nat → Int64) → (Nat → Int32) → Prop} {x1 : Int32} {f_leafCount f_innerCount f_top f_listed : Int32} {a_parents a_firsts a_seconds a_own a_costs a_rates a_order a_sets a_below a_many a_above : Nat → Int32} {a_sums : Nat → Int64} {a_groups : Nat → Int32} {x p b s : Nat} {Lb Ap : Nat → Nat} (hx : x < 14) (hp : p < 14) (hb : b < 14) (hs : s < 4) (hcs : ∀ j, j < 16 → cs j ≤ 9) (hco : ∀ j, j < 16 → a_costs j = nI (cs j)) (hLb : ∀ t, t < 4 → a_below (4 * b + t) = nI (Lb t) ∧ Lb t ≤ 200000) (hAp : ∀ t, t < 4 → a_above (4 * p + t) = nI (Ap t) ∧ Ap t ≤ 100000)
    (k : J81 (nI (s + 1)) a_parents a_firsts a_seconds a_own a_costs a_rates a_order a_sets a_below a_many (upd a_above (4 * x + s) (nI (zd_mn 100000 (fun t => Ap t + zd_mn 100000 (fun v => cs (4 * t + v) + Lb v) 4 + cs (4 * t + s)) 4))) a_sums a_groups) :
    ∀ (d t n : Nat), t + d = 4 → d < n → wX_workDown_94 post J29 J81 x1 (nI x) (nI p) (nI b) (nI s) f_leafCount f_innerCount f_top f_listed a_parents a_firsts a_seconds a_own a_costs a_rates a_order a_sets a_below a_many a_above a_sums a_groups n (nI (zd_mn 100000 (fun t => Ap t + zd_mn 100000 (fun v => cs (4 * t + v) + Lb v) 4 + cs (4 * t + s)) t)) (nI t) := by
  intro d
  induction d with
  | zero =>
    intro t n ht hn
    obtain ⟨q, rfl⟩ : ∃ q, n = q + 1 := ⟨n - 1, by omega⟩
    have e : t = 4 := by omega
    subst e
    refine br_t (nI_le (a := 4) (b := 4) (by omega) (by omega)) ?_
    rw [zy_ix, nI_clamp (by omega), nI_1 s]
    exact ⟨vp_in_nI (by omega) (by omega), nm_e (nm_e k)⟩
  | succ d ih =>
    intro t n ht hn
    obtain ⟨q, rfl⟩ : ∃ q, n = q + 1 := ⟨n - 1, by omega⟩
    have h1 := hAp t (by omega)
    have h2 := hcs (4 * t + s) (by omega)
    have h3 := zd_mn_cap (cap := 100000) (q := fun t => Ap t + zd_mn 100000 (fun v => cs (4 * t + v) + Lb v) 4 + cs (4 * t + s)) t
    have h4 := zd_mn_cap (cap := 100000) (q := fun v => cs (4 * t + v) + Lb v) 4
    have hi := ih (t + 1) q (by omega) (by omega)
    have e : zd_mn 100000 (fun t => Ap t + zd_mn 100000 (fun v => cs (4 * t + v) + Lb v) 4 + cs (4 * t + s)) (t + 1) = min (zd_mn 100000 (fun t => Ap t + zd_mn 100000 (fun v => cs (4 * t + v) + Lb v) 4 + cs (4 * t + s)) t) (Ap t + zd_mn 100000 (fun v => cs (4 * t + v) + Lb v) 4 + cs (4 * t + s)) := rfl
    rw [e] at hi
    clear ih e
    generalize zd_mn 100000 (fun t => Ap t + zd_mn 100000 (fun v => cs (4 * t + v) + Lb v) 4 + cs (4 * t + s)) t = m at *
    refine br_f (nI_ge (b := 4) (by omega) (by omega)) ?_
    refine zx_leastUnder (Lc := Lb) hb (by omega) hcs hco hLb ?_
    generalize zd_mn 100000 (fun v => cs (4 * t + v) + Lb v) 4 = l at *
    rw [zy_ix (x := p), zy_ix (x := t), nI_clamp (n := 4 * p + t) (by omega), nI_clamp (n := 4 * t + s) (by omega), hco _ (by omega), h1.1, nI_add, nI_add, nI_1 t]
    refine ⟨vp_in_nI (by omega) (by omega), vp_in_nI (by omega) (by omega), nm_e ?_⟩
    refine pk_le m (Ap t + l + cs (4 * t + s)) (fun h => nm_e ?_) (fun h => nm_e ?_)
    · rw [Nat.min_eq_left h] at hi; exact hi
    · rw [Nat.min_eq_right (by omega)] at hi; exact hi
theorem zx_A_big (hT : zt_TR c top pr) (hA : zd_A c top pr f1 f2 cs L A) {x : Nat} (hx : zt_nd c x) (s : Nat) : A x s ≤ 100000 := by
  by_cases e : x = top
  · rw [e, hA.1 s]; omega
  · rw [hA.2 x hx e s]; exact zd_mn_cap 4
theorem zx_wd81 {post : SX → Prop} {J29 : Int32 → (Nat → Int32) → (Nat → Int32) → (Nat → Int32) → (Nat → Int32) → (Nat → Int32) → (Nat → Int32) → (Nat → Int32) → (Nat → Int32) → (Nat → Int32) → (Nat → Int32) → (Nat → Int32) → (Nat → Int64) → (Nat → Int32) → Prop} {i : Nat} {f_leafCount f_innerCount f_top f_listed : Int32} {a_parents a_firsts a_seconds a_own a_costs a_rates a_order a_sets a_below a_many a_above : Nat → Int32} {a_sums : Nat → Int64} {a_groups : Nat → Int32} (hT : zt_TR c top pr) (hC : zt_CH c top pr f1 f2) (hcs : ∀ j, j < 16 → cs j ≤ 9) (hco : ∀ j, j < 16 → a_costs j = nI (cs j)) {mb : Nat → Nat → Bool} (hL : zd_L c f1 f2 cs mb L) (hA : zd_A c top pr f1 f2 cs L A) (hB : ∀ x, zt_nd c x → ∀ t, t < 4 → a_below (4 * x + t) = nI (L x t))
    {x : Nat} (hx : zt_nd c x) (hxt : x ≠ top) {D : Nat → Prop} (hD : ¬ D x) (hp : D (pr x))
    (k : ∀ Ab, (∀ t, t < 4 → Ab (4 * x + t) = nI (A x t)) → (∀ z, D z → ∀ t, t < 4 → Ab (4 * z + t) = nI (A z t)) → J29 (nI (i + 1)) a_parents a_firsts a_seconds a_own a_costs a_rates a_order a_sets a_below a_many Ab a_sums a_groups) :
    ∀ (d s n : Nat) (Ab : Nat → Int32), s + d = 4 → d < n → (∀ t, t < s → Ab (4 * x + t) = nI (A x t)) → (∀ z, D z → ∀ t, t < 4 → Ab (4 * z + t) = nI (A z t)) → wX_workDown_81 post J29 (nI i) (nI x) (nI (pr x)) (nI (zd_sib pr f1 f2 x)) f_leafCount f_innerCount f_top f_listed n (nI s) a_parents a_firsts a_seconds a_own a_costs a_rates a_order a_sets a_below a_many Ab a_sums a_groups := by
  have hc7 := hT.2.1
  have hip := hT.2.2.2.2.1 x hx hxt
  have hsb := (zo_sibs hT hC hx hxt).1
  have lx := zx_l14 hc7 hx
  have lp := zx_l14 hc7 (Or.inr hip)
  have ls := zx_l14 hc7 hsb
  intro d
  induction d with
  | zero =>
    intro s n Ab hs hn h1 h2
    obtain ⟨q, rfl⟩ : ∃ q, n = q + 1 := ⟨n - 1, by omega⟩
    have e : s = 4 := by omega
    subst e
    exact br_t (nI_le (a := 4) (b := 4) (by omega) (by omega)) (nm_r (nI_1 i) (k Ab h1 h2))
  | succ d ih =>
    intro s n Ab hs hn h1 h2
    obtain ⟨q, rfl⟩ : ∃ q, n = q + 1 := ⟨n - 1, by omega⟩
    have hs4 : s < 4 := by omega
    refine br_f (nI_ge (b := 4) hs4 (by omega)) ⟨5, ?_⟩
    refine zx_wd94 (a_above := Ab) (Lb := L (zd_sib pr f1 f2 x)) (Ap := A (pr x)) lx lp ls hs4 hcs hco (fun t ht => ⟨hB _ hsb t ht, zd_L_big hL hsb t⟩) (fun t ht => ⟨h2 _ hp t ht, zx_A_big hT hA (Or.inr hip) t⟩) ?_ 4 0 5 (by omega) (by omega)
    refine ih (s + 1) q _ (by omega) (by omega) ?_ ?_
    · intro t ht
      by_cases e : t = s
      · rw [e, pk_us, hA.2 x hx hxt s]
      · rw [pk_un (by omega)]; exact h1 t (by omega)
    · intro z hz t ht
      have hne : z ≠ x := fun e => hD (by rw [← e]; exact hz)
      rw [pk_un (zx_n4 hs4 ht hne)]
      exact h2 z hz t ht
theorem zx_wd29 {post : SX → Prop} {f_leafCount f_innerCount f_top f_listed : Int32} {a_parents a_firsts a_seconds a_own a_costs a_rates a_order a_sets a_below a_many a_above : Nat → Int32} {a_sums : Nat → Int64} {a_groups : Nat → Int32} (hT : zt_TR c top pr) (hC : zt_CH c top pr f1 f2) (hS : zx_S c top pr f1 f2 ow cs rt (f_leafCount, f_innerCount, f_top, f_listed, a_parents, a_firsts, a_seconds, a_own, a_costs, a_rates, a_order, a_sets, a_below, a_many, a_above, a_sums, a_groups)) (hcs : ∀ j, j < 16 → cs j ≤ 9) {mb : Nat → Nat → Bool} (hL : zd_L c f1 f2 cs mb L) (hA : zd_A c top pr f1 f2 cs L A) (hB : ∀ x, zt_nd c x → ∀ t, t < 4 → a_below (4 * x + t) = nI (L x t))
    {N : Nat} {o : Nat → Nat} (hO : zx_O c top pr f1 f2 N o) (ho : ∀ i, i < N → a_order i = nI (o i)) (hN : f_listed = nI N)
    (k : ∀ Ab, (∀ x, zt_nd c x → ∀ t, t < 4 → Ab (4 * x + t) = nI (A x t)) → post (f_leafCount, f_innerCount, f_top, f_listed, a_parents, a_firsts, a_seconds, a_own, a_costs, a_rates, a_order, a_sets, a_below, a_many, Ab, a_sums, a_groups)) :
    ∀ (m i n : Nat) (Ab : Nat → Int32), i + m = N → m < n → 1 ≤ i → (∀ k, k < i → ∀ t, t < 4 → Ab (4 * o k + t) = nI (A (o k) t)) → wX_workDown_29 post f_leafCount f_innerCount f_top f_listed n (nI i) a_parents a_firsts a_seconds a_own a_costs a_rates a_order a_sets a_below a_many Ab a_sums a_groups := by
  obtain ⟨e1, e2, e3, e4, e5, e6, e7, e8, e9⟩ := hS
  subst hN
  have hc7 := hT.2.1
  have hN13 := hO.1.1
  intro m
  induction m with
  | zero =>
    intro i n Ab hi hn h1 hZ
    obtain ⟨q, rfl⟩ : ∃ q, n = q + 1 := ⟨n - 1, by omega⟩
    have e : i = N := by omega
    subst e
    refine br_t (nI_le (by omega) (by omega)) (k Ab ?_)
    intro x hx
    obtain ⟨j, hj, e⟩ := hO.2.2.2.2.2.2 x hx
    rw [← e]
    exact hZ j hj
  | succ m ih =>
    intro i n Ab hi hn h1 hZ
    obtain ⟨q, rfl⟩ : ∃ q, n = q + 1 := ⟨n - 1, by omega⟩
    have hnd := hO.2.2.1 i (by omega)
    have l14 := zx_l14 hc7 hnd
    have hinj := hO.2.2.2.1
    have hxt : o i ≠ top := by
      intro e
      rw [← hO.2.1] at e
      exact hinj 0 i (by omega) (by omega) e.symm
    have hip := hT.2.2.2.2.1 _ hnd hxt
    have lp := zx_l14 hc7 (Or.inr hip)
    have kk := hC.1 _ hip
    have l1 := zx_l14 hc7 kk.1
    obtain ⟨j, j1, j2⟩ := hO.2.2.2.2.2.1 i (by omega) (by omega)
    have hgo : ∀ w, w = nI (zd_sib pr f1 f2 (o i)) → ∃ n81, wX_workDown_81 post (wX_workDown_29 post f_leafCount f_innerCount f_top (nI N) q) (nI i) (nI (o i)) (nI (pr (o i))) w f_leafCount f_innerCount f_top (nI N) n81 0 a_parents a_firsts a_seconds a_own a_costs a_rates a_order a_sets a_below a_many Ab a_sums a_groups := by
      intro w hw
      subst hw
      refine ⟨5, ?_⟩
      refine zx_wd81 (a_above := Ab) (f_listed := nI N) (D := fun z => ∃ k, k < i ∧ o k = z) hT hC hcs e8 hL hA hB hnd hxt ?_ ⟨j, j1, j2⟩ ?_ 4 0 5 Ab (by omega) (by omega) (fun t ht => by omega) ?_
      · rintro ⟨k, k1, k2⟩
        exact hinj k i k1 (by omega) k2
      · intro Ab2 g1 g2
        refine ih (i + 1) q Ab2 (by omega) (by omega) (by omega) ?_
        intro k hk
        by_cases e : k = i
        · rw [e]; exact g1
        · exact g2 _ ⟨k, by omega, rfl⟩
      · rintro z ⟨k, k1, rfl⟩
        exact hZ k k1
    refine br_f (nI_ge (by omega) (by omega)) ?_
    rw [nI_clamp (by omega), ho i (by omega)]
    refine ⟨vp_in_nI (by omega) (by omega), nm_e ?_⟩
    rw [zx_c14 l14, e4 _ hnd]
    refine ⟨zx_i14 l14, nm_e ⟨zx_i14 lp, ?_⟩⟩
    rw [zx_c14 lp, e5 _ hip, e6 _ hip]
    refine br_c (fun h => ⟨zx_i14 lp, nm_e (hgo _ ?_)⟩) (fun h => ⟨zx_i14 lp, nm_e (hgo _ ?_)⟩)
    · rw [zx_e14 l1 l14] at h
      unfold zd_sib
      rw [if_pos h]
    · rw [zx_e14 l1 l14] at h
      unfold zd_sib
      rw [if_neg h]
theorem zx_wd2 {post : SX → Prop} {f_leafCount f_innerCount f_top f_listed : Int32} {a_parents a_firsts a_seconds a_own a_costs a_rates a_order a_sets a_below a_many a_above : Nat → Int32} {a_sums : Nat → Int64} {a_groups : Nat → Int32} (hT : zt_TR c top pr) (hC : zt_CH c top pr f1 f2) (hS : zx_S c top pr f1 f2 ow cs rt (f_leafCount, f_innerCount, f_top, f_listed, a_parents, a_firsts, a_seconds, a_own, a_costs, a_rates, a_order, a_sets, a_below, a_many, a_above, a_sums, a_groups)) (hcs : ∀ j, j < 16 → cs j ≤ 9) {mb : Nat → Nat → Bool} (hL : zd_L c f1 f2 cs mb L) (hA : zd_A c top pr f1 f2 cs L A) (hB : ∀ x, zt_nd c x → ∀ t, t < 4 → a_below (4 * x + t) = nI (L x t))
    {N : Nat} {o : Nat → Nat} (hO : zx_O c top pr f1 f2 N o) (ho : ∀ i, i < N → a_order i = nI (o i)) (hN : f_listed = nI N)
    (k : ∀ Ab, (∀ x, zt_nd c x → ∀ t, t < 4 → Ab (4 * x + t) = nI (A x t)) → post (f_leafCount, f_innerCount, f_top, f_listed, a_parents, a_firsts, a_seconds, a_own, a_costs, a_rates, a_order, a_sets, a_below, a_many, Ab, a_sums, a_groups)) :
    ∀ (d s n : Nat) (Ab : Nat → Int32), s + d = 4 → d < n → (∀ t, t < s → Ab (4 * top + t) = 0) → wX_workDown_2 post f_leafCount f_innerCount f_top f_listed n (nI s) a_parents a_firsts a_seconds a_own a_costs a_rates a_order a_sets a_below a_many Ab a_sums a_groups := by
  have hc7 := hT.2.1
  have lt := zx_l14 hc7 hT.2.2.1
  have e3 : f_top = nI top := hS.2.2.1
  intro d
  induction d with
  | zero =>
    intro s n Ab hs hn h1
    obtain ⟨q, rfl⟩ : ∃ q, n = q + 1 := ⟨n - 1, by omega⟩
    have e : s = 4 := by omega
    subst e
    refine br_t (nI_le (a := 4) (b := 4) (by omega) (by omega)) ⟨N, ?_⟩
    have hN1 := hO.1.2
    refine zx_wd29 (a_above := Ab) hT hC (zx_Sf hS f_listed a_order a_sets a_below a_many Ab a_sums a_groups) hcs hL hA hB hO ho hN k (N - 1) 1 N Ab (by omega) (by omega) (by omega) ?_
    intro k hk t ht
    have e : k = 0 := by omega
    rw [e, hO.2.1, hA.1 t]
    exact h1 t ht
  | succ d ih =>
    intro s n Ab hs hn h1
    obtain ⟨q, rfl⟩ : ∃ q, n = q + 1 := ⟨n - 1, by omega⟩
    refine br_f (nI_ge (b := 4) (by omega) (by omega)) ?_
    rw [e3, zy_ix, nI_clamp (by omega), nI_1 s, ← e3]
    refine ⟨vp_in_nI (by omega) (by omega), nm_e (nm_e ?_)⟩
    refine ih (s + 1) q _ (by omega) (by omega) ?_
    intro t ht
    by_cases e : t = s
    · rw [e, pk_us]
    · rw [pk_un (by omega)]; exact h1 t (by omega)
theorem zx_workDown {post : SX → Prop} {f_leafCount f_innerCount f_top f_listed : Int32} {a_parents a_firsts a_seconds a_own a_costs a_rates a_order a_sets a_below a_many a_above : Nat → Int32} {a_sums : Nat → Int64} {a_groups : Nat → Int32} (hT : zt_TR c top pr) (hC : zt_CH c top pr f1 f2) (hS : zx_S c top pr f1 f2 ow cs rt (f_leafCount, f_innerCount, f_top, f_listed, a_parents, a_firsts, a_seconds, a_own, a_costs, a_rates, a_order, a_sets, a_below, a_many, a_above, a_sums, a_groups)) (hcs : ∀ j, j < 16 → cs j ≤ 9) {mb : Nat → Nat → Bool} (hL : zd_L c f1 f2 cs mb L) (hA : zd_A c top pr f1 f2 cs L A) (hB : ∀ x, zt_nd c x → ∀ t, t < 4 → a_below (4 * x + t) = nI (L x t))
    {N : Nat} {o : Nat → Nat} (hO : zx_O c top pr f1 f2 N o) (ho : ∀ i, i < N → a_order i = nI (o i)) (hN : f_listed = nI N)
    (k : ∀ Ab, (∀ x, zt_nd c x → ∀ t, t < 4 → Ab (4 * x + t) = nI (A x t)) → post (f_leafCount, f_innerCount, f_top, f_listed, a_parents, a_firsts, a_seconds, a_own, a_costs, a_rates, a_order, a_sets, a_below, a_many, Ab, a_sums, a_groups)) : wpX_workDown post (f_leafCount, f_innerCount, f_top, f_listed, a_parents, a_firsts, a_seconds, a_own, a_costs, a_rates, a_order, a_sets, a_below, a_many, a_above, a_sums, a_groups) :=
  ⟨5, zx_wd2 (a_above := a_above) hT hC hS hcs hL hA hB hO ho hN k 4 0 5 a_above (by omega) (by omega) (fun t ht => by omega)⟩
end
end
section
section
variable {c top : Nat} {pr f1 f2 ow cs : Nat → Nat} {rt : Nat → Int32} {L A : Nat → Nat → Nat} {S : Nat → Nat → Int64} {site : Nat}
theorem zx_st36 {post : Int32 → SX → Prop} {f_leafCount f_innerCount f_top f_listed : Int32} {a_parents a_firsts a_seconds a_own a_costs a_rates a_order a_sets a_below a_many a_above : Nat → Int32} {a_sums : Nat → Int64} {a_groups : Nat → Int32} {x b : Nat} {Lx Ax : Nat → Nat} (hx : x < 14) (hb : b ≤ 100000) (hLx : ∀ t, t < 4 → a_below (4 * x + t) = nI (Lx t) ∧ Lx t ≤ 200000) (hAx : ∀ t, t < 4 → a_above (4 * x + t) = nI (Ax t) ∧ Ax t ≤ 100000)
    (k : post (zd_bt (fun t => decide (Lx t + Ax t = b)) 4) (f_leafCount, f_innerCount, f_top, f_listed, a_parents, a_firsts, a_seconds, a_own, a_costs, a_rates, a_order, a_sets, a_below, a_many, a_above, a_sums, a_groups)) :
    ∀ (d t n : Nat), t + d = 4 → d < n → wX_states_36 post (nI x) (nI b) f_leafCount f_innerCount f_top f_listed a_parents a_firsts a_seconds a_own a_costs a_rates a_order a_sets a_below a_many a_above a_sums a_groups n (zd_bt (fun t => decide (Lx t + Ax t = b)) t) (nI t) := by
  intro d
  induction d with
  | zero =>
    intro t n ht hn
    obtain ⟨q, rfl⟩ : ∃ q, n = q + 1 := ⟨n - 1, by omega⟩
    have e : t = 4 := by omega
    subst e
    exact br_t (nI_le (a := 4) (b := 4) (by omega) (by omega)) k
  | succ d ih =>
    intro t n ht hn
    obtain ⟨q, rfl⟩ : ∃ q, n = q + 1 := ⟨n - 1, by omega⟩
    have h1 := hLx t (by omega)
    have h2 := hAx t (by omega)
    have hi := ih (t + 1) q (by omega) (by omega)
    have e : zd_bt (fun t => decide (Lx t + Ax t = b)) (t + 1) = if decide (Lx t + Ax t = b) = true then zd_bt (fun t => decide (Lx t + Ax t = b)) t ||| ((1 : Int32) <<< (nI t &&& 31)) else zd_bt (fun t => decide (Lx t + Ax t = b)) t := rfl
    rw [e] at hi
    generalize zd_bt (fun t => decide (Lx t + Ax t = b)) t = m at *
    refine br_f (nI_ge (b := 4) (by omega) (by omega)) ?_
    rw [zy_ix, nI_clamp (by omega), h1.1, h2.1, nI_add, nI_1 t]
    refine ⟨vp_in_nI (by omega) (by omega), vp_in_nI (by omega) (by omega), ?_⟩
    refine pk_eq (Lx t + Ax t) b (fun h => nm_e (nm_e ?_)) (fun h => nm_e ?_)
    · rw [if_pos (decide_eq_true h)] at hi; exact hi
    · rw [if_neg (fun h2 => h (of_decide_eq_true h2))] at hi; exact hi
theorem zx_wy20 {post : Int32 → SX → Prop} {f_leafCount f_innerCount f_top f_listed : Int32} {a_parents a_firsts a_seconds a_own a_costs a_rates a_order a_sets a_below a_many a_above : Nat → Int32} {a_sums : Nat → Int64} {a_groups : Nat → Int32} {b : Nat} {Lx : Nat → Nat} {Mx : Nat → Int32} (htop : top < 14) (e3 : f_top = nI top) (hb : b ≤ 100000) (hLx : ∀ t, t < 4 → a_below (4 * top + t) = nI (Lx t) ∧ Lx t ≤ 200000) (hMx : ∀ t, t < 4 → a_many (4 * top + t) = Mx t)
    (k : post (zd_sm (fun t => if Lx t = b then Mx t else 0) 4) (f_leafCount, f_innerCount, f_top, f_listed, a_parents, a_firsts, a_seconds, a_own, a_costs, a_rates, a_order, a_sets, a_below, a_many, a_above, a_sums, a_groups)) :
    ∀ (d t n : Nat), t + d = 4 → d < n → wX_ways_20 post (nI b) f_leafCount f_innerCount f_top f_listed a_parents a_firsts a_seconds a_own a_costs a_rates a_order a_sets a_below a_many a_above a_sums a_groups n (zd_sm (fun t => if Lx t = b then Mx t else 0) t) (nI t) := by
  subst e3
  intro d
  induction d with
  | zero =>
    intro t n ht hn
    obtain ⟨q, rfl⟩ : ∃ q, n = q + 1 := ⟨n - 1, by omega⟩
    have e : t = 4 := by omega
    subst e
    exact br_t (nI_le (a := 4) (b := 4) (by omega) (by omega)) k
  | succ d ih =>
    intro t n ht hn
    obtain ⟨q, rfl⟩ : ∃ q, n = q + 1 := ⟨n - 1, by omega⟩
    have h1 := hLx t (by omega)
    have h2 := hMx t (by omega)
    have hi := ih (t + 1) q (by omega) (by omega)
    have e : zd_sm (fun t => if Lx t = b then Mx t else 0) (t + 1) = zd_sm (fun t => if Lx t = b then Mx t else 0) t + (if Lx t = b then Mx t else 0) := rfl
    rw [e] at hi
    generalize zd_sm (fun t => if Lx t = b then Mx t else 0) t = m at *
    refine br_f (nI_ge (b := 4) (by omega) (by omega)) ?_
    rw [zy_ix, nI_clamp (by omega), h1.1, h2, nI_1 t]
    refine ⟨vp_in_nI (by omega) (by omega), ?_⟩
    refine pk_eq (Lx t) b (fun h => ⟨vp_in_nI (by omega) (by omega), nm_e (nm_e ?_)⟩) (fun h => nm_e (nm_e ?_))
    · rw [if_pos h] at hi; exact hi
    · rw [if_neg h] at hi; exact hi
end
end
section
theorem zx_11 : (1 : Int64) * 1 = 1 := by decide
section
variable {c top : Nat} {pr f1 f2 ow cs : Nat → Nat} {rt : Nat → Int32} {L A : Nat → Nat → Nat} {S : Nat → Nat → Int64} {site : Nat}
/-! weight -/
theorem zx_so5 {post : Int64 → Prop} {f_leafCount f_innerCount f_top f_listed : Int32} {a_parents a_firsts a_seconds a_own a_costs a_rates a_order a_sets a_below a_many a_above : Nat → Int32} {a_sums : Nat → Int64} {a_groups : Nat → Int32} {ch s : Nat} {Sc : Nat → Int64} (hch : ch < 14) (hs : s < 4) (hrt : ∀ j, j < 16 → a_rates j = rt j) (hSc : ∀ t, t < 4 → a_sums (4 * ch + t) = Sc t) (k : post (zd_so rt Sc s)) :
    ∀ (d t n : Nat), t + d = 4 → d < n → wX_sumOver_5 post (nI ch) (nI s) f_leafCount f_innerCount f_top f_listed a_parents a_firsts a_seconds a_own a_costs a_rates a_order a_sets a_below a_many a_above a_sums a_groups n (zd_sL (fun t => (rt (4 * s + t)).toInt64 * Sc t) t) (nI t) := by
  intro d
  induction d with
  | zero =>
    intro t n ht hn
    obtain ⟨q, rfl⟩ : ∃ q, n = q + 1 := ⟨n - 1, by omega⟩
    have e : t = 4 := by omega
    subst e
    exact br_t (nI_le (a := 4) (b := 4) (by omega) (by omega)) k
  | succ d ih =>
    intro t n ht hn
    obtain ⟨q, rfl⟩ : ∃ q, n = q + 1 := ⟨n - 1, by omega⟩
    have hi := ih (t + 1) q (by omega) (by omega)
    refine br_f (nI_ge (b := 4) (by omega) (by omega)) ?_
    rw [zy_ix, zy_ix, nI_clamp (by omega), nI_clamp (by omega), hrt _ (by omega), hSc t (by omega), nI_1 t]
    exact ⟨vp_in_nI (by omega) (by omega), vp_in_nI (by omega) (by omega), nm_e (nm_e hi)⟩
theorem zx_sumOver {post : Int64 → Prop} {f_leafCount f_innerCount f_top f_listed : Int32} {a_parents a_firsts a_seconds a_own a_costs a_rates a_order a_sets a_below a_many a_above : Nat → Int32} {a_sums : Nat → Int64} {a_groups : Nat → Int32} {ch s : Nat} {Sc : Nat → Int64} (hch : ch < 14) (hs : s < 4) (hrt : ∀ j, j < 16 → a_rates j = rt j) (hSc : ∀ t, t < 4 → a_sums (4 * ch + t) = Sc t) (k : post (zd_so rt Sc s)) : wpX_sumOver post (f_leafCount, f_innerCount, f_top, f_listed, a_parents, a_firsts, a_seconds, a_own, a_costs, a_rates, a_order, a_sets, a_below, a_many, a_above, a_sums, a_groups) (nI ch) (nI s) :=
  ⟨5, zx_so5 hch hs hrt hSc k 4 0 5 (by omega) (by omega)⟩
theorem zx_w36s {post : Int64 → SX → Prop} {J22 : Int32 → (Nat → Int32) → (Nat → Int32) → (Nat → Int32) → (Nat → Int32) → (Nat → Int32) → (Nat → Int32) → (Nat → Int32) → (Nat → Int32) → (Nat → Int32) → (Nat → Int32) → (Nat → Int32) → (Nat → Int64) → (Nat → Int32) → Prop} {x2 : Int32} {f_leafCount f_innerCount f_top f_listed : Int32} {a_parents a_firsts a_seconds a_own a_costs a_rates a_order a_sets a_below a_many a_above : Nat → Int32} {a_sums : Nat → Int64} {a_groups : Nat → Int32} (hc7 : c ≤ 7) (hC : zt_CH c top pr f1 f2) (hS : zx_S c top pr f1 f2 ow cs rt (f_leafCount, f_innerCount, f_top, f_listed, a_parents, a_firsts, a_seconds, a_own, a_costs, a_rates, a_order, a_sets, a_below, a_many, a_above, a_sums, a_groups)) (how : ∀ x, x < c → ow x < 256) (hsite : site < 4) (hSS : zd_S c f1 f2 rt (zx_mb ow site) S)
    {x s q : Nat} (hx : zt_nd c x) (hs : s < 4)
    (hch : zt_in c x → (∀ t, t < 4 → a_sums (4 * f1 x + t) = S (f1 x) t) ∧ (∀ t, t < 4 → a_sums (4 * f2 x + t) = S (f2 x) t))
    (k : wX_weight_36 post J22 (nI site) x2 (nI x) f_leafCount f_innerCount f_top f_listed q (nI (s + 1)) a_parents a_firsts a_seconds a_own a_costs a_rates a_order a_sets a_below a_many a_above (vp_updL a_sums (4 * x + s) (S x s)) a_groups) :
    wX_weight_36 post J22 (nI site) x2 (nI x) f_leafCount f_innerCount f_top f_listed (q + 1) (nI s) a_parents a_firsts a_seconds a_own a_costs a_rates a_order a_sets a_below a_many a_above a_sums a_groups := by
  have l14 := zx_l14 hc7 hx
  refine br_f (nI_ge (b := 4) (by omega) (by omega)) ?_
  by_cases h8 : x < 8
  · have hxc : x < c := by omega
    have hx2 := hSS.1 x hx h8 s
    have hlt := nI_lt (b := 8) h8 (by decide)
    refine br_t hlt ?_
    unfold wX_weight_64
    refine br_t hlt ?_
    unfold wX_weight_88
    rw [zy_ix, nI_clamp (by omega), nI_1 s]
    refine zx_mayBeL hc7 hS how hxc hsite hs (fun h => br_f (by decide) ?_) (fun h => br_t rfl ?_)
    · refine ⟨vp_in_nI (by omega) (by omega), nm_e (nm_e ?_)⟩
      rw [hx2, if_pos h] at k
      rw [zx_11]
      exact k
    · refine ⟨vp_in_nI (by omega) (by omega), nm_e (nm_e ?_)⟩
      rw [hx2, if_neg h] at k
      exact k
  · have hin : zt_in c x := by omega
    have kk := hC.1 _ hin
    obtain ⟨a1, b1⟩ := hch hin
    obtain ⟨e1, e2, e3, e4, e5, e6, e7, e8, e9⟩ := hS
    have hlt := nI_nlt (a := x) (b := 8) (by omega) (by omega)
    rw [zx_c14 l14, e5 x hin]
    refine br_f hlt ⟨zx_i14 l14, ?_⟩
    refine zx_sumOver (rt := rt) (Sc := S (f1 x)) (zx_l14 hc7 kk.1) hs e9 a1 ?_
    unfold wX_weight_64
    rw [zx_c14 l14, e6 x hin]
    refine br_f hlt ⟨zx_i14 l14, ?_⟩
    refine zx_sumOver (rt := rt) (Sc := S (f2 x)) (zx_l14 hc7 kk.2.1) hs e9 b1 ?_
    unfold wX_weight_88
    rw [zy_ix, nI_clamp (by omega), nI_1 s]
    refine zx_mayBeI (by omega) l14 (br_f (by decide) ?_)
    refine ⟨vp_in_nI (by omega) (by omega), nm_e (nm_e ?_)⟩
    rw [hSS.2 x hin s] at k
    exact k
theorem zx_w36 {post : Int64 → SX → Prop} {J22 : Int32 → (Nat → Int32) → (Nat → Int32) → (Nat → Int32) → (Nat → Int32) → (Nat → Int32) → (Nat → Int32) → (Nat → Int32) → (Nat → Int32) → (Nat → Int32) → (Nat → Int32) → (Nat → Int32) → (Nat → Int64) → (Nat → Int32) → Prop} {x2 : Int32} {f_leafCount f_innerCount f_top f_listed : Int32} {a_parents a_firsts a_seconds a_own a_costs a_rates a_order a_sets a_below a_many a_above : Nat → Int32} {a_sums : Nat → Int64} {a_groups : Nat → Int32} (hc7 : c ≤ 7) (hC : zt_CH c top pr f1 f2) (hS : zx_S c top pr f1 f2 ow cs rt (f_leafCount, f_innerCount, f_top, f_listed, a_parents, a_firsts, a_seconds, a_own, a_costs, a_rates, a_order, a_sets, a_below, a_many, a_above, a_sums, a_groups)) (how : ∀ x, x < c → ow x < 256) (hsite : site < 4) (hSS : zd_S c f1 f2 rt (zx_mb ow site) S)
    {x : Nat} (hx : zt_nd c x) {D : Nat → Prop} (hD : ¬ D x) (hch : zt_in c x → D (f1 x) ∧ D (f2 x))
    (k : ∀ Sm, (∀ t, t < 4 → Sm (4 * x + t) = S x t) → (∀ z, D z → ∀ t, t < 4 → Sm (4 * z + t) = S z t) → J22 (x2 + (-1)) a_parents a_firsts a_seconds a_own a_costs a_rates a_order a_sets a_below a_many a_above Sm a_groups) :
    ∀ (d s n : Nat) (Sm : Nat → Int64), s + d = 4 → d < n → (∀ t, t < s → Sm (4 * x + t) = S x t) → (∀ z, D z → ∀ t, t < 4 → Sm (4 * z + t) = S z t) → wX_weight_36 post J22 (nI site) x2 (nI x) f_leafCount f_innerCount f_top f_listed n (nI s) a_parents a_firsts a_seconds a_own a_costs a_rates a_order a_sets a_below a_many a_above Sm a_groups := by
  intro d
  induction d with
  | zero =>
    intro s n Sm hs hn h1 h2
    obtain ⟨q, rfl⟩ : ∃ q, n = q + 1 := ⟨n - 1, by omega⟩
    have e : s = 4 := by omega
    subst e
    exact br_t (nI_le (a := 4) (b := 4) (by omega) (by omega)) (nm_e (k Sm h1 h2))
  | succ d ih =>
    intro s n Sm hs hn h1 h2
    obtain ⟨q, rfl⟩ : ∃ q, n = q + 1 := ⟨n - 1, by omega⟩
    have hs4 : s < 4 := by omega
    refine zx_w36s (a_sums := Sm) hc7 hC (zx_Sf hS f_listed a_order a_sets a_below a_many a_above Sm a_groups) how hsite hSS hx hs4 ?_ ?_
    · intro hin
      have hd := hch hin
      exact ⟨h2 _ hd.1, h2 _ hd.2⟩
    · refine ih (s + 1) q _ (by omega) (by omega) ?_ ?_
      · intro t ht
        by_cases e : t = s
        · rw [e, pk_uLs]
        · rw [pk_uLn (by omega)]; exact h1 t (by omega)
      · intro z hz t ht
        have hne : z ≠ x := fun e => hD (by rw [← e]; exact hz)
        rw [pk_uLn (zx_n4 hs4 ht hne)]
        exact h2 z hz t ht
theorem zx_w138 {post : Int64 → SX → Prop} {f_leafCount f_innerCount f_top f_listed : Int32} {a_parents a_firsts a_seconds a_own a_costs a_rates a_order a_sets a_below a_many a_above : Nat → Int32} {a_sums : Nat → Int64} {a_groups : Nat → Int32} {Sc : Nat → Int64} (ht14 : top < 14) (e3 : f_top = nI top) (hSc : ∀ t, t < 4 → a_sums (4 * top + t) = Sc t) (k : post (zd_sL Sc 4) (f_leafCount, f_innerCount, f_top, f_listed, a_parents, a_firsts, a_seconds, a_own, a_costs, a_rates, a_order, a_sets, a_below, a_many, a_above, a_sums, a_groups)) :
    ∀ (d t n : Nat), t + d = 4 → d < n → wX_weight_138 post f_leafCount f_innerCount f_top f_listed a_parents a_firsts a_seconds a_own a_costs a_rates a_order a_sets a_below a_many a_above a_sums a_groups n (zd_sL Sc t) (nI t) := by
  subst e3
  intro d
  induction d with
  | zero =>
    intro t n ht hn
    obtain ⟨q, rfl⟩ : ∃ q, n = q + 1 := ⟨n - 1, by omega⟩
    have e : t = 4 := by omega
    subst e
    exact br_t (nI_le (a := 4) (b := 4) (by omega) (by omega)) k
  | succ d ih =>
    intro t n ht hn
    obtain ⟨q, rfl⟩ : ∃ q, n = q + 1 := ⟨n - 1, by omega⟩
    have hi := ih (t + 1) q (by omega) (by omega)
    have e : zd_sL Sc (t + 1) = zd_sL Sc t + Sc t := rfl
    rw [e] at hi
    generalize zd_sL Sc t = m at *
    refine br_f (nI_ge (b := 4) (by omega) (by omega)) ?_
    rw [zy_ix, nI_clamp (by omega), hSc t (by omega), nI_1 t]
    exact ⟨vp_in_nI (by omega) (by omega), nm_e (nm_e hi)⟩
theorem zx_w22 {post : Int64 → SX → Prop} {f_leafCount f_innerCount f_top f_listed : Int32} {a_parents a_firsts a_seconds a_own a_costs a_rates a_order a_sets a_below a_many a_above : Nat → Int32} {a_sums : Nat → Int64} {a_groups : Nat → Int32} (hT : zt_TR c top pr) (hC : zt_CH c top pr f1 f2) (hS : zx_S c top pr f1 f2 ow cs rt (f_leafCount, f_innerCount, f_top, f_listed, a_parents, a_firsts, a_seconds, a_own, a_costs, a_rates, a_order, a_sets, a_below, a_many, a_above, a_sums, a_groups)) (how : ∀ x, x < c → ow x < 256) (hsite : site < 4) (hSS : zd_S c f1 f2 rt (zx_mb ow site) S)
    {N : Nat} {o : Nat → Nat} (hO : zx_O c top pr f1 f2 N o) (ho : ∀ i, i < N → a_order i = nI (o i))
    (k : ∀ Sm, post (zd_sL (S top) 4) (f_leafCount, f_innerCount, f_top, f_listed, a_parents, a_firsts, a_seconds, a_own, a_costs, a_rates, a_order, a_sets, a_below, a_many, a_above, Sm, a_groups)) :
    ∀ (i n : Nat) (Sm : Nat → Int64), i ≤ N → i < n → (∀ k, i ≤ k → k < N → ∀ t, t < 4 → Sm (4 * o k + t) = S (o k) t) → wX_weight_22 post (nI site) f_leafCount f_innerCount f_top f_listed n (zx_dk i) a_parents a_firsts a_seconds a_own a_costs a_rates a_order a_sets a_below a_many a_above Sm a_groups := by
  have hc7 := hT.2.1
  intro i
  induction i with
  | zero =>
    intro n Sm hi hn hZ
    obtain ⟨q, rfl⟩ : ∃ q, n = q + 1 := ⟨n - 1, by omega⟩
    refine br_t (by decide) ⟨5, ?_⟩
    refine zx_w138 (a_sums := Sm) (Sc := S top) (zx_l14 hc7 hT.2.2.1) hS.2.2.1 ?_ (k Sm) 4 0 5 (by omega) (by omega)
    intro t ht
    have h := hZ 0 (by omega) (by have := hO.1.2; omega) t ht
    rw [hO.2.1] at h
    exact h
  | succ i ih =>
    intro n Sm hi hn hZ
    obtain ⟨q, rfl⟩ : ∃ q, n = q + 1 := ⟨n - 1, by omega⟩
    have hN := hO.1.1
    have hnd := hO.2.2.1 i (by omega)
    have hinj := hO.2.2.2.1
    show wX_weight_22 post (nI site) f_leafCount f_innerCount f_top f_listed (q + 1) (nI i) a_parents a_firsts a_seconds a_own a_costs a_rates a_order a_sets a_below a_many a_above Sm a_groups
    refine br_f (nI_pos (by omega)) ?_
    rw [nI_clamp (by omega), ho i (by omega)]
    refine ⟨vp_in_nI (by omega) (by omega), nm_e ⟨5, ?_⟩⟩
    refine zx_w36 (a_sums := Sm) (D := fun z => ∃ k, i + 1 ≤ k ∧ k < N ∧ o k = z) hc7 hC (zx_Sf hS f_listed a_order a_sets a_below a_many a_above Sm a_groups) how hsite hSS hnd ?_ ?_ ?_ 4 0 5 Sm (by omega) (by omega) (fun t ht => by omega) ?_
    · rintro ⟨k, k1, k2, k3⟩
      exact hinj i k (by omega) k2 k3.symm
    · intro hin
      obtain ⟨j, l, j1, j2, j3, j4, j5, j6⟩ := hO.2.2.2.2.1 i (by omega) hin
      exact ⟨⟨j, by omega, j2, j5⟩, ⟨l, by omega, j4, j6⟩⟩
    · intro Sm2 g1 g2
      rw [zx_dk_s]
      refine ih q Sm2 (by omega) (by omega) ?_
      intro k k1 k2
      by_cases e : k = i
      · rw [e]; exact g1
      · exact g2 _ ⟨k, by omega, k2, rfl⟩
    · rintro z ⟨k, k1, k2, rfl⟩
      exact hZ k (by omega) k2
end
end
section
/-! the reference's branch, settle, work, bottom -/
section
variable {c top : Nat} {pr g1 g2 ow cs : Nat → Nat} {rt : Nat → Int32} {site : Nat}
theorem zy_br14 {post : Int64 → Prop} {f_count f_top : Int32} {a_own a_above a_one a_two a_costs a_rates a_low a_many : Nat → Int32} {a_sums : Nat → Int64} {a_others : Nat → Int32} {ch s : Nat} {kind : Int32} {lc : Nat → Nat} {Mc : Nat → Int32} {Sc : Nat → Int64} (hch : ch < 14) (hs : s < 4) (hcs : ∀ j, j < 16 → cs j ≤ 9) (hco : ∀ j, j < 16 → a_costs j = nI (cs j)) (hrt : ∀ j, j < 16 → a_rates j = rt j)
    (hl : ∀ t, t < 4 → a_low (4 * ch + t) = nI (lc t) ∧ lc t ≤ 1000) (hM : ∀ t, t < 4 → a_many (4 * ch + t) = Mc t) (hS : ∀ t, t < 4 → a_sums (4 * ch + t) = Sc t)
    (k0 : kind = 0 → post (nI (zd_mn 1000 (fun t => cs (4 * s + t) + lc t) 4)).toInt64) (k1 : kind = 1 → post (zd_wy (fun t => cs (4 * s + t) + lc t) Mc 4).toInt64) (k2 : kind ≠ 0 → kind ≠ 1 → post (zd_so rt Sc s)) :
    ∀ (d t n : Nat), t + d = 4 → d < n → wY_branch_14 post (nI ch) (nI s) kind f_count f_top a_own a_above a_one a_two a_costs a_rates a_low a_many a_sums a_others n (nI (zd_mn 1000 (fun t => cs (4 * s + t) + lc t) t)) (zd_wy (fun t => cs (4 * s + t) + lc t) Mc t) (zd_sL (fun t => (rt (4 * s + t)).toInt64 * Sc t) t) (nI t) := by
  intro d
  induction d with
  | zero =>
    intro t n ht hn
    obtain ⟨q, rfl⟩ : ∃ q, n = q + 1 := ⟨n - 1, by omega⟩
    have e : t = 4 := by omega
    subst e
    exact br_t (nI_le (a := 4) (b := 4) (by omega) (by omega)) (br_c k0 (fun h0 => br_c k1 (fun h1 => k2 h0 h1)))
  | succ d ih =>
    intro t n ht hn
    obtain ⟨q, rfl⟩ : ∃ q, n = q + 1 := ⟨n - 1, by omega⟩
    have h1 := hl t (by omega)
    have h2 := hcs (4 * s + t) (by omega)
    have h3 := zd_mn_cap (cap := 1000) (q := fun t => cs (4 * s + t) + lc t) t
    have h4 := hM t (by omega)
    have h5 := hS t (by omega)
    have hi := ih (t + 1) q (by omega) (by omega)
    have ea : zd_mn 1000 (fun t => cs (4 * s + t) + lc t) (t + 1) = min (zd_mn 1000 (fun t => cs (4 * s + t) + lc t) t) (cs (4 * s + t) + lc t) := rfl
    have eb : zd_wy (fun t => cs (4 * s + t) + lc t) Mc (t + 1) = (if cs (4 * s + t) + lc t = min (zd_mn 1000 (fun t => cs (4 * s + t) + lc t) t) (cs (4 * s + t) + lc t) then (if zd_mn 1000 (fun t => cs (4 * s + t) + lc t) t ≤ cs (4 * s + t) + lc t then zd_wy (fun t => cs (4 * s + t) + lc t) Mc t else 0) + Mc t else (if zd_mn 1000 (fun t => cs (4 * s + t) + lc t) t ≤ cs (4 * s + t) + lc t then zd_wy (fun t => cs (4 * s + t) + lc t) Mc t else 0)) := rfl
    have ec : zd_sL (fun t => (rt (4 * s + t)).toInt64 * Sc t) (t + 1) = zd_sL (fun t => (rt (4 * s + t)).toInt64 * Sc t) t + (rt (4 * s + t)).toInt64 * Sc t := rfl
    rw [ea, eb, ec] at hi
    clear ih ea eb ec
    generalize zd_mn 1000 (fun t => cs (4 * s + t) + lc t) t = m at *
    generalize zd_wy (fun t => cs (4 * s + t) + lc t) Mc t = w at *
    generalize zd_sL (fun t => (rt (4 * s + t)).toInt64 * Sc t) t = sm at *
    have hfin : ∀ (m' : Nat) (w' : Int32), wY_branch_14 post (nI ch) (nI s) kind f_count f_top a_own a_above a_one a_two a_costs a_rates a_low a_many a_sums a_others q (nI m') w' (sm + (rt (4 * s + t)).toInt64 * Sc t) (nI (t + 1)) → wY_branch_82 post (wY_branch_14 post (nI ch) (nI s) kind f_count f_top a_own a_above a_one a_two a_costs a_rates a_low a_many a_sums a_others q) (nI ch) (nI s) kind (nI m') w' sm (nI t) f_count f_top a_own a_above a_one a_two a_costs a_rates a_low a_many a_sums a_others := by
      intro m' w' h
      unfold wY_branch_82
      rw [zy_ix, zy_ix, nI_clamp (by omega), nI_clamp (by omega), hrt _ (by omega), h5, nI_1 t]
      exact ⟨vp_in_nI (by omega) (by omega), vp_in_nI (by omega) (by omega), nm_e (nm_e h)⟩
    refine br_f (nI_ge (b := 4) (by omega) (by omega)) ?_
    rw [zy_ix, zy_ix, nI_clamp (by omega), nI_clamp (by omega), hco _ (by omega), h1.1, nI_add]
    refine ⟨vp_in_nI (by omega) (by omega), vp_in_nI (by omega) (by omega), nm_e ?_⟩
    refine pk_le m (cs (4 * s + t) + lc t) (fun h => ?_) (fun h => ?_)
    · rw [Nat.min_eq_left h, if_pos h] at hi
      unfold wY_branch_59
      refine pk_eq (cs (4 * s + t) + lc t) m (fun h6 => ?_) (fun h6 => ?_)
      · rw [zy_ix, nI_clamp (by omega), h4]
        rw [if_pos h6] at hi
        exact ⟨vp_in_nI (by omega) (by omega), nm_e (hfin _ _ hi)⟩
      · rw [if_neg h6] at hi
        exact hfin _ _ hi
    · rw [Nat.min_eq_right (by omega), if_neg (c := m ≤ _) (by omega), if_pos rfl] at hi
      unfold wY_branch_59
      refine br_t rfl ?_
      rw [zy_ix, nI_clamp (by omega), h4]
      exact ⟨vp_in_nI (by omega) (by omega), nm_e (hfin _ _ hi)⟩
theorem zy_branch {post : Int64 → Prop} {f_count f_top : Int32} {a_own a_above a_one a_two a_costs a_rates a_low a_many : Nat → Int32} {a_sums : Nat → Int64} {a_others : Nat → Int32} {ch s : Nat} {kind : Int32} {lc : Nat → Nat} {Mc : Nat → Int32} {Sc : Nat → Int64} (hch : ch < 14) (hs : s < 4) (hcs : ∀ j, j < 16 → cs j ≤ 9) (hco : ∀ j, j < 16 → a_costs j = nI (cs j)) (hrt : ∀ j, j < 16 → a_rates j = rt j)
    (hl : ∀ t, t < 4 → a_low (4 * ch + t) = nI (lc t) ∧ lc t ≤ 1000) (hM : ∀ t, t < 4 → a_many (4 * ch + t) = Mc t) (hS : ∀ t, t < 4 → a_sums (4 * ch + t) = Sc t)
    (k0 : kind = 0 → post (nI (zd_mn 1000 (fun t => cs (4 * s + t) + lc t) 4)).toInt64) (k1 : kind = 1 → post (zd_wy (fun t => cs (4 * s + t) + lc t) Mc 4).toInt64) (k2 : kind ≠ 0 → kind ≠ 1 → post (zd_so rt Sc s)) : wpY_branch post (f_count, f_top, a_own, a_above, a_one, a_two, a_costs, a_rates, a_low, a_many, a_sums, a_others) (nI ch) (nI s) kind :=
  ⟨5, zy_br14 hch hs hcs hco hrt hl hM hS k0 k1 k2 4 0 5 (by omega) (by omega)⟩
theorem zy_190 {post : SY → Prop} {J3 : Int32 → (Nat → Int32) → (Nat → Int32) → (Nat → Int32) → (Nat → Int32) → (Nat → Int32) → (Nat → Int32) → (Nat → Int32) → (Nat → Int32) → (Nat → Int64) → (Nat → Int32) → Prop} {x2 x3 x4 : Int32} {f_count f_top : Int32} {a_own a_above a_one a_two a_costs a_rates a_low a_many : Nat → Int32} {a_sums : Nat → Int64} {a_others : Nat → Int32} {x s v : Nat} {x9 x11 : Int64} (hx : x < 14) (hs : s < 4) (hv : v < 1000000)
    (k : J3 (nI (s + 1)) a_own a_above a_one a_two a_costs a_rates (upd a_low (4 * x + s) (nI (min 1000 v))) (upd a_many (4 * x + s) x9.toInt32) (vp_updL a_sums (4 * x + s) x11) a_others) :
    wY_settle_162 post J3 (nI x) x2 x3 x4 (nI s) (lN v) x9 x11 f_count f_top a_own a_above a_one a_two a_costs a_rates a_low a_many a_sums a_others := by
  unfold wY_settle_162 wY_settle_190
  rw [zy_ix, nI_clamp (by omega), nI_1 s, lN_i]
  refine br_c (fun h => ?_) (fun h => ?_)
  · have h2 : v ≤ 1000 := (lN_le (b := 1000) (by omega) (by decide)).mp h
    rw [Nat.min_eq_right h2] at k
    exact ⟨vp_in_nI (by omega) (by omega), nm_e ⟨vp_in_nI (by omega) (by omega), nm_e ⟨vp_in_nI (by omega) (by omega), nm_e (nm_e k)⟩⟩⟩
  · have h2 : ¬ v ≤ 1000 := fun h3 => h ((lN_le (b := 1000) (by omega) (by decide)).mpr h3)
    rw [Nat.min_eq_left (by omega)] at k
    exact ⟨vp_in_nI (by omega) (by omega), nm_e ⟨vp_in_nI (by omega) (by omega), nm_e ⟨vp_in_nI (by omega) (by omega), nm_e (nm_e k)⟩⟩⟩
theorem zy_w32 (w : Int64) (a b : Int32) : (w * a.toInt64 * b.toInt64).toInt32 = w.toInt32 * a * b := by
  rw [Int64.toInt32_mul, Int64.toInt32_mul, Int32.toInt32_toInt64, Int32.toInt32_toInt64]
theorem zy_58 {post : SY → Prop} {J3 : Int32 → (Nat → Int32) → (Nat → Int32) → (Nat → Int32) → (Nat → Int32) → (Nat → Int32) → (Nat → Int32) → (Nat → Int32) → (Nat → Int32) → (Nat → Int64) → (Nat → Int32) → Prop} {x2 x3 x4 : Int32} {f_count f_top : Int32} {a_own a_above a_one a_two a_costs a_rates a_low a_many : Nat → Int32} {a_sums : Nat → Int64} {a_others : Nat → Int32} {x s b a e : Nat} {w z0 : Int64} {la lb : Nat → Nat} {Ma Mb : Nat → Int32} {Sa Sb : Nat → Int64} (h8 : 8 ≤ x) (hx : x < 14) (ha : a < 14) (hb : e < 14) (hs : s < 4) (hc0 : b ≤ 1000) (ea : a_one x = nI a) (eb : a_two x = nI e) (hcs : ∀ j, j < 16 → cs j ≤ 9) (hco : ∀ j, j < 16 → a_costs j = nI (cs j)) (hrt : ∀ j, j < 16 → a_rates j = rt j)
    (hla : ∀ t, t < 4 → a_low (4 * a + t) = nI (la t) ∧ la t ≤ 1000) (hMa : ∀ t, t < 4 → a_many (4 * a + t) = Ma t) (hSa : ∀ t, t < 4 → a_sums (4 * a + t) = Sa t)
    (hlb : ∀ t, t < 4 → a_low (4 * e + t) = nI (lb t) ∧ lb t ≤ 1000) (hMb : ∀ t, t < 4 → a_many (4 * e + t) = Mb t) (hSb : ∀ t, t < 4 → a_sums (4 * e + t) = Sb t)
    (k : J3 (nI (s + 1)) a_own a_above a_one a_two a_costs a_rates (upd a_low (4 * x + s) (nI (min 1000 (b + zd_mn 1000 (fun t => cs (4 * s + t) + la t) 4 + zd_mn 1000 (fun t => cs (4 * s + t) + lb t) 4)))) (upd a_many (4 * x + s) (w.toInt32 * zd_wy (fun t => cs (4 * s + t) + la t) Ma 4 * zd_wy (fun t => cs (4 * s + t) + lb t) Mb 4)) (vp_updL a_sums (4 * x + s) (z0 * zd_so rt Sa s * zd_so rt Sb s)) a_others) :
    wY_settle_58 post J3 (nI x) x2 x3 x4 (nI s) (lN b) w z0 f_count f_top a_own a_above a_one a_two a_costs a_rates a_low a_many a_sums a_others := by
  unfold wY_settle_58
  have m1 := zd_mn_cap (cap := 1000) (q := fun t => cs (4 * s + t) + la t) 4
  have m2 := zd_mn_cap (cap := 1000) (q := fun t => cs (4 * s + t) + lb t) 4
  rw [zx_c14 hx, ea, eb]
  have h16 := zy_i16 hx
  refine br_f (nI_ge (a := 7) (b := x) (by omega) (by omega)) ⟨h16, ?_⟩
  refine zy_branch (rt := rt) (lc := la) (Mc := Ma) (Sc := Sa) ha hs hcs hco hrt hla hMa hSa (fun _ => ⟨h16, ?_⟩) (fun h => absurd h (by decide)) (fun h => absurd rfl h)
  refine zy_branch (rt := rt) (lc := lb) (Mc := Mb) (Sc := Sb) hb hs hcs hco hrt hlb hMb hSb (fun _ => ?_) (fun h => absurd h (by decide)) (fun h => absurd rfl h)
  refine nm_r (e' := lN (b + zd_mn 1000 (fun t => cs (4 * s + t) + la t) 4 + zd_mn 1000 (fun t => cs (4 * s + t) + lb t) 4)) ?_ ⟨h16, ?_⟩
  · rw [nI_l (by omega), nI_l (by omega), lN_add, lN_add]
  refine zy_branch (rt := rt) (lc := la) (Mc := Ma) (Sc := Sa) ha hs hcs hco hrt hla hMa hSa (fun h => absurd h (by decide)) (fun _ => ⟨h16, ?_⟩) (fun _ h => absurd rfl h)
  refine zy_branch (rt := rt) (lc := lb) (Mc := Mb) (Sc := Sb) hb hs hcs hco hrt hlb hMb hSb (fun h => absurd h (by decide)) (fun _ => nm_e ⟨h16, ?_⟩) (fun _ h => absurd rfl h)
  refine zy_branch (rt := rt) (lc := la) (Mc := Ma) (Sc := Sa) ha hs hcs hco hrt hla hMa hSa (fun h => absurd h (by decide)) (fun h => absurd h (by decide)) (fun _ _ => ⟨h16, ?_⟩)
  refine zy_branch (rt := rt) (lc := lb) (Mc := Mb) (Sc := Sb) hb hs hcs hco hrt hlb hMb hSb (fun h => absurd h (by decide)) (fun h => absurd h (by decide)) (fun _ _ => nm_e ?_)
  refine zy_190 hx hs (by omega) ?_
  rw [zy_w32]
  exact k
/-- the base: a state that the node may have, or not -/
theorem zy_34 {post : SY → Prop} {J3 : Int32 → (Nat → Int32) → (Nat → Int32) → (Nat → Int32) → (Nat → Int32) → (Nat → Int32) → (Nat → Int32) → (Nat → Int32) → (Nat → Int32) → (Nat → Int64) → (Nat → Int32) → Prop} {x1 x2 x3 x4 x5 : Int32} {f_count f_top : Int32} {a_own a_above a_one a_two a_costs a_rates a_low a_many : Nat → Int32} {a_sums : Nat → Int64} {a_others : Nat → Int32}
    (b : Bool) (k : wY_settle_58 post J3 x1 x2 x3 x4 x5 (lN (if b = true then 0 else 1000)) (if b = true then 1 else 0) (if b = true then 1 else 0) f_count f_top a_own a_above a_one a_two a_costs a_rates a_low a_many a_sums a_others) :
    ((if b = true then (1 : Int32) else 0) = 0 → wY_settle_34 post J3 x1 x2 x3 x4 x5 (if b = true then 1 else 0) 1000 f_count f_top a_own a_above a_one a_two a_costs a_rates a_low a_many a_sums a_others) ∧ (¬ (if b = true then (1 : Int32) else 0) = 0 → wY_settle_34 post J3 x1 x2 x3 x4 x5 (if b = true then 1 else 0) 0 f_count f_top a_own a_above a_one a_two a_costs a_rates a_low a_many a_sums a_others) := by
  cases b with
  | true => exact br_f (by decide) (br_f (by decide) (br_f (by decide) k))
  | false => exact br_t rfl (br_t rfl (br_t rfl k))
end
end
section
/-! settle over the states of a node; the rounds -/
section
variable {c top : Nat} {pr g1 g2 ow cs : Nat → Nat} {rt : Nat → Int32} {site : Nat}
/-- the picture doesn't speak of many, sums, others; low is bounded -/
theorem zy_Sf {f_count f_top : Int32} {a_own a_above a_one a_two a_costs a_rates a_low a_many : Nat → Int32} {a_sums : Nat → Int64} {a_others : Nat → Int32} (hS : zy_S c top pr g1 g2 ow cs rt (f_count, f_top, a_own, a_above, a_one, a_two, a_costs, a_rates, a_low, a_many, a_sums, a_others)) (Lo M' : Nat → Int32) (Sm : Nat → Int64) (Ot : Nat → Int32) (hLo : ∀ j, j < 64 → ∃ n, n ≤ 1000 ∧ Lo j = nI n) : zy_S c top pr g1 g2 ow cs rt (f_count, f_top, a_own, a_above, a_one, a_two, a_costs, a_rates, Lo, M', Sm, Ot) := by
  obtain ⟨e1, e2, e3, e4, e5, e6, e7, e8, e9⟩ := hS
  exact ⟨e1, e2, e3, e4, e5, e6, e7, e8, hLo⟩
theorem zy_may14 {post : Int32 → Prop} {f_count f_top : Int32} {a_own a_above a_one a_two a_costs a_rates a_low a_many : Nat → Int32} {a_sums : Nat → Int64} {a_others : Nat → Int32} (hc7 : c ≤ 7) (hS : zy_S c top pr g1 g2 ow cs rt (f_count, f_top, a_own, a_above, a_one, a_two, a_costs, a_rates, a_low, a_many, a_sums, a_others)) (hsite : site < 4) {x s : Nat} (hx : zt_nd c x) (hs : s < 4) (p1 : zd_ok (zx_mb ow site) x s = true → post 1) (p0 : ¬ zd_ok (zx_mb ow site) x s = true → post 0) : wY_may_14 post (nI x) (nI s) (nI site) f_count f_top a_own a_above a_one a_two a_costs a_rates a_low a_many a_sums a_others := by
  have l14 := zx_l14 hc7 hx
  unfold wY_may_14
  by_cases h8 : 8 ≤ x
  · exact br_t (nI_lt (a := 6) (b := x) (by omega) (by omega)) (p1 (zd_ok_i h8 s))
  · have hxc : x < c := by omega
    have e3 := hS.2.2.1 x hxc site hsite
    rw [zd_ok_l (by omega)] at p1 p0
    rw [zy_ix, nI_clamp (by omega), e3]
    refine br_f (nI_nlt (a := 6) (b := x) (by omega) (by omega)) ⟨vp_in_nI (by omega) (by omega), ?_⟩
    have hlt : ow x / 4 ^ (3 - site) % 4 < 4 := Nat.mod_lt _ (by decide)
    refine pk_eq (ow x / 4 ^ (3 - site) % 4) s (fun h => p1 (decide_eq_true h)) (fun h => p0 (fun h2 => h (of_decide_eq_true h2)))
/-- how a call of may answers: forced or not -/
def zy_may (c top : Nat) (pr g1 g2 ow cs : Nat → Nat) (rt : Nat → Int32) (site : Nat) (fo to : Int32) (ok : Nat → Nat → Bool) : Prop :=
  ∀ (x s : Nat) (v : SY) (post : Int32 → Prop), zt_nd c x → s < 4 → zy_S c top pr g1 g2 ow cs rt v → post (if ok x s = true then 1 else 0) → wpY_may post v (nI x) (nI s) (nI site) fo to
theorem zy_may_u (hc7 : c ≤ 7) (hsite : site < 4) : zy_may c top pr g1 g2 ow cs rt site (-1) 0 (zd_ok (zx_mb ow site)) := by
  intro x s v post hx hs hS k
  obtain ⟨f_count, f_top, a_own, a_above, a_one, a_two, a_costs, a_rates, a_low, a_many, a_sums, a_others⟩ := v
  have l14 := zx_l14 hc7 hx
  refine br_f (zx_nm1 (by omega)) ?_
  exact zy_may14 hc7 hS hsite hx hs (fun h => by rw [if_pos h] at k; exact k) (fun h => by rw [if_neg h] at k; exact k)
theorem zy_may_f (hc7 : c ≤ 7) (hsite : site < 4) {x0 s0 : Nat} (h0 : zt_nd c x0) (hs0 : s0 < 4) : zy_may c top pr g1 g2 ow cs rt site (nI x0) (nI s0) (zd_okf (zx_mb ow site) x0 s0) := by
  intro x s v post hx hs hS k
  obtain ⟨f_count, f_top, a_own, a_above, a_one, a_two, a_costs, a_rates, a_low, a_many, a_sums, a_others⟩ := v
  have l14 := zx_l14 hc7 hx
  have l0 := zx_l14 hc7 h0
  unfold wpY_may
  refine br_c (fun h => ?_) (fun h => ?_)
  · have e := (zx_e14 l14 l0).mp h
    subst e
    refine br_c (fun h2 => ?_) (fun h2 => ?_)
    · have e2 := (nI_eq (by omega) (by omega)).mp h2
      subst e2
      rw [zd_okf_s] at k
      exact zy_may14 hc7 hS hsite hx hs (fun h => by rw [if_pos h] at k; exact k) (fun h => by rw [if_neg h] at k; exact k)
    · have e2 : s ≠ s0 := fun e => h2 (by rw [e])
      rw [zd_okf_f e2, if_neg (by decide)] at k
      exact k
  · have e : x ≠ x0 := fun e => h (by rw [e])
    rw [zd_okf_n e] at k
    exact zy_may14 hc7 hS hsite hx hs (fun h => by rw [if_pos h] at k; exact k) (fun h => by rw [if_neg h] at k; exact k)
end
section
variable {c top : Nat} {pr g1 g2 ow cs : Nat → Nat} {rt : Nat → Int32} {site : Nat} {fo to : Int32} {ok : Nat → Nat → Bool} {lo : Nat → Nat → Nat} {M : Nat → Nat → Int32} {S : Nat → Nat → Int64} {W : Prop}
/-- node z holds its right values -/
def zy_gd (lo : Nat → Nat → Nat) (M : Nat → Nat → Int32) (S : Nat → Nat → Int64) (W : Prop) (lw : Nat → Nat) (M' : Nat → Int32) (Sm : Nat → Int64) (z : Nat) : Prop :=
  ∀ t, t < 4 → lw (4 * z + t) = lo z t ∧ (W → M' (4 * z + t) = M z t ∧ Sm (4 * z + t) = S z t)
def zy_lw (lw : Nat → Nat) (Lo : Nat → Int32) : Prop := ∀ j, j < 64 → Lo j = nI (lw j) ∧ lw j ≤ 1000
theorem zy_lw_ex {lw : Nat → Nat} {Lo : Nat → Int32} (h : zy_lw lw Lo) : ∀ j, j < 64 → ∃ n, n ≤ 1000 ∧ Lo j = nI n := fun j hj => ⟨lw j, (h j hj).2, (h j hj).1⟩
theorem zy_lw_up {lw : Nat → Nat} {Lo : Nat → Int32} (h : zy_lw lw Lo) {k v : Nat} (hv : v ≤ 1000) : zy_lw (zo_up lw k v) (upd Lo k (nI v)) := by
  intro j hj
  by_cases e : j = k
  · rw [e, pk_us, zo_up_s]; exact ⟨rfl, hv⟩
  · rw [pk_un e, zo_up_n e]; exact h j hj
theorem zy_st3s {post : SY → Prop} {f_count f_top : Int32} {a_own a_above a_one a_two a_costs a_rates a_low a_many : Nat → Int32} {a_sums : Nat → Int64} {a_others : Nat → Int32} (hc7 : c ≤ 7) (hC : zt_CH c top pr g1 g2) (hS : zy_S c top pr g1 g2 ow cs rt (f_count, f_top, a_own, a_above, a_one, a_two, a_costs, a_rates, a_low, a_many, a_sums, a_others)) (hcs : ∀ j, j < 16 → cs j ≤ 9) (hmay : zy_may c top pr g1 g2 ow cs rt site fo to ok)
    {lw : Nat → Nat} (hlw : zy_lw lw a_low) {x s q : Nat} (hx : zt_nd c x) (hs : s < 4)
    (k : ∀ (v : Nat) (w : Int32) (z : Int64), v ≤ 1000 →
      (x < 8 → v = (if ok x s = true then 0 else 1000) ∧ w = (if ok x s = true then 1 else 0) ∧ z = (if ok x s = true then 1 else 0)) →
      (zt_in c x → v = min 1000 ((if ok x s = true then 0 else 1000) + zd_mn 1000 (fun t => cs (4 * s + t) + lw (4 * g1 x + t)) 4 + zd_mn 1000 (fun t => cs (4 * s + t) + lw (4 * g2 x + t)) 4) ∧
        w = (if ok x s = true then 1 else 0) * zd_wy (fun t => cs (4 * s + t) + lw (4 * g1 x + t)) (fun t => a_many (4 * g1 x + t)) 4 * zd_wy (fun t => cs (4 * s + t) + lw (4 * g2 x + t)) (fun t => a_many (4 * g2 x + t)) 4 ∧
        z = (if ok x s = true then 1 else 0) * zd_so rt (fun t => a_sums (4 * g1 x + t)) s * zd_so rt (fun t => a_sums (4 * g2 x + t)) s) →
      wY_settle_3 post (nI x) (nI site) fo to f_count f_top q (nI (s + 1)) a_own a_above a_one a_two a_costs a_rates (upd a_low (4 * x + s) (nI v)) (upd a_many (4 * x + s) w) (vp_updL a_sums (4 * x + s) z) a_others) :
    wY_settle_3 post (nI x) (nI site) fo to f_count f_top (q + 1) (nI s) a_own a_above a_one a_two a_costs a_rates a_low a_many a_sums a_others := by
  have l14 := zx_l14 hc7 hx
  refine br_f (nI_ge (b := 4) (by omega) (by omega)) ?_
  refine hmay x s _ _ hx hs hS ?_
  refine zy_34 (ok x s) ?_
  by_cases h8 : x < 8
  · unfold wY_settle_58
    refine br_t (nI_le (a := x) (b := 7) (by omega) (by omega)) ?_
    refine zy_190 l14 hs (by split <;> omega) (k _ _ _ (Nat.min_le_left _ _) (fun _ => ⟨?_, ?_, rfl⟩) (fun h => by omega))
    · split <;> rfl
    · split <;> decide
  · have hin : zt_in c x := by omega
    have kk := hC.1 _ hin
    have la := zx_l14 hc7 kk.1
    have lb := zx_l14 hc7 kk.2.1
    obtain ⟨e1, e2, e3, e4, e5, e6, e7, e8, e9⟩ := hS
    refine zy_58 (rt := rt) (la := fun t => lw (4 * g1 x + t)) (lb := fun t => lw (4 * g2 x + t)) (Ma := fun t => a_many (4 * g1 x + t)) (Mb := fun t => a_many (4 * g2 x + t)) (Sa := fun t => a_sums (4 * g1 x + t)) (Sb := fun t => a_sums (4 * g2 x + t)) (by omega) l14 la lb hs (by split <;> omega) (e5 x hin) (e6 x hin) hcs e7 e8 (fun t ht => hlw _ (by omega)) (fun _ _ => rfl) (fun _ _ => rfl) (fun t ht => hlw _ (by omega)) (fun _ _ => rfl) (fun _ _ => rfl) ?_
    refine k _ _ _ (Nat.min_le_left _ _) (fun h => by omega) (fun _ => ⟨rfl, ?_, rfl⟩)
    cases ok x s <;> rfl
theorem zy_st3 {post : SY → Prop} {f_count f_top : Int32} {a_own a_above a_one a_two a_costs a_rates a_low a_many : Nat → Int32} {a_sums : Nat → Int64} {a_others : Nat → Int32} (hc7 : c ≤ 7) (hC : zt_CH c top pr g1 g2) (hS : zy_S c top pr g1 g2 ow cs rt (f_count, f_top, a_own, a_above, a_one, a_two, a_costs, a_rates, a_low, a_many, a_sums, a_others)) (hcs : ∀ j, j < 16 → cs j ≤ 9) (hmay : zy_may c top pr g1 g2 ow cs rt site fo to ok)
    (hlo : zd_Y c g1 g2 cs ok lo) (hM : W → zd_YM c g1 g2 cs ok lo M) (hSS : W → zd_YS c g1 g2 rt ok S)
    {lw0 : Nat → Nat} {M0 : Nat → Int32} {S0 : Nat → Int64} {x : Nat} (hx : zt_nd c x) (hgx : zt_in c x → g1 x ≠ x ∧ g2 x ≠ x)
    (k : ∀ lw Lo M' Sm, zy_lw lw Lo → (∀ z, z ≠ x → ∀ t, t < 4 → lw (4 * z + t) = lw0 (4 * z + t) ∧ M' (4 * z + t) = M0 (4 * z + t) ∧ Sm (4 * z + t) = S0 (4 * z + t)) → ((zt_in c x → zy_gd lo M S W lw0 M0 S0 (g1 x) ∧ zy_gd lo M S W lw0 M0 S0 (g2 x)) → zy_gd lo M S W lw M' Sm x) → post (f_count, f_top, a_own, a_above, a_one, a_two, a_costs, a_rates, Lo, M', Sm, a_others)) :
    ∀ (d s n : Nat) (lw : Nat → Nat) (Lo M' : Nat → Int32) (Sm : Nat → Int64), s + d = 4 → d < n → zy_lw lw Lo → (∀ z, z ≠ x → ∀ t, t < 4 → lw (4 * z + t) = lw0 (4 * z + t) ∧ M' (4 * z + t) = M0 (4 * z + t) ∧ Sm (4 * z + t) = S0 (4 * z + t)) →
      ((zt_in c x → zy_gd lo M S W lw0 M0 S0 (g1 x) ∧ zy_gd lo M S W lw0 M0 S0 (g2 x)) → ∀ t, t < s → lw (4 * x + t) = lo x t ∧ (W → M' (4 * x + t) = M x t ∧ Sm (4 * x + t) = S x t)) →
      wY_settle_3 post (nI x) (nI site) fo to f_count f_top n (nI s) a_own a_above a_one a_two a_costs a_rates Lo M' Sm a_others := by
  intro d
  induction d with
  | zero =>
    intro s n lw Lo M' Sm hs hn h1 h2 h3
    obtain ⟨q, rfl⟩ : ∃ q, n = q + 1 := ⟨n - 1, by omega⟩
    have e : s = 4 := by omega
    subst e
    exact br_t (nI_le (a := 4) (b := 4) (by omega) (by omega)) (k lw Lo M' Sm h1 h2 h3)
  | succ d ih =>
    intro s n lw Lo M' Sm hs hn h1 h2 h3
    obtain ⟨q, rfl⟩ : ∃ q, n = q + 1 := ⟨n - 1, by omega⟩
    have hs4 : s < 4 := by omega
    refine zy_st3s (a_low := Lo) (a_many := M') (a_sums := Sm) hc7 hC (zy_Sf hS Lo M' Sm a_others (zy_lw_ex h1)) hcs hmay h1 hx hs4 ?_
    intro v w z hv hleaf hinn
    refine ih (s + 1) q (zo_up lw (4 * x + s) v) _ _ _ (by omega) (by omega) (zy_lw_up h1 hv) ?_ ?_
    · intro y hy t ht
      have hne := zx_n4 hs4 ht hy
      rw [zo_up_n hne, pk_un hne, pk_uLn hne]
      exact h2 y hy t ht
    · intro hg t ht
      by_cases e : t = s
      · subst e
        rw [zo_up_s, pk_us, pk_uLs]
        by_cases h8 : x < 8
        · obtain ⟨w1, w2, w3⟩ := hleaf h8
          refine ⟨?_, fun hW => ⟨?_, ?_⟩⟩
          · rw [w1, hlo.1 x hx h8 t hs4]
          · rw [w2, (hM hW).1 x hx h8 t hs4]
          · rw [w3, (hSS hW).1 x hx h8 t hs4]
        · have hin : zt_in c x := by omega
          obtain ⟨w1, w2, w3⟩ := hinn hin
          obtain ⟨ga, gb⟩ := hg hin
          obtain ⟨na, nb⟩ := hgx hin
          have va : ∀ i, i < 4 → lw (4 * g1 x + i) = lo (g1 x) i := fun i hi => (h2 _ na i hi).1.trans (ga i hi).1
          have vb : ∀ i, i < 4 → lw (4 * g2 x + i) = lo (g2 x) i := fun i hi => (h2 _ nb i hi).1.trans (gb i hi).1
          have qa : zd_mn 1000 (fun i => cs (4 * t + i) + lw (4 * g1 x + i)) 4 = zd_mn 1000 (fun i => cs (4 * t + i) + lo (g1 x) i) 4 := zd_mn_congr 4 (fun i hi => by rw [va i hi])
          have qb : zd_mn 1000 (fun i => cs (4 * t + i) + lw (4 * g2 x + i)) 4 = zd_mn 1000 (fun i => cs (4 * t + i) + lo (g2 x) i) 4 := zd_mn_congr 4 (fun i hi => by rw [vb i hi])
          refine ⟨?_, fun hW => ⟨?_, ?_⟩⟩
          · rw [w1, hlo.2 x hin t hs4, qa, qb]
          · have ua : zd_wy (fun i => cs (4 * t + i) + lw (4 * g1 x + i)) (fun i => M' (4 * g1 x + i)) 4 = zd_wy (fun i => cs (4 * t + i) + lo (g1 x) i) (M (g1 x)) 4 := by
              rw [zd_wy_eq, zd_wy_eq, qa]
              exact zd_sm_congr 4 (fun i hi => by rw [va i hi, (h2 _ na i hi).2.1, ((ga i hi).2 hW).1])
            have ub : zd_wy (fun i => cs (4 * t + i) + lw (4 * g2 x + i)) (fun i => M' (4 * g2 x + i)) 4 = zd_wy (fun i => cs (4 * t + i) + lo (g2 x) i) (M (g2 x)) 4 := by
              rw [zd_wy_eq, zd_wy_eq, qb]
              exact zd_sm_congr 4 (fun i hi => by rw [vb i hi, (h2 _ nb i hi).2.1, ((gb i hi).2 hW).1])
            rw [w2, (hM hW).2 x hin t hs4, ua, ub]
          · have ua : zd_so rt (fun i => Sm (4 * g1 x + i)) t = zd_so rt (S (g1 x)) t := zd_sL_congr 4 (fun i hi => by dsimp only; rw [(h2 _ na i hi).2.2, ((ga i hi).2 hW).2])
            have ub : zd_so rt (fun i => Sm (4 * g2 x + i)) t = zd_so rt (S (g2 x)) t := zd_sL_congr 4 (fun i hi => by dsimp only; rw [(h2 _ nb i hi).2.2, ((gb i hi).2 hW).2])
            rw [w3, (hSS hW).2 x hin t hs4, ua, ub]
      · have hne : 4 * x + t ≠ 4 * x + s := by omega
        rw [zo_up_n hne, pk_un hne, pk_uLn hne]
        exact h3 hg t (by omega)
theorem zy_settle {post : SY → Prop} {f_count f_top : Int32} {a_own a_above a_one a_two a_costs a_rates a_low a_many : Nat → Int32} {a_sums : Nat → Int64} {a_others : Nat → Int32} (hc7 : c ≤ 7) (hC : zt_CH c top pr g1 g2) (hS : zy_S c top pr g1 g2 ow cs rt (f_count, f_top, a_own, a_above, a_one, a_two, a_costs, a_rates, a_low, a_many, a_sums, a_others)) (hcs : ∀ j, j < 16 → cs j ≤ 9) (hmay : zy_may c top pr g1 g2 ow cs rt site fo to ok)
    (hlo : zd_Y c g1 g2 cs ok lo) (hM : W → zd_YM c g1 g2 cs ok lo M) (hSS : W → zd_YS c g1 g2 rt ok S)
    {lw0 : Nat → Nat} (hl0 : zy_lw lw0 a_low) {x : Nat} (hx : zt_nd c x) (hgx : zt_in c x → g1 x ≠ x ∧ g2 x ≠ x)
    (k : ∀ lw Lo M' Sm, zy_lw lw Lo → (∀ z, z ≠ x → ∀ t, t < 4 → lw (4 * z + t) = lw0 (4 * z + t) ∧ M' (4 * z + t) = a_many (4 * z + t) ∧ Sm (4 * z + t) = a_sums (4 * z + t)) → ((zt_in c x → zy_gd lo M S W lw0 a_many a_sums (g1 x) ∧ zy_gd lo M S W lw0 a_many a_sums (g2 x)) → zy_gd lo M S W lw M' Sm x) → post (f_count, f_top, a_own, a_above, a_one, a_two, a_costs, a_rates, Lo, M', Sm, a_others)) : wpY_settle post (f_count, f_top, a_own, a_above, a_one, a_two, a_costs, a_rates, a_low, a_many, a_sums, a_others) (nI x) (nI site) fo to :=
  ⟨5, zy_st3 (a_low := a_low) (a_many := a_many) (a_sums := a_sums) hc7 hC hS hcs hmay hlo hM hSS hx hgx k 4 0 5 lw0 a_low a_many a_sums (by omega) (by omega) hl0 (fun _ _ _ _ => ⟨rfl, rfl, rfl⟩) (fun _ t ht => by omega)⟩
/-- what holds behind r rounds and y nodes -/
def zy_inv (c top : Nat) (pr : Nat → Nat) (lo : Nat → Nat → Nat) (M : Nat → Nat → Int32) (S : Nat → Nat → Int64) (W : Prop) (r y : Nat) (lw : Nat → Nat) (M' : Nat → Int32) (Sm : Nat → Int64) : Prop :=
  ∀ z d, zt_nd c z → zt_R top pr d z → (7 ≤ d + r ∨ (z < y ∧ 6 ≤ d + r)) → zy_gd lo M S W lw M' Sm z
theorem zy_wk13 {post : SY → Prop} {J3 : Int32 → Int32 → Int32 → (Nat → Int32) → (Nat → Int32) → (Nat → Int32) → (Nat → Int32) → (Nat → Int32) → (Nat → Int32) → (Nat → Int32) → (Nat → Int32) → (Nat → Int64) → (Nat → Int32) → Prop} {f_count f_top : Int32} {a_own a_above a_one a_two a_costs a_rates a_low a_many : Nat → Int32} {a_sums : Nat → Int64} {a_others : Nat → Int32} (hT : zt_TR c top pr) (hC : zt_CH c top pr g1 g2) (hS : zy_S c top pr g1 g2 ow cs rt (f_count, f_top, a_own, a_above, a_one, a_two, a_costs, a_rates, a_low, a_many, a_sums, a_others)) (hcs : ∀ j, j < 16 → cs j ≤ 9) (hmay : zy_may c top pr g1 g2 ow cs rt site fo to ok)
    (hlo : zd_Y c g1 g2 cs ok lo) (hM : W → zd_YM c g1 g2 cs ok lo M) (hSS : W → zd_YS c g1 g2 rt ok S) {r : Nat}
    (k : ∀ lw Lo M' Sm, zy_lw lw Lo → zy_inv c top pr lo M S W r 14 lw M' Sm → J3 (nI (r + 1)) f_count f_top a_own a_above a_one a_two a_costs a_rates Lo M' Sm a_others) :
    ∀ (m y n : Nat) (lw : Nat → Nat) (Lo M' : Nat → Int32) (Sm : Nat → Int64), y + m = 14 → m < n → zy_lw lw Lo → zy_inv c top pr lo M S W r y lw M' Sm → wY_work_13 post J3 (nI site) fo to (nI r) n (nI y) f_count f_top a_own a_above a_one a_two a_costs a_rates Lo M' Sm a_others := by
  have hc7 := hT.2.1
  intro m
  induction m with
  | zero =>
    intro y n lw Lo M' Sm hy hn h1 h2
    obtain ⟨q, rfl⟩ : ∃ q, n = q + 1 := ⟨n - 1, by omega⟩
    have e : y = 14 := by omega
    subst e
    exact br_t (nI_le (a := 14) (b := 14) (by omega) (by omega)) (nm_r (nI_1 r) (k lw Lo M' Sm h1 h2))
  | succ m ih =>
    intro y n lw Lo M' Sm hy hn h1 h2
    obtain ⟨q, rfl⟩ : ∃ q, n = q + 1 := ⟨n - 1, by omega⟩
    have hS2 := zy_Sf hS Lo M' Sm a_others (zy_lw_ex h1)
    refine br_f (nI_ge (b := 14) (by omega) (by omega)) ?_
    rw [nI_1 y]
    by_cases hnd : zt_nd c y
    · refine zy_bad0 hc7 hS2 hnd (br_t rfl ?_)
      have hgx : zt_in c y → g1 y ≠ y ∧ g2 y ≠ y := by
        intro hin
        have kk := hC.1 y hin
        have p1 := zt_un_pr hT kk.1 kk.2.2.2.1
        have p2 := zt_un_pr hT kk.2.1 kk.2.2.2.2.1
        rw [kk.2.2.2.2.2.1] at p1
        rw [kk.2.2.2.2.2.2] at p2
        have hs := zt_un_self hT hnd
        exact ⟨fun e => p1 (by rw [e]; exact hs), fun e => p2 (by rw [e]; exact hs)⟩
      refine zy_settle (a_low := Lo) (a_many := M') (a_sums := Sm) hc7 hC hS2 hcs hmay hlo hM hSS h1 hnd hgx ?_
      intro lw2 Lo2 M2 Sm2 w1 w2 w3
      dsimp only
      refine nm_e (ih (y + 1) q lw2 Lo2 M2 Sm2 (by omega) (by omega) w1 ?_)
      intro z d hz hd hc
      by_cases e : z = y
      · subst e
        refine w3 (fun hin => ?_)
        have kk := hC.1 z hin
        have hr := zt_chR hC hin hd
        exact ⟨h2 _ (d + 1) kk.1 hr.1 (by omega), h2 _ (d + 1) kk.2.1 hr.2 (by omega)⟩
      · intro t ht
        have h3 := h2 z d hz hd (by omega) t ht
        obtain ⟨f1, f2, f3⟩ := w2 z e t ht
        rw [f1, f2, f3]
        exact h3
    · refine zy_bad1 hc7 hS2 ?_ (br_f (by decide) (nm_e (ih (y + 1) q lw Lo M' Sm (by omega) (by omega) h1 ?_)))
      · rintro ⟨j, hj, e⟩
        rw [nI_eq (by omega) (by omega)] at e
        exact hnd (by rw [e]; exact hj)
      · intro z d hz hd hc
        have hne : z ≠ y := fun e => hnd (by rw [← e]; exact hz)
        exact h2 z d hz hd (by omega)
theorem zy_wk3 {post : SY → Prop} {f_count f_top : Int32} {a_own a_above a_one a_two a_costs a_rates a_low a_many : Nat → Int32} {a_sums : Nat → Int64} {a_others : Nat → Int32} (hT : zt_TR c top pr) (hC : zt_CH c top pr g1 g2) (hS : zy_S c top pr g1 g2 ow cs rt (f_count, f_top, a_own, a_above, a_one, a_two, a_costs, a_rates, a_low, a_many, a_sums, a_others)) (hcs : ∀ j, j < 16 → cs j ≤ 9) (hmay : zy_may c top pr g1 g2 ow cs rt site fo to ok)
    (hlo : zd_Y c g1 g2 cs ok lo) (hM : W → zd_YM c g1 g2 cs ok lo M) (hSS : W → zd_YS c g1 g2 rt ok S)
    (k : ∀ lw Lo M' Sm, zy_lw lw Lo → (∀ z, zt_nd c z → zy_gd lo M S W lw M' Sm z) → post (f_count, f_top, a_own, a_above, a_one, a_two, a_costs, a_rates, Lo, M', Sm, a_others)) :
    ∀ (m r n : Nat) (lw : Nat → Nat) (Lo M' : Nat → Int32) (Sm : Nat → Int64), r + m = 7 → m < n → zy_lw lw Lo → zy_inv c top pr lo M S W r 0 lw M' Sm → wY_work_3 post (nI site) fo to n (nI r) f_count f_top a_own a_above a_one a_two a_costs a_rates Lo M' Sm a_others := by
  intro m
  induction m with
  | zero =>
    intro r n lw Lo M' Sm hr hn h1 h2
    obtain ⟨q, rfl⟩ : ∃ q, n = q + 1 := ⟨n - 1, by omega⟩
    have e : r = 7 := by omega
    subst e
    refine br_t (nI_le (a := 7) (b := 7) (by omega) (by omega)) (k lw Lo M' Sm h1 ?_)
    intro z hz
    obtain ⟨d, hd⟩ := hT.2.2.2.2.2 z hz
    exact h2 z d hz hd (by omega)
  | succ m ih =>
    intro r n lw Lo M' Sm hr hn h1 h2
    obtain ⟨q, rfl⟩ : ∃ q, n = q + 1 := ⟨n - 1, by omega⟩
    refine br_f (nI_ge (b := 7) (by omega) (by omega)) ⟨15, ?_⟩
    refine zy_wk13 (a_low := Lo) (a_many := M') (a_sums := Sm) hT hC (zy_Sf hS Lo M' Sm a_others (zy_lw_ex h1)) hcs hmay hlo hM hSS ?_ 14 0 15 lw Lo M' Sm (by omega) (by omega) h1 h2
    intro lw2 Lo2 M2 Sm2 w1 w2
    refine ih (r + 1) q lw2 Lo2 M2 Sm2 (by omega) (by omega) w1 ?_
    intro z d hz hd hc
    have hc7 := hT.2.1
    exact w2 z d hz hd (Or.inr ⟨zx_l14 hc7 hz, by omega⟩)
theorem zy_work {post : SY → Prop} {f_count f_top : Int32} {a_own a_above a_one a_two a_costs a_rates a_low a_many : Nat → Int32} {a_sums : Nat → Int64} {a_others : Nat → Int32} (hT : zt_TR c top pr) (hC : zt_CH c top pr g1 g2) (hS : zy_S c top pr g1 g2 ow cs rt (f_count, f_top, a_own, a_above, a_one, a_two, a_costs, a_rates, a_low, a_many, a_sums, a_others)) (hcs : ∀ j, j < 16 → cs j ≤ 9) (hmay : zy_may c top pr g1 g2 ow cs rt site fo to ok)
    (hlo : zd_Y c g1 g2 cs ok lo) (hM : W → zd_YM c g1 g2 cs ok lo M) (hSS : W → zd_YS c g1 g2 rt ok S)
    (k : ∀ lw Lo M' Sm, zy_lw lw Lo → (∀ z, zt_nd c z → zy_gd lo M S W lw M' Sm z) → post (f_count, f_top, a_own, a_above, a_one, a_two, a_costs, a_rates, Lo, M', Sm, a_others)) : wpY_work post (f_count, f_top, a_own, a_above, a_one, a_two, a_costs, a_rates, a_low, a_many, a_sums, a_others) (nI site) fo to := by
  have h9 := hS.2.2.2.2.2.2.2.2
  have hex : ∃ lw, zy_lw lw a_low := by
    refine ⟨fun j => (a_low j).toNatClampNeg, fun j hj => ?_⟩
    obtain ⟨n, hn, e⟩ := h9 j hj
    rw [e]
    dsimp only
    rw [e, nI_clamp (by omega)]
    exact ⟨rfl, hn⟩
  obtain ⟨lw, hlw⟩ := hex
  refine ⟨8, zy_wk3 (a_low := a_low) (a_many := a_many) (a_sums := a_sums) hT hC hS hcs hmay hlo hM hSS k 7 0 8 lw a_low a_many a_sums (by omega) (by omega) hlw ?_⟩
  intro z d hz hd hc
  have := zt_dep hT hz hd
  omega
theorem zy_bot6 {post : Int32 → Prop} {f_count f_top : Int32} {a_own a_above a_one a_two a_costs a_rates a_low a_many : Nat → Int32} {a_sums : Nat → Int64} {a_others : Nat → Int32} {lc : Nat → Nat} (ht14 : top < 14) (e2 : f_top = nI top) (hl : ∀ t, t < 4 → a_low (4 * top + t) = nI (lc t) ∧ lc t ≤ 1000) (k : post (nI (zd_mn 1000 lc 4))) :
    ∀ (d t n : Nat), t + d = 4 → d < n → wY_bottom_6 post f_count f_top a_own a_above a_one a_two a_costs a_rates a_low a_many a_sums a_others n (nI (zd_mn 1000 lc t)) (nI t) := by
  subst e2
  intro d
  induction d with
  | zero =>
    intro t n ht hn
    obtain ⟨q, rfl⟩ : ∃ q, n = q + 1 := ⟨n - 1, by omega⟩
    have e : t = 4 := by omega
    subst e
    exact br_t (nI_le (a := 4) (b := 4) (by omega) (by omega)) k
  | succ d ih =>
    intro t n ht hn
    obtain ⟨q, rfl⟩ : ∃ q, n = q + 1 := ⟨n - 1, by omega⟩
    have h1 := hl t (by omega)
    have h3 := zd_mn_cap (cap := 1000) (q := lc) t
    have hi := ih (t + 1) q (by omega) (by omega)
    have e : zd_mn 1000 lc (t + 1) = min (zd_mn 1000 lc t) (lc t) := rfl
    rw [e] at hi
    generalize zd_mn 1000 lc t = m at *
    refine br_f (nI_ge (b := 4) (by omega) (by omega)) ?_
    rw [zy_ix, nI_clamp (by omega), h1.1, nI_1 t]
    refine ⟨vp_in_nI (by omega) (by omega), ?_⟩
    refine pk_le m (lc t) (fun h => nm_e ?_) (fun h => ⟨vp_in_nI (by omega) (by omega), nm_e (nm_e ?_)⟩)
    · rw [Nat.min_eq_left h] at hi; exact hi
    · rw [Nat.min_eq_right (by omega)] at hi; exact hi
theorem zy_bottom {post : Int32 → Prop} {f_count f_top : Int32} {a_own a_above a_one a_two a_costs a_rates a_low a_many : Nat → Int32} {a_sums : Nat → Int64} {a_others : Nat → Int32} {lc : Nat → Nat} (ht14 : top < 14) (e2 : f_top = nI top) (hl : ∀ t, t < 4 → a_low (4 * top + t) = nI (lc t) ∧ lc t ≤ 1000) (k : post (nI (zd_mn 1000 lc 4))) : wpY_bottom post (f_count, f_top, a_own, a_above, a_one, a_two, a_costs, a_rates, a_low, a_many, a_sums, a_others) :=
  ⟨5, zy_bot6 ht14 e2 hl k 4 0 5 (by omega) (by omega)⟩
end
end
section
/-! the relation; the simple calls -/
/-- one tree behind both -/
def i_Rel (_ : Nat) (u : SX) (v : SY) : Prop :=
  ∃ (c top : Nat) (pr f1 f2 g1 g2 ow cs : Nat → Nat) (rt : Nat → Int32), zt_TR c top pr ∧ zt_CH c top pr f1 f2 ∧ zt_CH c top pr g1 g2 ∧ (∀ x, x < c → ow x < 256) ∧ (∀ j, j < 16 → cs j ≤ 9) ∧ zx_S c top pr f1 f2 ow cs rt u ∧ zy_S c top pr g1 g2 ow cs rt v
theorem i_up {k : Nat} {u : SX} {v : SY} (h : i_Rel k u v) : i_Rel (k + 4) u v := h
theorem i_vc_leaves {k : Nat} {u : SX} {v : SY} (I : i_Rel k u v) (hk : k + 4 ≤ 2049) : wpX_leaves (fun r => wpY_leaves (fun r' => r' = r ∧ i_Rel (k + 4) u v) v) u := by
  have I2 := I
  obtain ⟨c, top, pr, f1, f2, g1, g2, ow, cs, rt, hT, hC, hD, how, hcs, hX, hY⟩ := I
  obtain ⟨f_leafCount, f_innerCount, f_top, f_listed, a_parents, a_firsts, a_seconds, a_own, a_costs, a_rates, a_order, a_sets, a_below, a_many, a_above, a_sums, a_groups⟩ := u
  obtain ⟨f_count', f_top', a_own', a_above', a_one', a_two', a_costs', a_rates', a_low', a_many', a_sums', a_others'⟩ := v
  exact ⟨hY.1.trans hX.1.symm, I2⟩
theorem i_vc_root {k : Nat} {u : SX} {v : SY} (I : i_Rel k u v) (hk : k + 4 ≤ 2049) : wpX_root (fun r => wpY_root (fun r' => r' = r ∧ i_Rel (k + 4) u v) v) u := by
  have I2 := I
  obtain ⟨c, top, pr, f1, f2, g1, g2, ow, cs, rt, hT, hC, hD, how, hcs, hX, hY⟩ := I
  obtain ⟨f_leafCount, f_innerCount, f_top, f_listed, a_parents, a_firsts, a_seconds, a_own, a_costs, a_rates, a_order, a_sets, a_below, a_many, a_above, a_sums, a_groups⟩ := u
  obtain ⟨f_count', f_top', a_own', a_above', a_one', a_two', a_costs', a_rates', a_low', a_many', a_sums', a_others'⟩ := v
  exact ⟨hY.2.1.trans hX.2.2.1.symm, I2⟩
theorem i_vc_parent {k : Nat} {u : SX} {v : SY} (I : i_Rel k u v) (hk : k + 4 ≤ 2049) (v1 : Int32) : wpX_parent (fun r => wpY_parent (fun r' => r' = r ∧ i_Rel (k + 4) u v) v v1) u v1 := by
  have I2 : i_Rel (k + 4) u v := I
  obtain ⟨c, top, pr, f1, f2, g1, g2, ow, cs, rt, hT, hC, hD, how, hcs, hX, hY⟩ := I
  have hc1 := hT.1
  have hc7 := hT.2.1
  have ltop := zx_l14 hc7 hT.2.2.1
  generalize hK : i_Rel (k + 4) u v = K at *
  clear hK
  obtain ⟨f_leafCount, f_innerCount, f_top, f_listed, a_parents, a_firsts, a_seconds, a_own, a_costs, a_rates, a_order, a_sets, a_below, a_many, a_above, a_sums, a_groups⟩ := u
  obtain ⟨f_count', f_top', a_own', a_above', a_one', a_two', a_costs', a_rates', a_low', a_many', a_sums', a_others'⟩ := v
  have e3 : f_top = nI top := hX.2.2.1
  have b2 : f_top' = nI top := hY.2.1
  unfold wpX_parent wpY_parent
  dsimp only
  refine zx_isNode hc1 hc7 hX (fun x hx e => ?_) (fun hno => ?_)
  · subst e
    have lx := zx_l14 hc7 hx
    subst e3
    subst b2
    refine br_f (by decide) (br_c (fun h => ?_) (fun h => ?_))
    · exact zy_bad0 hc7 hY hx (br_t rfl (br_t h ⟨rfl, I2⟩))
    · rw [zx_c14 lx, hX.2.2.2.1 x hx]
      refine ⟨zx_i14 lx, zy_bad0 hc7 hY hx (br_t rfl (br_f h ⟨zy_i16 lx, ?_⟩))⟩
      exact ⟨hY.2.2.2.1 x hx, I2⟩
  · exact br_t rfl (zy_bad1 hc7 hY hno (br_f (by decide) ⟨rfl, I2⟩))
theorem zz_sib {c top : Nat} {pr f1 f2 g1 g2 : Nat → Nat} (hC : zt_CH c top pr f1 f2) (hD : zt_CH c top pr g1 g2) {x : Nat} (hT : zt_TR c top pr) (hx : zt_nd c x) (hxt : x ≠ top) : zd_sib pr g1 g2 x = zd_sib pr f1 f2 x := by
  obtain ⟨s1, s2, s3, s4, s5⟩ := zo_sibs hT hD hx hxt
  obtain ⟨t1, t2, t3, t4, t5⟩ := zo_sibs hT hC hx hxt
  exact (t5 _ s1 s2 s3).resolve_left s4
theorem zz_meet {c top : Nat} {pr f1 f2 g1 g2 ow cs : Nat → Nat} {rt : Nat → Int32} {f_leafCount f_innerCount f_top f_listed : Int32} {a_parents a_firsts a_seconds a_own a_costs a_rates a_order a_sets a_below a_many a_above : Nat → Int32} {a_sums : Nat → Int64} {a_groups : Nat → Int32} (f_count' : Int32) (f_top' : Int32) (a_own' : Nat → Int32) (a_above' : Nat → Int32) (a_one' : Nat → Int32) (a_two' : Nat → Int32) (a_costs' : Nat → Int32) (a_rates' : Nat → Int32) (a_low' : Nat → Int32) (a_many' : Nat → Int32) (a_sums' : Nat → Int64) (a_others' : Nat → Int32) (hT : zt_TR c top pr) (hX : zx_S c top pr f1 f2 ow cs rt (f_leafCount, f_innerCount, f_top, f_listed, a_parents, a_firsts, a_seconds, a_own, a_costs, a_rates, a_order, a_sets, a_below, a_many, a_above, a_sums, a_groups)) (hY : zy_S c top pr g1 g2 ow cs rt (f_count', f_top', a_own', a_above', a_one', a_two', a_costs', a_rates', a_low', a_many', a_sums', a_others')) {y : Nat} (hy : zt_nd c y) :
    ∀ (d z : Nat), zt_nd c z → zt_R top pr d z → ∃ r : Int32, (∀ (post : Int32 → Prop), post r → ∀ n, d < n → wX_meet_20 post (nI y) f_leafCount f_innerCount f_top f_listed a_parents a_firsts a_seconds a_own a_costs a_rates a_order a_sets a_below a_many a_above a_sums a_groups n (nI z)) ∧ (∀ (post : Int32 → Prop), post r → ∀ n k, d < n → d + k ≤ 15 → wY_meet_23 post (nI y) f_count' f_top' a_own' a_above' a_one' a_two' a_costs' a_rates' a_low' a_many' a_sums' a_others' n (nI z) (nI k)) := by
  have hc7 := hT.2.1
  have hstop : ∀ d z, zt_nd c z → zt_un top pr y z = true → (∀ (post : Int32 → Prop), post (nI z) → ∀ n, d < n → wX_meet_20 post (nI y) f_leafCount f_innerCount f_top f_listed a_parents a_firsts a_seconds a_own a_costs a_rates a_order a_sets a_below a_many a_above a_sums a_groups n (nI z)) ∧ (∀ (post : Int32 → Prop), post (nI z) → ∀ n k, d < n → d + k ≤ 15 → wY_meet_23 post (nI y) f_count' f_top' a_own' a_above' a_one' a_two' a_costs' a_rates' a_low' a_many' a_sums' a_others' n (nI z) (nI k)) := by
    intro d z hz hu
    refine ⟨fun post hp n hn => ?_, fun post hp n k hn hk => ?_⟩
    · obtain ⟨q, rfl⟩ : ∃ q, n = q + 1 := ⟨n - 1, by omega⟩
      exact zx_isUnder hT hX hy hz (fun _ => br_f (by decide) hp) (fun h => absurd hu h)
    · obtain ⟨q, rfl⟩ : ∃ q, n = q + 1 := ⟨n - 1, by omega⟩
      exact br_f (nI_ge (b := 16) (by omega) (by omega)) (zy_over hT hY hz hy (fun _ => br_f (by decide) hp) (fun h => absurd hu h))
  intro d
  induction d with
  | zero =>
    intro z hz hd
    have e : z = top := hd
    exact ⟨nI z, hstop 0 z hz (by rw [e]; exact zt_un_top hT y hy)⟩
  | succ d ih =>
    intro z hz hd
    by_cases hu : zt_un top pr y z = true
    · exact ⟨nI z, hstop (d + 1) z hz hu⟩
    · have hp := hT.2.2.2.2.1 z hz hd.1
      have lz := zx_l14 hc7 hz
      have lp := zx_l14 hc7 (Or.inr hp)
      obtain ⟨r, h1, h2⟩ := ih (pr z) (Or.inr hp) hd.2
      refine ⟨r, fun post hp n hn => ?_, fun post hp n k hn hk => ?_⟩
      · obtain ⟨q, rfl⟩ : ∃ q, n = q + 1 := ⟨n - 1, by omega⟩
        refine zx_isUnder hT hX hy hz (fun h => absurd h hu) (fun _ => br_t rfl ⟨zx_i14 lz, ?_⟩)
        rw [zx_c14 lz, hX.2.2.2.1 z hz]
        exact br_f (zx_nm1 (by omega)) ⟨zx_i14 lz, nm_e (h1 post hp q (by omega))⟩
      · obtain ⟨q, rfl⟩ : ∃ q, n = q + 1 := ⟨n - 1, by omega⟩
        refine br_f (nI_ge (b := 16) (by omega) (by omega)) (zy_over hT hY hz hy (fun h => absurd h hu) (fun _ => br_t rfl ⟨zy_i16 lz, ?_⟩))
        rw [zx_c14 lz, hY.2.2.2.1 z hz, nI_1 k]
        exact br_t (nI_pos' (by omega)) ⟨zy_i16 lz, nm_e (nm_e (h2 post hp q (k + 1) (by omega) (by omega)))⟩
theorem i_vc_meet {k : Nat} {u : SX} {v : SY} (I : i_Rel k u v) (hk : k + 4 ≤ 2049) (v1 : Int32) (v2 : Int32) : wpX_meet (fun r => wpY_meet (fun r' => r' = r ∧ i_Rel (k + 4) u v) v v1 v2) u v1 v2 := by
  have I2 : i_Rel (k + 4) u v := I
  obtain ⟨c, top, pr, f1, f2, g1, g2, ow, cs, rt, hT, hC, hD, how, hcs, hX, hY⟩ := I
  have hc1 := hT.1
  have hc7 := hT.2.1
  generalize hK : i_Rel (k + 4) u v = K at *
  clear hK
  obtain ⟨f_leafCount, f_innerCount, f_top, f_listed, a_parents, a_firsts, a_seconds, a_own, a_costs, a_rates, a_order, a_sets, a_below, a_many, a_above, a_sums, a_groups⟩ := u
  obtain ⟨f_count', f_top', a_own', a_above', a_one', a_two', a_costs', a_rates', a_low', a_many', a_sums', a_others'⟩ := v
  unfold wpX_meet wpY_meet
  dsimp only
  refine zx_isNode hc1 hc7 hX (fun x hx e => ?_) (fun hno => ?_)
  · subst e
    refine br_f (by decide) ?_
    refine zx_isNode hc1 hc7 hX (fun y hy e => ?_) (fun hno => ?_)
    · subst e
      refine br_f (by decide) ?_
      obtain ⟨d, hd⟩ := hT.2.2.2.2.2 x hx
      have hd6 := zt_dep hT hx hd
      obtain ⟨r, h1, h2⟩ := zz_meet _ _ _ _ _ _ _ _ _ _ _ _ hT hX hY hy d x hx hd
      refine ⟨d + 1, h1 _ ?_ (d + 1) (by omega)⟩
      refine zy_bad0 hc7 hY hx (br_t rfl (zy_bad0 hc7 hY hy (br_t rfl ⟨d + 1, h2 _ ?_ (d + 1) 0 (by omega) (by omega)⟩)))
      exact ⟨rfl, I2⟩
    · exact br_t rfl (zy_bad0 hc7 hY hx (br_t rfl (zy_bad1 hc7 hY hno (br_f (by decide) ⟨rfl, I2⟩))))
  · exact br_t rfl (zy_bad1 hc7 hY hno (br_f (by decide) ⟨rfl, I2⟩))
end
section
/-! attach, mutate, swap, move, cost, rate, the constructors -/
theorem i_vc_attach {k : Nat} {u : SX} {v : SY} (I : i_Rel k u v) (hk : k + 4 ≤ 2049) (v1 : Int32) (v2 : Int32) : wpX_attach (fun r u' => wpY_attach (fun r' v' => r' = r ∧ i_Rel (k + 4) u' v') v v1 v2) u v1 v2 := by
  have I2 : i_Rel (k + 4) u v := I
  obtain ⟨c, top, pr, f1, f2, g1, g2, ow, cs, rt, hT, hC, hD, how, hcs, hX, hY⟩ := I
  have hc1 := hT.1
  have hc7 := hT.2.1
  obtain ⟨f_leafCount, f_innerCount, f_top, f_listed, a_parents, a_firsts, a_seconds, a_own, a_costs, a_rates, a_order, a_sets, a_below, a_many, a_above, a_sums, a_groups⟩ := u
  obtain ⟨f_count', f_top', a_own', a_above', a_one', a_two', a_costs', a_rates', a_low', a_many', a_sums', a_others'⟩ := v
  unfold wpX_attach wpY_attach
  dsimp only
  refine zx_isNode hc1 hc7 hX (fun x hx e => ?_) (fun hno => ?_)
  · subst e
    refine br_f (by decide) (zx_isStates (fun st hst e => ?_) (fun hno => ?_))
    · subst e
      refine br_f (by decide) (pk_eq c 7 (fun h7 => ?_) (fun h7 => ?_) hX.1 rfl)
      · refine zy_bad0 hc7 hY hx (br_t rfl (zy_badStates (fun _ _ _ => br_t rfl ?_) (fun h => absurd ⟨st, hst, rfl⟩ h)))
        exact pk_le c 6 (fun h => by omega) (fun h => ⟨rfl, I2⟩) hY.1 rfl
      · have hc6 : c ≤ 6 := by omega
        obtain ⟨q1, q2, q3, q4⟩ : (zo_up (zo_up (zo_up pr (7 + c) (pr x)) x (7 + c)) c (7 + c) c = 7 + c) ∧ (zo_up (zo_up (zo_up pr (7 + c) (pr x)) x (7 + c)) c (7 + c) x = 7 + c) ∧ (zo_up (zo_up (zo_up pr (7 + c) (pr x)) x (7 + c)) c (7 + c) (7 + c) = pr x) ∧ (∀ z, zt_nd c z → z ≠ x → zo_up (zo_up (zo_up pr (7 + c) (pr x)) x (7 + c)) c (7 + c) z = pr z) := by
          refine ⟨zo_up_s, by rw [zo_up_n (by omega), zo_up_s], by rw [zo_up_n (by omega), zo_up_n (by omega), zo_up_s], fun z hz hne => by rw [zo_up_n (by omega), zo_up_n hne, zo_up_n (by omega)]⟩
        have hT' := zo_att_T hT hc6 hx q1 q2 q3 q4 rfl
        have hn : ∀ (f : Nat → Nat) (w q : Nat), zt_in c q → zo_up (zo_rn f x (7 + c)) (7 + c) w q = if f q = x then 7 + c else f q := fun f w q hq => zo_up_n (by omega)
        have hC' := zo_att_C hT hC hc6 hx q1 q2 q3 q4 rfl zo_up_s zo_up_s (hn f1 x) (hn f2 c)
        have hD' := zo_att_C hT hD hc6 hx q1 q2 q3 q4 rfl zo_up_s zo_up_s (hn g1 x) (hn g2 c)
        refine zx_addLeaf hc6 hT hC hX hx st (fun u' hX' => ?_)
        obtain ⟨f_leafCount, f_innerCount, f_top, f_listed, a_parents, a_firsts, a_seconds, a_own, a_costs, a_rates, a_order, a_sets, a_below, a_many, a_above, a_sums, a_groups⟩ := u'
        dsimp only
        refine zy_bad0 hc7 hY hx (br_t rfl (zy_badStates (fun _ _ _ => br_t rfl ?_) (fun h => absurd ⟨st, hst, rfl⟩ h)))
        refine pk_le c 6 (fun h => ?_) (fun h => by omega) hY.1 rfl
        refine zy_putIn hc6 hT hD hY hx hst (fun v' hY' => ?_)
        obtain ⟨f_count', f_top', a_own', a_above', a_one', a_two', a_costs', a_rates', a_low', a_many', a_sums', a_others'⟩ := v'
        refine ⟨?_, c + 1, _, _, _, _, _, _, zo_up ow c st, cs, rt, hT', hC', hD', ?_, hcs, hX', hY'⟩
        · rw [hX'.1, hY'.1]
        · intro z hz
          by_cases e : z = c
          · rw [e, zo_up_s]; exact hst
          · rw [zo_up_n e]; exact how z (by omega)
    · exact br_t rfl (zy_bad0 hc7 hY hx (br_t rfl (zy_badStates (fun m hm e => absurd ⟨m, hm, e⟩ hno) (fun _ => br_f (by decide) ⟨rfl, I2⟩))))
  · exact br_t rfl (zy_bad1 hc7 hY hno (br_f (by decide) ⟨rfl, I2⟩))
theorem zz_held {m : Nat} (hm : m < 256) : nI (m / 4 ^ (3 - 0) % 4) * 64 + nI (m / 4 ^ (3 - 1) % 4) * 16 + nI (m / 4 ^ (3 - 2) % 4) * 4 + nI (m / 4 ^ (3 - 3) % 4) = nI m := by
  show nI (m / 4 ^ (3 - 0) % 4) * nI 64 + nI (m / 4 ^ (3 - 1) % 4) * nI 16 + nI (m / 4 ^ (3 - 2) % 4) * nI 4 + nI (m / 4 ^ (3 - 3) % 4) = nI m
  rw [pk_mul, pk_mul, pk_mul, nI_add, nI_add, nI_add]
  exact congrArg nI (by
    show m / 64 % 4 * 64 + m / 16 % 4 * 16 + m / 4 % 4 * 4 + m / 1 % 4 = m
    omega)
theorem zy_held {post : Int32 → Prop} {f_count f_top : Int32} {a_own a_above a_one a_two a_costs a_rates a_low a_many : Nat → Int32} {a_sums : Nat → Int64} {a_others : Nat → Int32} {c top : Nat} {pr g1 g2 ow cs : Nat → Nat} {rt : Nat → Int32} (hc7 : c ≤ 7) (hY : zy_S c top pr g1 g2 ow cs rt (f_count, f_top, a_own, a_above, a_one, a_two, a_costs, a_rates, a_low, a_many, a_sums, a_others)) (how : ∀ x, x < c → ow x < 256) {x : Nat} (hx : x < c) (k : post (nI (ow x))) : wpY_held post (f_count, f_top, a_own, a_above, a_one, a_two, a_costs, a_rates, a_low, a_many, a_sums, a_others) (nI x) := by
  obtain ⟨e1, e2, e3, e4, e5, e6, e7, e8, e9⟩ := hY
  have a0 := e3 x hx 0 (by omega)
  have a1 := e3 x hx 1 (by omega)
  have a2 := e3 x hx 2 (by omega)
  have a3 := e3 x hx 3 (by omega)
  have i0 : (4 : Int32) * nI x = nI (4 * x) := pk_mul 4 x
  have i1 : (4 : Int32) * nI x + 1 = nI (4 * x + 1) := zy_ix (s := 1)
  have i2 : (4 : Int32) * nI x + 2 = nI (4 * x + 2) := zy_ix (s := 2)
  have i3 : (4 : Int32) * nI x + 3 = nI (4 * x + 3) := zy_ix (s := 3)
  rw [Nat.add_zero] at a0
  unfold wpY_held
  dsimp only
  rw [i1, i2, i3, i0, nI_clamp (by omega), nI_clamp (by omega), nI_clamp (by omega), nI_clamp (by omega), a0, a1, a2, a3, zz_held (how x hx)]
  exact ⟨vp_in_nI (by omega) (by omega), vp_in_nI (by omega) (by omega), vp_in_nI (by omega) (by omega), vp_in_nI (by omega) (by omega), k⟩
theorem i_vc_mutate {k : Nat} {u : SX} {v : SY} (I : i_Rel k u v) (hk : k + 4 ≤ 2049) (v1 : Int32) (v2 : Int32) : wpX_mutate (fun r u' => wpY_mutate (fun r' v' => r' = r ∧ i_Rel (k + 4) u' v') v v1 v2) u v1 v2 := by
  have I2 : i_Rel (k + 4) u v := I
  obtain ⟨c, top, pr, f1, f2, g1, g2, ow, cs, rt, hT, hC, hD, how, hcs, hX, hY⟩ := I
  have hc1 := hT.1
  have hc7 := hT.2.1
  obtain ⟨f_leafCount, f_innerCount, f_top, f_listed, a_parents, a_firsts, a_seconds, a_own, a_costs, a_rates, a_order, a_sets, a_below, a_many, a_above, a_sums, a_groups⟩ := u
  obtain ⟨f_count', f_top', a_own', a_above', a_one', a_two', a_costs', a_rates', a_low', a_many', a_sums', a_others'⟩ := v
  unfold wpX_mutate wpY_mutate
  dsimp only
  have hbad : (¬ ∃ x, x < c ∧ v1 = nI x) → wpY_mutate (fun r' v' => r' = -1 ∧ i_Rel (k + 4) (f_leafCount, f_innerCount, f_top, f_listed, a_parents, a_firsts, a_seconds, a_own, a_costs, a_rates, a_order, a_sets, a_below, a_many, a_above, a_sums, a_groups) v') (f_count', f_top', a_own', a_above', a_one', a_two', a_costs', a_rates', a_low', a_many', a_sums', a_others') v1 v2 := by
    intro hno
    refine br_c (fun _ => ⟨rfl, I2⟩) (fun h6 => ?_)
    refine zy_bad hc7 hY (fun j hj e => ?_) (fun _ => br_f (by decide) ⟨rfl, I2⟩)
    subst e
    have h7 : ¬ (6 < j) := fun h => h6 (nI_lt (a := 6) h (by omega))
    exact absurd ⟨j, by omega, rfl⟩ hno
  by_cases hn : v1 < 0
  · refine br_t hn (hbad ?_)
    rintro ⟨j, hj, rfl⟩
    exact nI_pos (by omega) hn
  · obtain ⟨x, hx31, rfl⟩ := nI_of hn
    refine br_f hn (pk_lt x c (fun hx => ?_) (fun hx => hbad ?_) rfl hX.1)
    · have hnd : zt_nd c x := Or.inl hx
      have hx6 : ¬ (6 : Int32) < nI x := nI_nlt (a := 6) (b := x) (by omega) (by omega)
      refine zx_isStates (fun st hst e => ?_) (fun hno => ?_)
      · subst e
        refine br_f (by decide) ?_
        rw [nI_clamp (by omega), hX.2.2.2.2.2.2.1 x hx]
        refine ⟨vp_in_nI (by omega) (by omega), nm_e ⟨vp_in_nI (by omega) (by omega), nm_e ?_⟩⟩
        refine br_f hx6 (zy_bad0 hc7 hY hnd (br_t rfl (zy_badStates (fun _ _ _ => br_t rfl ?_) (fun h => absurd ⟨st, hst, rfl⟩ h))))
        refine zy_held hc7 hY how hx ?_
        refine zy_give (by omega) hst (fun O hO1 hO2 => ?_)
        obtain ⟨e1, e2, e3, e4, e5, e6, e7, e8, e9⟩ := hX
        obtain ⟨b1, b2, b3, b4, b5, b6, b7, b8, b9⟩ := hY
        refine ⟨rfl, c, top, pr, f1, f2, g1, g2, zo_up ow x st, cs, rt, hT, hC, hD, ?_, hcs, ⟨e1, e2, e3, e4, e5, e6, ?_, e8, e9⟩, ⟨b1, b2, ?_, b4, b5, b6, b7, b8, b9⟩⟩
        · intro z hz
          by_cases e : z = x
          · rw [e, zo_up_s]; exact hst
          · rw [zo_up_n e]; exact how z hz
        · exact fun z hz => zx_upN (fun _ => e7 z hz)
        · intro z hz s hs
          by_cases e : z = x
          · rw [e, zo_up_s]; exact hO1 s hs
          · have h := hO2 (4 * z + s) (by omega)
            show O (4 * z + s) = _
            rw [zo_up_n e, h]; exact b3 z hz s hs
      · refine br_t rfl ?_
        exact br_f hx6 (zy_bad0 hc7 hY hnd (br_t rfl (zy_badStates (fun m hm e => absurd ⟨m, hm, e⟩ hno) (fun _ => br_f (by decide) ⟨rfl, I2⟩))))
    · rintro ⟨j, hj, e⟩
      rw [nI_eq hx31 (by omega)] at e
      omega
theorem zx_swapRef {post : Int32 → Prop} {f_leafCount f_innerCount f_top f_listed : Int32} {a_parents a_firsts a_seconds a_own a_costs a_rates a_order a_sets a_below a_many a_above : Nat → Int32} {a_sums : Nat → Int64} {a_groups : Nat → Int32} {c top : Nat} {pr f1 f2 ow cs : Nat → Nat} {rt : Nat → Int32} (hT : zt_TR c top pr) (hX : zx_S c top pr f1 f2 ow cs rt (f_leafCount, f_innerCount, f_top, f_listed, a_parents, a_firsts, a_seconds, a_own, a_costs, a_rates, a_order, a_sets, a_below, a_many, a_above, a_sums, a_groups)) {x y : Int32}
    (kn : (¬ ∃ j, zt_nd c j ∧ x = nI j) → post (-1)) (km : ∀ a, zt_nd c a → x = nI a → (¬ ∃ j, zt_nd c j ∧ y = nI j) → post (-1))
    (ku : ∀ a b, zt_nd c a → zt_nd c b → x = nI a → y = nI b → (zt_un top pr a b = true ∨ zt_un top pr b a = true) → post (-2))
    (k0 : ∀ a b, zt_nd c a → zt_nd c b → x = nI a → y = nI b → ¬ zt_un top pr a b = true → ¬ zt_un top pr b a = true → post 0) : wpX_swapRefusal post (f_leafCount, f_innerCount, f_top, f_listed, a_parents, a_firsts, a_seconds, a_own, a_costs, a_rates, a_order, a_sets, a_below, a_many, a_above, a_sums, a_groups) x y := by
  have hc1 := hT.1
  have hc7 := hT.2.1
  unfold wpX_swapRefusal
  dsimp only
  refine zx_isNode hc1 hc7 hX (fun a ha e => ?_) (fun hno => br_t rfl (kn hno))
  refine br_f (by decide) (zx_isNode hc1 hc7 hX (fun b hb e2 => ?_) (fun hno => br_t rfl (km a ha e hno)))
  refine br_f (by decide) ?_
  have hu := ku a b ha hb e e2
  have h0 := k0 a b ha hb e e2
  subst e
  subst e2
  refine zx_isUnder hT hX ha hb (fun h1 => br_f (by decide) (hu (Or.inl h1))) (fun h1 => br_t rfl ?_)
  exact zx_isUnder hT hX hb ha (fun h2 => br_f (by decide) (hu (Or.inr h2))) (fun h2 => br_t rfl (h0 h1 h2))
theorem zz_notop {c top : Nat} {pr : Nat → Nat} (hT : zt_TR c top pr) {x y : Nat} (hx : zt_nd c x) (hy : zt_nd c y) (u1 : ¬ zt_un top pr x y = true) (u2 : ¬ zt_un top pr y x = true) : x ≠ y ∧ x ≠ top ∧ y ≠ top :=
  ⟨fun e => u1 (by rw [← e]; exact zt_un_self hT hx), fun e => u2 (by rw [e]; exact zt_un_top hT y hy), fun e => u1 (by rw [e]; exact zt_un_top hT x hx)⟩
theorem i_vc_swap {k : Nat} {u : SX} {v : SY} (I : i_Rel k u v) (hk : k + 4 ≤ 2049) (v1 : Int32) (v2 : Int32) : wpX_swap (fun r u' => wpY_swap (fun r' v' => r' = r ∧ i_Rel (k + 4) u' v') v v1 v2) u v1 v2 := by
  have I2 : i_Rel (k + 4) u v := I
  obtain ⟨c, top, pr, f1, f2, g1, g2, ow, cs, rt, hT, hC, hD, how, hcs, hX, hY⟩ := I
  have hc7 := hT.2.1
  obtain ⟨f_leafCount, f_innerCount, f_top, f_listed, a_parents, a_firsts, a_seconds, a_own, a_costs, a_rates, a_order, a_sets, a_below, a_many, a_above, a_sums, a_groups⟩ := u
  obtain ⟨f_count', f_top', a_own', a_above', a_one', a_two', a_costs', a_rates', a_low', a_many', a_sums', a_others'⟩ := v
  unfold wpX_swap wpY_swap
  dsimp only
  refine zx_swapRef hT hX (fun hno => ?_) (fun a ha e hno => ?_) (fun a b ha hb e e2 h => ?_) (fun a b ha hb e e2 h1 h2 => ?_)
  · exact br_f (by decide) (zy_bad1 hc7 hY hno (br_f (by decide) ⟨rfl, I2⟩))
  · subst e
    exact br_f (by decide) (zy_bad0 hc7 hY ha (br_t rfl (zy_bad1 hc7 hY hno (br_f (by decide) ⟨rfl, I2⟩))))
  · subst e
    subst e2
    refine br_f (by decide) (zy_bad0 hc7 hY ha (br_t rfl (zy_bad0 hc7 hY hb (br_t rfl ?_))))
    refine zy_over hT hY ha hb (fun h1 => br_f (by decide) ⟨rfl, I2⟩) (fun h1 => br_t rfl ?_)
    exact zy_over hT hY hb ha (fun h2 => br_f (by decide) ⟨rfl, I2⟩) (fun h2 => absurd h (fun h => h.elim h2 h1))
  · subst e
    subst e2
    obtain ⟨hne, hat, hbt⟩ := zz_notop hT ha hb h1 h2
    obtain ⟨q1, q2, q3⟩ := zo_ex_pr pr hne
    have hT' := zo_exc_T hT ha hb h1 h2 q1 q2 (fun z _ h1 h2 => q3 z h1 h2)
    have hC' := zo_exc_C (h1 := fun r => zo_sg a b (f1 r)) (h2 := fun r => zo_sg a b (f2 r)) hT hC ha hb hat hbt q1 q2 (fun z _ h1 h2 => q3 z h1 h2) (fun _ _ => rfl) (fun _ _ => rfl)
    refine br_t (by decide) ?_
    refine zx_exchange hT hC hX ha hb hne hat hbt (fun P F G hX' => ?_)
    dsimp only
    refine zy_bad0 hc7 hY ha (br_t rfl (zy_bad0 hc7 hY hb (br_t rfl ?_)))
    refine zy_over hT hY ha hb (fun h3 => absurd h3 h2) (fun _ => br_t rfl ?_)
    refine zy_over hT hY hb ha (fun h3 => absurd h3 h1) (fun _ => br_t rfl ?_)
    refine zy_exchange2 hT hD hY ha hb hne hat hbt (fun e1 e2 P' F' G' hD' hY' => ?_)
    exact ⟨rfl, c, top, _, _, _, e1, e2, ow, cs, rt, hT', hC', hD', how, hcs, hX', hY'⟩
theorem i_vc_move {k : Nat} {u : SX} {v : SY} (I : i_Rel k u v) (hk : k + 4 ≤ 2049) (v1 : Int32) (v2 : Int32) : wpX_move (fun r u' => wpY_move (fun r' v' => r' = r ∧ i_Rel (k + 4) u' v') v v1 v2) u v1 v2 := by
  have I2 : i_Rel (k + 4) u v := I
  obtain ⟨c, top, pr, f1, f2, g1, g2, ow, cs, rt, hT, hC, hD, how, hcs, hX, hY⟩ := I
  have hc1 := hT.1
  have hc7 := hT.2.1
  have ltop := zx_l14 hc7 hT.2.2.1
  obtain ⟨f_leafCount, f_innerCount, f_top, f_listed, a_parents, a_firsts, a_seconds, a_own, a_costs, a_rates, a_order, a_sets, a_below, a_many, a_above, a_sums, a_groups⟩ := u
  obtain ⟨f_count', f_top', a_own', a_above', a_one', a_two', a_costs', a_rates', a_low', a_many', a_sums', a_others'⟩ := v
  have e3 : f_top = nI top := hX.2.2.1
  have b2 : f_top' = nI top := hY.2.1
  have e4 := hX.2.2.2.1
  have e5 := hX.2.2.2.2.1
  have e6 := hX.2.2.2.2.2.1
  have b4 := hY.2.2.2.1
  have b5 := hY.2.2.2.2.1
  have b6 := hY.2.2.2.2.2.1
  subst e3
  subst b2
  unfold wpX_move
  dsimp only
  refine zx_isNode hc1 hc7 hX (fun x hx e => ?_) (fun hno => br_t rfl ?_)
  rotate_left
  · unfold wpY_move
    exact zy_bad1 hc7 hY hno (br_f (by decide) ⟨rfl, I2⟩)
  subst e
  refine br_f (by decide) (zx_isNode hc1 hc7 hX (fun y hy e => ?_) (fun hno => br_t rfl ?_))
  rotate_left
  · unfold wpY_move
    exact zy_bad0 hc7 hY hx (br_t rfl (zy_bad1 hc7 hY hno (br_f (by decide) ⟨rfl, I2⟩)))
  subst e
  have lx := zx_l14 hc7 hx
  have ly := zx_l14 hc7 hy
  refine br_f (by decide) (br_c (fun ht => ?_) (fun ht => ?_))
  · unfold wpY_move
    exact zy_bad0 hc7 hY hx (br_t rfl (zy_bad0 hc7 hY hy (br_t rfl (br_t ht ⟨rfl, I2⟩))))
  · have hxt : x ≠ top := fun e => ht (by rw [e])
    have hip := hT.2.2.2.2.1 x hx hxt
    have lp := zx_l14 hc7 (Or.inr hip)
    have kf := hC.1 _ hip
    have kg := hD.1 _ hip
    have lf := zx_l14 hc7 kf.1
    have lg := zx_l14 hc7 kg.1
    rw [zx_c14 lx, e4 x hx]
    refine ⟨zx_i14 lx, nm_e ?_⟩
    rw [zx_c14 lp, e5 _ hip, e6 _ hip]
    refine zx_isUnder hT hX hy hx (fun hu => br_f (by decide) ?_) (fun hu => br_t rfl ?_)
    · unfold wpY_move
      refine zy_bad0 hc7 hY hx (br_t rfl (zy_bad0 hc7 hY hy (br_t rfl (br_f ht ⟨zy_i16 lx, nm_e ?_⟩))))
      exact zy_over hT hY hx hy (fun _ => br_f (by decide) ⟨rfl, I2⟩) (fun h => absurd hu h)
    · refine br_c (fun hyp => ?_) (fun hyp => ⟨zx_i14 lp, ?_⟩)
      · unfold wpY_move
        refine zy_bad0 hc7 hY hx (br_t rfl (zy_bad0 hc7 hY hy (br_t rfl (br_f ht ⟨zy_i16 lx, nm_e ?_⟩))))
        refine zy_over hT hY hx hy (fun h => absurd h hu) (fun _ => br_t rfl (br_t ?_ ⟨rfl, I2⟩))
        rw [zx_c14 lx, b4 x hx]
        exact hyp
      · have hyp2 : y ≠ pr x := fun e => hyp (by rw [e])
        have hyx : y ≠ x := fun e => hu (by rw [e]; exact zt_un_self hT hx)
        obtain ⟨hT', hC'⟩ := zo_mov hT hC hx hy hxt hu hyp2
        have hD' := (zo_mov hT hD hx hy hxt hu hyp2).2
        have hsb := zz_sib hC hD hT hx hxt
        have hgo : ∀ w, w = nI (zd_sib pr f1 f2 x) → wX_move_78 (fun r u' => wpY_move (fun r' v' => r' = r ∧ i_Rel (k + 4) u' v') (f_count', nI top, a_own', a_above', a_one', a_two', a_costs', a_rates', a_low', a_many', a_sums', a_others') (nI x) (nI y)) (nI x) (nI y) (nI (pr x)) w f_leafCount f_innerCount (nI top) f_listed a_parents a_firsts a_seconds a_own a_costs a_rates a_order a_sets a_below a_many a_above a_sums a_groups := by
          intro w hw
          subst hw
          refine zx_move78 hT hC hX hx hy hxt hyx hyp2 (fun u' hX' => ?_)
          unfold wpY_move
          dsimp only
          refine zy_bad0 hc7 hY hx (br_t rfl (zy_bad0 hc7 hY hy (br_t rfl (br_f ht ?_))))
          rw [zx_c14 lx, b4 x hx]
          refine ⟨zy_i16 lx, nm_e ?_⟩
          refine zy_over hT hY hx hy (fun h => absurd h hu) (fun _ => br_t rfl (br_f hyp ⟨zy_i16 lp, ?_⟩))
          rw [zx_c14 lp, b5 _ hip, b6 _ hip]
          have hgo2 : ∀ w, w = nI (zd_sib pr g1 g2 x) → wY_move_78 (fun r' v' => r' = 0 ∧ i_Rel (k + 4) u' v') (nI x) (nI y) (nI (pr x)) w f_count' (nI top) a_own' a_above' a_one' a_two' a_costs' a_rates' a_low' a_many' a_sums' a_others' := by
            intro w hw
            subst hw
            refine zy_move78 hT hD hY hx hy hxt hyx hyp2 (fun v' hY' => ?_)
            rw [hsb] at hY' hD'
            exact ⟨rfl, c, _, _, _, _, _, _, ow, cs, rt, hT', hC', hD', how, hcs, hX', hY'⟩
          refine br_c (fun h => ⟨zy_i16 lp, hgo2 _ ?_⟩) (fun h => ⟨zy_i16 lp, hgo2 _ ?_⟩)
          · rw [zx_e14 lg lx] at h
            unfold zd_sib
            rw [if_pos h]
          · rw [zx_e14 lg lx] at h
            unfold zd_sib
            rw [if_neg h]
        refine br_c (fun h => ⟨zx_i14 lp, hgo _ ?_⟩) (fun h => ⟨zx_i14 lp, hgo _ ?_⟩)
        · rw [zx_e14 lf lx] at h
          unfold zd_sib
          rw [if_pos h]
        · rw [zx_e14 lf lx] at h
          unfold zd_sib
          rw [if_neg h]
end
section
/-! cost, rate, the constructors -/
theorem i_vc_cost {k : Nat} {u : SX} {v : SY} (I : i_Rel k u v) (hk : k + 4 ≤ 2049) (v1 : Int32) (v2 : Int32) (v3 : Int32) : wpX_cost (fun r u' => wpY_cost (fun r' v' => r' = r ∧ i_Rel (k + 4) u' v') v v1 v2 v3) u v1 v2 v3 := by
  have I2 : i_Rel (k + 4) u v := I
  obtain ⟨c, top, pr, f1, f2, g1, g2, ow, cs, rt, hT, hC, hD, how, hcs, hX, hY⟩ := I
  obtain ⟨f_leafCount, f_innerCount, f_top, f_listed, a_parents, a_firsts, a_seconds, a_own, a_costs, a_rates, a_order, a_sets, a_below, a_many, a_above, a_sums, a_groups⟩ := u
  obtain ⟨f_count', f_top', a_own', a_above', a_one', a_two', a_costs', a_rates', a_low', a_many', a_sums', a_others'⟩ := v
  unfold wpX_cost
  dsimp only
  refine zx_isState (fun a ha e => ?_) (fun hno => br_t rfl ?_)
  rotate_left
  · unfold wpY_cost
    exact zy_badState (fun m hm e => absurd ⟨m, hm, e⟩ hno) (fun _ => br_f (by decide) ⟨rfl, I2⟩)
  subst e
  refine br_f (by decide) (zx_isState (fun b hb e => ?_) (fun hno => br_t rfl ?_))
  rotate_left
  · unfold wpY_cost
    exact zy_badState (fun _ _ _ => br_t rfl (zy_badState (fun m hm e => absurd ⟨m, hm, e⟩ hno) (fun _ => br_f (by decide) ⟨rfl, I2⟩))) (fun h => absurd ⟨a, ha, rfl⟩ h)
  subst e
  have hgo : ∀ (post : Int32 → SY → Prop), ((v3 < 0 → post (-2) (f_count', f_top', a_own', a_above', a_one', a_two', a_costs', a_rates', a_low', a_many', a_sums', a_others')) ∧ (¬ v3 < 0 → ((v3 ≤ 9 → ∀ C, C = upd a_costs' (4 * a + b) v3 → post (a_costs' (4 * a + b)) (f_count', f_top', a_own', a_above', a_one', a_two', C, a_rates', a_low', a_many', a_sums', a_others')) ∧ (¬ v3 ≤ 9 → post (-2) (f_count', f_top', a_own', a_above', a_one', a_two', a_costs', a_rates', a_low', a_many', a_sums', a_others'))))) → wpY_cost post (f_count', f_top', a_own', a_above', a_one', a_two', a_costs', a_rates', a_low', a_many', a_sums', a_others') (nI a) (nI b) v3 := by
    intro post h
    unfold wpY_cost
    dsimp only
    refine zy_badState (fun _ _ _ => br_t rfl (zy_badState (fun _ _ _ => br_t rfl ?_) (fun h => absurd ⟨b, hb, rfl⟩ h))) (fun h => absurd ⟨a, ha, rfl⟩ h)
    rw [zy_ix, nI_clamp (by omega)]
    have hin : vp_in (nI (4 * a + b)) 16 := vp_in_nI (by omega) (by omega)
    exact ⟨h.1, fun hn => ⟨fun h9 => ⟨hin, nm_e ⟨hin, (h.2 hn).1 h9⟩⟩, (h.2 hn).2⟩⟩
  refine br_f (by decide) ?_
  rw [zy_ix, nI_clamp (by omega)]
  have hin : vp_in (nI (4 * a + b)) 16 := vp_in_nI (by omega) (by omega)
  refine br_c (fun hn => hgo _ (br_t hn ⟨rfl, I2⟩)) (fun hn => br_c (fun h9 => ⟨hin, nm_e ⟨hin, nm_e (hgo _ (br_f hn (br_t h9 (nm_e ?_))))⟩⟩) (fun h9 => hgo _ (br_f hn (br_f h9 ⟨rfl, I2⟩))))
  obtain ⟨m, hm, rfl⟩ := nI_of hn
  have hm9 : m ≤ 9 := (nI_leI (b := 9) hm (by decide)).mp h9
  obtain ⟨e1, e2, e3, e4, e5, e6, e7, e8, e9⟩ := hX
  obtain ⟨b1, b2, b3, b4, b5, b6, b7, b8, b9⟩ := hY
  refine ⟨?_, c, top, pr, f1, f2, g1, g2, ow, zo_up cs (4 * a + b) m, rt, hT, hC, hD, how, ?_, ⟨e1, e2, e3, e4, e5, e6, e7, ?_, e9⟩, ⟨b1, b2, b3, b4, b5, b6, ?_, b8, b9⟩⟩
  · rw [e8 _ (by omega), b7 _ (by omega)]
  · intro j hj
    by_cases e : j = 4 * a + b
    · rw [e, zo_up_s]; exact hm9
    · rw [zo_up_n e]; exact hcs j hj
  · exact fun j hj => zx_upN (fun _ => e8 j hj)
  · exact fun j hj => zx_upN (fun _ => b7 j hj)
theorem i_vc_rate {k : Nat} {u : SX} {v : SY} (I : i_Rel k u v) (hk : k + 4 ≤ 2049) (v1 : Int32) (v2 : Int32) (v3 : Int32) : wpX_rate (fun r u' => wpY_rate (fun r' v' => r' = r ∧ i_Rel (k + 4) u' v') v v1 v2 v3) u v1 v2 v3 := by
  have I2 : i_Rel (k + 4) u v := I
  obtain ⟨c, top, pr, f1, f2, g1, g2, ow, cs, rt, hT, hC, hD, how, hcs, hX, hY⟩ := I
  obtain ⟨f_leafCount, f_innerCount, f_top, f_listed, a_parents, a_firsts, a_seconds, a_own, a_costs, a_rates, a_order, a_sets, a_below, a_many, a_above, a_sums, a_groups⟩ := u
  obtain ⟨f_count', f_top', a_own', a_above', a_one', a_two', a_costs', a_rates', a_low', a_many', a_sums', a_others'⟩ := v
  unfold wpX_rate
  dsimp only
  refine zx_isState (fun a ha e => ?_) (fun hno => br_t rfl ?_)
  rotate_left
  · unfold wpY_rate
    exact zy_badState (fun m hm e => absurd ⟨m, hm, e⟩ hno) (fun _ => br_f (by decide) ⟨rfl, I2⟩)
  subst e
  refine br_f (by decide) (zx_isState (fun b hb e => ?_) (fun hno => br_t rfl ?_))
  rotate_left
  · unfold wpY_rate
    exact zy_badState (fun _ _ _ => br_t rfl (zy_badState (fun m hm e => absurd ⟨m, hm, e⟩ hno) (fun _ => br_f (by decide) ⟨rfl, I2⟩))) (fun h => absurd ⟨a, ha, rfl⟩ h)
  subst e
  have hgo : ∀ (post : Int32 → SY → Prop), ((v3 < 0 → post (-2) (f_count', f_top', a_own', a_above', a_one', a_two', a_costs', a_rates', a_low', a_many', a_sums', a_others')) ∧ (¬ v3 < 0 → ((v3 ≤ 9 → ∀ C, C = upd a_rates' (4 * a + b) v3 → post (a_rates' (4 * a + b)) (f_count', f_top', a_own', a_above', a_one', a_two', a_costs', C, a_low', a_many', a_sums', a_others')) ∧ (¬ v3 ≤ 9 → post (-2) (f_count', f_top', a_own', a_above', a_one', a_two', a_costs', a_rates', a_low', a_many', a_sums', a_others'))))) → wpY_rate post (f_count', f_top', a_own', a_above', a_one', a_two', a_costs', a_rates', a_low', a_many', a_sums', a_others') (nI a) (nI b) v3 := by
    intro post h
    unfold wpY_rate
    dsimp only
    refine zy_badState (fun _ _ _ => br_t rfl (zy_badState (fun _ _ _ => br_t rfl ?_) (fun h => absurd ⟨b, hb, rfl⟩ h))) (fun h => absurd ⟨a, ha, rfl⟩ h)
    rw [zy_ix, nI_clamp (by omega)]
    have hin : vp_in (nI (4 * a + b)) 16 := vp_in_nI (by omega) (by omega)
    exact ⟨h.1, fun hn => ⟨fun h9 => ⟨hin, nm_e ⟨hin, (h.2 hn).1 h9⟩⟩, (h.2 hn).2⟩⟩
  refine br_f (by decide) ?_
  rw [zy_ix, nI_clamp (by omega)]
  have hin : vp_in (nI (4 * a + b)) 16 := vp_in_nI (by omega) (by omega)
  refine br_c (fun hn => hgo _ (br_t hn ⟨rfl, I2⟩)) (fun hn => br_c (fun h9 => ⟨hin, nm_e ⟨hin, nm_e (hgo _ (br_f hn (br_t h9 (nm_e ?_))))⟩⟩) (fun h9 => hgo _ (br_f hn (br_f h9 ⟨rfl, I2⟩))))
  obtain ⟨e1, e2, e3, e4, e5, e6, e7, e8, e9⟩ := hX
  obtain ⟨b1, b2, b3, b4, b5, b6, b7, b8, b9⟩ := hY
  refine ⟨?_, c, top, pr, f1, f2, g1, g2, ow, cs, upd rt (4 * a + b) v3, hT, hC, hD, how, hcs, ⟨e1, e2, e3, e4, e5, e6, e7, e8, ?_⟩, ⟨b1, b2, b3, b4, b5, b6, b7, ?_, b9⟩⟩
  · rw [e9 _ (by omega), b8 _ (by omega)]
  · intro j hj
    show upd a_rates (4 * a + b) v3 j = upd rt (4 * a + b) v3 j
    by_cases e : j = 4 * a + b
    · rw [e, pk_us, pk_us]
    · rw [pk_un e, pk_un e]; exact e9 j hj
  · intro j hj
    show upd a_rates' (4 * a + b) v3 j = upd rt (4 * a + b) v3 j
    by_cases e : j = 4 * a + b
    · rw [e, pk_us, pk_us]
    · rw [pk_un e, pk_un e]; exact b8 j hj
/-! the constructors -/
def zz_cs (j : Nat) : Nat := if j % 5 = 0 then 0 else 1
theorem zz_T0 : zt_TR 1 0 (fun _ => 4294967295) := by
  refine ⟨by omega, by omega, by omega, rfl, fun x hx hne => by omega, fun x hx => ⟨0, ?_⟩⟩
  show x = 0
  omega
theorem zz_C0 : zt_CH 1 0 (fun _ => 4294967295) (fun _ => 0) (fun _ => 0) := ⟨fun p hp => by omega, fun x hx hne => by omega⟩
theorem zx_in110 {post : SX → Prop} {x1 : Int32} {st : Nat} (hst : (st < 256 ∧ x1 = nI st) ∨ ((¬ ∃ m, m < 256 ∧ x1 = nI m) ∧ st = 0))
    (k : ∀ u, zx_S 1 0 (fun _ => 4294967295) (fun _ => 0) (fun _ => 0) (fun _ => st) zz_cs (fun _ => 1) u → post u) :
    ∀ (d t n : Nat) (C R : Nat → Int32), t + d = 16 → d < n → (∀ j, j < t → C j = nI (zz_cs j)) → (∀ j, j < t → R j = 1) → wX_init_110 post x1 0 0 0 0 n (nI t) (fun _ => 0) (fun _ => 0) (fun _ => 0) (fun _ => 0) C R (fun _ => 0) (fun _ => 0) (fun _ => 0) (fun _ => 0) (fun _ => 0) (fun _ => 0) (fun _ => 0) := by
  intro d
  induction d with
  | zero =>
    intro t n C R ht hn hC hR
    obtain ⟨q, rfl⟩ : ∃ q, n = q + 1 := ⟨n - 1, by omega⟩
    have e : t = 16 := by omega
    subst e
    refine br_t (nI_le (a := 16) (b := 16) (by omega) (by omega)) ?_
    have hfin : ∀ z, z = nI st → wX_init_166 post z 0 0 0 0 0 (fun _ => 0) (fun _ => 0) (fun _ => 0) (fun _ => 0) C R (fun _ => 0) (fun _ => 0) (fun _ => 0) (fun _ => 0) (fun _ => 0) (fun _ => 0) (fun _ => 0) := by
      intro z hz
      unfold wX_init_166
      refine ⟨vp_in_nI (n := 0) (by omega) (by omega), nm_e (nm_e (k _ ⟨rfl, rfl, rfl, ?_, ?_, ?_, ?_, hC, hR⟩))⟩
      · intro x hx
        have e : x = 0 := by omega
        rw [e, pk_us, zx_m1]
      · intro x hx; omega
      · intro x hx; omega
      · intro x hx
        have e : x = 0 := by omega
        rw [e, hz]
        exact pk_us
    refine zx_isStates (fun m hm e => br_f (by decide) (hfin _ ?_)) (fun hno => br_t rfl (hfin _ ?_))
    · rcases hst with h | h
      · exact h.2
      · exact absurd ⟨m, hm, e⟩ h.1
    · rcases hst with h | h
      · exact absurd ⟨st, h⟩ hno
      · rw [h.2]; rfl
  | succ d ih =>
    intro t n C R ht hn hC hR
    obtain ⟨q, rfl⟩ : ∃ q, n = q + 1 := ⟨n - 1, by omega⟩
    have e1 : nI t / 4 = nI (t / 4) := pk_div (d := 4) (by omega) (by omega) (by omega)
    have e2 : nI t - nI t / 4 * 4 = nI (t % 4) := pk_rem (d := 4) (by omega) (by omega) (by omega)
    have hnext : ∀ w : Nat, w = zz_cs t → wX_init_135 post (wX_init_110 post x1 0 0 0 0 q) x1 (nI t) (nI w) (nI t) 0 0 0 0 (fun _ => 0) (fun _ => 0) (fun _ => 0) (fun _ => 0) C R (fun _ => 0) (fun _ => 0) (fun _ => 0) (fun _ => 0) (fun _ => 0) (fun _ => 0) (fun _ => 0) := by
      intro w hw
      unfold wX_init_135
      rw [nI_clamp (by omega), nI_1 t]
      refine ⟨vp_in_nI (by omega) (by omega), nm_e ⟨vp_in_nI (by omega) (by omega), nm_e (nm_e (ih (t + 1) q _ _ (by omega) (by omega) ?_ ?_))⟩⟩
      · intro j hj
        by_cases e : j = t
        · rw [e, pk_us, hw]
        · rw [pk_un e]; exact hC j (by omega)
      · intro j hj
        by_cases e : j = t
        · rw [e, pk_us]
        · rw [pk_un e]; exact hR j (by omega)
    refine br_f (nI_ge (b := 16) (by omega) (by omega)) ⟨by decide, by decide, ?_⟩
    rw [e2, e1]
    refine pk_eq (t / 4) (t % 4) (fun h => hnext 0 ?_) (fun h => hnext 1 ?_)
    · unfold zz_cs; rw [if_pos (by omega)]
    · unfold zz_cs; rw [if_neg (by omega)]
theorem zy_in135 {post : SY → Prop} {O A : Nat → Int32} (k : ∀ C R, (∀ j, j < 16 → C j = nI (zz_cs j)) → (∀ j, j < 16 → R j = 1) → post (1, 0, O, A, (fun _ => 0), (fun _ => 0), C, R, (fun _ => 0), (fun _ => 0), (fun _ => 0), (fun _ => 0))) :
    ∀ (d t n : Nat) (C R : Nat → Int32), t + d = 16 → d < n → (∀ j, j < t → C j = nI (zz_cs j)) → (∀ j, j < t → R j = 1) → wY_init_135 post 1 0 n (nI t) O A (fun _ => 0) (fun _ => 0) C R (fun _ => 0) (fun _ => 0) (fun _ => 0) (fun _ => 0) := by
  intro d
  induction d with
  | zero =>
    intro t n C R ht hn hC hR
    obtain ⟨q, rfl⟩ : ∃ q, n = q + 1 := ⟨n - 1, by omega⟩
    have e : t = 16 := by omega
    subst e
    exact br_t (nI_le (a := 16) (b := 16) (by omega) (by omega)) (k C R hC hR)
  | succ d ih =>
    intro t n C R ht hn hC hR
    obtain ⟨q, rfl⟩ : ∃ q, n = q + 1 := ⟨n - 1, by omega⟩
    have e2 : nI t - nI t / 5 * 5 = nI (t % 5) := pk_rem (d := 5) (by omega) (by omega) (by omega)
    have hnext : ∀ w : Nat, w = zz_cs t → wY_init_157 post (wY_init_135 post 1 0 q) (nI t) (nI w) (nI t) 1 0 O A (fun _ => 0) (fun _ => 0) C R (fun _ => 0) (fun _ => 0) (fun _ => 0) (fun _ => 0) := by
      intro w hw
      unfold wY_init_157
      rw [nI_clamp (by omega), nI_1 t]
      refine ⟨vp_in_nI (by omega) (by omega), nm_e ⟨vp_in_nI (by omega) (by omega), nm_e (nm_e (ih (t + 1) q _ _ (by omega) (by omega) ?_ ?_))⟩⟩
      · intro j hj
        by_cases e : j = t
        · rw [e, pk_us, hw]
        · rw [pk_un e]; exact hC j (by omega)
      · intro j hj
        by_cases e : j = t
        · rw [e, pk_us]
        · rw [pk_un e]; exact hR j (by omega)
    refine br_f (nI_ge (b := 16) (by omega) (by omega)) ⟨by decide, ?_⟩
    rw [e2]
    refine pk_eq (t % 5) 0 (fun h => hnext 0 ?_) (fun h => hnext 1 ?_)
    · unfold zz_cs; rw [if_pos h]
    · unfold zz_cs; rw [if_neg h]
theorem zy_in114 {post : SY → Prop} {O : Nat → Int32} (k : ∀ A C R, (∀ j, j < 16 → A j = -1) → (∀ j, j < 16 → C j = nI (zz_cs j)) → (∀ j, j < 16 → R j = 1) → post (1, 0, O, A, (fun _ => 0), (fun _ => 0), C, R, (fun _ => 0), (fun _ => 0), (fun _ => 0), (fun _ => 0))) :
    ∀ (d t n : Nat) (A : Nat → Int32), t + d = 16 → d < n → (∀ j, j < t → A j = -1) → wY_init_114 post 1 0 n (nI t) O A (fun _ => 0) (fun _ => 0) (fun _ => 0) (fun _ => 0) (fun _ => 0) (fun _ => 0) (fun _ => 0) (fun _ => 0) := by
  intro d
  induction d with
  | zero =>
    intro t n A ht hn hA
    obtain ⟨q, rfl⟩ : ∃ q, n = q + 1 := ⟨n - 1, by omega⟩
    have e : t = 16 := by omega
    subst e
    exact br_t (nI_le (a := 16) (b := 16) (by omega) (by omega)) ⟨17, zy_in135 (fun C R hC hR => k A C R hA hC hR) 16 0 17 _ _ (by omega) (by omega) (fun j hj => by omega) (fun j hj => by omega)⟩
  | succ d ih =>
    intro t n A ht hn hA
    obtain ⟨q, rfl⟩ : ∃ q, n = q + 1 := ⟨n - 1, by omega⟩
    refine br_f (nI_ge (b := 16) (by omega) (by omega)) ?_
    rw [nI_clamp (by omega), nI_1 t]
    refine ⟨vp_in_nI (by omega) (by omega), nm_e (nm_e (ih (t + 1) q _ (by omega) (by omega) ?_))⟩
    intro j hj
    by_cases e : j = t
    · rw [e, pk_us]
    · rw [pk_un e]; exact hA j (by omega)
theorem zy_in105 {post : SY → Prop} {z : Int32} {st : Nat} (hs : st < 256) (hz : z = nI st)
    (k : ∀ v, zy_S 1 0 (fun _ => 4294967295) (fun _ => 0) (fun _ => 0) (fun _ => st) zz_cs (fun _ => 1) v → post v) : wY_init_105 post z 1 0 (fun _ => 0) (fun _ => 0) (fun _ => 0) (fun _ => 0) (fun _ => 0) (fun _ => 0) (fun _ => 0) (fun _ => 0) (fun _ => 0) (fun _ => 0) := by
  subst hz
  unfold wY_init_105
  refine zy_give (l := 0) (by omega) hs (fun O hO1 hO2 => ?_)
  dsimp only
  refine ⟨17, zy_in114 (fun A C R hA hC hR => k _ ⟨rfl, rfl, ?_, ?_, ?_, ?_, hC, hR, ?_⟩) 16 0 17 _ (by omega) (by omega) (fun j hj => by omega)⟩
  · intro x hx s hs
    have e : x = 0 := by omega
    rw [e]
    exact hO1 s hs
  · intro x hx
    rw [zx_m1]
    exact hA x (by omega)
  · intro x hx; omega
  · intro x hx; omega
  · exact fun j hj => ⟨0, by omega, rfl⟩
theorem i_vc0 (k0 : Int32) : wpX_init (fun u => wpY_init (fun v => i_Rel 1 u v) k0) k0 := by
  have hst : ∃ st, (st < 256 ∧ k0 = nI st) ∨ ((¬ ∃ m, m < 256 ∧ k0 = nI m) ∧ st = 0) := by
    by_cases h : ∃ m, m < 256 ∧ k0 = nI m
    · obtain ⟨m, hm⟩ := h
      exact ⟨m, Or.inl hm⟩
    · exact ⟨0, Or.inr ⟨h, rfl⟩⟩
  obtain ⟨st, hst⟩ := hst
  have hs256 : st < 256 := by
    rcases hst with h | h
    · exact h.1
    · omega
  refine ⟨17, zx_in110 hst (fun u hX => ?_) 16 0 17 _ _ (by omega) (by omega) (fun j hj => by omega) (fun j hj => by omega)⟩
  have hfin : ∀ v, zy_S 1 0 (fun _ => 4294967295) (fun _ => 0) (fun _ => 0) (fun _ => st) zz_cs (fun _ => 1) v → i_Rel 1 u v := by
    intro v hY
    refine ⟨1, 0, _, _, _, _, _, fun _ => st, zz_cs, fun _ => 1, zz_T0, zz_C0, zz_C0, fun _ _ => hs256, ?_, hX, hY⟩
    intro j _
    unfold zz_cs
    split <;> omega
  unfold wpY_init
  have hz : (¬ ∃ m, m < 256 ∧ k0 = nI m) → wY_init_100 (fun v => i_Rel 1 u v) 1 0 (fun _ => 0) (fun _ => 0) (fun _ => 0) (fun _ => 0) (fun _ => 0) (fun _ => 0) (fun _ => 0) (fun _ => 0) (fun _ => 0) (fun _ => 0) := by
    intro hno
    rcases hst with h | h
    · exact absurd ⟨st, h⟩ hno
    · unfold wY_init_100
      exact zy_in105 (st := st) hs256 (by rw [h.2]; rfl) hfin
  by_cases hn : k0 < 0
  · refine br_t hn (hz ?_)
    rintro ⟨m, hm, rfl⟩
    exact nI_pos (by omega) hn
  · obtain ⟨m, hm, rfl⟩ := nI_of hn
    refine br_f hn (pk_le m 255 (fun h => ?_) (fun h => hz ?_))
    · rcases hst with h2 | h2
      · exact zy_in105 hs256 h2.2 hfin
      · exact absurd ⟨m, by omega, rfl⟩ h2.1
    · rintro ⟨j, hj, e⟩
      rw [nI_eq hm (by omega)] at e
      omega
end
section
/-! leavesBelow, least, total, ways, states, weight -/
theorem zz_ch {α β : Type} {r : α → β → Prop} (h : ∀ x, ∃ y, r x y) : ∃ f : α → β, ∀ x, r x (f x) := ⟨fun x => Classical.choose (h x), fun x => Classical.choose_spec (h x)⟩
section
variable {c top : Nat} {pr f1 f2 g1 g2 ow cs : Nat → Nat} {rt : Nat → Int32} {site : Nat} {L A : Nat → Nat → Nat} {M : Nat → Nat → Int32} {S : Nat → Nat → Int64}
theorem zy_bl4 {post : Int32 → Prop} {f_count f_top : Int32} {a_own a_above a_one a_two a_costs a_rates a_low a_many : Nat → Int32} {a_sums : Nat → Int64} {a_others : Nat → Int32} (hT : zt_TR c top pr) (hY : zy_S c top pr g1 g2 ow cs rt (f_count, f_top, a_own, a_above, a_one, a_two, a_costs, a_rates, a_low, a_many, a_sums, a_others)) {x : Nat} (hx : zt_nd c x) (k : post (zt_bs top pr x c)) :
    ∀ (d t n : Nat), t + d = c → d < n → wY_below_4 post (nI x) f_count f_top a_own a_above a_one a_two a_costs a_rates a_low a_many a_sums a_others n (zt_bs top pr x t) (nI t) := by
  have hc7 := hT.2.1
  have e1 : f_count = nI c := hY.1
  intro d
  induction d with
  | zero =>
    intro t n ht hn
    obtain ⟨q, rfl⟩ : ∃ q, n = q + 1 := ⟨n - 1, by omega⟩
    have e : t = c := by omega
    subst e
    exact br_t (by rw [e1]; exact nI_le (by omega) (by omega)) k
  | succ d ih =>
    intro t n ht hn
    obtain ⟨q, rfl⟩ : ∃ q, n = q + 1 := ⟨n - 1, by omega⟩
    have hi := ih (t + 1) q (by omega) (by omega)
    have e : zt_bs top pr x (t + 1) = if zt_un top pr t x = true then zt_bs top pr x t ||| ((1 : Int32) <<< (nI t &&& 31)) else zt_bs top pr x t := rfl
    rw [e] at hi
    refine br_f (by rw [e1]; exact nI_ge (by omega) (by omega)) ?_
    rw [nI_1 t]
    refine zy_over hT hY hx (Or.inl (by omega)) (fun h => br_f (by decide) (nm_e (nm_e ?_))) (fun h => br_t rfl (nm_e ?_))
    · rw [if_pos h] at hi; exact hi
    · rw [if_neg h] at hi; exact hi
theorem zy_below {post : Int32 → Prop} {f_count f_top : Int32} {a_own a_above a_one a_two a_costs a_rates a_low a_many : Nat → Int32} {a_sums : Nat → Int64} {a_others : Nat → Int32} (hT : zt_TR c top pr) (hY : zy_S c top pr g1 g2 ow cs rt (f_count, f_top, a_own, a_above, a_one, a_two, a_costs, a_rates, a_low, a_many, a_sums, a_others)) {x : Nat} (hx : zt_nd c x) (k : post (zt_bs top pr x c)) : wpY_below post (f_count, f_top, a_own, a_above, a_one, a_two, a_costs, a_rates, a_low, a_many, a_sums, a_others) (nI x) :=
  ⟨c + 1, zy_bl4 hT hY hx k c 0 (c + 1) (by omega) (by omega)⟩
theorem zy_cheapest {post : Int32 → SY → Prop} {f_count f_top : Int32} {a_own a_above a_one a_two a_costs a_rates a_low a_many : Nat → Int32} {a_sums : Nat → Int64} {a_others : Nat → Int32} (hT : zt_TR c top pr) (hC : zt_CH c top pr f1 f2) (hD : zt_CH c top pr g1 g2) (hY : zy_S c top pr g1 g2 ow cs rt (f_count, f_top, a_own, a_above, a_one, a_two, a_costs, a_rates, a_low, a_many, a_sums, a_others)) (hcs : ∀ j, j < 16 → cs j ≤ 9) (hsite : site < 4) (hL : zd_L c f1 f2 cs (zx_mb ow site) L) (hM : zd_M c f1 f2 cs (zx_mb ow site) L M) (hS : zd_S c f1 f2 rt (zx_mb ow site) S)
    (k : ∀ lw Lo M' Sm, zy_lw lw Lo → (∀ z, zt_nd c z → zy_gd (fun x s => min 1000 (L x s)) M S True lw M' Sm z) → post (nI (zd_mn 100000 (L top) 4)) (f_count, f_top, a_own, a_above, a_one, a_two, a_costs, a_rates, Lo, M', Sm, a_others)) : wpY_cheapest post (f_count, f_top, a_own, a_above, a_one, a_two, a_costs, a_rates, a_low, a_many, a_sums, a_others) (nI site) := by
  have hc7 := hT.2.1
  have hmb : ∀ x, x < 8 → ∃ s, s < 4 ∧ zx_mb ow site x s = true := fun x _ => zx_mb_ex ow site x
  have ltop := zx_l14 hc7 hT.2.2.1
  unfold wpY_cheapest
  dsimp only
  refine zy_work (W := True) hT hD hY hcs (zy_may_u hc7 hsite) (zd_Y_L hc7 hC hD hL) (fun _ => zd_Y_M hT hC hD hcs hmb hL hM) (fun _ => zd_Y_S hc7 hC hD hS) (fun lw Lo M' Sm h1 h2 => ?_)
  dsimp only
  have hb := zd_best hT hC hcs hmb hL
  refine zy_bottom (lc := fun s => min 1000 (L top s)) ltop hY.2.1 ?_ ?_
  · intro t ht
    have h3 := h1 (4 * top + t) (by omega)
    rw [(h2 top hT.2.2.1 t ht).1] at h3
    exact h3
  · rw [hb.2]
    exact k lw Lo M' Sm h1 h2
theorem zz_sol (hT : zt_TR c top pr) (hC : zt_CH c top pr f1 f2) (ow cs : Nat → Nat) (rt : Nat → Int32) (site : Nat) : ∃ L M S, zd_L c f1 f2 cs (zx_mb ow site) L ∧ zd_M c f1 f2 cs (zx_mb ow site) L M ∧ zd_S c f1 f2 rt (zx_mb ow site) S := by
  obtain ⟨L, hL⟩ := zd_L_ex hT hC cs (zx_mb ow site)
  obtain ⟨M, hM⟩ := zd_M_ex hT hC cs (zx_mb ow site) L
  obtain ⟨S, hS⟩ := zd_S_ex hT hC rt (zx_mb ow site)
  exact ⟨L, M, S, hL, hM, hS⟩
theorem zx_tot4 {post : Int32 → SX → Prop} {f_leafCount f_innerCount f_top f_listed : Int32} {a_parents a_firsts a_seconds a_own a_costs a_rates a_order a_sets a_below a_many a_above : Nat → Int32} {a_sums : Nat → Int64} {a_groups : Nat → Int32} (hT : zt_TR c top pr) (hC : zt_CH c top pr f1 f2) (hX : zx_S c top pr f1 f2 ow cs rt (f_leafCount, f_innerCount, f_top, f_listed, a_parents, a_firsts, a_seconds, a_own, a_costs, a_rates, a_order, a_sets, a_below, a_many, a_above, a_sums, a_groups)) (hcs : ∀ j, j < 16 → cs j ≤ 9) (how : ∀ x, x < c → ow x < 256) {LL : Nat → Nat → Nat → Nat} {MM : Nat → Nat → Nat → Int32} (hL : ∀ s, zd_L c f1 f2 cs (zx_mb ow s) (LL s)) (hM : ∀ s, zd_M c f1 f2 cs (zx_mb ow s) (LL s) (MM s))
    (k : ∀ u', zx_S c top pr f1 f2 ow cs rt u' → post (zd_sm (fun s => nI (zd_mn 100000 (LL s top) 4)) 4) u') :
    ∀ (d t n : Nat) (w : Int32) (O B M' : Nat → Int32), t + d = 4 → d < n → wX_total_4 post n (zd_sm (fun s => nI (zd_mn 100000 (LL s top) 4)) t) (nI t) f_leafCount f_innerCount f_top w a_parents a_firsts a_seconds a_own a_costs a_rates O a_sets B M' a_above a_sums a_groups := by
  intro d
  induction d with
  | zero =>
    intro t n w O B M' ht hn
    obtain ⟨q, rfl⟩ : ∃ q, n = q + 1 := ⟨n - 1, by omega⟩
    have e : t = 4 := by omega
    subst e
    exact br_t (nI_le (a := 4) (b := 4) (by omega) (by omega)) (k _ (zx_Sf hX w O a_sets B M' a_above a_sums a_groups))
  | succ d ih =>
    intro t n w O B M' ht hn
    obtain ⟨q, rfl⟩ : ∃ q, n = q + 1 := ⟨n - 1, by omega⟩
    refine br_f (nI_ge (b := 4) (by omega) (by omega)) ?_
    refine zx_leastFor hT hC (zx_Sf hX w O a_sets B M' a_above a_sums a_groups) hcs how (by omega) (hL t) (hM t) (fun N o O2 B2 M2 _ _ _ => ?_)
    dsimp only
    rw [nI_1 t]
    exact nm_e (nm_e (ih (t + 1) q (nI N) O2 B2 M2 (by omega) (by omega)))
/-- one total for both -/
theorem zz_total (hT : zt_TR c top pr) (hC : zt_CH c top pr f1 f2) (hD : zt_CH c top pr g1 g2) (hcs : ∀ j, j < 16 → cs j ≤ 9) (how : ∀ x, x < c → ow x < 256) (rt : Nat → Int32) :
    ∃ t : Int32, (∀ (u : SX) (post : Int32 → SX → Prop), zx_S c top pr f1 f2 ow cs rt u → (∀ u', zx_S c top pr f1 f2 ow cs rt u' → post t u') → wpX_total post u) ∧
      (∀ (v : SY) (post : Int32 → SY → Prop), zy_S c top pr g1 g2 ow cs rt v → (∀ v', zy_S c top pr g1 g2 ow cs rt v' → post t v') → wpY_sumOfAll post v) := by
  obtain ⟨LL, h⟩ := zz_ch (fun s => zz_sol hT hC ow cs rt s)
  obtain ⟨MM, h⟩ := zz_ch h
  obtain ⟨SS, h⟩ := zz_ch h
  have hL := fun s => (h s).1
  have hM := fun s => (h s).2.1
  have hS := fun s => (h s).2.2
  refine ⟨zd_sm (fun s => nI (zd_mn 100000 (LL s top) 4)) 4, ?_, ?_⟩
  · intro u post hX k
    obtain ⟨f_leafCount, f_innerCount, f_top, f_listed, a_parents, a_firsts, a_seconds, a_own, a_costs, a_rates, a_order, a_sets, a_below, a_many, a_above, a_sums, a_groups⟩ := u
    exact ⟨5, zx_tot4 hT hC hX hcs how hL hM k 4 0 5 _ _ _ _ (by omega) (by omega)⟩
  · intro v post hY k
    obtain ⟨f_count, f_top, a_own, a_above, a_one, a_two, a_costs, a_rates, a_low, a_many, a_sums, a_others⟩ := v
    unfold wpY_sumOfAll
    dsimp only
    refine zy_cheapest (site := 0) hT hC hD hY hcs (by omega) (hL 0) (hM 0) (hS 0) (fun lw Lo M' Sm h1 _ => ?_)
    dsimp only
    have hY1 := zy_Sf hY Lo M' Sm a_others (zy_lw_ex h1)
    refine zy_cheapest (site := 1) hT hC hD hY1 hcs (by omega) (hL 1) (hM 1) (hS 1) (fun lw Lo M' Sm h1 _ => ?_)
    dsimp only
    have hY2 := zy_Sf hY Lo M' Sm a_others (zy_lw_ex h1)
    refine zy_cheapest (site := 2) hT hC hD hY2 hcs (by omega) (hL 2) (hM 2) (hS 2) (fun lw Lo M' Sm h1 _ => ?_)
    dsimp only
    have hY3 := zy_Sf hY Lo M' Sm a_others (zy_lw_ex h1)
    refine zy_cheapest (site := 3) hT hC hD hY3 hcs (by omega) (hL 3) (hM 3) (hS 3) (fun lw Lo M' Sm h1 _ => ?_)
    dsimp only
    have hY4 := zy_Sf hY Lo M' Sm a_others (zy_lw_ex h1)
    have h5 := k _ hY4
    have e : zd_sm (fun s => nI (zd_mn 100000 (LL s top) 4)) 4 = 0 + nI (zd_mn 100000 (LL 0 top) 4) + nI (zd_mn 100000 (LL 1 top) 4) + nI (zd_mn 100000 (LL 2 top) 4) + nI (zd_mn 100000 (LL 3 top) 4) := rfl
    rw [e, Int32.zero_add] at h5
    exact h5
theorem zy_wy21 {post : Int32 → SY → Prop} {f_count f_top : Int32} {a_own a_above a_one a_two a_costs a_rates a_low a_many : Nat → Int32} {a_sums : Nat → Int64} {a_others : Nat → Int32} {b : Nat} {lc : Nat → Nat} {Mx : Nat → Int32} (htop : top < 14) (e3 : f_top = nI top) (hb : b ≤ 1000) (hl : ∀ t, t < 4 → a_low (4 * top + t) = nI (lc t) ∧ lc t ≤ 1000) (hMx : ∀ t, t < 4 → a_many (4 * top + t) = Mx t)
    (k : post (zd_sm (fun t => if lc t = b then Mx t else 0) 4) (f_count, f_top, a_own, a_above, a_one, a_two, a_costs, a_rates, a_low, a_many, a_sums, a_others)) :
    ∀ (d t n : Nat), t + d = 4 → d < n → wY_ways_21 post (nI b) f_count f_top a_own a_above a_one a_two a_costs a_rates a_low a_many a_sums a_others n (zd_sm (fun t => if lc t = b then Mx t else 0) t) (nI t) := by
  subst e3
  intro d
  induction d with
  | zero =>
    intro t n ht hn
    obtain ⟨q, rfl⟩ : ∃ q, n = q + 1 := ⟨n - 1, by omega⟩
    have e : t = 4 := by omega
    subst e
    exact br_t (nI_le (a := 4) (b := 4) (by omega) (by omega)) k
  | succ d ih =>
    intro t n ht hn
    obtain ⟨q, rfl⟩ : ∃ q, n = q + 1 := ⟨n - 1, by omega⟩
    have h1 := hl t (by omega)
    have h2 := hMx t (by omega)
    have hi := ih (t + 1) q (by omega) (by omega)
    have e : zd_sm (fun t => if lc t = b then Mx t else 0) (t + 1) = zd_sm (fun t => if lc t = b then Mx t else 0) t + (if lc t = b then Mx t else 0) := rfl
    rw [e] at hi
    generalize zd_sm (fun t => if lc t = b then Mx t else 0) t = m at *
    refine br_f (nI_ge (b := 4) (by omega) (by omega)) ?_
    rw [zy_ix, nI_clamp (by omega), h1.1, h2, nI_1 t]
    refine ⟨vp_in_nI (by omega) (by omega), ?_⟩
    refine pk_eq (lc t) b (fun h => ⟨vp_in_nI (by omega) (by omega), nm_e (nm_e ?_)⟩) (fun h => nm_e ?_)
    · rw [if_pos h] at hi; exact hi
    · rw [if_neg h, Int32.add_zero] at hi; exact hi
theorem zy_st33 {post : Int32 → SY → Prop} {f_count f_top : Int32} {a_own a_above a_one a_two a_costs a_rates a_low a_many : Nat → Int32} {a_sums : Nat → Int64} {a_others : Nat → Int32} (hT : zt_TR c top pr) (hC : zt_CH c top pr f1 f2) (hD : zt_CH c top pr g1 g2) (hY : zy_S c top pr g1 g2 ow cs rt (f_count, f_top, a_own, a_above, a_one, a_two, a_costs, a_rates, a_low, a_many, a_sums, a_others)) (hcs : ∀ j, j < 16 → cs j ≤ 9) (hsite : site < 4) (hL : zd_L c f1 f2 cs (zx_mb ow site) L) (hA : zd_A c top pr f1 f2 cs L A)
    {x b : Nat} (hx : zt_nd c x) (hb : b ≤ 108)
    (k : ∀ v', zy_S c top pr g1 g2 ow cs rt v' → post (zd_bt (fun t => decide (L x t + A x t = b)) 4) v') :
    ∀ (d t n : Nat) (Lo M' : Nat → Int32) (Sm : Nat → Int64), t + d = 4 → d < n → (∀ j, j < 64 → ∃ n, n ≤ 1000 ∧ Lo j = nI n) → wY_states_33 post (nI x) (nI site) (nI b) n (zd_bt (fun t => decide (L x t + A x t = b)) t) (nI t) f_count f_top a_own a_above a_one a_two a_costs a_rates Lo M' Sm a_others := by
  have hc7 := hT.2.1
  have ltop := zx_l14 hc7 hT.2.2.1
  intro d
  induction d with
  | zero =>
    intro t n Lo M' Sm ht hn hLo
    obtain ⟨q, rfl⟩ : ∃ q, n = q + 1 := ⟨n - 1, by omega⟩
    have e : t = 4 := by omega
    subst e
    exact br_t (nI_le (a := 4) (b := 4) (by omega) (by omega)) (k _ (zy_Sf hY Lo M' Sm a_others hLo))
  | succ d ih =>
    intro t n Lo M' Sm ht hn hLo
    obtain ⟨q, rfl⟩ : ∃ q, n = q + 1 := ⟨n - 1, by omega⟩
    have ht4 : t < 4 := by omega
    obtain ⟨lo, hlo⟩ := zd_Y_ex hT hD cs (zd_okf (zx_mb ow site) x t)
    have hfo := zd_forced hT hC hD hL hA hx ht4 hlo
    have e : zd_bt (fun t => decide (L x t + A x t = b)) (t + 1) = if decide (L x t + A x t = b) = true then zd_bt (fun t => decide (L x t + A x t = b)) t ||| ((1 : Int32) <<< (nI t &&& 31)) else zd_bt (fun t => decide (L x t + A x t = b)) t := rfl
    refine br_f (nI_ge (b := 4) (by omega) (by omega)) ?_
    refine zy_work (W := False) (M := fun _ _ => 0) (S := fun _ _ => 0) hT hD (zy_Sf hY Lo M' Sm a_others hLo) hcs (zy_may_f hc7 hsite hx ht4) hlo (fun h => h.elim) (fun h => h.elim) (fun lw Lo2 M2 Sm2 h1 h2 => ?_)
    have hi := ih (t + 1) q Lo2 M2 Sm2 (by omega) (by omega) (zy_lw_ex h1)
    rw [e] at hi
    clear ih
    generalize zd_bt (fun t => decide (L x t + A x t = b)) t = m at *
    dsimp only
    refine zy_bottom (lc := lo top) ltop hY.2.1 ?_ ?_
    · intro i hi
      have h3 := h1 (4 * top + i) (by omega)
      rw [(h2 top hT.2.2.1 i hi).1] at h3
      exact h3
    · rw [hfo, nI_1 t]
      refine pk_eq (min 1000 (L x t + A x t)) b (fun h => nm_e (nm_e ?_)) (fun h => nm_e ?_)
      · rw [if_pos (decide_eq_true (by omega))] at hi; exact hi
      · rw [if_neg (fun h2 => h (by have := of_decide_eq_true h2; omega))] at hi; exact hi
end
theorem i_vc_leavesBelow {k : Nat} {u : SX} {v : SY} (I : i_Rel k u v) (hk : k + 4 ≤ 2049) (v1 : Int32) : wpX_leavesBelow (fun r u' => wpY_leavesBelow (fun r' => r' = r ∧ i_Rel (k + 4) u' v) v v1) u v1 := by
  have I2 : i_Rel (k + 4) u v := I
  obtain ⟨c, top, pr, f1, f2, g1, g2, ow, cs, rt, hT, hC, hD, how, hcs, hX, hY⟩ := I
  have hc1 := hT.1
  have hc7 := hT.2.1
  obtain ⟨f_leafCount, f_innerCount, f_top, f_listed, a_parents, a_firsts, a_seconds, a_own, a_costs, a_rates, a_order, a_sets, a_below, a_many, a_above, a_sums, a_groups⟩ := u
  obtain ⟨f_count', f_top', a_own', a_above', a_one', a_two', a_costs', a_rates', a_low', a_many', a_sums', a_others'⟩ := v
  unfold wpX_leavesBelow wpY_leavesBelow
  dsimp only
  refine zx_isNode hc1 hc7 hX (fun x hx e => ?_) (fun hno => br_t rfl (zy_bad1 hc7 hY hno (br_f (by decide) ⟨rfl, I2⟩)))
  subst e
  have lx := zx_l14 hc7 hx
  refine br_f (by decide) (zx_findSets hT hC hX (fun w O Z hZ => ?_))
  dsimp only
  rw [zx_c14 lx, hZ x hx]
  refine ⟨zx_i14 lx, zy_bad0 hc7 hY hx (br_t rfl (zy_below hT hY hx ⟨rfl, ?_⟩))⟩
  exact ⟨c, top, pr, f1, f2, g1, g2, ow, cs, rt, hT, hC, hD, how, hcs, zx_Sf hX w O Z a_below a_many a_above a_sums a_groups, hY⟩
theorem i_vc_least {k : Nat} {u : SX} {v : SY} (I : i_Rel k u v) (hk : k + 4 ≤ 2049) (v1 : Int32) : wpX_least (fun r u' => wpY_least (fun r' v' => r' = r ∧ i_Rel (k + 4) u' v') v v1) u v1 := by
  have I2 : i_Rel (k + 4) u v := I
  obtain ⟨c, top, pr, f1, f2, g1, g2, ow, cs, rt, hT, hC, hD, how, hcs, hX, hY⟩ := I
  obtain ⟨f_leafCount, f_innerCount, f_top, f_listed, a_parents, a_firsts, a_seconds, a_own, a_costs, a_rates, a_order, a_sets, a_below, a_many, a_above, a_sums, a_groups⟩ := u
  obtain ⟨f_count', f_top', a_own', a_above', a_one', a_two', a_costs', a_rates', a_low', a_many', a_sums', a_others'⟩ := v
  unfold wpX_least wpY_least
  dsimp only
  refine zx_isState (fun s hs e => ?_) (fun hno => br_t rfl (zy_badState (fun m hm e => absurd ⟨m, hm, e⟩ hno) (fun _ => br_f (by decide) ⟨rfl, I2⟩)))
  subst e
  obtain ⟨L, M, S, hL, hM, hS⟩ := zz_sol hT hC ow cs rt s
  refine br_f (by decide) (zx_leastFor hT hC hX hcs how hs hL hM (fun N o O B M' _ _ _ => ?_))
  dsimp only
  refine zy_badState (fun _ _ _ => br_t rfl ?_) (fun h => absurd ⟨s, hs, rfl⟩ h)
  refine zy_cheapest hT hC hD hY hcs hs hL hM hS (fun lw Lo M2 Sm h1 _ => ⟨rfl, ?_⟩)
  exact ⟨c, top, pr, f1, f2, g1, g2, ow, cs, rt, hT, hC, hD, how, hcs, zx_Sf hX (nI N) O a_sets B M' a_above a_sums a_groups, zy_Sf hY Lo M2 Sm a_others' (zy_lw_ex h1)⟩
theorem i_vc_total {k : Nat} {u : SX} {v : SY} (I : i_Rel k u v) (hk : k + 4 ≤ 2049) : wpX_total (fun r u' => wpY_total (fun r' v' => r' = r ∧ i_Rel (k + 4) u' v') v) u := by
  obtain ⟨c, top, pr, f1, f2, g1, g2, ow, cs, rt, hT, hC, hD, how, hcs, hX, hY⟩ := I
  obtain ⟨t, h1, h2⟩ := zz_total (ow := ow) hT hC hD hcs how rt
  refine h1 u _ hX (fun u' hX' => ?_)
  obtain ⟨f_count', f_top', a_own', a_above', a_one', a_two', a_costs', a_rates', a_low', a_many', a_sums', a_others'⟩ := v
  unfold wpY_total
  dsimp only
  refine h2 _ _ hY (fun v' hY' => ?_)
  obtain ⟨f_count', f_top', a_own', a_above', a_one', a_two', a_costs', a_rates', a_low', a_many', a_sums', a_others'⟩ := v'
  exact ⟨rfl, c, top, pr, f1, f2, g1, g2, ow, cs, rt, hT, hC, hD, how, hcs, hX', hY'⟩
theorem i_vc_ways {k : Nat} {u : SX} {v : SY} (I : i_Rel k u v) (hk : k + 4 ≤ 2049) (v1 : Int32) : wpX_ways (fun r u' => wpY_ways (fun r' v' => r' = r ∧ i_Rel (k + 4) u' v') v v1) u v1 := by
  have I2 : i_Rel (k + 4) u v := I
  obtain ⟨c, top, pr, f1, f2, g1, g2, ow, cs, rt, hT, hC, hD, how, hcs, hX, hY⟩ := I
  have hc7 := hT.2.1
  have ltop := zx_l14 hc7 hT.2.2.1
  obtain ⟨f_leafCount, f_innerCount, f_top, f_listed, a_parents, a_firsts, a_seconds, a_own, a_costs, a_rates, a_order, a_sets, a_below, a_many, a_above, a_sums, a_groups⟩ := u
  obtain ⟨f_count', f_top', a_own', a_above', a_one', a_two', a_costs', a_rates', a_low', a_many', a_sums', a_others'⟩ := v
  unfold wpX_ways wpY_ways
  dsimp only
  refine zx_isState (fun s hs e => ?_) (fun hno => br_t rfl (zy_badState (fun m hm e => absurd ⟨m, hm, e⟩ hno) (fun _ => br_f (by decide) ⟨rfl, I2⟩)))
  subst e
  obtain ⟨L, M, S, hL, hM, hS⟩ := zz_sol hT hC ow cs rt s
  have hmb : ∀ x, x < 8 → ∃ t, t < 4 ∧ zx_mb ow s x t = true := fun x _ => zx_mb_ex ow s x
  have hb := (zd_best hT hC hcs hmb hL).1
  refine br_f (by decide) (zx_leastFor hT hC hX hcs how hs hL hM (fun N o O B M' _ _ hg => ?_))
  dsimp only
  refine ⟨5, zx_wy20 (Lx := L top) (Mx := M top) ltop hX.2.2.1 (by omega) (fun t ht => ⟨(hg top hT.2.2.1 t ht).1, zd_L_big hL hT.2.2.1 t⟩) (fun t ht => (hg top hT.2.2.1 t ht).2) ?_ 4 0 5 (by omega) (by omega)⟩
  refine zy_badState (fun _ _ _ => br_t rfl ?_) (fun h => absurd ⟨s, hs, rfl⟩ h)
  refine zy_cheapest hT hC hD hY hcs hs hL hM hS (fun lw Lo M2 Sm h1 h2 => ?_)
  dsimp only
  refine ⟨5, zy_wy21 (lc := fun t => min 1000 (L top t)) (Mx := M top) ltop hY.2.1 (by omega) ?_ (fun t ht => ((h2 top hT.2.2.1 t ht).2 trivial).1) ?_ 4 0 5 (by omega) (by omega)⟩
  · intro t ht
    have h3 := h1 (4 * top + t) (by omega)
    rw [(h2 top hT.2.2.1 t ht).1] at h3
    exact h3
  · refine ⟨zd_sm_congr 4 (fun t ht => ?_), c, top, pr, f1, f2, g1, g2, ow, cs, rt, hT, hC, hD, how, hcs, zx_Sf hX (nI N) O a_sets B M' a_above a_sums a_groups, zy_Sf hY Lo M2 Sm a_others' (zy_lw_ex h1)⟩
    by_cases e : L top t = zd_mn 100000 (L top) 4
    · rw [if_pos e, if_pos (by omega)]
    · rw [if_neg e, if_neg (by omega)]
theorem i_vc_states {k : Nat} {u : SX} {v : SY} (I : i_Rel k u v) (hk : k + 4 ≤ 2049) (v1 : Int32) (v2 : Int32) : wpX_states (fun r u' => wpY_states (fun r' v' => r' = r ∧ i_Rel (k + 4) u' v') v v1 v2) u v1 v2 := by
  have I2 : i_Rel (k + 4) u v := I
  obtain ⟨c, top, pr, f1, f2, g1, g2, ow, cs, rt, hT, hC, hD, how, hcs, hX, hY⟩ := I
  have hc1 := hT.1
  have hc7 := hT.2.1
  have ltop := zx_l14 hc7 hT.2.2.1
  obtain ⟨f_leafCount, f_innerCount, f_top, f_listed, a_parents, a_firsts, a_seconds, a_own, a_costs, a_rates, a_order, a_sets, a_below, a_many, a_above, a_sums, a_groups⟩ := u
  obtain ⟨f_count', f_top', a_own', a_above', a_one', a_two', a_costs', a_rates', a_low', a_many', a_sums', a_others'⟩ := v
  unfold wpX_states wpY_states
  dsimp only
  refine zx_isNode hc1 hc7 hX (fun x hx e => ?_) (fun hno => br_t rfl (zy_bad1 hc7 hY hno (br_f (by decide) ⟨rfl, I2⟩)))
  subst e
  refine br_f (by decide) (zx_isState (fun s hs e => ?_) (fun hno => br_t rfl (zy_bad0 hc7 hY hx (br_t rfl (zy_badState (fun m hm e => absurd ⟨m, hm, e⟩ hno) (fun _ => br_f (by decide) ⟨rfl, I2⟩))))))
  subst e
  have lx := zx_l14 hc7 hx
  obtain ⟨L, M, S, hL, hM, hS⟩ := zz_sol hT hC ow cs rt s
  obtain ⟨A, hA⟩ := zd_A_ex hT f1 f2 cs L
  have hmb : ∀ x, x < 8 → ∃ t, t < 4 ∧ zx_mb ow s x t = true := fun x _ => zx_mb_ex ow s x
  have hb := (zd_best hT hC hcs hmb hL).1
  refine br_f (by decide) (zx_leastFor hT hC hX hcs how hs hL hM (fun N o O B M' hO ho hg => ?_))
  dsimp only
  refine zx_workDown hT hC (zx_Sf hX (nI N) O a_sets B M' a_above a_sums a_groups) hcs hL hA (fun z hz t ht => (hg z hz t ht).1) hO ho rfl (fun Ab hAb => ?_)
  dsimp only
  refine ⟨5, zx_st36 (Lx := L x) (Ax := A x) lx (by omega) (fun t ht => ⟨(hg x hx t ht).1, zd_L_big hL hx t⟩) (fun t ht => ⟨hAb x hx t ht, zx_A_big hT hA hx t⟩) ?_ 4 0 5 (by omega) (by omega)⟩
  refine zy_bad0 hc7 hY hx (br_t rfl (zy_badState (fun _ _ _ => br_t rfl ?_) (fun h => absurd ⟨s, hs, rfl⟩ h)))
  refine zy_cheapest hT hC hD hY hcs hs hL hM hS (fun lw Lo M2 Sm h1 h2 => ?_)
  dsimp only
  refine ⟨5, zy_st33 hT hC hD hY hcs hs hL hA hx hb (fun v' hY' => ⟨rfl, ?_⟩) 4 0 5 Lo M2 Sm (by omega) (by omega) (zy_lw_ex h1)⟩
  exact ⟨c, top, pr, f1, f2, g1, g2, ow, cs, rt, hT, hC, hD, how, hcs, zx_Sf hX (nI N) O a_sets B M' Ab a_sums a_groups, hY'⟩
theorem i_vc_weight {k : Nat} {u : SX} {v : SY} (I : i_Rel k u v) (hk : k + 4 ≤ 2049) (v1 : Int32) : wpX_weight (fun r u' => wpY_weight (fun r' v' => r' = r ∧ i_Rel (k + 4) u' v') v v1) u v1 := by
  have I2 : i_Rel (k + 4) u v := I
  obtain ⟨c, top, pr, f1, f2, g1, g2, ow, cs, rt, hT, hC, hD, how, hcs, hX, hY⟩ := I
  have hc7 := hT.2.1
  have ltop := zx_l14 hc7 hT.2.2.1
  obtain ⟨f_leafCount, f_innerCount, f_top, f_listed, a_parents, a_firsts, a_seconds, a_own, a_costs, a_rates, a_order, a_sets, a_below, a_many, a_above, a_sums, a_groups⟩ := u
  obtain ⟨f_count', f_top', a_own', a_above', a_one', a_two', a_costs', a_rates', a_low', a_many', a_sums', a_others'⟩ := v
  have b2 : f_top' = nI top := hY.2.1
  subst b2
  unfold wpX_weight wpY_weight
  dsimp only
  refine zx_isState (fun s hs e => ?_) (fun hno => br_t rfl (zy_badState (fun m hm e => absurd ⟨m, hm, e⟩ hno) (fun _ => br_f (by decide) ⟨rfl, I2⟩)))
  subst e
  obtain ⟨L, M, S, hL, hM, hS⟩ := zz_sol hT hC ow cs rt s
  have hmb : ∀ x, x < 8 → ∃ t, t < 4 ∧ zx_mb ow s x t = true := fun x _ => zx_mb_ex ow s x
  refine br_f (by decide) (zx_listNodes hT hC hX (fun N o O hO ho => ?_))
  dsimp only
  refine nm_r (zx_dk_N hO.1.2) ⟨N + 1, ?_⟩
  refine zx_w22 (a_sums := a_sums) hT hC (zx_Sf hX (nI N) O a_sets a_below a_many a_above a_sums a_groups) how hs hS hO ho (fun Sm => ?_) N (N + 1) a_sums (by omega) (by omega) (fun k h1 h2 => by omega)
  refine zy_badState (fun _ _ _ => br_t rfl ?_) (fun h => absurd ⟨s, hs, rfl⟩ h)
  refine zy_work (W := True) hT hD hY hcs (zy_may_u hc7 hs) (zd_Y_L hc7 hC hD hL) (fun _ => zd_Y_M hT hC hD hcs hmb hL hM) (fun _ => zd_Y_S hc7 hC hD hS) (fun lw Lo M' Sm' h1 h2 => ?_)
  dsimp only
  have i0 : (4 : Int32) * nI top = nI (4 * top + 0) := by rw [Nat.add_zero]; exact pk_mul 4 top
  have i1 : (4 : Int32) * nI top + 1 = nI (4 * top + 1) := zy_ix (s := 1)
  have i2 : (4 : Int32) * nI top + 2 = nI (4 * top + 2) := zy_ix (s := 2)
  have i3 : (4 : Int32) * nI top + 3 = nI (4 * top + 3) := zy_ix (s := 3)
  rw [i1, i2, i3, i0, nI_clamp (by omega), nI_clamp (by omega), nI_clamp (by omega), nI_clamp (by omega)]
  have hg := fun t ht => ((h2 top hT.2.2.1 t ht).2 trivial).2
  rw [hg 0 (by omega), hg 1 (by omega), hg 2 (by omega), hg 3 (by omega)]
  refine ⟨vp_in_nI (by omega) (by omega), vp_in_nI (by omega) (by omega), vp_in_nI (by omega) (by omega), vp_in_nI (by omega) (by omega), ?_, ?_⟩
  · have e : zd_sL (S top) 4 = 0 + S top 0 + S top 1 + S top 2 + S top 3 := rfl
    rw [e, Int64.zero_add]
  · exact ⟨c, top, pr, f1, f2, g1, g2, ow, cs, rt, hT, hC, hD, how, hcs, zx_Sf hX (nI N) O a_sets a_below a_many a_above Sm a_groups, zy_Sf hY Lo M' Sm' a_others' (zy_lw_ex h1)⟩
end
section
/-! bestPlace -/
def zz_bp (c : Nat) (T : Nat → Int32) : Nat → Int32 × Int32
  | 0 => (-1, 0)
  | x + 1 => if zt_nd c x then (if (zz_bp c T x).1 = -1 then (nI x, T x) else if (zz_bp c T x).2 ≤ T x then zz_bp c T x else (nI x, T x)) else zz_bp c T x
theorem zz_bp1 (c : Nat) (T : Nat → Int32) : ∀ x, x ≤ 14 → (zz_bp c T x).1 = -1 ∨ ∃ j, j < 14 ∧ (zz_bp c T x).1 = nI j := by
  intro x
  induction x with
  | zero => intro _; exact Or.inl rfl
  | succ x ih =>
    intro hx
    have h := ih (by omega)
    have e : zz_bp c T (x + 1) = if zt_nd c x then (if (zz_bp c T x).1 = -1 then (nI x, T x) else if (zz_bp c T x).2 ≤ T x then zz_bp c T x else (nI x, T x)) else zz_bp c T x := rfl
    rw [e]
    split
    · split
      · exact Or.inr ⟨x, by omega, rfl⟩
      · split
        · exact h
        · exact Or.inr ⟨x, by omega, rfl⟩
    · exact h
section
variable {c top : Nat} {pr f1 f2 g1 g2 ow cs : Nat → Nat} {rt : Nat → Int32}
theorem zz_att (hT : zt_TR c top pr) (hc6 : c ≤ 6) {x : Nat} (hx : zt_nd c x) : zt_TR (c + 1) (if x = top then 7 + c else top) (zo_up (zo_up (zo_up pr (7 + c) (pr x)) x (7 + c)) c (7 + c)) ∧
    (∀ f1 f2, zt_CH c top pr f1 f2 → zt_CH (c + 1) (if x = top then 7 + c else top) (zo_up (zo_up (zo_up pr (7 + c) (pr x)) x (7 + c)) c (7 + c)) (zo_up (zo_rn f1 x (7 + c)) (7 + c) x) (zo_up (zo_rn f2 x (7 + c)) (7 + c) c)) := by
  obtain ⟨q1, q2, q3, q4⟩ : (zo_up (zo_up (zo_up pr (7 + c) (pr x)) x (7 + c)) c (7 + c) c = 7 + c) ∧ (zo_up (zo_up (zo_up pr (7 + c) (pr x)) x (7 + c)) c (7 + c) x = 7 + c) ∧ (zo_up (zo_up (zo_up pr (7 + c) (pr x)) x (7 + c)) c (7 + c) (7 + c) = pr x) ∧ (∀ z, zt_nd c z → z ≠ x → zo_up (zo_up (zo_up pr (7 + c) (pr x)) x (7 + c)) c (7 + c) z = pr z) := by
    refine ⟨zo_up_s, by rw [zo_up_n (by omega), zo_up_s], by rw [zo_up_n (by omega), zo_up_n (by omega), zo_up_s], fun z hz hne => by rw [zo_up_n (by omega), zo_up_n hne, zo_up_n (by omega)]⟩
  have hn : ∀ (f : Nat → Nat) (w q : Nat), zt_in c q → zo_up (zo_rn f x (7 + c)) (7 + c) w q = if f q = x then 7 + c else f q := fun f w q hq => zo_up_n (by omega)
  exact ⟨zo_att_T hT hc6 hx q1 q2 q3 q4 rfl, fun f1 f2 hC => zo_att_C hT hC hc6 hx q1 q2 q3 q4 rfl zo_up_s zo_up_s (hn f1 x) (hn f2 c)⟩
theorem zx_bp28 {post : Int32 → SX → Prop} (hc6 : c ≤ 6) (hT : zt_TR c top pr) (hC : zt_CH c top pr f1 f2) {st : Nat} {T : Nat → Int32}
    (hTot : ∀ x, zt_nd c x → ∀ (u : SX) (post : Int32 → SX → Prop), zx_S (c + 1) (if x = top then 7 + c else top) (zo_up (zo_up (zo_up pr (7 + c) (pr x)) x (7 + c)) c (7 + c)) (zo_up (zo_rn f1 x (7 + c)) (7 + c) x) (zo_up (zo_rn f2 x (7 + c)) (7 + c) c) (zo_up ow c st) cs rt u → (∀ u', zx_S (c + 1) (if x = top then 7 + c else top) (zo_up (zo_up (zo_up pr (7 + c) (pr x)) x (7 + c)) c (7 + c)) (zo_up (zo_rn f1 x (7 + c)) (7 + c) x) (zo_up (zo_rn f2 x (7 + c)) (7 + c) c) (zo_up ow c st) cs rt u' → post (T x) u') → wpX_total post u)
    (k : ∀ u', zx_S c top pr f1 f2 ow cs rt u' → post (zz_bp c T 14).1 u') :
    ∀ (m x n : Nat), x + m = 14 → m < n → ∀ (f_leafCount f_innerCount f_top f_listed : Int32) (a_parents a_firsts a_seconds a_own a_costs a_rates a_order a_sets a_below a_many a_above : Nat → Int32) (a_sums : Nat → Int64) (a_groups : Nat → Int32), zx_S c top pr f1 f2 ow cs rt (f_leafCount, f_innerCount, f_top, f_listed, a_parents, a_firsts, a_seconds, a_own, a_costs, a_rates, a_order, a_sets, a_below, a_many, a_above, a_sums, a_groups) → wX_bestPlace_28 post (nI st) n (zz_bp c T x).1 (zz_bp c T x).2 (nI x) f_leafCount f_innerCount f_top f_listed a_parents a_firsts a_seconds a_own a_costs a_rates a_order a_sets a_below a_many a_above a_sums a_groups := by
  have hc1 := hT.1
  have hc7 := hT.2.1
  intro m
  induction m with
  | zero =>
    intro x n hx hn
    intro f_leafCount f_innerCount f_top f_listed a_parents a_firsts a_seconds a_own a_costs a_rates a_order a_sets a_below a_many a_above a_sums a_groups hX
    obtain ⟨q, rfl⟩ : ∃ q, n = q + 1 := ⟨n - 1, by omega⟩
    have e : x = 14 := by omega
    subst e
    exact br_t (nI_le (a := 14) (b := 14) (by omega) (by omega)) (k _ hX)
  | succ m ih =>
    intro x n hx hn
    intro f_leafCount f_innerCount f_top f_listed a_parents a_firsts a_seconds a_own a_costs a_rates a_order a_sets a_below a_many a_above a_sums a_groups hX
    obtain ⟨q, rfl⟩ : ∃ q, n = q + 1 := ⟨n - 1, by omega⟩
    have hi := ih (x + 1) q (by omega) (by omega)
    clear ih
    have e : zz_bp c T (x + 1) = if zt_nd c x then (if (zz_bp c T x).1 = -1 then (nI x, T x) else if (zz_bp c T x).2 ≤ T x then zz_bp c T x else (nI x, T x)) else zz_bp c T x := rfl
    rw [e] at hi
    generalize zz_bp c T x = p at *
    refine br_f (nI_ge (b := 14) (by omega) (by omega)) ?_
    rw [nI_1 x]
    by_cases hnd : zt_nd c x
    · rw [if_pos hnd] at hi
      refine zx_isNode1 hc1 hc7 hX hnd (br_f (by decide) ?_)
      refine zx_addLeaf hc6 hT hC hX hnd st (fun u1 hX1 => ?_)
      obtain ⟨f_leafCount, f_innerCount, f_top, f_listed, a_parents, a_firsts, a_seconds, a_own, a_costs, a_rates, a_order, a_sets, a_below, a_many, a_above, a_sums, a_groups⟩ := u1
      dsimp only
      refine hTot x hnd _ _ hX1 (fun u2 hX2 => ?_)
      obtain ⟨f_leafCount, f_innerCount, f_top, f_listed, a_parents, a_firsts, a_seconds, a_own, a_costs, a_rates, a_order, a_sets, a_below, a_many, a_above, a_sums, a_groups⟩ := u2
      dsimp only
      refine zx_dropLeaf hc6 hT hC hnd hX2 (fun u3 hX3 => ?_)
      obtain ⟨f_leafCount, f_innerCount, f_top, f_listed, a_parents, a_firsts, a_seconds, a_own, a_costs, a_rates, a_order, a_sets, a_below, a_many, a_above, a_sums, a_groups⟩ := u3
      dsimp only
      refine br_c (fun h1 => nm_e ?_) (fun h1 => br_c (fun h2 => nm_e ?_) (fun h2 => nm_e ?_))
      · rw [if_pos h1] at hi
        exact hi _ _ _ _ _ _ _ _ _ _ _ _ _ _ _ _ _ hX3
      · rw [if_neg h1, if_pos h2] at hi
        exact hi _ _ _ _ _ _ _ _ _ _ _ _ _ _ _ _ _ hX3
      · rw [if_neg h1, if_neg h2] at hi
        exact hi _ _ _ _ _ _ _ _ _ _ _ _ _ _ _ _ _ hX3
    · rw [if_neg hnd] at hi
      refine zx_isNode0 hc1 hc7 hX ?_ (br_t rfl (nm_e (hi _ _ _ _ _ _ _ _ _ _ _ _ _ _ _ _ _ hX)))
      rintro ⟨j, hj, e⟩
      rw [nI_eq (by omega) (by omega)] at e
      exact hnd (by rw [e]; exact hj)
theorem zy_bp29 {post : Int32 → SY → Prop} (hc6 : c ≤ 6) (hT : zt_TR c top pr) (hC : zt_CH c top pr g1 g2) {st : Nat} (hst : st < 256) {T : Nat → Int32}
    (hTot : ∀ x, zt_nd c x → ∀ (v : SY) (post : Int32 → SY → Prop), zy_S (c + 1) (if x = top then 7 + c else top) (zo_up (zo_up (zo_up pr (7 + c) (pr x)) x (7 + c)) c (7 + c)) (zo_up (zo_rn g1 x (7 + c)) (7 + c) x) (zo_up (zo_rn g2 x (7 + c)) (7 + c) c) (zo_up ow c st) cs rt v → (∀ v', zy_S (c + 1) (if x = top then 7 + c else top) (zo_up (zo_up (zo_up pr (7 + c) (pr x)) x (7 + c)) c (7 + c)) (zo_up (zo_rn g1 x (7 + c)) (7 + c) x) (zo_up (zo_rn g2 x (7 + c)) (7 + c) c) (zo_up ow c st) cs rt v' → post (T x) v') → wpY_sumOfAll post v)
    (k : ∀ v', zy_S c top pr g1 g2 ow cs rt v' → post (zz_bp c T 14).1 v') :
    ∀ (m x n : Nat), x + m = 14 → m < n → ∀ (f_count f_top : Int32) (a_own a_above a_one a_two a_costs a_rates a_low a_many : Nat → Int32) (a_sums : Nat → Int64) (a_others : Nat → Int32), zy_S c top pr g1 g2 ow cs rt (f_count, f_top, a_own, a_above, a_one, a_two, a_costs, a_rates, a_low, a_many, a_sums, a_others) → wY_bestPlace_29 post (nI st) n (zz_bp c T x).1 (zz_bp c T x).2 (nI x) f_count f_top a_own a_above a_one a_two a_costs a_rates a_low a_many a_sums a_others := by
  have hc7 := hT.2.1
  intro m
  induction m with
  | zero =>
    intro x n hx hn
    intro f_count f_top a_own a_above a_one a_two a_costs a_rates a_low a_many a_sums a_others hY
    obtain ⟨q, rfl⟩ : ∃ q, n = q + 1 := ⟨n - 1, by omega⟩
    have e : x = 14 := by omega
    subst e
    exact br_t (nI_le (a := 14) (b := 14) (by omega) (by omega)) (k _ hY)
  | succ m ih =>
    intro x n hx hn
    intro f_count f_top a_own a_above a_one a_two a_costs a_rates a_low a_many a_sums a_others hY
    obtain ⟨q, rfl⟩ : ∃ q, n = q + 1 := ⟨n - 1, by omega⟩
    have hi := ih (x + 1) q (by omega) (by omega)
    clear ih
    have e : zz_bp c T (x + 1) = if zt_nd c x then (if (zz_bp c T x).1 = -1 then (nI x, T x) else if (zz_bp c T x).2 ≤ T x then zz_bp c T x else (nI x, T x)) else zz_bp c T x := rfl
    rw [e] at hi
    have hneg : (zz_bp c T x).1 < 0 ↔ (zz_bp c T x).1 = -1 := by
      constructor
      · intro h
        rcases zz_bp1 c T x (by omega) with h2 | ⟨j, hj, h2⟩
        · exact h2
        · rw [h2] at h
          exact absurd h (nI_pos (by omega))
      · intro h; rw [h]; decide
    generalize zz_bp c T x = p at *
    refine br_f (nI_ge (b := 14) (by omega) (by omega)) ?_
    rw [nI_1 x]
    by_cases hnd : zt_nd c x
    · rw [if_pos hnd] at hi
      refine zy_bad0 hc7 hY hnd (br_t rfl ?_)
      refine zy_putIn hc6 hT hC hY hnd hst (fun v1 hY1 => ?_)
      obtain ⟨f_count, f_top, a_own, a_above, a_one, a_two, a_costs, a_rates, a_low, a_many, a_sums, a_others⟩ := v1
      dsimp only
      refine hTot x hnd _ _ hY1 (fun v2 hY2 => ?_)
      obtain ⟨f_count, f_top, a_own, a_above, a_one, a_two, a_costs, a_rates, a_low, a_many, a_sums, a_others⟩ := v2
      dsimp only
      have e7 : (7 + f_count) - 1 = nI (7 + c) := by
        have h1 : f_count = nI (c + 1) := hY2.1
        rw [h1, zy_7c]
        exact nI_pred (7 + c)
      rw [e7]
      refine zy_drop hc6 hT hC hnd hY2 ?_
      intro f_count f_top a_own a_above a_one a_two a_costs a_rates a_low a_many a_sums a_others ec hY3
      dsimp only
      refine nm_r (e' := nI c) (by rw [ec]; exact nI_pred c) ?_
      refine br_c (fun h1 => nm_e ?_) (fun h1 => br_c (fun h2 => nm_e ?_) (fun h2 => nm_e ?_))
      · rw [if_pos (hneg.mp h1)] at hi
        exact hi _ _ _ _ _ _ _ _ _ _ _ _ hY3
      · rw [if_neg (fun h => h1 (hneg.mpr h)), if_pos h2] at hi
        exact hi _ _ _ _ _ _ _ _ _ _ _ _ hY3
      · rw [if_neg (fun h => h1 (hneg.mpr h)), if_neg h2] at hi
        exact hi _ _ _ _ _ _ _ _ _ _ _ _ hY3
    · rw [if_neg hnd] at hi
      refine zy_bad1 hc7 hY ?_ (br_f (by decide) (nm_e (hi _ _ _ _ _ _ _ _ _ _ _ _ hY)))
      rintro ⟨j, hj, e⟩
      rw [nI_eq (by omega) (by omega)] at e
      exact hnd (by rw [e]; exact hj)
end
theorem i_vc_bestPlace {k : Nat} {u : SX} {v : SY} (I : i_Rel k u v) (hk : k + 4 ≤ 2049) (v1 : Int32) : wpX_bestPlace (fun r u' => wpY_bestPlace (fun r' v' => r' = r ∧ i_Rel (k + 4) u' v') v v1) u v1 := by
  have I2 : i_Rel (k + 4) u v := I
  obtain ⟨c, top, pr, f1, f2, g1, g2, ow, cs, rt, hT, hC, hD, how, hcs, hX, hY⟩ := I
  have hc1 := hT.1
  have hc7 := hT.2.1
  obtain ⟨f_leafCount, f_innerCount, f_top, f_listed, a_parents, a_firsts, a_seconds, a_own, a_costs, a_rates, a_order, a_sets, a_below, a_many, a_above, a_sums, a_groups⟩ := u
  obtain ⟨f_count', f_top', a_own', a_above', a_one', a_two', a_costs', a_rates', a_low', a_many', a_sums', a_others'⟩ := v
  unfold wpX_bestPlace wpY_bestPlace
  dsimp only
  refine zx_isStates (fun st hst e => ?_) (fun hno => br_t rfl (zy_badStates (fun m hm e => absurd ⟨m, hm, e⟩ hno) (fun _ => br_f (by decide) ⟨rfl, I2⟩)))
  subst e
  refine br_f (by decide) (pk_eq c 7 (fun h7 => ?_) (fun h7 => ?_) hX.1 rfl)
  · refine zy_badStates (fun _ _ _ => br_t rfl ?_) (fun h => absurd ⟨st, hst, rfl⟩ h)
    exact pk_le c 6 (fun h => by omega) (fun h => ⟨rfl, I2⟩) hY.1 rfl
  · have hc6 : c ≤ 6 := by omega
    have how' : ∀ z, z < c + 1 → zo_up ow c st z < 256 := by
      intro z hz
      by_cases e : z = c
      · rw [e, zo_up_s]; exact hst
      · rw [zo_up_n e]; exact how z (by omega)
    have hex : ∀ x, ∃ t : Int32, zt_nd c x → (∀ (u : SX) (post : Int32 → SX → Prop), zx_S (c + 1) (if x = top then 7 + c else top) (zo_up (zo_up (zo_up pr (7 + c) (pr x)) x (7 + c)) c (7 + c)) (zo_up (zo_rn f1 x (7 + c)) (7 + c) x) (zo_up (zo_rn f2 x (7 + c)) (7 + c) c) (zo_up ow c st) cs rt u → (∀ u', zx_S (c + 1) (if x = top then 7 + c else top) (zo_up (zo_up (zo_up pr (7 + c) (pr x)) x (7 + c)) c (7 + c)) (zo_up (zo_rn f1 x (7 + c)) (7 + c) x) (zo_up (zo_rn f2 x (7 + c)) (7 + c) c) (zo_up ow c st) cs rt u' → post t u') → wpX_total post u) ∧ (∀ (v : SY) (post : Int32 → SY → Prop), zy_S (c + 1) (if x = top then 7 + c else top) (zo_up (zo_up (zo_up pr (7 + c) (pr x)) x (7 + c)) c (7 + c)) (zo_up (zo_rn g1 x (7 + c)) (7 + c) x) (zo_up (zo_rn g2 x (7 + c)) (7 + c) c) (zo_up ow c st) cs rt v → (∀ v', zy_S (c + 1) (if x = top then 7 + c else top) (zo_up (zo_up (zo_up pr (7 + c) (pr x)) x (7 + c)) c (7 + c)) (zo_up (zo_rn g1 x (7 + c)) (7 + c) x) (zo_up (zo_rn g2 x (7 + c)) (7 + c) c) (zo_up ow c st) cs rt v' → post t v') → wpY_sumOfAll post v) := by
      intro x
      by_cases hx : zt_nd c x
      · obtain ⟨hT', hC'⟩ := zz_att hT hc6 hx
        obtain ⟨t, h1, h2⟩ := zz_total (ow := zo_up ow c st) hT' (hC' f1 f2 hC) (hC' g1 g2 hD) hcs how' rt
        exact ⟨t, fun _ => ⟨h1, h2⟩⟩
      · exact ⟨0, fun h => absurd h hx⟩
    obtain ⟨T, hTT⟩ := zz_ch hex
    refine ⟨15, zx_bp28 hc6 hT hC (T := T) (fun x hx => (hTT x hx).1) (fun u' hX' => ?_) 14 0 15 (by omega) (by omega) _ _ _ _ _ _ _ _ _ _ _ _ _ _ _ _ _ hX⟩
    refine zy_badStates (fun _ _ _ => br_t rfl ?_) (fun h => absurd ⟨st, hst, rfl⟩ h)
    refine pk_le c 6 (fun _ => ?_) (fun h => by omega) hY.1 rfl
    refine ⟨15, zy_bp29 hc6 hT hD hst (T := T) (fun x hx => (hTT x hx).2) (fun v' hY' => ⟨rfl, ?_⟩) 14 0 15 (by omega) (by omega) _ _ _ _ _ _ _ _ _ _ _ _ hY⟩
    exact ⟨c, top, pr, f1, f2, g1, g2, ow, cs, rt, hT, hC, hD, how, hcs, hX', hY'⟩
end
section
/-! keptBy -/
theorem zz_or : ∀ n, n < 7 → ∀ m, m < 2 ^ n → nI m ||| ((1 : Int32) <<< (nI n &&& 31)) = nI (m + 2 ^ n) := by decide +kernel
theorem zz_size : ∀ c, c < 8 → ∀ m, m < 2 ^ c → (nI c ≤ zd_sm (fun i => (nI m >>> (nI i &&& 31)) &&& 1) 7 ↔ nI m = ((1 : Int32) <<< (nI c &&& 31)) - 1) := by decide +kernel
theorem zt_bs_m (top : Nat) (pr : Nat → Nat) (x : Nat) : ∀ n, n ≤ 7 → ∃ m, m < 2 ^ n ∧ zt_bs top pr x n = nI m := by
  intro n
  induction n with
  | zero => intro _; exact ⟨0, by decide, rfl⟩
  | succ n ih =>
    intro hn
    obtain ⟨m, hm, e⟩ := ih (by omega)
    have e2 : zt_bs top pr x (n + 1) = if zt_un top pr n x = true then zt_bs top pr x n ||| ((1 : Int32) <<< (nI n &&& 31)) else zt_bs top pr x n := rfl
    have hp : 2 ^ (n + 1) = 2 ^ n + 2 ^ n := by rw [Nat.pow_succ]; omega
    rw [e2, e]
    split
    · exact ⟨m + 2 ^ n, by omega, zz_or n (by omega) m hm⟩
    · exact ⟨m, by omega, rfl⟩
def zz_kf (q : Nat → Bool) : Nat → Int32
  | 0 => 0
  | t + 1 => if q (8 + t) = true then zz_kf q t + 1 else zz_kf q t
theorem zz_bool (P : Nat → Prop) : ∃ q : Nat → Bool, ∀ z, q z = true ↔ P z :=
  ⟨fun z => @decide (P z) (Classical.propDecidable _), fun z => @decide_eq_true_iff (P z) (Classical.propDecidable _)⟩
section
variable {c top : Nat} {pr pr' f1 f2 g1 g2 h1 h2 ow cs : Nat → Nat} {rt : Nat → Int32} {G H : Nat → Int32} {q : Nat → Bool}
theorem zx_S_pr {f_leafCount f_innerCount f_top f_listed : Int32} {a_parents a_firsts a_seconds a_own a_costs a_rates a_order a_sets a_below a_many a_above : Nat → Int32} {a_sums : Nat → Int64} {a_groups : Nat → Int32} (hpr : ∀ z, zt_nd c z → pr' z = pr z) (e1 : ∀ z, zt_in c z → f1 z = h1 z) (e2 : ∀ z, zt_in c z → f2 z = h2 z) (hS : zx_S c top pr' h1 h2 ow cs rt (f_leafCount, f_innerCount, f_top, f_listed, a_parents, a_firsts, a_seconds, a_own, a_costs, a_rates, a_order, a_sets, a_below, a_many, a_above, a_sums, a_groups)) : zx_S c top pr f1 f2 ow cs rt (f_leafCount, f_innerCount, f_top, f_listed, a_parents, a_firsts, a_seconds, a_own, a_costs, a_rates, a_order, a_sets, a_below, a_many, a_above, a_sums, a_groups) := by
  obtain ⟨a1, a2, a3, a4, a5, a6, a7, a8, a9⟩ := hS
  exact ⟨a1, a2, a3, fun z hz => by rw [← hpr z hz]; exact a4 z hz, fun z hz => by rw [e1 z hz]; exact a5 z hz, fun z hz => by rw [e2 z hz]; exact a6 z hz, a7, a8, a9⟩
/-- exchanged twice: as before -/
theorem zz_ex2 (pr : Nat → Nat) {x y : Nat} (hxy : x ≠ y) : ∀ z, zo_up (zo_up (zo_up (zo_up pr x (pr y)) y (pr x)) x (zo_up (zo_up pr x (pr y)) y (pr x) y)) y (zo_up (zo_up pr x (pr y)) y (pr x) x) z = pr z := by
  obtain ⟨q1, q2, q3⟩ := zo_ex_pr pr hxy
  obtain ⟨r1, r2, r3⟩ := zo_ex_pr (zo_up (zo_up pr x (pr y)) y (pr x)) hxy
  intro z
  by_cases e1 : z = x
  · rw [e1, r1, q2]
  · by_cases e2 : z = y
    · rw [e2, r2, q1]
    · rw [r3 z e1 e2, q3 z e1 e2]
theorem zx_hg3 {post : Int32 → Prop} {f_leafCount f_innerCount f_top f_listed : Int32} {a_parents a_firsts a_seconds a_own a_costs a_rates a_order a_sets a_below a_many a_above : Nat → Int32} {a_sums : Nat → Int64} {a_groups : Nat → Int32} (hc1 : 1 ≤ c) (hc7 : c ≤ 7) (ei : f_innerCount = nI (c - 1)) {set : Int32} (hZ : ∀ z, zt_in c z → a_sets z = H z) (p1 : (∃ z, zt_in c z ∧ H z = set) → post 1) (p0 : (¬ ∃ z, zt_in c z ∧ H z = set) → post 0) :
    ∀ (d t n : Nat), t + d = c - 1 → d < n → (∀ z, zt_in c z → z < 8 + t → H z ≠ set) → wX_hasGroup_3 post set f_leafCount f_innerCount f_top f_listed a_parents a_firsts a_seconds a_own a_costs a_rates a_order a_sets a_below a_many a_above a_sums a_groups n (nI (8 + t)) := by
  subst ei
  intro d
  induction d with
  | zero =>
    intro t n ht hn hno
    obtain ⟨r, rfl⟩ : ∃ r, n = r + 1 := ⟨n - 1, by omega⟩
    refine br_t (by rw [zx_8c hc1]; exact nI_le (by omega) (by omega)) (p0 ?_)
    rintro ⟨z, hz, e⟩
    exact hno z hz (by omega) e
  | succ d ih =>
    intro t n ht hn hno
    obtain ⟨r, rfl⟩ : ∃ r, n = r + 1 := ⟨n - 1, by omega⟩
    have hin : zt_in c (8 + t) := by omega
    refine br_f (by rw [zx_8c hc1]; exact nI_ge (by omega) (by omega)) ⟨vp_in_nI (by omega) (by omega), ?_⟩
    rw [nI_clamp (by omega), hZ _ hin, nI_1 (8 + t)]
    refine br_c (fun h => p1 ⟨_, hin, h⟩) (fun h => nm_e (ih (t + 1) r (by omega) (by omega) ?_))
    intro z hz hlt e
    by_cases ez : z = 8 + t
    · rw [ez] at e; exact h e
    · exact hno z hz (by omega) e
theorem zx_kb77 {post : Int32 → SX → Prop} {f_leafCount f_innerCount f_top f_listed : Int32} {a_parents a_firsts a_seconds a_own a_costs a_rates a_order a_sets a_below a_many a_above : Nat → Int32} {a_sums : Nat → Int64} {a_groups : Nat → Int32} (hT : zt_TR c top pr) (hC : zt_CH c top pr f1 f2) (hX : zx_S c top pr f1 f2 ow cs rt (f_leafCount, f_innerCount, f_top, f_listed, a_parents, a_firsts, a_seconds, a_own, a_costs, a_rates, a_order, a_sets, a_below, a_many, a_above, a_sums, a_groups)) {x y : Nat} (hx : zt_nd c x) (hy : zt_nd c y) (hxy : x ≠ y) (hxt : x ≠ top) (hyt : y ≠ top)
    (hG : ∀ z, zt_in c z → a_groups z = G z) (hH : ∀ z, zt_in c z → a_sets z = H z)
    (hq : ∀ z, q z = true ↔ (G z ≠ ((1 : Int32) <<< (nI c &&& 31)) - 1 ∧ ∃ w, zt_in c w ∧ H w = G z))
    (k : ∀ P F E, zx_S c top (zo_up (zo_up pr x (pr y)) y (pr x)) (fun r => zo_sg x y (f1 r)) (fun r => zo_sg x y (f2 r)) ow cs rt (f_leafCount, f_innerCount, f_top, f_listed, P, F, E, a_own, a_costs, a_rates, a_order, a_sets, a_below, a_many, a_above, a_sums, a_groups) → post (zz_kf q (c - 1)) (f_leafCount, f_innerCount, f_top, f_listed, P, F, E, a_own, a_costs, a_rates, a_order, a_sets, a_below, a_many, a_above, a_sums, a_groups)) :
    ∀ (d t n : Nat), t + d = c - 1 → d < n → wX_keptBy_77 post (nI x) (nI y) f_leafCount f_innerCount f_top f_listed a_parents a_firsts a_seconds a_own a_costs a_rates a_order a_sets a_below a_many a_above a_sums a_groups n (zz_kf q t) (nI (8 + t)) := by
  have hc1 := hT.1
  have hc7 := hT.2.1
  have ec : f_leafCount = nI c := hX.1
  have ei : f_innerCount = nI (c - 1) := hX.2.1
  intro d
  induction d with
  | zero =>
    intro t n ht hn
    obtain ⟨r, rfl⟩ : ∃ r, n = r + 1 := ⟨n - 1, by omega⟩
    have e : t = c - 1 := by omega
    refine br_t (by rw [ei, zx_8c hc1]; exact nI_le (by omega) (by omega)) ?_
    rw [e]
    refine zx_exchange hT hC hX hx hy hxy hxt hyt (fun P F E hX' => ?_)
    exact k P F E hX'
  | succ d ih =>
    intro t n ht hn
    obtain ⟨r, rfl⟩ : ∃ r, n = r + 1 := ⟨n - 1, by omega⟩
    have hin : zt_in c (8 + t) := by omega
    have hi := ih (t + 1) r (by omega) (by omega)
    have e : zz_kf q (t + 1) = if q (8 + t) = true then zz_kf q t + 1 else zz_kf q t := rfl
    rw [e] at hi
    refine br_f (by rw [ei, zx_8c hc1]; exact nI_ge (by omega) (by omega)) ⟨vp_in_nI (by omega) (by omega), ?_⟩
    rw [nI_clamp (by omega), hG _ hin, nI_1 (8 + t)]
    refine br_c (fun h => nm_e ?_) (fun h => ⟨vp_in_nI (by omega) (by omega), ?_⟩)
    · rw [ec] at h
      rw [if_neg (fun h2 => ((hq _).mp h2).1 h)] at hi
      exact hi
    · rw [ec] at h
      refine ⟨c, zx_hg3 hc1 hc7 ei hH (fun h2 => br_f (by decide) (nm_e (nm_e ?_))) (fun h2 => br_t rfl (nm_e (nm_e ?_))) (c - 1) 0 c (by omega) (by omega) (fun z hz hlt => by omega)⟩
      · rw [if_pos ((hq _).mpr ⟨h, h2⟩)] at hi
        exact hi
      · rw [if_neg (fun h3 => h2 ((hq _).mp h3).2)] at hi
        rw [Int32.add_zero]
        exact hi
theorem zx_kb20 {post : Int32 → SX → Prop} {f_leafCount f_innerCount f_top f_listed : Int32} {a_parents a_firsts a_seconds a_own a_costs a_rates a_order a_sets a_below a_many a_above : Nat → Int32} {a_sums : Nat → Int64} {a_groups : Nat → Int32} {x y : Nat} (hT : zt_TR c top pr) (hT' : zt_TR c top (zo_up (zo_up pr x (pr y)) y (pr x))) (hC : zt_CH c top pr f1 f2) (hX : zx_S c top pr f1 f2 ow cs rt (f_leafCount, f_innerCount, f_top, f_listed, a_parents, a_firsts, a_seconds, a_own, a_costs, a_rates, a_order, a_sets, a_below, a_many, a_above, a_sums, a_groups)) (hx : zt_nd c x) (hy : zt_nd c y) (hxy : x ≠ y) (hxt : x ≠ top) (hyt : y ≠ top)
    (hZ : ∀ z, zt_nd c z → a_sets z = zt_bs top pr z c)
    (hq : ∀ z, q z = true ↔ (zt_bs top pr z c ≠ ((1 : Int32) <<< (nI c &&& 31)) - 1 ∧ ∃ w, zt_in c w ∧ zt_bs top (zo_up (zo_up pr x (pr y)) y (pr x)) w c = zt_bs top pr z c))
    (k : ∀ u', zx_S c top pr f1 f2 ow cs rt u' → post (zz_kf q (c - 1)) u') :
    ∀ (d t n : Nat) (E : Nat → Int32), t + d = 14 → d < n → (∀ z, zt_nd c z → z < t → E z = zt_bs top pr z c) → wX_keptBy_20 post (nI x) (nI y) f_leafCount f_innerCount f_top f_listed n (nI t) a_parents a_firsts a_seconds a_own a_costs a_rates a_order a_sets a_below a_many a_above a_sums E := by
  have hc1 := hT.1
  have hc7 := hT.2.1
  obtain ⟨q1, q2, q3⟩ := zo_ex_pr pr hxy
  intro d
  induction d with
  | zero =>
    intro t n E ht hn hE
    obtain ⟨r, rfl⟩ : ∃ r, n = r + 1 := ⟨n - 1, by omega⟩
    have e : t = 14 := by omega
    subst e
    refine br_t (nI_le (a := 14) (b := 14) (by omega) (by omega)) ?_
    refine zx_exchange hT hC (zx_Sf hX f_listed a_order a_sets a_below a_many a_above a_sums E) hx hy hxy hxt hyt (fun P F S2 hX1 => ?_)
    dsimp only
    have hC' := zo_exc_C (h1 := fun r => zo_sg x y (f1 r)) (h2 := fun r => zo_sg x y (f2 r)) hT hC hx hy hxt hyt q1 q2 (fun z _ h1 h2 => q3 z h1 h2) (fun _ _ => rfl) (fun _ _ => rfl)
    refine zx_findSets hT' hC' hX1 (fun w O Z hZ2 => ?_)
    dsimp only
    refine ⟨c, zx_kb77 (G := fun z => zt_bs top pr z c) (H := fun z => zt_bs top (zo_up (zo_up pr x (pr y)) y (pr x)) z c) (q := q) hT' hC' (zx_Sf hX1 w O Z a_below a_many a_above a_sums E) hx hy hxy hxt hyt (fun z hz => hE z (Or.inr hz) (by omega)) (fun z hz => hZ2 z (Or.inr hz)) hq (fun P2 F2 S3 hX2 => ?_) (c - 1) 0 c (by omega) (by omega)⟩
    refine k _ (zx_S_pr (fun z _ => zz_ex2 pr hxy z) (fun z _ => ?_) (fun z _ => ?_) hX2)
    · exact (zo_sg_sg _).symm
    · exact (zo_sg_sg _).symm
  | succ d ih =>
    intro t n E ht hn hE
    obtain ⟨r, rfl⟩ : ∃ r, n = r + 1 := ⟨n - 1, by omega⟩
    refine br_f (nI_ge (b := 14) (by omega) (by omega)) ?_
    rw [nI_clamp (by omega), nI_1 t]
    have hX2 := zx_Sf hX f_listed a_order a_sets a_below a_many a_above a_sums E
    have hnext : ∀ w : Int32, (zt_nd c t → w = zt_bs top pr t c) → wX_keptBy_20 post (nI x) (nI y) f_leafCount f_innerCount f_top f_listed r (nI (t + 1)) a_parents a_firsts a_seconds a_own a_costs a_rates a_order a_sets a_below a_many a_above a_sums (upd E t w) := by
      intro w hw
      refine ih (t + 1) r _ (by omega) (by omega) ?_
      intro z hz hlt
      by_cases e : z = t
      · rw [e, pk_us]; exact hw (by rw [← e]; exact hz)
      · rw [pk_un e]; exact hE z hz (by omega)
    by_cases hnd : zt_nd c t
    · refine zx_isNode1 hc1 hc7 hX2 hnd (br_f (by decide) ⟨vp_in_nI (by omega) (by omega), vp_in_nI (by omega) (by omega), nm_e (nm_e (hnext _ (fun _ => hZ t hnd)))⟩)
    · refine zx_isNode0 hc1 hc7 hX2 ?_ (br_t rfl ⟨vp_in_nI (by omega) (by omega), nm_e (nm_e (hnext _ (fun h => absurd h hnd)))⟩)
      rintro ⟨j, hj, e⟩
      rw [nI_eq (by omega) (by omega)] at e
      exact hnd (by rw [e]; exact hj)
/-! the reference -/
theorem zy_sz4 {post : Int32 → Prop} {f_count f_top : Int32} {a_own a_above a_one a_two a_costs a_rates a_low a_many : Nat → Int32} {a_sums : Nat → Int64} {a_others : Nat → Int32} {set : Int32} (k : post (zd_sm (fun i => (set >>> (nI i &&& 31)) &&& 1) 7)) :
    ∀ (d t n : Nat), t + d = 7 → d < n → wY_size_4 post set f_count f_top a_own a_above a_one a_two a_costs a_rates a_low a_many a_sums a_others n (zd_sm (fun i => (set >>> (nI i &&& 31)) &&& 1) t) (nI t) := by
  intro d
  induction d with
  | zero =>
    intro t n ht hn
    obtain ⟨r, rfl⟩ : ∃ r, n = r + 1 := ⟨n - 1, by omega⟩
    have e : t = 7 := by omega
    subst e
    exact br_t (nI_le (a := 7) (b := 7) (by omega) (by omega)) k
  | succ d ih =>
    intro t n ht hn
    obtain ⟨r, rfl⟩ : ∃ r, n = r + 1 := ⟨n - 1, by omega⟩
    have hi := ih (t + 1) r (by omega) (by omega)
    refine br_f (nI_ge (b := 7) (by omega) (by omega)) ?_
    rw [nI_1 t]
    exact nm_e (nm_e hi)
theorem zy_size {post : Int32 → Prop} {f_count f_top : Int32} {a_own a_above a_one a_two a_costs a_rates a_low a_many : Nat → Int32} {a_sums : Nat → Int64} {a_others : Nat → Int32} {set : Int32} (k : post (zd_sm (fun i => (set >>> (nI i &&& 31)) &&& 1) 7)) : wpY_size post (f_count, f_top, a_own, a_above, a_one, a_two, a_costs, a_rates, a_low, a_many, a_sums, a_others) set :=
  ⟨8, zy_sz4 k 7 0 8 (by omega) (by omega)⟩
theorem zy_sh3 {post : Int32 → Prop} {f_count f_top : Int32} {a_own a_above a_one a_two a_costs a_rates a_low a_many : Nat → Int32} {a_sums : Nat → Int64} {a_others : Nat → Int32} (hT : zt_TR c top pr) (hY : zy_S c top pr g1 g2 ow cs rt (f_count, f_top, a_own, a_above, a_one, a_two, a_costs, a_rates, a_low, a_many, a_sums, a_others)) {set : Int32} (p1 : (∃ z, zt_in c z ∧ zt_bs top pr z c = set) → post 1) (p0 : (¬ ∃ z, zt_in c z ∧ zt_bs top pr z c = set) → post 0) :
    ∀ (d t n : Nat), t + d = c - 1 → d < n → (∀ z, zt_in c z → z < 8 + t → zt_bs top pr z c ≠ set) → wY_shared_3 post set f_count f_top a_own a_above a_one a_two a_costs a_rates a_low a_many a_sums a_others n (nI (8 + t)) := by
  have hc1 := hT.1
  have hc7 := hT.2.1
  have ec : f_count = nI c := hY.1
  intro d
  induction d with
  | zero =>
    intro t n ht hn hno
    obtain ⟨r, rfl⟩ : ∃ r, n = r + 1 := ⟨n - 1, by omega⟩
    refine br_t (by rw [ec, zy_7c]; exact nI_le (by omega) (by omega)) (p0 ?_)
    rintro ⟨z, hz, e⟩
    exact hno z hz (by omega) e
  | succ d ih =>
    intro t n ht hn hno
    obtain ⟨r, rfl⟩ : ∃ r, n = r + 1 := ⟨n - 1, by omega⟩
    have hin : zt_in c (8 + t) := by omega
    refine br_f (by rw [ec, zy_7c]; exact nI_ge (by omega) (by omega)) (br_f (nI_ge (b := 14) (by omega) (by omega)) ?_)
    rw [nI_1 (8 + t)]
    refine zy_below hT hY (Or.inr hin) (br_c (fun h => p1 ⟨_, hin, h⟩) (fun h => nm_e (ih (t + 1) r (by omega) (by omega) ?_)))
    intro z hz hlt e
    by_cases ez : z = 8 + t
    · rw [ez] at e; exact h e
    · exact hno z hz (by omega) e
theorem zy_kb88 {post : Int32 → SY → Prop} {f_count f_top : Int32} {a_own a_above a_one a_two a_costs a_rates a_low a_many : Nat → Int32} {a_sums : Nat → Int64} {a_others : Nat → Int32} (hT : zt_TR c top pr) (hD : zt_CH c top pr g1 g2) (hY : zy_S c top pr g1 g2 ow cs rt (f_count, f_top, a_own, a_above, a_one, a_two, a_costs, a_rates, a_low, a_many, a_sums, a_others)) {x y : Nat} (hx : zt_nd c x) (hy : zt_nd c y) (hxy : x ≠ y) (hxt : x ≠ top) (hyt : y ≠ top)
    (hG : ∀ z, zt_in c z → a_others z = G z) (hm : ∀ z, ∃ m, m < 2 ^ c ∧ G z = nI m)
    (hq : ∀ z, q z = true ↔ (G z ≠ ((1 : Int32) <<< (nI c &&& 31)) - 1 ∧ ∃ w, zt_in c w ∧ zt_bs top pr w c = G z))
    (k : ∀ h1 h2 v', zt_CH c top (zo_up (zo_up pr x (pr y)) y (pr x)) h1 h2 → zy_S c top (zo_up (zo_up pr x (pr y)) y (pr x)) h1 h2 ow cs rt v' → post (zz_kf q (c - 1)) v') :
    ∀ (d t n : Nat), t + d = c - 1 → d < n → wY_keptBy_88 post (nI x) (nI y) f_count f_top a_own a_above a_one a_two a_costs a_rates a_low a_many a_sums a_others n (zz_kf q t) (nI (8 + t)) := by
  have hc1 := hT.1
  have hc7 := hT.2.1
  have ec : f_count = nI c := hY.1
  intro d
  induction d with
  | zero =>
    intro t n ht hn
    obtain ⟨r, rfl⟩ : ∃ r, n = r + 1 := ⟨n - 1, by omega⟩
    have e : t = c - 1 := by omega
    refine br_t (by rw [ec, zy_7c]; exact nI_le (by omega) (by omega)) ?_
    rw [e]
    unfold wY_keptBy_148
    refine zy_exchange2 hT hD hY hx hy hxy hxt hyt (fun a b P F E hD' hY' => ?_)
    exact k a b _ hD' hY'
  | succ d ih =>
    intro t n ht hn
    obtain ⟨r, rfl⟩ : ∃ r, n = r + 1 := ⟨n - 1, by omega⟩
    have hin : zt_in c (8 + t) := by omega
    have hi := ih (t + 1) r (by omega) (by omega)
    have e : zz_kf q (t + 1) = if q (8 + t) = true then zz_kf q t + 1 else zz_kf q t := rfl
    rw [e] at hi
    obtain ⟨m, hm2, em⟩ := hm (8 + t)
    have hs := zz_size c (by omega) m hm2
    rw [← em] at hs
    refine br_f (by rw [ec, zy_7c]; exact nI_ge (by omega) (by omega)) (br_f (nI_ge (b := 14) (by omega) (by omega)) ⟨vp_in_nI (by omega) (by omega), ?_⟩)
    rw [nI_clamp (by omega), hG _ hin, nI_1 (8 + t)]
    refine zy_size (br_c (fun h => nm_e ?_) (fun h => ⟨vp_in_nI (by omega) (by omega), ?_⟩))
    · rw [ec] at h
      rw [if_neg (fun h2 => ((hq _).mp h2).1 (hs.mp h))] at hi
      exact hi
    · rw [ec] at h
      refine ⟨c, zy_sh3 hT hY (fun h2 => br_f (by decide) (nm_e (nm_e ?_))) (fun h2 => br_t rfl (nm_e ?_)) (c - 1) 0 c (by omega) (by omega) (fun z hz hlt => by omega)⟩
      · rw [if_pos ((hq _).mpr ⟨fun h3 => h (hs.mpr h3), h2⟩)] at hi
        exact hi
      · rw [if_neg (fun h3 => h2 ((hq _).mp h3).2)] at hi
        exact hi
theorem zy_kb42 {post : Int32 → SY → Prop} {f_count f_top : Int32} {a_own a_above a_one a_two a_costs a_rates a_low a_many : Nat → Int32} {a_sums : Nat → Int64} {a_others : Nat → Int32} {x y : Nat} (hT : zt_TR c top pr) (hT' : zt_TR c top (zo_up (zo_up pr x (pr y)) y (pr x))) (hD : zt_CH c top pr g1 g2) (hY : zy_S c top pr g1 g2 ow cs rt (f_count, f_top, a_own, a_above, a_one, a_two, a_costs, a_rates, a_low, a_many, a_sums, a_others)) (hx : zt_nd c x) (hy : zt_nd c y) (hxy : x ≠ y) (hxt : x ≠ top) (hyt : y ≠ top)
    (hq : ∀ z, q z = true ↔ (zt_bs top pr z c ≠ ((1 : Int32) <<< (nI c &&& 31)) - 1 ∧ ∃ w, zt_in c w ∧ zt_bs top (zo_up (zo_up pr x (pr y)) y (pr x)) w c = zt_bs top pr z c))
    (k : ∀ h1 h2 v', zt_CH c top pr h1 h2 → zy_S c top pr h1 h2 ow cs rt v' → post (zz_kf q (c - 1)) v') :
    ∀ (d t n : Nat) (E : Nat → Int32), t + d = c - 1 → d < n → (∀ z, zt_in c z → z < 8 + t → E z = zt_bs top pr z c) → wY_keptBy_42 post (nI x) (nI y) f_count f_top n (nI (8 + t)) a_own a_above a_one a_two a_costs a_rates a_low a_many a_sums E := by
  have hc1 := hT.1
  have hc7 := hT.2.1
  have ec : f_count = nI c := hY.1
  intro d
  induction d with
  | zero =>
    intro t n E ht hn hE
    obtain ⟨r, rfl⟩ : ∃ r, n = r + 1 := ⟨n - 1, by omega⟩
    refine br_t (by rw [ec, zy_7c]; exact nI_le (by omega) (by omega)) ?_
    unfold wY_keptBy_76
    refine zy_exchange2 hT hD (zy_Sf hY a_low a_many a_sums E hY.2.2.2.2.2.2.2.2) hx hy hxy hxt hyt (fun a b P F S2 hD' hY' => ?_)
    dsimp only
    refine ⟨c, zy_kb88 (G := fun z => zt_bs top pr z c) (q := q) hT' hD' hY' hx hy hxy hxt hyt (fun z hz => hE z hz (by omega)) (fun z => zt_bs_m top pr z c hc7) hq (fun a2 b2 v' hD2 hY2 => ?_) (c - 1) 0 c (by omega) (by omega)⟩
    obtain ⟨f_count, f_top, a_own, a_above, a_one, a_two, a_costs, a_rates, a_low, a_many, a_sums, a_others⟩ := v'
    have hpr : ∀ z, zt_nd c z → pr z = zo_up (zo_up (zo_up (zo_up pr x (pr y)) y (pr x)) x (zo_up (zo_up pr x (pr y)) y (pr x) y)) y (zo_up (zo_up pr x (pr y)) y (pr x) x) z := fun z _ => (zz_ex2 pr hxy z).symm
    exact k a2 b2 _ (zo_C_congr hpr (fun _ _ => rfl) (fun _ _ => rfl) (zo_T_congr (fun z hz => (hpr z hz).symm) hT) hD2) (zy_S_pr hpr hY2)
  | succ d ih =>
    intro t n E ht hn hE
    obtain ⟨r, rfl⟩ : ∃ r, n = r + 1 := ⟨n - 1, by omega⟩
    have hin : zt_in c (8 + t) := by omega
    refine br_f (by rw [ec, zy_7c]; exact nI_ge (by omega) (by omega)) (br_f (nI_ge (b := 14) (by omega) (by omega)) ?_)
    rw [nI_clamp (by omega), nI_1 (8 + t)]
    refine zy_below hT (zy_Sf hY a_low a_many a_sums E hY.2.2.2.2.2.2.2.2) (Or.inr hin) ⟨vp_in_nI (by omega) (by omega), nm_e (nm_e (ih (t + 1) r _ (by omega) (by omega) ?_))⟩
    intro z hz hlt
    by_cases e : z = 8 + t
    · rw [e, pk_us]
    · rw [pk_un e]; exact hE z hz (by omega)
end
theorem i_vc_keptBy {k : Nat} {u : SX} {v : SY} (I : i_Rel k u v) (hk : k + 4 ≤ 2049) (v1 : Int32) (v2 : Int32) : wpX_keptBy (fun r u' => wpY_keptBy (fun r' v' => r' = r ∧ i_Rel (k + 4) u' v') v v1 v2) u v1 v2 := by
  have I2 : i_Rel (k + 4) u v := I
  obtain ⟨c, top, pr, f1, f2, g1, g2, ow, cs, rt, hT, hC, hD, how, hcs, hX, hY⟩ := I
  have hc7 := hT.2.1
  obtain ⟨f_leafCount, f_innerCount, f_top, f_listed, a_parents, a_firsts, a_seconds, a_own, a_costs, a_rates, a_order, a_sets, a_below, a_many, a_above, a_sums, a_groups⟩ := u
  obtain ⟨f_count', f_top', a_own', a_above', a_one', a_two', a_costs', a_rates', a_low', a_many', a_sums', a_others'⟩ := v
  unfold wpX_keptBy wpY_keptBy
  dsimp only
  refine zx_swapRef hT hX (fun hno => ?_) (fun a ha e hno => ?_) (fun a b ha hb e e2 h => ?_) (fun a b ha hb e e2 h1 h2 => ?_)
  · exact br_f (by decide) (zy_bad1 hc7 hY hno (br_f (by decide) ⟨rfl, I2⟩))
  · subst e
    exact br_f (by decide) (zy_bad0 hc7 hY ha (br_t rfl (zy_bad1 hc7 hY hno (br_f (by decide) ⟨rfl, I2⟩))))
  · subst e
    subst e2
    refine br_f (by decide) (zy_bad0 hc7 hY ha (br_t rfl (zy_bad0 hc7 hY hb (br_t rfl ?_))))
    refine zy_over hT hY ha hb (fun h1 => br_f (by decide) ⟨rfl, I2⟩) (fun h1 => br_t rfl ?_)
    exact zy_over hT hY hb ha (fun h2 => br_f (by decide) ⟨rfl, I2⟩) (fun h2 => absurd h (fun h => h.elim h2 h1))
  · subst e
    subst e2
    obtain ⟨hne, hat, hbt⟩ := zz_notop hT ha hb h1 h2
    obtain ⟨q1, q2, q3⟩ := zo_ex_pr pr hne
    have hT' := zo_exc_T hT ha hb h1 h2 q1 q2 (fun z _ h1 h2 => q3 z h1 h2)
    obtain ⟨q, hq⟩ := zz_bool (fun z => zt_bs top pr z c ≠ ((1 : Int32) <<< (nI c &&& 31)) - 1 ∧ ∃ w, zt_in c w ∧ zt_bs top (zo_up (zo_up pr a (pr b)) b (pr a)) w c = zt_bs top pr z c)
    refine br_t (by decide) ?_
    refine zx_findSets hT hC hX (fun w O Z hZ => ?_)
    dsimp only
    refine ⟨15, zx_kb20 (a_groups := a_groups) hT hT' hC (zx_Sf hX w O Z a_below a_many a_above a_sums a_groups) ha hb hne hat hbt hZ hq (fun u' hX' => ?_) 14 0 15 a_groups (by omega) (by omega) (fun z hz hlt => by omega)⟩
    refine zy_bad0 hc7 hY ha (br_t rfl (zy_bad0 hc7 hY hb (br_t rfl ?_)))
    refine zy_over hT hY ha hb (fun h3 => absurd h3 h2) (fun _ => br_t rfl ?_)
    refine zy_over hT hY hb ha (fun h3 => absurd h3 h1) (fun _ => br_t rfl ?_)
    refine ⟨c, zy_kb42 (a_others := a_others') hT hT' hD hY ha hb hne hat hbt hq (fun a2 b2 v' hD2 hY2 => ⟨rfl, ?_⟩) (c - 1) 0 c a_others' (by omega) (by have := hT.1; omega) (fun z hz hlt => by omega)⟩
    exact ⟨c, top, pr, f1, f2, a2, b2, ow, cs, rt, hT, hC, hD2, how, hcs, hX', hY2⟩
end
