section
/-! pure rows to paste: stores, nI and lN arithmetic, masks, shifts, narrowing, branches by naturals (pk_le, pk_lt, pk_eq), loops (lp1 .. lp16: the measure of the state; rp1 ..: recursion), negatives. Take what you need -/
theorem pk_us {f : Nat → Int32} {k : Nat} {x : Int32} : upd f k x k = x := if_pos rfl
theorem pk_un {f : Nat → Int32} {k j : Nat} {x : Int32} (h : j ≠ k) : upd f k x j = f j := if_neg h
theorem pk_uLs {f : Nat → Int64} {k : Nat} {x : Int64} : vp_updL f k x k = x := if_pos rfl
theorem pk_uLn {f : Nat → Int64} {k j : Nat} {x : Int64} (h : j ≠ k) : vp_updL f k x j = f j := if_neg h
theorem pk_sub {a b : Nat} (h : b ≤ a) : nI a - nI b = nI (a - b) := by
  obtain ⟨c, rfl⟩ : ∃ c, a = c + b := ⟨a - b, by omega⟩
  rw [← nI_add, Int32.add_sub_cancel, Nat.add_sub_cancel]
theorem pk_m1 (n : Nat) : nI (n + 1) + (-1) = nI n := by
  rw [← nI_1, Int32.add_assoc, show (1 : Int32) + (-1) = 0 from rfl, Int32.add_zero]
theorem pk_mul (a b : Nat) : nI a * nI b = nI (a * b) := (Int32.ofNat_mul a b).symm
theorem pk_div {a d : Nat} (ha : a < 2 ^ 31) (h0 : 0 < d) (hd : d < 2 ^ 31) : nI a / nI d = nI (a / d) := by
  apply Int32.toInt_inj.mp
  rw [lg_idiv_nonneg (by rw [nI_toInt ha]; omega) (by rw [nI_toInt hd]; omega), nI_toInt ha, nI_toInt hd, nI_toInt (Nat.lt_of_le_of_lt (Nat.div_le_self a d) ha)]
  first | rfl | exact (Int.natCast_ediv _ _).symm
theorem pk_rem {a d : Nat} (ha : a < 2 ^ 31) (h0 : 0 < d) (hd : d < 2 ^ 31) : nI a - nI a / nI d * nI d = nI (a % d) := by
  rw [pk_div ha h0 hd, pk_mul, pk_sub (Nat.div_mul_le_self a d)]
  exact congrArg nI (by have := Nat.div_add_mod' a d; omega)
theorem pk_sub_toInt {a b : Nat} (ha : a < 2 ^ 30) (hb : b < 2 ^ 30) : (nI a - nI b).toInt = (a : Int) - b := by
  rw [Int32.toInt_sub, nI_toInt (by omega), nI_toInt (by omega)]
  exact Int.bmod_eq_of_le (by omega) (by omega)
theorem pk_sneg {a b : Nat} (hb : b < 2 ^ 30) (h : a < b) : nI a - nI b < 0 := by
  rw [Int32.lt_iff_toInt_lt, pk_sub_toInt (by omega) hb, show (0 : Int32).toInt = 0 from by decide]
  omega
theorem pk_ix (x : Int32) {n : Nat} (hn : n < 2 ^ 31) : x < 0 ∨ nI n ≤ x ∨ ∃ j : Nat, j < n ∧ x = nI j := by
  by_cases h : x < 0
  · exact Or.inl h
  · obtain ⟨j, hj, rfl⟩ := nI_of h
    by_cases h2 : j < n
    · exact Or.inr (Or.inr ⟨j, h2, rfl⟩)
    · exact Or.inr (Or.inl (nI_le (by omega) hj))
theorem pk_le {x y : Int32} {A B : Prop} (a b : Nat) (f : a ≤ b → A) (g : b < a → B) (hx : x = nI a := by rfl) (hy : y = nI b := by rfl) (ha : a < 2 ^ 31 := by omega) (hb : b < 2 ^ 31 := by omega) : (x ≤ y → A) ∧ (¬ x ≤ y → B) := by
  subst hx hy
  rw [nI_leI ha hb]
  exact ⟨f, fun z => g (by omega)⟩
theorem pk_lt {x y : Int32} {A B : Prop} (a b : Nat) (f : a < b → A) (g : b ≤ a → B) (hx : x = nI a := by rfl) (hy : y = nI b := by rfl) (ha : a < 2 ^ 31 := by omega) (hb : b < 2 ^ 31 := by omega) : (x < y → A) ∧ (¬ x < y → B) := by
  subst hx hy
  rw [nI_ltI ha hb]
  exact ⟨f, fun z => g (by omega)⟩
theorem pk_eq {x y : Int32} {A B : Prop} (a b : Nat) (f : a = b → A) (g : a ≠ b → B) (hx : x = nI a := by rfl) (hy : y = nI b := by rfl) (ha : a < 2 ^ 31 := by omega) (hb : b < 2 ^ 31 := by omega) : (x = y → A) ∧ (¬ x = y → B) := by
  subst hx hy
  rw [nI_eq ha hb]
  exact ⟨f, g⟩
theorem pk_in {x : Int32} (n N : Nat) (h : n < N) (hx : x = nI n := by rfl) (hN : N < 2 ^ 31 := by omega) : vp_in x N := by
  subst hx
  exact vp_in_nI h hN
theorem pk_cl {x : Int32} (n : Nat) (hx : x = nI n := by rfl) (h : n < 2 ^ 31 := by omega) : x.toNatClampNeg = n := by
  subst hx
  exact nI_clamp h
theorem pk_tn {n : Nat} (h : n < 2 ^ 32) : (nI n).toBitVec.toNat = n := Nat.mod_eq_of_lt h
theorem pk_and (x : Int32) {m : Int32} (k : Nat) (hm : m.toBitVec.toNat = 2 ^ k - 1) : x &&& m = nI (x.toBitVec.toNat % 2 ^ k) := by
  apply Int32.toBitVec_inj.mp
  apply BitVec.eq_of_toNat_eq
  rw [Int32.toBitVec_and, BitVec.toNat_and, hm, Nat.and_two_pow_sub_one_eq_mod]
  show _ = (BitVec.ofNat 32 _).toNat
  rw [BitVec.toNat_ofNat]
  exact (Nat.mod_eq_of_lt (Nat.lt_of_le_of_lt (Nat.mod_le _ _) x.toBitVec.isLt)).symm
theorem pk_andN {n : Nat} (h : n < 2 ^ 32) {m : Int32} (k : Nat) (hm : m.toBitVec.toNat = 2 ^ k - 1) : nI n &&& m = nI (n % 2 ^ k) := by
  rw [pk_and _ k hm, pk_tn h]
theorem pk_andE (x : Int32) {m : Int32} (k : Nat) (hm : m.toBitVec.toNat = 2 ^ k - 1) : ∃ j : Nat, j < 2 ^ k ∧ x &&& m = nI j := ⟨_, Nat.mod_lt _ (Nat.two_pow_pos k), pk_and x k hm⟩
theorem pk_andIn (x : Int32) {m : Int32} (k : Nat) (hm : m.toBitVec.toNat = 2 ^ k - 1) (hk : k ≤ 30) : vp_in (x &&& m) (2 ^ k) := by
  obtain ⟨j, hj, e⟩ := pk_andE x k hm
  rw [e]
  exact vp_in_nI hj (Nat.lt_of_le_of_lt (Nat.pow_le_pow_right (by decide) hk) (by decide))
theorem pk_shl (a s : Int32) (k : Nat) (hs : (s.toBitVec.smod 32).toNat = k) : (a <<< s).toBitVec.toNat = a.toBitVec.toNat * 2 ^ k % 2 ^ 32 := by
  show (a.toBitVec <<< (s.toBitVec.smod 32).toNat).toNat = _
  rw [hs, BitVec.toNat_shiftLeft, Nat.shiftLeft_eq]
theorem pk_shlN {n : Nat} (s : Int32) (k : Nat) (hs : (s.toBitVec.smod 32).toNat = k) (h : n * 2 ^ k < 2 ^ 32) : nI n <<< s = nI (n * 2 ^ k) := by
  apply Int32.toBitVec_inj.mp
  apply BitVec.eq_of_toNat_eq
  have hn : n < 2 ^ 32 := Nat.lt_of_le_of_lt (Nat.le_mul_of_pos_right n (Nat.two_pow_pos k)) h
  rw [pk_shl _ _ k hs, pk_tn hn, pk_tn h, Nat.mod_eq_of_lt h]
theorem pk_shr (a s : Int32) (k : Nat) (hs : (s.toBitVec.smod 32).toNat = k) : (a >>> s).toInt = a.toInt >>> k := by
  show (a.toBitVec.sshiftRight (s.toBitVec.smod 32).toNat).toInt = _
  rw [hs, BitVec.toInt_sshiftRight]
  rfl
theorem pk_shrN {n : Nat} (h : n < 2 ^ 31) (s : Int32) (k : Nat) (hs : (s.toBitVec.smod 32).toNat = k) : nI n >>> s = nI (n / 2 ^ k) := by
  apply Int32.toInt_inj.mp
  have h2 : n / 2 ^ k ≤ n := Nat.div_le_self _ _
  rw [pk_shr _ _ k hs, nI_toInt h, nI_toInt (by omega), Int.shiftRight_eq_div_pow]
  rfl
theorem pk_ushr (x s : Int32) (k : Nat) (hs : ((s.toUInt32 &&& Int32.toUInt32 31).toBitVec % 32).toNat = k) : (x.toUInt32 >>> (s.toUInt32 &&& Int32.toUInt32 31)).toInt32.toBitVec.toNat = x.toBitVec.toNat / 2 ^ k := by
  have e : (x.toUInt32 >>> (s.toUInt32 &&& Int32.toUInt32 31)).toInt32.toBitVec = x.toBitVec >>> k := by
    rw [← hs]
    exact UInt32.toBitVec_shiftRight _ _
  rw [e, BitVec.toNat_ushiftRight, Nat.shiftRight_eq_div_pow]
theorem pk_ushrN {n : Nat} (hn : n < 2 ^ 32) (s : Int32) (k : Nat) (hs : ((s.toUInt32 &&& Int32.toUInt32 31).toBitVec % 32).toNat = k) : ((nI n).toUInt32 >>> (s.toUInt32 &&& Int32.toUInt32 31)).toInt32 = nI (n / 2 ^ k) := by
  apply Int32.toBitVec_inj.mp
  apply BitVec.eq_of_toNat_eq
  rw [pk_ushr _ s k hs, pk_tn hn, pk_tn (Nat.lt_of_le_of_lt (Nat.div_le_self _ _) hn)]
theorem pk_nb (z : Int32) : narrow .byte (.int z.toInt8.toInt32) = .int z.toInt8.toInt32 := congrArg Value.int (by simp)
theorem pk_ns (z : Int32) : narrow .short (.int z.toInt16.toInt32) = .int z.toInt16.toInt32 := congrArg Value.int (by simp)
theorem pk_fb (r : Int32) : fits .byte (.int r.toInt8.toInt32) = true := by
  have ⟨a, b⟩ := lg_i2b_range r
  have h1 : (-128 : Int32).toInt = -128 := by decide
  have h2 : (127 : Int32).toInt = 127 := by decide
  simp only [fits, Bool.and_eq_true, decide_eq_true_eq, Int32.le_iff_toInt_le, h1, h2]
  omega
theorem pk_fs (r : Int32) : fits .short (.int r.toInt16.toInt32) = true := by
  have ⟨a, b⟩ := lg_i2s_range r
  have h1 : (-32768 : Int32).toInt = -32768 := by decide
  have h2 : (32767 : Int32).toInt = 32767 := by decide
  simp only [fits, Bool.and_eq_true, decide_eq_true_eq, Int32.le_iff_toInt_le, h1, h2]
  omega
theorem pk_charN {q : Nat} (hq : q < 65536) : narrow .char (.int (nI q)) = .int (nI q) ∧ fits .char (.int (nI q)) = true := by
  constructor
  · have e : (nI q).toUInt32.toUInt16.toUInt32.toInt32 = nI q := by
      apply Int32.toBitVec_inj.mp
      apply BitVec.eq_of_toNat_eq
      show (nI q).toUInt32.toUInt16.toUInt32.toNat = q % 2 ^ 32
      rw [UInt16.toNat_toUInt32, UInt32.toNat_toUInt16, show (nI q).toUInt32.toNat = q % 2 ^ 32 from rfl]
      omega
    exact congrArg Value.int e
  · have a : (0 : Int32) ≤ nI q := nI_pos' (by omega)
    have b : nI q ≤ 65535 := nI_le (b := 65535) (by omega) (by decide)
    show (decide ((0 : Int32) ≤ nI q) && decide (nI q ≤ 65535)) = true
    rw [decide_eq_true a, decide_eq_true b]
    rfl
theorem pk_char (x : Int32) : (x.toUInt32 % 65536).toInt32 = nI (x.toBitVec.toNat % 65536) := by
  apply Int32.toBitVec_inj.mp
  apply BitVec.eq_of_toNat_eq
  rw [pk_tn (by omega)]
  show (x.toUInt32 % 65536).toNat = _
  rw [UInt32.toNat_mod]
  rfl
theorem pk_nc (x : Int32) : narrow .char (.int (x.toUInt32 % 65536).toInt32) = .int (x.toUInt32 % 65536).toInt32 := by
  rw [pk_char]
  exact (pk_charN (Nat.mod_lt _ (by decide))).1
theorem pk_fc (x : Int32) : fits .char (.int (x.toUInt32 % 65536).toInt32) = true := by
  rw [pk_char]
  exact (pk_charN (Nat.mod_lt _ (by decide))).2
theorem pk_vb (z : Int32) : vp_nar .byte z.toInt8.toInt32 = z.toInt8.toInt32 := by rw [vp_nar_byte]; simp
theorem pk_vs (z : Int32) : vp_nar .short z.toInt16.toInt32 = z.toInt16.toInt32 := by rw [vp_nar_short]; simp
theorem pk_vc (z : Int32) : vp_nar .char (z.toUInt32 % 65536).toInt32 = (z.toUInt32 % 65536).toInt32 := Value.int.inj (pk_nc z)
theorem pk_lT {n : Nat} (h : n < 2 ^ 63) : (lN n).toInt = (n : Int) := lg_ofNat_toInt h
theorem pk_lLT {a b : Nat} (ha : a < 2 ^ 63) (hb : b < 2 ^ 63) : lN a < lN b ↔ a < b := by
  rw [Int64.lt_iff_toInt_lt, pk_lT ha, pk_lT hb]; omega
theorem pk_lLE {a b : Nat} (ha : a < 2 ^ 63) (hb : b < 2 ^ 63) : lN a ≤ lN b ↔ a ≤ b := by
  rw [Int64.le_iff_toInt_le, pk_lT ha, pk_lT hb]; omega
theorem pk_lEQ {a b : Nat} (ha : a < 2 ^ 63) (hb : b < 2 ^ 63) : lN a = lN b ↔ a = b := by
  rw [← Int64.toInt_inj, pk_lT ha, pk_lT hb]; omega
theorem pk_lOf {x : Int64} (h : ¬ x < 0) : ∃ k : Nat, k < 2 ^ 63 ∧ x = lN k := by
  rw [Int64.lt_iff_toInt_lt] at h
  have h0 : (0 : Int64).toInt = 0 := by decide
  have hx := Int64.toInt_lt x
  refine ⟨x.toInt.toNat, by omega, Int64.toInt_inj.mp ?_⟩
  rw [pk_lT (by omega)]
  omega
theorem pk_lDiv {a b : Nat} (ha : a < 2 ^ 63) (h0 : 0 < b) (hb : b < 2 ^ 63) : lN a / lN b = lN (a / b) := by
  apply Int64.toInt_inj.mp
  rw [lg_ldiv_nonneg (by rw [pk_lT ha]; omega) (by rw [pk_lT hb]; omega), pk_lT ha, pk_lT hb, pk_lT (Nat.lt_of_le_of_lt (Nat.div_le_self a b) ha)]
  rfl
theorem pk_lRem {a b : Nat} (ha : a < 2 ^ 63) (h0 : 0 < b) (hb : b < 2 ^ 63) : lN a - lN a / lN b * lN b = lN (a % b) := by
  rw [pk_lDiv ha h0 hb, lN_mul, lN_sub (Nat.div_mul_le_self a b)]
  exact congrArg lN (by have := Nat.div_add_mod' a b; omega)
theorem pk_loop {σ : Type} (W : Nat → Nat → σ → Prop) (I : Nat → σ → Prop) (e i0 : Nat) (s : σ) (hi : i0 ≤ e) (h0 : I i0 s) (hx : ∀ n s, I e s → W (n + 1) e s)
    (hs : ∀ n i s, i < e → I i s → (∀ s', I (i + 1) s' → W n (i + 1) s') → W (n + 1) i s) : ∃ n, W n i0 s :=
  ⟨e + 1, loop_i W I e hx hs (e + 1) i0 s hi (by omega) h0⟩
theorem pk_loopD {σ : Type} (W : Nat → Nat → σ → Prop) (I : Nat → σ → Prop) (hx : ∀ n s, I 0 s → W (n + 1) 0 s)
    (hs : ∀ n i s, I (i + 1) s → (∀ s', I i s' → W n i s') → W (n + 1) (i + 1) s) : ∀ (e : Nat) (s : σ), I e s → W (e + 1) e s := by
  intro e
  induction e with
  | zero => exact fun s h => hx 0 s h
  | succ e ih => exact fun s h => hs (e + 1) e s h (fun s' h' => ih s' h')
theorem lp1 {A1 : Type} (W : Nat → A1 → Prop) (I : A1 → Prop) (μ : A1 → Nat) (hs : ∀ (n : Nat) (a1 : A1), I a1 → (∀ (b1 : A1), I b1 → μ b1 < μ a1 → W n b1) → W (n + 1) a1) (a1 : A1) (h : I a1) : ∃ n, W n a1 :=
  loop_m (σ := A1) (fun n s => W n s) (fun s => I s) (fun s => μ s) (fun n s hI hk => hs n s hI (fun b1 h9 hm => hk b1 h9 hm)) a1 h
theorem lp2 {A1 A2 : Type} (W : Nat → A1 → A2 → Prop) (I : A1 → A2 → Prop) (μ : A1 → A2 → Nat) (hs : ∀ (n : Nat) (a1 : A1) (a2 : A2), I a1 a2 → (∀ (b1 : A1) (b2 : A2), I b1 b2 → μ b1 b2 < μ a1 a2 → W n b1 b2) → W (n + 1) a1 a2) (a1 : A1) (a2 : A2) (h : I a1 a2) : ∃ n, W n a1 a2 :=
  loop_m (σ := A1 × A2) (fun n s => W n s.1 s.2) (fun s => I s.1 s.2) (fun s => μ s.1 s.2) (fun n s hI hk => hs n s.1 s.2 hI (fun b1 b2 h9 hm => hk (b1, b2) h9 hm)) (a1, a2) h
theorem lp3 {A1 A2 A3 : Type} (W : Nat → A1 → A2 → A3 → Prop) (I : A1 → A2 → A3 → Prop) (μ : A1 → A2 → A3 → Nat) (hs : ∀ (n : Nat) (a1 : A1) (a2 : A2) (a3 : A3), I a1 a2 a3 → (∀ (b1 : A1) (b2 : A2) (b3 : A3), I b1 b2 b3 → μ b1 b2 b3 < μ a1 a2 a3 → W n b1 b2 b3) → W (n + 1) a1 a2 a3) (a1 : A1) (a2 : A2) (a3 : A3) (h : I a1 a2 a3) : ∃ n, W n a1 a2 a3 :=
  loop_m (σ := A1 × A2 × A3) (fun n s => W n s.1 s.2.1 s.2.2) (fun s => I s.1 s.2.1 s.2.2) (fun s => μ s.1 s.2.1 s.2.2) (fun n s hI hk => hs n s.1 s.2.1 s.2.2 hI (fun b1 b2 b3 h9 hm => hk (b1, b2, b3) h9 hm)) (a1, a2, a3) h
theorem lp4 {A1 A2 A3 A4 : Type} (W : Nat → A1 → A2 → A3 → A4 → Prop) (I : A1 → A2 → A3 → A4 → Prop) (μ : A1 → A2 → A3 → A4 → Nat) (hs : ∀ (n : Nat) (a1 : A1) (a2 : A2) (a3 : A3) (a4 : A4), I a1 a2 a3 a4 → (∀ (b1 : A1) (b2 : A2) (b3 : A3) (b4 : A4), I b1 b2 b3 b4 → μ b1 b2 b3 b4 < μ a1 a2 a3 a4 → W n b1 b2 b3 b4) → W (n + 1) a1 a2 a3 a4) (a1 : A1) (a2 : A2) (a3 : A3) (a4 : A4) (h : I a1 a2 a3 a4) : ∃ n, W n a1 a2 a3 a4 :=
  loop_m (σ := A1 × A2 × A3 × A4) (fun n s => W n s.1 s.2.1 s.2.2.1 s.2.2.2) (fun s => I s.1 s.2.1 s.2.2.1 s.2.2.2) (fun s => μ s.1 s.2.1 s.2.2.1 s.2.2.2) (fun n s hI hk => hs n s.1 s.2.1 s.2.2.1 s.2.2.2 hI (fun b1 b2 b3 b4 h9 hm => hk (b1, b2, b3, b4) h9 hm)) (a1, a2, a3, a4) h
theorem lp5 {A1 A2 A3 A4 A5 : Type} (W : Nat → A1 → A2 → A3 → A4 → A5 → Prop) (I : A1 → A2 → A3 → A4 → A5 → Prop) (μ : A1 → A2 → A3 → A4 → A5 → Nat) (hs : ∀ (n : Nat) (a1 : A1) (a2 : A2) (a3 : A3) (a4 : A4) (a5 : A5), I a1 a2 a3 a4 a5 → (∀ (b1 : A1) (b2 : A2) (b3 : A3) (b4 : A4) (b5 : A5), I b1 b2 b3 b4 b5 → μ b1 b2 b3 b4 b5 < μ a1 a2 a3 a4 a5 → W n b1 b2 b3 b4 b5) → W (n + 1) a1 a2 a3 a4 a5) (a1 : A1) (a2 : A2) (a3 : A3) (a4 : A4) (a5 : A5) (h : I a1 a2 a3 a4 a5) : ∃ n, W n a1 a2 a3 a4 a5 :=
  loop_m (σ := A1 × A2 × A3 × A4 × A5) (fun n s => W n s.1 s.2.1 s.2.2.1 s.2.2.2.1 s.2.2.2.2) (fun s => I s.1 s.2.1 s.2.2.1 s.2.2.2.1 s.2.2.2.2) (fun s => μ s.1 s.2.1 s.2.2.1 s.2.2.2.1 s.2.2.2.2) (fun n s hI hk => hs n s.1 s.2.1 s.2.2.1 s.2.2.2.1 s.2.2.2.2 hI (fun b1 b2 b3 b4 b5 h9 hm => hk (b1, b2, b3, b4, b5) h9 hm)) (a1, a2, a3, a4, a5) h
theorem lp6 {A1 A2 A3 A4 A5 A6 : Type} (W : Nat → A1 → A2 → A3 → A4 → A5 → A6 → Prop) (I : A1 → A2 → A3 → A4 → A5 → A6 → Prop) (μ : A1 → A2 → A3 → A4 → A5 → A6 → Nat) (hs : ∀ (n : Nat) (a1 : A1) (a2 : A2) (a3 : A3) (a4 : A4) (a5 : A5) (a6 : A6), I a1 a2 a3 a4 a5 a6 → (∀ (b1 : A1) (b2 : A2) (b3 : A3) (b4 : A4) (b5 : A5) (b6 : A6), I b1 b2 b3 b4 b5 b6 → μ b1 b2 b3 b4 b5 b6 < μ a1 a2 a3 a4 a5 a6 → W n b1 b2 b3 b4 b5 b6) → W (n + 1) a1 a2 a3 a4 a5 a6) (a1 : A1) (a2 : A2) (a3 : A3) (a4 : A4) (a5 : A5) (a6 : A6) (h : I a1 a2 a3 a4 a5 a6) : ∃ n, W n a1 a2 a3 a4 a5 a6 :=
  loop_m (σ := A1 × A2 × A3 × A4 × A5 × A6) (fun n s => W n s.1 s.2.1 s.2.2.1 s.2.2.2.1 s.2.2.2.2.1 s.2.2.2.2.2) (fun s => I s.1 s.2.1 s.2.2.1 s.2.2.2.1 s.2.2.2.2.1 s.2.2.2.2.2) (fun s => μ s.1 s.2.1 s.2.2.1 s.2.2.2.1 s.2.2.2.2.1 s.2.2.2.2.2) (fun n s hI hk => hs n s.1 s.2.1 s.2.2.1 s.2.2.2.1 s.2.2.2.2.1 s.2.2.2.2.2 hI (fun b1 b2 b3 b4 b5 b6 h9 hm => hk (b1, b2, b3, b4, b5, b6) h9 hm)) (a1, a2, a3, a4, a5, a6) h
theorem lp7 {A1 A2 A3 A4 A5 A6 A7 : Type} (W : Nat → A1 → A2 → A3 → A4 → A5 → A6 → A7 → Prop) (I : A1 → A2 → A3 → A4 → A5 → A6 → A7 → Prop) (μ : A1 → A2 → A3 → A4 → A5 → A6 → A7 → Nat) (hs : ∀ (n : Nat) (a1 : A1) (a2 : A2) (a3 : A3) (a4 : A4) (a5 : A5) (a6 : A6) (a7 : A7), I a1 a2 a3 a4 a5 a6 a7 → (∀ (b1 : A1) (b2 : A2) (b3 : A3) (b4 : A4) (b5 : A5) (b6 : A6) (b7 : A7), I b1 b2 b3 b4 b5 b6 b7 → μ b1 b2 b3 b4 b5 b6 b7 < μ a1 a2 a3 a4 a5 a6 a7 → W n b1 b2 b3 b4 b5 b6 b7) → W (n + 1) a1 a2 a3 a4 a5 a6 a7) (a1 : A1) (a2 : A2) (a3 : A3) (a4 : A4) (a5 : A5) (a6 : A6) (a7 : A7) (h : I a1 a2 a3 a4 a5 a6 a7) : ∃ n, W n a1 a2 a3 a4 a5 a6 a7 :=
  loop_m (σ := A1 × A2 × A3 × A4 × A5 × A6 × A7) (fun n s => W n s.1 s.2.1 s.2.2.1 s.2.2.2.1 s.2.2.2.2.1 s.2.2.2.2.2.1 s.2.2.2.2.2.2) (fun s => I s.1 s.2.1 s.2.2.1 s.2.2.2.1 s.2.2.2.2.1 s.2.2.2.2.2.1 s.2.2.2.2.2.2) (fun s => μ s.1 s.2.1 s.2.2.1 s.2.2.2.1 s.2.2.2.2.1 s.2.2.2.2.2.1 s.2.2.2.2.2.2) (fun n s hI hk => hs n s.1 s.2.1 s.2.2.1 s.2.2.2.1 s.2.2.2.2.1 s.2.2.2.2.2.1 s.2.2.2.2.2.2 hI (fun b1 b2 b3 b4 b5 b6 b7 h9 hm => hk (b1, b2, b3, b4, b5, b6, b7) h9 hm)) (a1, a2, a3, a4, a5, a6, a7) h
theorem lp8 {A1 A2 A3 A4 A5 A6 A7 A8 : Type} (W : Nat → A1 → A2 → A3 → A4 → A5 → A6 → A7 → A8 → Prop) (I : A1 → A2 → A3 → A4 → A5 → A6 → A7 → A8 → Prop) (μ : A1 → A2 → A3 → A4 → A5 → A6 → A7 → A8 → Nat) (hs : ∀ (n : Nat) (a1 : A1) (a2 : A2) (a3 : A3) (a4 : A4) (a5 : A5) (a6 : A6) (a7 : A7) (a8 : A8), I a1 a2 a3 a4 a5 a6 a7 a8 → (∀ (b1 : A1) (b2 : A2) (b3 : A3) (b4 : A4) (b5 : A5) (b6 : A6) (b7 : A7) (b8 : A8), I b1 b2 b3 b4 b5 b6 b7 b8 → μ b1 b2 b3 b4 b5 b6 b7 b8 < μ a1 a2 a3 a4 a5 a6 a7 a8 → W n b1 b2 b3 b4 b5 b6 b7 b8) → W (n + 1) a1 a2 a3 a4 a5 a6 a7 a8) (a1 : A1) (a2 : A2) (a3 : A3) (a4 : A4) (a5 : A5) (a6 : A6) (a7 : A7) (a8 : A8) (h : I a1 a2 a3 a4 a5 a6 a7 a8) : ∃ n, W n a1 a2 a3 a4 a5 a6 a7 a8 :=
  loop_m (σ := A1 × A2 × A3 × A4 × A5 × A6 × A7 × A8) (fun n s => W n s.1 s.2.1 s.2.2.1 s.2.2.2.1 s.2.2.2.2.1 s.2.2.2.2.2.1 s.2.2.2.2.2.2.1 s.2.2.2.2.2.2.2) (fun s => I s.1 s.2.1 s.2.2.1 s.2.2.2.1 s.2.2.2.2.1 s.2.2.2.2.2.1 s.2.2.2.2.2.2.1 s.2.2.2.2.2.2.2) (fun s => μ s.1 s.2.1 s.2.2.1 s.2.2.2.1 s.2.2.2.2.1 s.2.2.2.2.2.1 s.2.2.2.2.2.2.1 s.2.2.2.2.2.2.2) (fun n s hI hk => hs n s.1 s.2.1 s.2.2.1 s.2.2.2.1 s.2.2.2.2.1 s.2.2.2.2.2.1 s.2.2.2.2.2.2.1 s.2.2.2.2.2.2.2 hI (fun b1 b2 b3 b4 b5 b6 b7 b8 h9 hm => hk (b1, b2, b3, b4, b5, b6, b7, b8) h9 hm)) (a1, a2, a3, a4, a5, a6, a7, a8) h
theorem lp9 {A1 A2 A3 A4 A5 A6 A7 A8 A9 : Type} (W : Nat → A1 → A2 → A3 → A4 → A5 → A6 → A7 → A8 → A9 → Prop) (I : A1 → A2 → A3 → A4 → A5 → A6 → A7 → A8 → A9 → Prop) (μ : A1 → A2 → A3 → A4 → A5 → A6 → A7 → A8 → A9 → Nat) (hs : ∀ (n : Nat) (a1 : A1) (a2 : A2) (a3 : A3) (a4 : A4) (a5 : A5) (a6 : A6) (a7 : A7) (a8 : A8) (a9 : A9), I a1 a2 a3 a4 a5 a6 a7 a8 a9 → (∀ (b1 : A1) (b2 : A2) (b3 : A3) (b4 : A4) (b5 : A5) (b6 : A6) (b7 : A7) (b8 : A8) (b9 : A9), I b1 b2 b3 b4 b5 b6 b7 b8 b9 → μ b1 b2 b3 b4 b5 b6 b7 b8 b9 < μ a1 a2 a3 a4 a5 a6 a7 a8 a9 → W n b1 b2 b3 b4 b5 b6 b7 b8 b9) → W (n + 1) a1 a2 a3 a4 a5 a6 a7 a8 a9) (a1 : A1) (a2 : A2) (a3 : A3) (a4 : A4) (a5 : A5) (a6 : A6) (a7 : A7) (a8 : A8) (a9 : A9) (h : I a1 a2 a3 a4 a5 a6 a7 a8 a9) : ∃ n, W n a1 a2 a3 a4 a5 a6 a7 a8 a9 :=
  loop_m (σ := A1 × A2 × A3 × A4 × A5 × A6 × A7 × A8 × A9) (fun n s => W n s.1 s.2.1 s.2.2.1 s.2.2.2.1 s.2.2.2.2.1 s.2.2.2.2.2.1 s.2.2.2.2.2.2.1 s.2.2.2.2.2.2.2.1 s.2.2.2.2.2.2.2.2) (fun s => I s.1 s.2.1 s.2.2.1 s.2.2.2.1 s.2.2.2.2.1 s.2.2.2.2.2.1 s.2.2.2.2.2.2.1 s.2.2.2.2.2.2.2.1 s.2.2.2.2.2.2.2.2) (fun s => μ s.1 s.2.1 s.2.2.1 s.2.2.2.1 s.2.2.2.2.1 s.2.2.2.2.2.1 s.2.2.2.2.2.2.1 s.2.2.2.2.2.2.2.1 s.2.2.2.2.2.2.2.2) (fun n s hI hk => hs n s.1 s.2.1 s.2.2.1 s.2.2.2.1 s.2.2.2.2.1 s.2.2.2.2.2.1 s.2.2.2.2.2.2.1 s.2.2.2.2.2.2.2.1 s.2.2.2.2.2.2.2.2 hI (fun b1 b2 b3 b4 b5 b6 b7 b8 b9 h9 hm => hk (b1, b2, b3, b4, b5, b6, b7, b8, b9) h9 hm)) (a1, a2, a3, a4, a5, a6, a7, a8, a9) h
theorem lp10 {A1 A2 A3 A4 A5 A6 A7 A8 A9 A10 : Type} (W : Nat → A1 → A2 → A3 → A4 → A5 → A6 → A7 → A8 → A9 → A10 → Prop) (I : A1 → A2 → A3 → A4 → A5 → A6 → A7 → A8 → A9 → A10 → Prop) (μ : A1 → A2 → A3 → A4 → A5 → A6 → A7 → A8 → A9 → A10 → Nat) (hs : ∀ (n : Nat) (a1 : A1) (a2 : A2) (a3 : A3) (a4 : A4) (a5 : A5) (a6 : A6) (a7 : A7) (a8 : A8) (a9 : A9) (a10 : A10), I a1 a2 a3 a4 a5 a6 a7 a8 a9 a10 → (∀ (b1 : A1) (b2 : A2) (b3 : A3) (b4 : A4) (b5 : A5) (b6 : A6) (b7 : A7) (b8 : A8) (b9 : A9) (b10 : A10), I b1 b2 b3 b4 b5 b6 b7 b8 b9 b10 → μ b1 b2 b3 b4 b5 b6 b7 b8 b9 b10 < μ a1 a2 a3 a4 a5 a6 a7 a8 a9 a10 → W n b1 b2 b3 b4 b5 b6 b7 b8 b9 b10) → W (n + 1) a1 a2 a3 a4 a5 a6 a7 a8 a9 a10) (a1 : A1) (a2 : A2) (a3 : A3) (a4 : A4) (a5 : A5) (a6 : A6) (a7 : A7) (a8 : A8) (a9 : A9) (a10 : A10) (h : I a1 a2 a3 a4 a5 a6 a7 a8 a9 a10) : ∃ n, W n a1 a2 a3 a4 a5 a6 a7 a8 a9 a10 :=
  loop_m (σ := A1 × A2 × A3 × A4 × A5 × A6 × A7 × A8 × A9 × A10) (fun n s => W n s.1 s.2.1 s.2.2.1 s.2.2.2.1 s.2.2.2.2.1 s.2.2.2.2.2.1 s.2.2.2.2.2.2.1 s.2.2.2.2.2.2.2.1 s.2.2.2.2.2.2.2.2.1 s.2.2.2.2.2.2.2.2.2) (fun s => I s.1 s.2.1 s.2.2.1 s.2.2.2.1 s.2.2.2.2.1 s.2.2.2.2.2.1 s.2.2.2.2.2.2.1 s.2.2.2.2.2.2.2.1 s.2.2.2.2.2.2.2.2.1 s.2.2.2.2.2.2.2.2.2) (fun s => μ s.1 s.2.1 s.2.2.1 s.2.2.2.1 s.2.2.2.2.1 s.2.2.2.2.2.1 s.2.2.2.2.2.2.1 s.2.2.2.2.2.2.2.1 s.2.2.2.2.2.2.2.2.1 s.2.2.2.2.2.2.2.2.2) (fun n s hI hk => hs n s.1 s.2.1 s.2.2.1 s.2.2.2.1 s.2.2.2.2.1 s.2.2.2.2.2.1 s.2.2.2.2.2.2.1 s.2.2.2.2.2.2.2.1 s.2.2.2.2.2.2.2.2.1 s.2.2.2.2.2.2.2.2.2 hI (fun b1 b2 b3 b4 b5 b6 b7 b8 b9 b10 h9 hm => hk (b1, b2, b3, b4, b5, b6, b7, b8, b9, b10) h9 hm)) (a1, a2, a3, a4, a5, a6, a7, a8, a9, a10) h
theorem lp11 {A1 A2 A3 A4 A5 A6 A7 A8 A9 A10 A11 : Type} (W : Nat → A1 → A2 → A3 → A4 → A5 → A6 → A7 → A8 → A9 → A10 → A11 → Prop) (I : A1 → A2 → A3 → A4 → A5 → A6 → A7 → A8 → A9 → A10 → A11 → Prop) (μ : A1 → A2 → A3 → A4 → A5 → A6 → A7 → A8 → A9 → A10 → A11 → Nat) (hs : ∀ (n : Nat) (a1 : A1) (a2 : A2) (a3 : A3) (a4 : A4) (a5 : A5) (a6 : A6) (a7 : A7) (a8 : A8) (a9 : A9) (a10 : A10) (a11 : A11), I a1 a2 a3 a4 a5 a6 a7 a8 a9 a10 a11 → (∀ (b1 : A1) (b2 : A2) (b3 : A3) (b4 : A4) (b5 : A5) (b6 : A6) (b7 : A7) (b8 : A8) (b9 : A9) (b10 : A10) (b11 : A11), I b1 b2 b3 b4 b5 b6 b7 b8 b9 b10 b11 → μ b1 b2 b3 b4 b5 b6 b7 b8 b9 b10 b11 < μ a1 a2 a3 a4 a5 a6 a7 a8 a9 a10 a11 → W n b1 b2 b3 b4 b5 b6 b7 b8 b9 b10 b11) → W (n + 1) a1 a2 a3 a4 a5 a6 a7 a8 a9 a10 a11) (a1 : A1) (a2 : A2) (a3 : A3) (a4 : A4) (a5 : A5) (a6 : A6) (a7 : A7) (a8 : A8) (a9 : A9) (a10 : A10) (a11 : A11) (h : I a1 a2 a3 a4 a5 a6 a7 a8 a9 a10 a11) : ∃ n, W n a1 a2 a3 a4 a5 a6 a7 a8 a9 a10 a11 :=
  loop_m (σ := A1 × A2 × A3 × A4 × A5 × A6 × A7 × A8 × A9 × A10 × A11) (fun n s => W n s.1 s.2.1 s.2.2.1 s.2.2.2.1 s.2.2.2.2.1 s.2.2.2.2.2.1 s.2.2.2.2.2.2.1 s.2.2.2.2.2.2.2.1 s.2.2.2.2.2.2.2.2.1 s.2.2.2.2.2.2.2.2.2.1 s.2.2.2.2.2.2.2.2.2.2) (fun s => I s.1 s.2.1 s.2.2.1 s.2.2.2.1 s.2.2.2.2.1 s.2.2.2.2.2.1 s.2.2.2.2.2.2.1 s.2.2.2.2.2.2.2.1 s.2.2.2.2.2.2.2.2.1 s.2.2.2.2.2.2.2.2.2.1 s.2.2.2.2.2.2.2.2.2.2) (fun s => μ s.1 s.2.1 s.2.2.1 s.2.2.2.1 s.2.2.2.2.1 s.2.2.2.2.2.1 s.2.2.2.2.2.2.1 s.2.2.2.2.2.2.2.1 s.2.2.2.2.2.2.2.2.1 s.2.2.2.2.2.2.2.2.2.1 s.2.2.2.2.2.2.2.2.2.2) (fun n s hI hk => hs n s.1 s.2.1 s.2.2.1 s.2.2.2.1 s.2.2.2.2.1 s.2.2.2.2.2.1 s.2.2.2.2.2.2.1 s.2.2.2.2.2.2.2.1 s.2.2.2.2.2.2.2.2.1 s.2.2.2.2.2.2.2.2.2.1 s.2.2.2.2.2.2.2.2.2.2 hI (fun b1 b2 b3 b4 b5 b6 b7 b8 b9 b10 b11 h9 hm => hk (b1, b2, b3, b4, b5, b6, b7, b8, b9, b10, b11) h9 hm)) (a1, a2, a3, a4, a5, a6, a7, a8, a9, a10, a11) h
theorem lp12 {A1 A2 A3 A4 A5 A6 A7 A8 A9 A10 A11 A12 : Type} (W : Nat → A1 → A2 → A3 → A4 → A5 → A6 → A7 → A8 → A9 → A10 → A11 → A12 → Prop) (I : A1 → A2 → A3 → A4 → A5 → A6 → A7 → A8 → A9 → A10 → A11 → A12 → Prop) (μ : A1 → A2 → A3 → A4 → A5 → A6 → A7 → A8 → A9 → A10 → A11 → A12 → Nat) (hs : ∀ (n : Nat) (a1 : A1) (a2 : A2) (a3 : A3) (a4 : A4) (a5 : A5) (a6 : A6) (a7 : A7) (a8 : A8) (a9 : A9) (a10 : A10) (a11 : A11) (a12 : A12), I a1 a2 a3 a4 a5 a6 a7 a8 a9 a10 a11 a12 → (∀ (b1 : A1) (b2 : A2) (b3 : A3) (b4 : A4) (b5 : A5) (b6 : A6) (b7 : A7) (b8 : A8) (b9 : A9) (b10 : A10) (b11 : A11) (b12 : A12), I b1 b2 b3 b4 b5 b6 b7 b8 b9 b10 b11 b12 → μ b1 b2 b3 b4 b5 b6 b7 b8 b9 b10 b11 b12 < μ a1 a2 a3 a4 a5 a6 a7 a8 a9 a10 a11 a12 → W n b1 b2 b3 b4 b5 b6 b7 b8 b9 b10 b11 b12) → W (n + 1) a1 a2 a3 a4 a5 a6 a7 a8 a9 a10 a11 a12) (a1 : A1) (a2 : A2) (a3 : A3) (a4 : A4) (a5 : A5) (a6 : A6) (a7 : A7) (a8 : A8) (a9 : A9) (a10 : A10) (a11 : A11) (a12 : A12) (h : I a1 a2 a3 a4 a5 a6 a7 a8 a9 a10 a11 a12) : ∃ n, W n a1 a2 a3 a4 a5 a6 a7 a8 a9 a10 a11 a12 :=
  loop_m (σ := A1 × A2 × A3 × A4 × A5 × A6 × A7 × A8 × A9 × A10 × A11 × A12) (fun n s => W n s.1 s.2.1 s.2.2.1 s.2.2.2.1 s.2.2.2.2.1 s.2.2.2.2.2.1 s.2.2.2.2.2.2.1 s.2.2.2.2.2.2.2.1 s.2.2.2.2.2.2.2.2.1 s.2.2.2.2.2.2.2.2.2.1 s.2.2.2.2.2.2.2.2.2.2.1 s.2.2.2.2.2.2.2.2.2.2.2) (fun s => I s.1 s.2.1 s.2.2.1 s.2.2.2.1 s.2.2.2.2.1 s.2.2.2.2.2.1 s.2.2.2.2.2.2.1 s.2.2.2.2.2.2.2.1 s.2.2.2.2.2.2.2.2.1 s.2.2.2.2.2.2.2.2.2.1 s.2.2.2.2.2.2.2.2.2.2.1 s.2.2.2.2.2.2.2.2.2.2.2) (fun s => μ s.1 s.2.1 s.2.2.1 s.2.2.2.1 s.2.2.2.2.1 s.2.2.2.2.2.1 s.2.2.2.2.2.2.1 s.2.2.2.2.2.2.2.1 s.2.2.2.2.2.2.2.2.1 s.2.2.2.2.2.2.2.2.2.1 s.2.2.2.2.2.2.2.2.2.2.1 s.2.2.2.2.2.2.2.2.2.2.2) (fun n s hI hk => hs n s.1 s.2.1 s.2.2.1 s.2.2.2.1 s.2.2.2.2.1 s.2.2.2.2.2.1 s.2.2.2.2.2.2.1 s.2.2.2.2.2.2.2.1 s.2.2.2.2.2.2.2.2.1 s.2.2.2.2.2.2.2.2.2.1 s.2.2.2.2.2.2.2.2.2.2.1 s.2.2.2.2.2.2.2.2.2.2.2 hI (fun b1 b2 b3 b4 b5 b6 b7 b8 b9 b10 b11 b12 h9 hm => hk (b1, b2, b3, b4, b5, b6, b7, b8, b9, b10, b11, b12) h9 hm)) (a1, a2, a3, a4, a5, a6, a7, a8, a9, a10, a11, a12) h
theorem lp13 {A1 A2 A3 A4 A5 A6 A7 A8 A9 A10 A11 A12 A13 : Type} (W : Nat → A1 → A2 → A3 → A4 → A5 → A6 → A7 → A8 → A9 → A10 → A11 → A12 → A13 → Prop) (I : A1 → A2 → A3 → A4 → A5 → A6 → A7 → A8 → A9 → A10 → A11 → A12 → A13 → Prop) (μ : A1 → A2 → A3 → A4 → A5 → A6 → A7 → A8 → A9 → A10 → A11 → A12 → A13 → Nat) (hs : ∀ (n : Nat) (a1 : A1) (a2 : A2) (a3 : A3) (a4 : A4) (a5 : A5) (a6 : A6) (a7 : A7) (a8 : A8) (a9 : A9) (a10 : A10) (a11 : A11) (a12 : A12) (a13 : A13), I a1 a2 a3 a4 a5 a6 a7 a8 a9 a10 a11 a12 a13 → (∀ (b1 : A1) (b2 : A2) (b3 : A3) (b4 : A4) (b5 : A5) (b6 : A6) (b7 : A7) (b8 : A8) (b9 : A9) (b10 : A10) (b11 : A11) (b12 : A12) (b13 : A13), I b1 b2 b3 b4 b5 b6 b7 b8 b9 b10 b11 b12 b13 → μ b1 b2 b3 b4 b5 b6 b7 b8 b9 b10 b11 b12 b13 < μ a1 a2 a3 a4 a5 a6 a7 a8 a9 a10 a11 a12 a13 → W n b1 b2 b3 b4 b5 b6 b7 b8 b9 b10 b11 b12 b13) → W (n + 1) a1 a2 a3 a4 a5 a6 a7 a8 a9 a10 a11 a12 a13) (a1 : A1) (a2 : A2) (a3 : A3) (a4 : A4) (a5 : A5) (a6 : A6) (a7 : A7) (a8 : A8) (a9 : A9) (a10 : A10) (a11 : A11) (a12 : A12) (a13 : A13) (h : I a1 a2 a3 a4 a5 a6 a7 a8 a9 a10 a11 a12 a13) : ∃ n, W n a1 a2 a3 a4 a5 a6 a7 a8 a9 a10 a11 a12 a13 :=
  loop_m (σ := A1 × A2 × A3 × A4 × A5 × A6 × A7 × A8 × A9 × A10 × A11 × A12 × A13) (fun n s => W n s.1 s.2.1 s.2.2.1 s.2.2.2.1 s.2.2.2.2.1 s.2.2.2.2.2.1 s.2.2.2.2.2.2.1 s.2.2.2.2.2.2.2.1 s.2.2.2.2.2.2.2.2.1 s.2.2.2.2.2.2.2.2.2.1 s.2.2.2.2.2.2.2.2.2.2.1 s.2.2.2.2.2.2.2.2.2.2.2.1 s.2.2.2.2.2.2.2.2.2.2.2.2) (fun s => I s.1 s.2.1 s.2.2.1 s.2.2.2.1 s.2.2.2.2.1 s.2.2.2.2.2.1 s.2.2.2.2.2.2.1 s.2.2.2.2.2.2.2.1 s.2.2.2.2.2.2.2.2.1 s.2.2.2.2.2.2.2.2.2.1 s.2.2.2.2.2.2.2.2.2.2.1 s.2.2.2.2.2.2.2.2.2.2.2.1 s.2.2.2.2.2.2.2.2.2.2.2.2) (fun s => μ s.1 s.2.1 s.2.2.1 s.2.2.2.1 s.2.2.2.2.1 s.2.2.2.2.2.1 s.2.2.2.2.2.2.1 s.2.2.2.2.2.2.2.1 s.2.2.2.2.2.2.2.2.1 s.2.2.2.2.2.2.2.2.2.1 s.2.2.2.2.2.2.2.2.2.2.1 s.2.2.2.2.2.2.2.2.2.2.2.1 s.2.2.2.2.2.2.2.2.2.2.2.2) (fun n s hI hk => hs n s.1 s.2.1 s.2.2.1 s.2.2.2.1 s.2.2.2.2.1 s.2.2.2.2.2.1 s.2.2.2.2.2.2.1 s.2.2.2.2.2.2.2.1 s.2.2.2.2.2.2.2.2.1 s.2.2.2.2.2.2.2.2.2.1 s.2.2.2.2.2.2.2.2.2.2.1 s.2.2.2.2.2.2.2.2.2.2.2.1 s.2.2.2.2.2.2.2.2.2.2.2.2 hI (fun b1 b2 b3 b4 b5 b6 b7 b8 b9 b10 b11 b12 b13 h9 hm => hk (b1, b2, b3, b4, b5, b6, b7, b8, b9, b10, b11, b12, b13) h9 hm)) (a1, a2, a3, a4, a5, a6, a7, a8, a9, a10, a11, a12, a13) h
theorem lp14 {A1 A2 A3 A4 A5 A6 A7 A8 A9 A10 A11 A12 A13 A14 : Type} (W : Nat → A1 → A2 → A3 → A4 → A5 → A6 → A7 → A8 → A9 → A10 → A11 → A12 → A13 → A14 → Prop) (I : A1 → A2 → A3 → A4 → A5 → A6 → A7 → A8 → A9 → A10 → A11 → A12 → A13 → A14 → Prop) (μ : A1 → A2 → A3 → A4 → A5 → A6 → A7 → A8 → A9 → A10 → A11 → A12 → A13 → A14 → Nat) (hs : ∀ (n : Nat) (a1 : A1) (a2 : A2) (a3 : A3) (a4 : A4) (a5 : A5) (a6 : A6) (a7 : A7) (a8 : A8) (a9 : A9) (a10 : A10) (a11 : A11) (a12 : A12) (a13 : A13) (a14 : A14), I a1 a2 a3 a4 a5 a6 a7 a8 a9 a10 a11 a12 a13 a14 → (∀ (b1 : A1) (b2 : A2) (b3 : A3) (b4 : A4) (b5 : A5) (b6 : A6) (b7 : A7) (b8 : A8) (b9 : A9) (b10 : A10) (b11 : A11) (b12 : A12) (b13 : A13) (b14 : A14), I b1 b2 b3 b4 b5 b6 b7 b8 b9 b10 b11 b12 b13 b14 → μ b1 b2 b3 b4 b5 b6 b7 b8 b9 b10 b11 b12 b13 b14 < μ a1 a2 a3 a4 a5 a6 a7 a8 a9 a10 a11 a12 a13 a14 → W n b1 b2 b3 b4 b5 b6 b7 b8 b9 b10 b11 b12 b13 b14) → W (n + 1) a1 a2 a3 a4 a5 a6 a7 a8 a9 a10 a11 a12 a13 a14) (a1 : A1) (a2 : A2) (a3 : A3) (a4 : A4) (a5 : A5) (a6 : A6) (a7 : A7) (a8 : A8) (a9 : A9) (a10 : A10) (a11 : A11) (a12 : A12) (a13 : A13) (a14 : A14) (h : I a1 a2 a3 a4 a5 a6 a7 a8 a9 a10 a11 a12 a13 a14) : ∃ n, W n a1 a2 a3 a4 a5 a6 a7 a8 a9 a10 a11 a12 a13 a14 :=
  loop_m (σ := A1 × A2 × A3 × A4 × A5 × A6 × A7 × A8 × A9 × A10 × A11 × A12 × A13 × A14) (fun n s => W n s.1 s.2.1 s.2.2.1 s.2.2.2.1 s.2.2.2.2.1 s.2.2.2.2.2.1 s.2.2.2.2.2.2.1 s.2.2.2.2.2.2.2.1 s.2.2.2.2.2.2.2.2.1 s.2.2.2.2.2.2.2.2.2.1 s.2.2.2.2.2.2.2.2.2.2.1 s.2.2.2.2.2.2.2.2.2.2.2.1 s.2.2.2.2.2.2.2.2.2.2.2.2.1 s.2.2.2.2.2.2.2.2.2.2.2.2.2) (fun s => I s.1 s.2.1 s.2.2.1 s.2.2.2.1 s.2.2.2.2.1 s.2.2.2.2.2.1 s.2.2.2.2.2.2.1 s.2.2.2.2.2.2.2.1 s.2.2.2.2.2.2.2.2.1 s.2.2.2.2.2.2.2.2.2.1 s.2.2.2.2.2.2.2.2.2.2.1 s.2.2.2.2.2.2.2.2.2.2.2.1 s.2.2.2.2.2.2.2.2.2.2.2.2.1 s.2.2.2.2.2.2.2.2.2.2.2.2.2) (fun s => μ s.1 s.2.1 s.2.2.1 s.2.2.2.1 s.2.2.2.2.1 s.2.2.2.2.2.1 s.2.2.2.2.2.2.1 s.2.2.2.2.2.2.2.1 s.2.2.2.2.2.2.2.2.1 s.2.2.2.2.2.2.2.2.2.1 s.2.2.2.2.2.2.2.2.2.2.1 s.2.2.2.2.2.2.2.2.2.2.2.1 s.2.2.2.2.2.2.2.2.2.2.2.2.1 s.2.2.2.2.2.2.2.2.2.2.2.2.2) (fun n s hI hk => hs n s.1 s.2.1 s.2.2.1 s.2.2.2.1 s.2.2.2.2.1 s.2.2.2.2.2.1 s.2.2.2.2.2.2.1 s.2.2.2.2.2.2.2.1 s.2.2.2.2.2.2.2.2.1 s.2.2.2.2.2.2.2.2.2.1 s.2.2.2.2.2.2.2.2.2.2.1 s.2.2.2.2.2.2.2.2.2.2.2.1 s.2.2.2.2.2.2.2.2.2.2.2.2.1 s.2.2.2.2.2.2.2.2.2.2.2.2.2 hI (fun b1 b2 b3 b4 b5 b6 b7 b8 b9 b10 b11 b12 b13 b14 h9 hm => hk (b1, b2, b3, b4, b5, b6, b7, b8, b9, b10, b11, b12, b13, b14) h9 hm)) (a1, a2, a3, a4, a5, a6, a7, a8, a9, a10, a11, a12, a13, a14) h
theorem lp15 {A1 A2 A3 A4 A5 A6 A7 A8 A9 A10 A11 A12 A13 A14 A15 : Type} (W : Nat → A1 → A2 → A3 → A4 → A5 → A6 → A7 → A8 → A9 → A10 → A11 → A12 → A13 → A14 → A15 → Prop) (I : A1 → A2 → A3 → A4 → A5 → A6 → A7 → A8 → A9 → A10 → A11 → A12 → A13 → A14 → A15 → Prop) (μ : A1 → A2 → A3 → A4 → A5 → A6 → A7 → A8 → A9 → A10 → A11 → A12 → A13 → A14 → A15 → Nat) (hs : ∀ (n : Nat) (a1 : A1) (a2 : A2) (a3 : A3) (a4 : A4) (a5 : A5) (a6 : A6) (a7 : A7) (a8 : A8) (a9 : A9) (a10 : A10) (a11 : A11) (a12 : A12) (a13 : A13) (a14 : A14) (a15 : A15), I a1 a2 a3 a4 a5 a6 a7 a8 a9 a10 a11 a12 a13 a14 a15 → (∀ (b1 : A1) (b2 : A2) (b3 : A3) (b4 : A4) (b5 : A5) (b6 : A6) (b7 : A7) (b8 : A8) (b9 : A9) (b10 : A10) (b11 : A11) (b12 : A12) (b13 : A13) (b14 : A14) (b15 : A15), I b1 b2 b3 b4 b5 b6 b7 b8 b9 b10 b11 b12 b13 b14 b15 → μ b1 b2 b3 b4 b5 b6 b7 b8 b9 b10 b11 b12 b13 b14 b15 < μ a1 a2 a3 a4 a5 a6 a7 a8 a9 a10 a11 a12 a13 a14 a15 → W n b1 b2 b3 b4 b5 b6 b7 b8 b9 b10 b11 b12 b13 b14 b15) → W (n + 1) a1 a2 a3 a4 a5 a6 a7 a8 a9 a10 a11 a12 a13 a14 a15) (a1 : A1) (a2 : A2) (a3 : A3) (a4 : A4) (a5 : A5) (a6 : A6) (a7 : A7) (a8 : A8) (a9 : A9) (a10 : A10) (a11 : A11) (a12 : A12) (a13 : A13) (a14 : A14) (a15 : A15) (h : I a1 a2 a3 a4 a5 a6 a7 a8 a9 a10 a11 a12 a13 a14 a15) : ∃ n, W n a1 a2 a3 a4 a5 a6 a7 a8 a9 a10 a11 a12 a13 a14 a15 :=
  loop_m (σ := A1 × A2 × A3 × A4 × A5 × A6 × A7 × A8 × A9 × A10 × A11 × A12 × A13 × A14 × A15) (fun n s => W n s.1 s.2.1 s.2.2.1 s.2.2.2.1 s.2.2.2.2.1 s.2.2.2.2.2.1 s.2.2.2.2.2.2.1 s.2.2.2.2.2.2.2.1 s.2.2.2.2.2.2.2.2.1 s.2.2.2.2.2.2.2.2.2.1 s.2.2.2.2.2.2.2.2.2.2.1 s.2.2.2.2.2.2.2.2.2.2.2.1 s.2.2.2.2.2.2.2.2.2.2.2.2.1 s.2.2.2.2.2.2.2.2.2.2.2.2.2.1 s.2.2.2.2.2.2.2.2.2.2.2.2.2.2) (fun s => I s.1 s.2.1 s.2.2.1 s.2.2.2.1 s.2.2.2.2.1 s.2.2.2.2.2.1 s.2.2.2.2.2.2.1 s.2.2.2.2.2.2.2.1 s.2.2.2.2.2.2.2.2.1 s.2.2.2.2.2.2.2.2.2.1 s.2.2.2.2.2.2.2.2.2.2.1 s.2.2.2.2.2.2.2.2.2.2.2.1 s.2.2.2.2.2.2.2.2.2.2.2.2.1 s.2.2.2.2.2.2.2.2.2.2.2.2.2.1 s.2.2.2.2.2.2.2.2.2.2.2.2.2.2) (fun s => μ s.1 s.2.1 s.2.2.1 s.2.2.2.1 s.2.2.2.2.1 s.2.2.2.2.2.1 s.2.2.2.2.2.2.1 s.2.2.2.2.2.2.2.1 s.2.2.2.2.2.2.2.2.1 s.2.2.2.2.2.2.2.2.2.1 s.2.2.2.2.2.2.2.2.2.2.1 s.2.2.2.2.2.2.2.2.2.2.2.1 s.2.2.2.2.2.2.2.2.2.2.2.2.1 s.2.2.2.2.2.2.2.2.2.2.2.2.2.1 s.2.2.2.2.2.2.2.2.2.2.2.2.2.2) (fun n s hI hk => hs n s.1 s.2.1 s.2.2.1 s.2.2.2.1 s.2.2.2.2.1 s.2.2.2.2.2.1 s.2.2.2.2.2.2.1 s.2.2.2.2.2.2.2.1 s.2.2.2.2.2.2.2.2.1 s.2.2.2.2.2.2.2.2.2.1 s.2.2.2.2.2.2.2.2.2.2.1 s.2.2.2.2.2.2.2.2.2.2.2.1 s.2.2.2.2.2.2.2.2.2.2.2.2.1 s.2.2.2.2.2.2.2.2.2.2.2.2.2.1 s.2.2.2.2.2.2.2.2.2.2.2.2.2.2 hI (fun b1 b2 b3 b4 b5 b6 b7 b8 b9 b10 b11 b12 b13 b14 b15 h9 hm => hk (b1, b2, b3, b4, b5, b6, b7, b8, b9, b10, b11, b12, b13, b14, b15) h9 hm)) (a1, a2, a3, a4, a5, a6, a7, a8, a9, a10, a11, a12, a13, a14, a15) h
theorem lp16 {A1 A2 A3 A4 A5 A6 A7 A8 A9 A10 A11 A12 A13 A14 A15 A16 : Type} (W : Nat → A1 → A2 → A3 → A4 → A5 → A6 → A7 → A8 → A9 → A10 → A11 → A12 → A13 → A14 → A15 → A16 → Prop) (I : A1 → A2 → A3 → A4 → A5 → A6 → A7 → A8 → A9 → A10 → A11 → A12 → A13 → A14 → A15 → A16 → Prop) (μ : A1 → A2 → A3 → A4 → A5 → A6 → A7 → A8 → A9 → A10 → A11 → A12 → A13 → A14 → A15 → A16 → Nat) (hs : ∀ (n : Nat) (a1 : A1) (a2 : A2) (a3 : A3) (a4 : A4) (a5 : A5) (a6 : A6) (a7 : A7) (a8 : A8) (a9 : A9) (a10 : A10) (a11 : A11) (a12 : A12) (a13 : A13) (a14 : A14) (a15 : A15) (a16 : A16), I a1 a2 a3 a4 a5 a6 a7 a8 a9 a10 a11 a12 a13 a14 a15 a16 → (∀ (b1 : A1) (b2 : A2) (b3 : A3) (b4 : A4) (b5 : A5) (b6 : A6) (b7 : A7) (b8 : A8) (b9 : A9) (b10 : A10) (b11 : A11) (b12 : A12) (b13 : A13) (b14 : A14) (b15 : A15) (b16 : A16), I b1 b2 b3 b4 b5 b6 b7 b8 b9 b10 b11 b12 b13 b14 b15 b16 → μ b1 b2 b3 b4 b5 b6 b7 b8 b9 b10 b11 b12 b13 b14 b15 b16 < μ a1 a2 a3 a4 a5 a6 a7 a8 a9 a10 a11 a12 a13 a14 a15 a16 → W n b1 b2 b3 b4 b5 b6 b7 b8 b9 b10 b11 b12 b13 b14 b15 b16) → W (n + 1) a1 a2 a3 a4 a5 a6 a7 a8 a9 a10 a11 a12 a13 a14 a15 a16) (a1 : A1) (a2 : A2) (a3 : A3) (a4 : A4) (a5 : A5) (a6 : A6) (a7 : A7) (a8 : A8) (a9 : A9) (a10 : A10) (a11 : A11) (a12 : A12) (a13 : A13) (a14 : A14) (a15 : A15) (a16 : A16) (h : I a1 a2 a3 a4 a5 a6 a7 a8 a9 a10 a11 a12 a13 a14 a15 a16) : ∃ n, W n a1 a2 a3 a4 a5 a6 a7 a8 a9 a10 a11 a12 a13 a14 a15 a16 :=
  loop_m (σ := A1 × A2 × A3 × A4 × A5 × A6 × A7 × A8 × A9 × A10 × A11 × A12 × A13 × A14 × A15 × A16) (fun n s => W n s.1 s.2.1 s.2.2.1 s.2.2.2.1 s.2.2.2.2.1 s.2.2.2.2.2.1 s.2.2.2.2.2.2.1 s.2.2.2.2.2.2.2.1 s.2.2.2.2.2.2.2.2.1 s.2.2.2.2.2.2.2.2.2.1 s.2.2.2.2.2.2.2.2.2.2.1 s.2.2.2.2.2.2.2.2.2.2.2.1 s.2.2.2.2.2.2.2.2.2.2.2.2.1 s.2.2.2.2.2.2.2.2.2.2.2.2.2.1 s.2.2.2.2.2.2.2.2.2.2.2.2.2.2.1 s.2.2.2.2.2.2.2.2.2.2.2.2.2.2.2) (fun s => I s.1 s.2.1 s.2.2.1 s.2.2.2.1 s.2.2.2.2.1 s.2.2.2.2.2.1 s.2.2.2.2.2.2.1 s.2.2.2.2.2.2.2.1 s.2.2.2.2.2.2.2.2.1 s.2.2.2.2.2.2.2.2.2.1 s.2.2.2.2.2.2.2.2.2.2.1 s.2.2.2.2.2.2.2.2.2.2.2.1 s.2.2.2.2.2.2.2.2.2.2.2.2.1 s.2.2.2.2.2.2.2.2.2.2.2.2.2.1 s.2.2.2.2.2.2.2.2.2.2.2.2.2.2.1 s.2.2.2.2.2.2.2.2.2.2.2.2.2.2.2) (fun s => μ s.1 s.2.1 s.2.2.1 s.2.2.2.1 s.2.2.2.2.1 s.2.2.2.2.2.1 s.2.2.2.2.2.2.1 s.2.2.2.2.2.2.2.1 s.2.2.2.2.2.2.2.2.1 s.2.2.2.2.2.2.2.2.2.1 s.2.2.2.2.2.2.2.2.2.2.1 s.2.2.2.2.2.2.2.2.2.2.2.1 s.2.2.2.2.2.2.2.2.2.2.2.2.1 s.2.2.2.2.2.2.2.2.2.2.2.2.2.1 s.2.2.2.2.2.2.2.2.2.2.2.2.2.2.1 s.2.2.2.2.2.2.2.2.2.2.2.2.2.2.2) (fun n s hI hk => hs n s.1 s.2.1 s.2.2.1 s.2.2.2.1 s.2.2.2.2.1 s.2.2.2.2.2.1 s.2.2.2.2.2.2.1 s.2.2.2.2.2.2.2.1 s.2.2.2.2.2.2.2.2.1 s.2.2.2.2.2.2.2.2.2.1 s.2.2.2.2.2.2.2.2.2.2.1 s.2.2.2.2.2.2.2.2.2.2.2.1 s.2.2.2.2.2.2.2.2.2.2.2.2.1 s.2.2.2.2.2.2.2.2.2.2.2.2.2.1 s.2.2.2.2.2.2.2.2.2.2.2.2.2.2.1 s.2.2.2.2.2.2.2.2.2.2.2.2.2.2.2 hI (fun b1 b2 b3 b4 b5 b6 b7 b8 b9 b10 b11 b12 b13 b14 b15 b16 h9 hm => hk (b1, b2, b3, b4, b5, b6, b7, b8, b9, b10, b11, b12, b13, b14, b15, b16) h9 hm)) (a1, a2, a3, a4, a5, a6, a7, a8, a9, a10, a11, a12, a13, a14, a15, a16) h
theorem pk_least (P : Nat → Prop) (h : ∃ k, P k) : ∃ k, P k ∧ ∀ j, j < k → ¬ P j := by
  obtain ⟨k, hk⟩ := h
  induction k using Nat.strongRecOn with
  | ind k ih =>
    by_cases e : ∃ j, j < k ∧ P j
    · obtain ⟨j, hj, pj⟩ := e
      exact ih j hj pj
    · exact ⟨k, hk, fun j hj pj => e ⟨j, hj, pj⟩⟩
theorem rp1 {ρ A1 : Type} (W : Nat → (ρ → Prop) → A1 → Prop) (ok : A1 → Prop) (μ : A1 → Nat) (val : A1 → ρ)
    (hs : ∀ (d : Nat) (post : ρ → Prop) (a1 : A1), ok a1 → post (val a1) → (∀ (post' : ρ → Prop) (b1 : A1), ok b1 → μ b1 < μ a1 → post' (val b1) → W d post' b1) → W (d + 1) post a1) :
    ∀ (d : Nat) (post : ρ → Prop) (a1 : A1), ok a1 → μ a1 < d → post (val a1) → W d post a1 := by
  intro d
  induction d with
  | zero => intro post a1 _ h; omega
  | succ d ih =>
    intro post a1 ho hm hp
    exact hs d post a1 ho hp (fun post' b1 ho' hm' hp' => ih post' b1 ho' (by omega) hp')
theorem rp2 {ρ A1 A2 : Type} (W : Nat → (ρ → Prop) → A1 → A2 → Prop) (ok : A1 → A2 → Prop) (μ : A1 → A2 → Nat) (val : A1 → A2 → ρ)
    (hs : ∀ (d : Nat) (post : ρ → Prop) (a1 : A1) (a2 : A2), ok a1 a2 → post (val a1 a2) → (∀ (post' : ρ → Prop) (b1 : A1) (b2 : A2), ok b1 b2 → μ b1 b2 < μ a1 a2 → post' (val b1 b2) → W d post' b1 b2) → W (d + 1) post a1 a2) :
    ∀ (d : Nat) (post : ρ → Prop) (a1 : A1) (a2 : A2), ok a1 a2 → μ a1 a2 < d → post (val a1 a2) → W d post a1 a2 := by
  intro d
  induction d with
  | zero => intro post a1 a2 _ h; omega
  | succ d ih =>
    intro post a1 a2 ho hm hp
    exact hs d post a1 a2 ho hp (fun post' b1 b2 ho' hm' hp' => ih post' b1 b2 ho' (by omega) hp')
theorem rp3 {ρ A1 A2 A3 : Type} (W : Nat → (ρ → Prop) → A1 → A2 → A3 → Prop) (ok : A1 → A2 → A3 → Prop) (μ : A1 → A2 → A3 → Nat) (val : A1 → A2 → A3 → ρ)
    (hs : ∀ (d : Nat) (post : ρ → Prop) (a1 : A1) (a2 : A2) (a3 : A3), ok a1 a2 a3 → post (val a1 a2 a3) → (∀ (post' : ρ → Prop) (b1 : A1) (b2 : A2) (b3 : A3), ok b1 b2 b3 → μ b1 b2 b3 < μ a1 a2 a3 → post' (val b1 b2 b3) → W d post' b1 b2 b3) → W (d + 1) post a1 a2 a3) :
    ∀ (d : Nat) (post : ρ → Prop) (a1 : A1) (a2 : A2) (a3 : A3), ok a1 a2 a3 → μ a1 a2 a3 < d → post (val a1 a2 a3) → W d post a1 a2 a3 := by
  intro d
  induction d with
  | zero => intro post a1 a2 a3 _ h; omega
  | succ d ih =>
    intro post a1 a2 a3 ho hm hp
    exact hs d post a1 a2 a3 ho hp (fun post' b1 b2 b3 ho' hm' hp' => ih post' b1 b2 b3 ho' (by omega) hp')
theorem rp4 {ρ A1 A2 A3 A4 : Type} (W : Nat → (ρ → Prop) → A1 → A2 → A3 → A4 → Prop) (ok : A1 → A2 → A3 → A4 → Prop) (μ : A1 → A2 → A3 → A4 → Nat) (val : A1 → A2 → A3 → A4 → ρ)
    (hs : ∀ (d : Nat) (post : ρ → Prop) (a1 : A1) (a2 : A2) (a3 : A3) (a4 : A4), ok a1 a2 a3 a4 → post (val a1 a2 a3 a4) → (∀ (post' : ρ → Prop) (b1 : A1) (b2 : A2) (b3 : A3) (b4 : A4), ok b1 b2 b3 b4 → μ b1 b2 b3 b4 < μ a1 a2 a3 a4 → post' (val b1 b2 b3 b4) → W d post' b1 b2 b3 b4) → W (d + 1) post a1 a2 a3 a4) :
    ∀ (d : Nat) (post : ρ → Prop) (a1 : A1) (a2 : A2) (a3 : A3) (a4 : A4), ok a1 a2 a3 a4 → μ a1 a2 a3 a4 < d → post (val a1 a2 a3 a4) → W d post a1 a2 a3 a4 := by
  intro d
  induction d with
  | zero => intro post a1 a2 a3 a4 _ h; omega
  | succ d ih =>
    intro post a1 a2 a3 a4 ho hm hp
    exact hs d post a1 a2 a3 a4 ho hp (fun post' b1 b2 b3 b4 ho' hm' hp' => ih post' b1 b2 b3 b4 ho' (by omega) hp')
theorem rp5 {ρ A1 A2 A3 A4 A5 : Type} (W : Nat → (ρ → Prop) → A1 → A2 → A3 → A4 → A5 → Prop) (ok : A1 → A2 → A3 → A4 → A5 → Prop) (μ : A1 → A2 → A3 → A4 → A5 → Nat) (val : A1 → A2 → A3 → A4 → A5 → ρ)
    (hs : ∀ (d : Nat) (post : ρ → Prop) (a1 : A1) (a2 : A2) (a3 : A3) (a4 : A4) (a5 : A5), ok a1 a2 a3 a4 a5 → post (val a1 a2 a3 a4 a5) → (∀ (post' : ρ → Prop) (b1 : A1) (b2 : A2) (b3 : A3) (b4 : A4) (b5 : A5), ok b1 b2 b3 b4 b5 → μ b1 b2 b3 b4 b5 < μ a1 a2 a3 a4 a5 → post' (val b1 b2 b3 b4 b5) → W d post' b1 b2 b3 b4 b5) → W (d + 1) post a1 a2 a3 a4 a5) :
    ∀ (d : Nat) (post : ρ → Prop) (a1 : A1) (a2 : A2) (a3 : A3) (a4 : A4) (a5 : A5), ok a1 a2 a3 a4 a5 → μ a1 a2 a3 a4 a5 < d → post (val a1 a2 a3 a4 a5) → W d post a1 a2 a3 a4 a5 := by
  intro d
  induction d with
  | zero => intro post a1 a2 a3 a4 a5 _ h; omega
  | succ d ih =>
    intro post a1 a2 a3 a4 a5 ho hm hp
    exact hs d post a1 a2 a3 a4 a5 ho hp (fun post' b1 b2 b3 b4 b5 ho' hm' hp' => ih post' b1 b2 b3 b4 b5 ho' (by omega) hp')
theorem rp6 {ρ A1 A2 A3 A4 A5 A6 : Type} (W : Nat → (ρ → Prop) → A1 → A2 → A3 → A4 → A5 → A6 → Prop) (ok : A1 → A2 → A3 → A4 → A5 → A6 → Prop) (μ : A1 → A2 → A3 → A4 → A5 → A6 → Nat) (val : A1 → A2 → A3 → A4 → A5 → A6 → ρ)
    (hs : ∀ (d : Nat) (post : ρ → Prop) (a1 : A1) (a2 : A2) (a3 : A3) (a4 : A4) (a5 : A5) (a6 : A6), ok a1 a2 a3 a4 a5 a6 → post (val a1 a2 a3 a4 a5 a6) → (∀ (post' : ρ → Prop) (b1 : A1) (b2 : A2) (b3 : A3) (b4 : A4) (b5 : A5) (b6 : A6), ok b1 b2 b3 b4 b5 b6 → μ b1 b2 b3 b4 b5 b6 < μ a1 a2 a3 a4 a5 a6 → post' (val b1 b2 b3 b4 b5 b6) → W d post' b1 b2 b3 b4 b5 b6) → W (d + 1) post a1 a2 a3 a4 a5 a6) :
    ∀ (d : Nat) (post : ρ → Prop) (a1 : A1) (a2 : A2) (a3 : A3) (a4 : A4) (a5 : A5) (a6 : A6), ok a1 a2 a3 a4 a5 a6 → μ a1 a2 a3 a4 a5 a6 < d → post (val a1 a2 a3 a4 a5 a6) → W d post a1 a2 a3 a4 a5 a6 := by
  intro d
  induction d with
  | zero => intro post a1 a2 a3 a4 a5 a6 _ h; omega
  | succ d ih =>
    intro post a1 a2 a3 a4 a5 a6 ho hm hp
    exact hs d post a1 a2 a3 a4 a5 a6 ho hp (fun post' b1 b2 b3 b4 b5 b6 ho' hm' hp' => ih post' b1 b2 b3 b4 b5 b6 ho' (by omega) hp')
theorem rec_p {σ ρ : Type} (W : Nat → (ρ → Prop) → σ → Prop) (ok : σ → Prop) (μ : σ → Nat) (val : σ → ρ)
    (hs : ∀ d s post, ok s → post (val s) → (∀ s' post', ok s' → μ s' < μ s → post' (val s') → W d post' s') → W (d + 1) post s) :
    ∀ d s post, ok s → μ s < d → post (val s) → W d post s := by
  intro d
  induction d with
  | zero => intro s post _ h; omega
  | succ d ih =>
    intro s post ho hm hp
    exact hs d s post ho hp (fun s' post' ho' hm' hp' => ih s' post' ho' (by omega) hp')
theorem rec_q {σ ρ : Type} (W : Nat → (ρ → Prop) → σ → Prop) (ok : σ → Prop) (μ : σ → Nat) (Q : σ → ρ → Prop)
    (hs : ∀ d s post, ok s → (∀ r, Q s r → post r) → (∀ s' post', ok s' → μ s' < μ s → (∀ r, Q s' r → post' r) → W d post' s') → W (d + 1) post s) :
    ∀ d s post, ok s → μ s < d → (∀ r, Q s r → post r) → W d post s := by
  intro d
  induction d with
  | zero => intro s post _ h; omega
  | succ d ih =>
    intro s post ho hm hp
    exact hs d s post ho hp (fun s' post' ho' hm' hp' => ih s' post' ho' (by omega) hp')
def bx_sum (f : Nat → Int32) : Nat → Int32
  | 0 => 0
  | n + 1 => bx_sum f n + f n
theorem ek_u {A : Prop} {B : Nat → Prop} {k N : Nat} (hk : k < N) (h : B k) : (some k = none → A) ∧ (∀ y : Nat, some k = some y → (y < N ∧ B y)) :=
  ⟨fun z => absurd z (Option.some_ne_none k), fun _ e => (by cases e; exact ⟨hk, h⟩)⟩
theorem ek_nu {A : Prop} {B : Nat → Prop} (h : A) : ((none : Option Nat) = none → A) ∧ (∀ y : Nat, (none : Option Nat) = some y → B y) :=
  ⟨fun _ => h, fun _ e => (by cases e)⟩
theorem ek_if {c d A B : Prop} (e : c ↔ d) (f : d → A) (g : ¬ d → B) : (c → A) ∧ (¬ c → B) :=
  ⟨fun z => f (e.mp z), fun z => g (fun y => z (e.mpr y))⟩
theorem ek_v {α : Sort _} {P : α → Prop} {a b : α} (e : a = b) (h : P b) : P a := e ▸ h
theorem co_some {x : Option Nat} {A : Prop} {B : Nat → Prop} (i : Nat) (h : B i) (hx : x = some i := by rfl) : (x = none → A) ∧ (∀ y : Nat, x = some y → B y) := by
  subst hx
  exact ⟨fun e => (nomatch e), fun y e => Option.some.inj e ▸ h⟩
theorem co_none {x : Option Nat} {A : Prop} {B : Nat → Prop} (h : A) (hx : x = none := by rfl) : (x = none → A) ∧ (∀ y : Nat, x = some y → B y) := by
  subst hx
  exact ⟨fun _ => h, fun y e => (nomatch e)⟩
theorem co_any {x : Option Nat} {A : Prop} {B : Nat → Prop} (hn : x = none → A) (hs : ∀ i : Nat, x = some i → B i) : (x = none → A) ∧ (∀ y : Nat, x = some y → B y) := ⟨hn, hs⟩
theorem co_2 {P : Nat → Prop} (h0 : P 0) (h1 : P 1) {i : Nat} (hi : i < 2) : P i :=
  match i, hi with
  | 0, _ => h0
  | 1, _ => h1
theorem co_3 {P : Nat → Prop} (h0 : P 0) (h1 : P 1) (h2 : P 2) {i : Nat} (hi : i < 3) : P i :=
  match i, hi with
  | 0, _ => h0
  | 1, _ => h1
  | 2, _ => h2
theorem co_4 {P : Nat → Prop} (h0 : P 0) (h1 : P 1) (h2 : P 2) (h3 : P 3) {i : Nat} (hi : i < 4) : P i :=
  match i, hi with
  | 0, _ => h0
  | 1, _ => h1
  | 2, _ => h2
  | 3, _ => h3
theorem co_dec {N : Nat} {P : Nat → Prop} [DecidablePred P] (h : (List.range N).all (fun i => decide (P i)) = true) {i : Nat} (hi : i < N) : P i := by
  have := List.all_eq_true.mp h i (List.mem_range.mpr hi)
  exact of_decide_eq_true this
theorem co_tab {α : Type} {l : List α} {d : α} {P : α → Prop} (h : ∀ a, a ∈ l → P a) {i : Nat} (hi : i < l.length) : P (l.getD i d) := by
  rw [List.getD_eq_getElem?_getD, List.getElem?_eq_getElem hi]
  exact h _ (List.getElem_mem hi)
theorem pk_mu {x : Int32} {L : Nat} (h0 : ¬ x < 0) (h : ¬ nI L ≤ x) (hL : L < 2 ^ 31) : ∃ j : Nat, j < L ∧ x = nI j ∧ x + 1 = nI (j + 1) ∧ x.toNatClampNeg = j ∧ L - (x + 1).toNatClampNeg < L - x.toNatClampNeg := by
  obtain ⟨j, hj, rfl⟩ := nI_of h0
  have hl : j < L := Nat.not_le.mp fun q => h (nI_le q hj)
  refine ⟨j, hl, rfl, nI_1 j, nI_clamp hj, ?_⟩
  rw [nI_1, nI_clamp (by omega), nI_clamp hj]
  omega
theorem op_s {α : Type} {r : Option α} {A : Prop} {B : α → Prop} {y : α} (h : r = some y) (b : B y) : (r = none → A) ∧ ∀ z, r = some z → B z :=
  ⟨fun e => (by rw [h] at e; cases e), fun z e => (by rw [h] at e; cases e; exact b)⟩
def l_holds {α : Type} (a : Nat → Option Nat) (LP : List Nat) (p : Nat → α) (c : Nat) (b : Nat → α) : Prop :=
  ∀ j, j < c → ∃ y, a j = some y ∧ y ∈ LP ∧ p y = b j
theorem l_holds_0 {α : Type} {a : Nat → Option Nat} {LP : List Nat} {p b : Nat → α} : l_holds a LP p 0 b := fun j h => absurd h (Nat.not_lt_zero j)
theorem l_in_new (LP : List Nat) (q : Nat) : q ∈ LP ++ [q] := List.mem_append.mpr (Or.inr (List.mem_singleton.mpr rfl))
def l_sum (b : Nat → Int32) : Nat → Int32
  | 0 => 0
  | k + 1 => l_sum b k + b k
theorem sb_shr0 (x : Int32) : x >>> ((0 : Int32) &&& 31) = x := by
  rw [show ((0 : Int32) &&& 31) = 0 by decide]
  simp
theorem sb_shl0 (x : Int32) : x <<< ((0 : Int32) &&& 31) = x := by
  rw [show ((0 : Int32) &&& 31) = 0 by decide]
  simp
theorem sb_cl0 : (0 : Int32).toNatClampNeg = 0 := by decide
theorem sb_m1 {p : Nat} (h : 0 < p) : nI p + (-1) = nI (p - 1) := by
  obtain ⟨q, rfl⟩ : ∃ q, p = q + 1 := ⟨p - 1, by omega⟩
  exact pk_m1 q
def sb_b (c : Nat) : Int32 := (nI c).toInt8.toInt32
theorem sb_byte : ∀ c, c < 256 → sb_b c &&& 255 = nI c ∧ ((nI c).toUInt32 % 65536).toInt32 = nI c ∧ nI c ≤ 255 := by decide +kernel
def sb_Fit (a : Nat → Int32) : Prop := ∀ j, fits .byte (.int (a j)) = true
def sb_Lat (t : Nat → Nat) (n : Nat) (a : Nat → Int32) : Prop := ∀ j, j < n → t j < 256 ∧ a j = sb_b (t j)
theorem sb_fitB (c : Nat) : fits .byte (.int (sb_b c)) = true := pk_fb _
theorem sb_fit0 : sb_Fit (fun _ => 0) := fun _ => by
  show fits .byte (.int 0) = true
  decide
theorem sb_fitU {a : Nat → Int32} {k : Nat} {x : Int32} (h : sb_Fit a) (hx : fits .byte (.int x) = true) : sb_Fit (upd a k x) := by
  intro j
  by_cases e : j = k
  · subst e
    rw [pk_us]
    exact hx
  · rw [pk_un e]
    exact h j
def sb_cat (t : Nat → Nat) (n : Nat) (s : Nat → Nat) : Nat → Nat := fun j => if j < n then t j else s (j - n)
theorem sb_cat_lo {t s : Nat → Nat} {n j : Nat} (h : j < n) : sb_cat t n s j = t j := if_pos h
theorem sb_cat_hi {t s : Nat → Nat} {n j : Nat} : sb_cat t n s (n + j) = s j := by
  show (if n + j < n then t (n + j) else s (n + j - n)) = s j
  rw [if_neg (by omega), Nat.add_sub_cancel_left]
theorem sb_latPut {t s : Nat → Nat} {n w : Nat} {a a' : Nat → Int32} (h : sb_Lat t n a) (hk : ∀ j, j < n → a' j = a j) (hs : ∀ i, i < w → s i < 256 ∧ a' (n + i) = sb_b (s i)) : sb_Lat (sb_cat t n s) (n + w) a' := by
  intro j hj
  by_cases e : j < n
  · rw [sb_cat_lo e, hk j e]
    exact h j e
  · obtain ⟨i, rfl⟩ : ∃ i, j = n + i := ⟨j - n, by omega⟩
    rw [sb_cat_hi]
    exact hs i (by omega)
theorem sb_latKeep {t : Nat → Nat} {n : Nat} {a a' : Nat → Int32} (h : sb_Lat t n a) (hk : ∀ j, j < n → a' j = a j) : sb_Lat t n a' := fun j hj => by
  rw [hk j hj]
  exact h j hj
def sb_cap (q m : Nat) : Nat := if q ≤ m then m else if 2 * m + 2 < q then q else 2 * m + 2
def sb_Room (q m mc ms : Nat) : Prop := q ≤ m ∨ (1 ≤ mc ∧ sb_cap q m ≤ ms ∧ sb_cap q m ≤ 65536)
theorem sb_cap_ge (q m : Nat) : q ≤ sb_cap q m := by
  unfold sb_cap
  split
  · omega
  · split <;> omega
theorem sb_cap_gem (q m : Nat) : m ≤ sb_cap q m := by
  unfold sb_cap
  split
  · omega
  · split <;> omega
theorem sb_cap_le {q m mc ms : Nat} (hm : m ≤ 65536) (hr : sb_Room q m mc ms) : sb_cap q m ≤ 65536 := by
  rcases hr with h | h
  · rw [sb_cap, if_pos h]
    exact hm
  · exact h.2.2
theorem sb_at {P : Int32 → Prop} {x y : Int32} (e : x = y) (h : P y) : P x := e ▸ h
def sb_dg (w : Nat) : Nat := if w < 10 then 1 else if w < 100 then 2 else if w < 1000 then 3 else if w < 10000 then 4 else if w < 100000 then 5 else if w < 1000000 then 6 else if w < 10000000 then 7 else if w < 100000000 then 8 else if w < 1000000000 then 9 else 10
def sb_dec (v : Nat) : Nat → Nat := fun i => 48 + v / 10 ^ (sb_dg v - 1 - i) % 10
theorem sb_dg_in (w : Nat) : 1 ≤ sb_dg w ∧ sb_dg w ≤ 10 := by
  unfold sb_dg
  constructor <;> (repeat' split) <;> omega
theorem sb_dg100 {w : Nat} (h : 100 ≤ w) (hw : w < 2 ^ 31) : sb_dg w = sb_dg (w / 100) + 2 := by
  rw [sb_dg, sb_dg, if_neg (show ¬ w < 10 by omega), if_neg (show ¬ w < 100 by omega)]
  by_cases h3 : w < 1000
  · rw [if_pos h3, if_pos (show w / 100 < 10 by omega)]
  rw [if_neg h3, if_neg (show ¬ w / 100 < 10 by omega)]
  by_cases h4 : w < 10000
  · rw [if_pos h4, if_pos (show w / 100 < 100 by omega)]
  rw [if_neg h4, if_neg (show ¬ w / 100 < 100 by omega)]
  by_cases h5 : w < 100000
  · rw [if_pos h5, if_pos (show w / 100 < 1000 by omega)]
  rw [if_neg h5, if_neg (show ¬ w / 100 < 1000 by omega)]
  by_cases h6 : w < 1000000
  · rw [if_pos h6, if_pos (show w / 100 < 10000 by omega)]
  rw [if_neg h6, if_neg (show ¬ w / 100 < 10000 by omega)]
  by_cases h7 : w < 10000000
  · rw [if_pos h7, if_pos (show w / 100 < 100000 by omega)]
  rw [if_neg h7, if_neg (show ¬ w / 100 < 100000 by omega)]
  by_cases h8 : w < 100000000
  · rw [if_pos h8, if_pos (show w / 100 < 1000000 by omega)]
  rw [if_neg h8, if_neg (show ¬ w / 100 < 1000000 by omega)]
  by_cases h9 : w < 1000000000
  · rw [if_pos h9, if_pos (show w / 100 < 10000000 by omega)]
  rw [if_neg h9, if_neg (show ¬ w / 100 < 10000000 by omega)]
  rw [if_pos (show w / 100 < 100000000 by omega)]
theorem sb_negT {w : Nat} (h : w < 2 ^ 31) : (-nI w).toInt = -(w : Int) := by
  rw [Int32.toInt_neg, nI_toInt h]
  exact Int.bmod_eq_of_le (by omega) (by omega)
theorem sb_nle {a b : Nat} (ha : a < 2 ^ 31) (hb : b < 2 ^ 31) : -nI a ≤ -nI b ↔ b ≤ a := by
  rw [Int32.le_iff_toInt_le, sb_negT ha, sb_negT hb]
  omega
theorem sb_nlt {a b : Nat} (ha : a < 2 ^ 31) (hb : b < 2 ^ 31) : -nI a < -nI b ↔ b < a := by
  rw [Int32.lt_iff_toInt_lt, sb_negT ha, sb_negT hb]
  omega
theorem sb_cmp {A B : Prop} {x : Int32} (v c : Nat) (f : c ≤ v → A) (g : v < c → B) (hv : v < 2 ^ 31) (hx : x = -nI c := by rfl) (hc : c < 2 ^ 31 := by omega) : (-nI v ≤ x → A) ∧ (¬ -nI v ≤ x → B) := by
  subst hx
  rw [sb_nle hv hc]
  exact ⟨f, fun z => g (by omega)⟩
theorem sb_ndiv {w : Nat} (hw : w < 2 ^ 31) : (-nI w) / 100 = -nI (w / 100) := by
  apply Int32.toInt_inj.mp
  have h100 : (100 : Int32).toInt = 100 := by decide
  rw [Int32.toInt_div, sb_negT hw, h100, sb_negT (by omega), Int.neg_tdiv, Int.tdiv_eq_ediv_of_nonneg (by omega), Int.bmod_eq_of_le (by omega) (by omega)]
  omega
theorem sb_nrem {w : Nat} (hw : w < 2 ^ 31) : (-nI (w / 100)) * 100 - (-nI w) = nI (w % 100) := by
  have h := pk_rem (a := w) (d := 100) hw (by decide) (by decide)
  rw [pk_div hw (by decide) (by decide)] at h
  rw [← h]
  show (-nI (w / 100)) * nI 100 - (-nI w) = nI w - nI (w / 100) * nI 100
  rw [Int32.neg_mul, Int32.sub_neg, Int32.add_comm, ← Int32.sub_eq_add_neg]
end
section
/-! rows on bits, shifts and unsigned numbers, to paste: each family out of a closed proof of our own, whole with what it rests on; each by itself clean at Lean in its own claim (generation 39, form 5). Take a family whole -/
/-! ===== Int32 by its bits: bt x i ===== -/
def bt (x : Int32) (i : Nat) : Bool := x.toBitVec.getLsbD i
theorem b_ext {x y : Int32} (h : ∀ i, i < 32 → bt x i = bt y i) : x = y := Int32.toBitVec_inj.mp (BitVec.eq_of_getLsbD_eq (fun i hi => h i hi))
theorem b_or (x y : Int32) (i : Nat) : bt (x ||| y) i = (bt x i || bt y i) := by unfold bt; rw [Int32.toBitVec_or, BitVec.getLsbD_or]
theorem b_and (x y : Int32) (i : Nat) : bt (x &&& y) i = (bt x i && bt y i) := by unfold bt; rw [Int32.toBitVec_and, BitVec.getLsbD_and]
theorem b_xor (x y : Int32) (i : Nat) : bt (x ^^^ y) i = (bt x i ^^ bt y i) := by unfold bt; rw [Int32.toBitVec_xor, BitVec.getLsbD_xor]
theorem b_big {x : Int32} {i : Nat} (h : 32 ≤ i) : bt x i = false := BitVec.getLsbD_of_ge _ _ h
theorem b_255 (i : Nat) : bt 255 i = decide (i < 8) := by
  rcases Nat.lt_or_ge i 32 with h | h
  · exact (by decide +kernel : ∀ i, i < 32 → bt 255 i = decide (i < 8)) i h
  · rw [b_big h, decide_eq_false (by omega)]
theorem b_65535 (i : Nat) : bt 65535 i = decide (i < 16) := by
  rcases Nat.lt_or_ge i 32 with h | h
  · exact (by decide +kernel : ∀ i, i < 32 → bt 65535 i = decide (i < 16)) i h
  · rw [b_big h, decide_eq_false (by omega)]
theorem b_m1 : ∀ i, i < 32 → bt (-1) i = true := by decide +kernel
theorem b_0 (i : Nat) : bt 0 i = false := BitVec.getLsbD_zero
theorem s_l : ∀ n, n < 32 → ((nI n &&& 31).toBitVec.smod 32).toNat = n := by decide +kernel
theorem s_u : ∀ n, n < 32 → (((nI n).toUInt32 &&& Int32.toUInt32 31).toBitVec % 32).toNat = n := by decide +kernel
theorem b_shl (n : Nat) (hn : n < 32) (x : Int32) {i : Nat} (hi : i < 32) : bt (x <<< (nI n &&& 31)) i = (decide (n ≤ i) && bt x (i - n)) := by
  unfold bt
  rw [Int32.toBitVec_shiftLeft]
  show (x.toBitVec <<< ((nI n &&& 31).toBitVec.smod 32).toNat).getLsbD i = _
  rw [s_l n hn, BitVec.getLsbD_shiftLeft]
  rcases Nat.lt_or_ge i n with h | h
  · simp [h, Nat.not_le.mpr h]
  · simp [hi, h, Nat.not_lt.mpr h]
theorem b_ushr (n : Nat) (hn : n < 32) (x : Int32) (i : Nat) : bt ((x.toUInt32 >>> ((nI n).toUInt32 &&& Int32.toUInt32 31)).toInt32) i = bt x (n + i) := by
  show (x.toUInt32 >>> ((nI n).toUInt32 &&& Int32.toUInt32 31)).toBitVec.getLsbD i = x.toUInt32.toBitVec.getLsbD (n + i)
  rw [UInt32.toBitVec_shiftRight]
  show (x.toUInt32.toBitVec >>> (((nI n).toUInt32 &&& Int32.toUInt32 31).toBitVec % 32).toNat).getLsbD i = _
  rw [s_u n hn, BitVec.getLsbD_ushiftRight]
theorem b_sshr (n : Nat) (hn : n < 32) (x : Int32) {i : Nat} (hi : i < 32) : bt (x >>> (nI n &&& 31)) i = if n + i < 32 then bt x (n + i) else bt x 31 := by
  unfold bt
  rw [Int32.toBitVec_shiftRight]
  show (x.toBitVec.sshiftRight ((nI n &&& 31).toBitVec.smod 32).toNat).getLsbD i = _
  rw [s_l n hn, BitVec.getLsbD_sshiftRight, BitVec.msb_eq_getLsbD_last]
  simp [hi]
theorem b_shl8 (x : Int32) {i : Nat} (hi : i < 32) : bt (x <<< ((8 : Int32) &&& 31)) i = (decide (8 ≤ i) && bt x (i - 8)) := b_shl 8 (by omega) x hi
theorem b_shl16 (x : Int32) {i : Nat} (hi : i < 32) : bt (x <<< ((16 : Int32) &&& 31)) i = (decide (16 ≤ i) && bt x (i - 16)) := b_shl 16 (by omega) x hi
theorem b_shl24 (x : Int32) {i : Nat} (hi : i < 32) : bt (x <<< ((24 : Int32) &&& 31)) i = (decide (24 ≤ i) && bt x (i - 24)) := b_shl 24 (by omega) x hi
theorem b_sshr8 (x : Int32) {i : Nat} (hi : i < 32) : bt (x >>> ((8 : Int32) &&& 31)) i = if 8 + i < 32 then bt x (8 + i) else bt x 31 := b_sshr 8 (by omega) x hi
end
section
/-! lists of contacts: where they lead, when they come in, the best of them; no program in sight -/
/-- the time at which a list of contacts comes in -/
def cn_t (A : Nat → Nat → Nat) : List Nat → Nat → Nat
  | [], t => t
  | k :: L, t => cn_t A L (A k t)
/-- the node to which it leads -/
def cn_v (tt : Nat → Nat) : List Nat → Nat → Nat
  | [], v => v
  | k :: L, _ => cn_v tt L (tt k)
/-- it is a way from v to g -/
def cn_ch (nc : Nat) (fr tt : Nat → Nat) : List Nat → Nat → Nat → Prop
  | [], v, g => v = g
  | k :: L, v, g => k < nc ∧ fr k = v ∧ cn_ch nc fr tt L (tt k) g
/-- what the arrivals over one contact obey -/
def cn_P (A : Nat → Nat → Nat) : Prop :=
  (∀ k t, A k t ≤ 1000000) ∧ (∀ k t t', t ≤ t' → A k t ≤ A k t') ∧ (∀ k t, t < 1000000 → t < A k t) ∧ (∀ k t, 1000000 ≤ t → A k t = 1000000)
section CnWalks
variable {nc : Nat} {fr tt : Nat → Nat} {A : Nat → Nat → Nat}
theorem cn_t_app (p q : List Nat) : ∀ t, cn_t A (p ++ q) t = cn_t A q (cn_t A p t) := by
  induction p with
  | nil => intro t; rfl
  | cons k p ih => intro t; exact ih (A k t)
theorem cn_v_app (p q : List Nat) : ∀ v, cn_v tt (p ++ q) v = cn_v tt q (cn_v tt p v) := by
  induction p with
  | nil => intro t; rfl
  | cons k p ih => intro t; exact ih (tt k)
theorem cn_ch_v {L : List Nat} : ∀ {v g : Nat}, cn_ch nc fr tt L v g → cn_v tt L v = g := by
  induction L with
  | nil => intro v g h; exact h
  | cons k L ih => intro v g h; exact ih h.2.2
theorem cn_ch_app {p q : List Nat} : ∀ {v g : Nat}, cn_ch nc fr tt (p ++ q) v g ↔ (cn_ch nc fr tt p v (cn_v tt p v) ∧ cn_ch nc fr tt q (cn_v tt p v) g) := by
  induction p with
  | nil => intro v g; exact ⟨fun h => ⟨rfl, h⟩, fun h => h.2⟩
  | cons k p ih =>
    intro v g
    constructor
    · intro h
      have h2 := (ih (v := tt k) (g := g)).mp h.2.2
      exact ⟨⟨h.1, h.2.1, h2.1⟩, h2.2⟩
    · intro h
      exact ⟨h.1.1, h.1.2.1, (ih (v := tt k) (g := g)).mpr ⟨h.1.2.2, h.2⟩⟩
theorem cn_t_mono (P : cn_P A) (L : List Nat) : ∀ t t', t ≤ t' → cn_t A L t ≤ cn_t A L t' := by
  induction L with
  | nil => intro t t' h; exact h
  | cons k L ih => intro t t' h; exact ih _ _ (P.2.1 k t t' h)
theorem cn_t_le (P : cn_P A) (L : List Nat) : ∀ t, t ≤ 1000000 → cn_t A L t ≤ 1000000 := by
  induction L with
  | nil => intro t h; exact h
  | cons k L ih => intro t h; exact ih _ (P.1 k t)
theorem cn_A_ge (P : cn_P A) (k t : Nat) (h : t ≤ 1000000) : t ≤ A k t := by
  rcases Nat.lt_or_ge t 1000000 with h1 | h1
  · exact Nat.le_of_lt (P.2.2.1 k t h1)
  · rw [P.2.2.2 k t h1]; exact h
theorem cn_t_ge (P : cn_P A) (L : List Nat) : ∀ t, t ≤ 1000000 → t ≤ cn_t A L t := by
  induction L with
  | nil => intro t h; exact Nat.le_refl _
  | cons k L ih => intro t h; exact Nat.le_trans (cn_A_ge P k t h) (ih _ (P.1 k t))
theorem cn_t_fin (P : cn_P A) {p q : List Nat} {t : Nat} (ht : t ≤ 1000000) (h : cn_t A (p ++ q) t < 1000000) : cn_t A p t < 1000000 := by
  rw [cn_t_app] at h
  exact Nat.lt_of_le_of_lt (cn_t_ge P q _ (cn_t_le P p t ht)) h
theorem cn_A_fin (P : cn_P A) {k t : Nat} (h : A k t < 1000000) : t < 1000000 := by
  rcases Nat.lt_or_ge t 1000000 with h1 | h1
  · exact h1
  · rw [P.2.2.2 k t h1] at h; omega
/-- x is the earliest coming in at g from v, ready at t, over at most m contacts (1000000: never) -/
def cn_Va (nc : Nat) (fr tt : Nat → Nat) (A : Nat → Nat → Nat) (m v t g x : Nat) : Prop :=
  x ≤ 1000000 ∧ ∀ y, y < 1000000 → (x ≤ y ↔ ∃ L : List Nat, L.length ≤ m ∧ cn_ch nc fr tt L v g ∧ cn_t A L t ≤ y)
theorem cn_Va_eq {m v t g x x' : Nat} (h : cn_Va nc fr tt A m v t g x) (h' : cn_Va nc fr tt A m v t g x') : x = x' := by
  rcases Nat.lt_trichotomy x x' with q | q | q
  · have hx : x < 1000000 := Nat.lt_of_lt_of_le q h'.1
    have := (h'.2 x hx).mpr ((h.2 x hx).mp (Nat.le_refl _))
    omega
  · exact q
  · have hx : x' < 1000000 := Nat.lt_of_lt_of_le q h.1
    have := (h.2 x' hx).mpr ((h'.2 x' hx).mp (Nat.le_refl _))
    omega
theorem cn_Va_0 {v t g : Nat} (ht : t < 1000000) : cn_Va nc fr tt A 0 v t g (if g = v then t else 1000000) := by
  by_cases e : g = v
  · rw [if_pos e]
    refine ⟨Nat.le_of_lt ht, fun y hy => ⟨fun h => ⟨[], Nat.le_refl _, e.symm, h⟩, ?_⟩⟩
    rintro ⟨L, hL, -, h⟩
    cases L with
    | nil => exact h
    | cons k L => exact absurd hL (by simp)
  · rw [if_neg e]
    refine ⟨Nat.le_refl _, fun y hy => ⟨fun h => absurd h (by omega), ?_⟩⟩
    rintro ⟨L, hL, hc, h⟩
    cases L with
    | nil => exact absurd hc.symm e
    | cons k L => exact absurd hL (by simp)
/-- k contacts of a round are done: E before the round, e now -/
def cn_R (fr tt : Nat → Nat) (A : Nat → Nat → Nat) (k : Nat) (E e : Nat → Nat) : Prop :=
  ∀ g y, e g ≤ y ↔ (E g ≤ y ∨ ∃ j, j < k ∧ tt j = g ∧ A j (E (fr j)) ≤ y)
theorem cn_R_0 (E : Nat → Nat) : cn_R fr tt A 0 E E := by
  intro g y
  constructor
  · exact Or.inl
  · rintro (h | ⟨j, hj, -⟩)
    · exact h
    · exact absurd hj (Nat.not_lt_zero _)
def cn_u (f : Nat → Nat) (k x : Nat) : Nat → Nat := fun j => if j = k then x else f j
theorem cn_us {f : Nat → Nat} {k x : Nat} : cn_u f k x k = x := if_pos rfl
theorem cn_un {f : Nat → Nat} {k x j : Nat} (h : j ≠ k) : cn_u f k x j = f j := if_neg h
theorem cn_R_1 {k : Nat} {E e : Nat → Nat} (h : cn_R fr tt A k E e) : cn_R fr tt A (k + 1) E (cn_u e (tt k) (if e (tt k) ≤ A k (E (fr k)) then e (tt k) else A k (E (fr k)))) := by
  intro g y
  by_cases hg : g = tt k
  · subst hg
    rw [cn_us]
    have h1 := h (tt k) y
    have key : ((if e (tt k) ≤ A k (E (fr k)) then e (tt k) else A k (E (fr k))) ≤ y) ↔ (e (tt k) ≤ y ∨ A k (E (fr k)) ≤ y) := by
      split <;> omega
    rw [key, h1]
    constructor
    · rintro ((h2 | ⟨j, hj, hj2⟩) | h2)
      · exact Or.inl h2
      · exact Or.inr ⟨j, by omega, hj2⟩
      · exact Or.inr ⟨k, by omega, rfl, h2⟩
    · rintro (h2 | ⟨j, hj, hj1, hj2⟩)
      · exact Or.inl (Or.inl h2)
      · by_cases e1 : j = k
        · subst e1; exact Or.inr hj2
        · exact Or.inl (Or.inr ⟨j, by omega, hj1, hj2⟩)
  · rw [cn_un hg, h g y]
    constructor
    · rintro (h2 | ⟨j, hj, hj2⟩)
      · exact Or.inl h2
      · exact Or.inr ⟨j, by omega, hj2⟩
    · rintro (h2 | ⟨j, hj, hj1, hj2⟩)
      · exact Or.inl h2
      · by_cases e1 : j = k
        · subst e1; exact absurd hj1.symm hg
        · exact Or.inr ⟨j, by omega, hj1, hj2⟩
theorem cn_Va_1 (P : cn_P A) (hn : ∀ k, k < nc → fr k < 6) {m v t : Nat} {E e : Nat → Nat} (hE : ∀ g, g < 6 → cn_Va nc fr tt A m v t g (E g)) (hR : cn_R fr tt A nc E e) (g : Nat) (hg : g < 6) : cn_Va nc fr tt A (m + 1) v t g (e g) := by
  refine ⟨(hR g 1000000).mpr (Or.inl (hE g hg).1), fun y hy => ?_⟩
  rw [hR g y]
  constructor
  · rintro (h | ⟨j, hj, hj1, hj2⟩)
    · obtain ⟨L, h1, h2⟩ := ((hE g hg).2 y hy).mp h
      exact ⟨L, by omega, h2⟩
    · have hf : E (fr j) < 1000000 := cn_A_fin P (Nat.lt_of_le_of_lt hj2 hy)
      obtain ⟨L, h1, h2, h3⟩ := ((hE (fr j) (hn j hj)).2 _ hf).mp (Nat.le_refl _)
      refine ⟨L ++ [j], by simp; omega, ?_, ?_⟩
      · have hv := cn_ch_v h2
        refine cn_ch_app.mpr ⟨by rw [hv]; exact h2, hj, hv.symm, hj1⟩
      · rw [cn_t_app]
        exact Nat.le_trans (P.2.1 j _ _ h3) hj2
  · rintro ⟨L, h1, h2, h3⟩
    rcases List.eq_nil_or_concat L with e0 | ⟨L', j, e0⟩
    · subst e0
      exact Or.inl (((hE g hg).2 y hy).mpr ⟨[], Nat.zero_le _, h2, h3⟩)
    · rw [List.concat_eq_append] at e0
      subst e0
      have h4 := cn_ch_app.mp h2
      have hj : j < nc := h4.2.1
      have hv : fr j = cn_v tt L' v := h4.2.2.1
      have hg2 : tt j = g := h4.2.2.2
      rw [cn_t_app] at h3
      have h5 : A j (cn_t A L' t) ≤ y := h3
      have hf : cn_t A L' t < 1000000 := cn_A_fin P (Nat.lt_of_le_of_lt h5 hy)
      have h6 : E (fr j) ≤ cn_t A L' t := ((hE (fr j) (hn j hj)).2 _ hf).mpr ⟨L', by simp at h1; omega, by rw [hv]; exact h4.1, Nat.le_refl _⟩
      exact Or.inr ⟨j, hj, hg2, Nat.le_trans (P.2.1 j _ _ h6) h5⟩
theorem cn_Va_mono (P : cn_P A) {m v t t' g x x' : Nat} (ht : t ≤ t') (h : cn_Va nc fr tt A m v t g x) (h' : cn_Va nc fr tt A m v t' g x') : x ≤ x' := by
  rcases Nat.lt_or_ge x' 1000000 with q | q
  · obtain ⟨L, h1, h2, h3⟩ := (h'.2 x' q).mp (Nat.le_refl _)
    exact (h.2 x' q).mpr ⟨L, h1, h2, Nat.le_trans (cn_t_mono P L t t' ht) h3⟩
  · exact Nat.le_trans h.1 q
end CnWalks
end
section
/-! the best list: earliest, then shortest, then the least numbers; a depth-first search finds it -/
/-- contact j leads on: behind it g can be come in at by bt over at most m contacts -/
def cn_Le (nc : Nat) (fr tt : Nat → Nat) (A : Nat → Nat → Nat) (g bt m v t j : Nat) : Prop :=
  j < nc ∧ fr j = v ∧ ∃ L : List Nat, L.length ≤ m ∧ cn_ch nc fr tt L (tt j) g ∧ cn_t A L (A j t) ≤ bt
/-- no lesser contact leads on, at any place of the list -/
def cn_G (nc : Nat) (fr tt : Nat → Nat) (A : Nat → Nat → Nat) (g bt : Nat) : List Nat → Nat → Nat → Prop
  | [], _, _ => True
  | k :: L, v, t => (∀ j, j < k → ¬ cn_Le nc fr tt A g bt L.length v t j) ∧ cn_G nc fr tt A g bt L (tt k) (A k t)
/-- R is the best list from v, ready at t, to g -/
def cn_O (nc : Nat) (fr tt : Nat → Nat) (A : Nat → Nat → Nat) (v t g : Nat) (R : List Nat) : Prop :=
  1 ≤ R.length ∧ R.length ≤ 5 ∧ cn_ch nc fr tt R v g ∧ cn_t A R t < 1000000 ∧ (∀ L, cn_ch nc fr tt L v g → L.length ≤ 5 → cn_t A R t ≤ cn_t A L t) ∧ (∀ L, cn_ch nc fr tt L v g → L.length < R.length → cn_t A R t < cn_t A L t) ∧ cn_G nc fr tt A g (cn_t A R t) R v t
/-- there is none -/
def cn_No (nc : Nat) (fr tt : Nat → Nat) (A : Nat → Nat → Nat) (v t g : Nat) : Prop :=
  ∀ L : List Nat, cn_ch nc fr tt L v g → L.length ≤ 5 → 1000000 ≤ cn_t A L t
section CnBest
variable {nc : Nat} {fr tt : Nat → Nat} {A : Nat → Nat → Nat}
theorem cn_G_ex {g bt : Nat} : ∀ (m v t : Nat), (∃ L : List Nat, L.length = m ∧ cn_ch nc fr tt L v g ∧ cn_t A L t ≤ bt) → (∀ L : List Nat, cn_ch nc fr tt L v g → L.length < m → bt < cn_t A L t) → ∃ R : List Nat, R.length = m ∧ cn_ch nc fr tt R v g ∧ cn_t A R t ≤ bt ∧ cn_G nc fr tt A g bt R v t := by
  intro m
  induction m with
  | zero =>
    intro v t h _
    obtain ⟨L, h1, h2, h3⟩ := h
    cases L with
    | nil => exact ⟨[], rfl, h2, h3, trivial⟩
    | cons k L => exact absurd h1 (by simp)
  | succ m ih =>
    intro v t h hm
    obtain ⟨L, h1, h2, h3⟩ := h
    cases L with
    | nil => exact absurd h1 (by simp)
    | cons k0 L0 =>
      have hl0 : L0.length = m := by simpa using h1
      obtain ⟨k, hk, hkm⟩ := pk_least (cn_Le nc fr tt A g bt m v t) ⟨k0, h2.1, h2.2.1, L0, by omega, h2.2.2, h3⟩
      obtain ⟨hk1, hk2, L1, l1, c1, t1⟩ := hk
      have hl1 : L1.length = m := by
        rcases Nat.lt_or_ge L1.length m with q | q
        · have := hm (k :: L1) ⟨hk1, hk2, c1⟩ (by simp; omega)
          have t2 : cn_t A (k :: L1) t ≤ bt := t1
          omega
        · omega
      obtain ⟨R, r1, r2, r3, r4⟩ := ih (tt k) (A k t) ⟨L1, hl1, c1, t1⟩ (fun L2 c2 l2 => hm (k :: L2) ⟨hk1, hk2, c2⟩ (by simp; omega))
      refine ⟨k :: R, by simp; omega, ⟨hk1, hk2, r2⟩, r3, ?_, r4⟩
      rw [r1]
      exact hkm
theorem cn_O_ex {v t g : Nat} (hv : v ≠ g) (h : ∃ L : List Nat, L.length ≤ 5 ∧ cn_ch nc fr tt L v g ∧ cn_t A L t < 1000000) : ∃ R, cn_O nc fr tt A v t g R := by
  obtain ⟨L, h1, h2, h3⟩ := h
  obtain ⟨bt, ⟨L1, a1, a2, a3⟩, hb⟩ := pk_least (fun x => ∃ L : List Nat, L.length ≤ 5 ∧ cn_ch nc fr tt L v g ∧ cn_t A L t = x) ⟨_, L, h1, h2, rfl⟩
  obtain ⟨m, ⟨L2, b1, b2, b3⟩, hm⟩ := pk_least (fun m => ∃ L : List Nat, L.length = m ∧ cn_ch nc fr tt L v g ∧ cn_t A L t = bt) ⟨_, L1, rfl, a2, a3⟩
  have hbt : ∀ L : List Nat, cn_ch nc fr tt L v g → L.length ≤ 5 → bt ≤ cn_t A L t := by
    intro L' c' l'
    rcases Nat.lt_or_ge (cn_t A L' t) bt with q | q
    · exact absurd ⟨L', l', c', rfl⟩ (hb _ q)
    · exact q
  have hm5 : m ≤ 5 := by
    rcases Nat.lt_or_ge 5 m with q | q
    · exact absurd ⟨L1, rfl, a2, a3⟩ (hm L1.length (by omega))
    · exact q
  have hsh : ∀ L : List Nat, cn_ch nc fr tt L v g → L.length < m → bt < cn_t A L t := by
    intro L' c' l'
    have q := hbt L' c' (by omega)
    rcases Nat.lt_or_ge bt (cn_t A L' t) with q2 | q2
    · exact q2
    · exact absurd ⟨L', rfl, c', by omega⟩ (hm _ l')
  obtain ⟨R, r1, r2, r3, r4⟩ := cn_G_ex m v t ⟨L2, b1, b2, by omega⟩ hsh
  have hR : cn_t A R t = bt := by
    have := hbt R r2 (by omega)
    omega
  have hlt : bt < 1000000 := by
    have := hbt L h2 h1
    omega
  refine ⟨R, ?_, by omega, r2, by omega, ?_, ?_, ?_⟩
  · cases R with
    | nil => exact absurd r2 hv
    | cons k R => simp
  · intro L' c' l'; rw [hR]; exact hbt L' c' l'
  · intro L' c' l'; rw [hR]; exact hsh L' c' (by omega)
  · rw [hR]; exact r4
theorem cn_O_or {v t g : Nat} (hv : v ≠ g) : cn_No nc fr tt A v t g ∨ ∃ R, cn_O nc fr tt A v t g R := by
  by_cases h : ∃ L : List Nat, L.length ≤ 5 ∧ cn_ch nc fr tt L v g ∧ cn_t A L t < 1000000
  · exact Or.inr (cn_O_ex hv h)
  · refine Or.inl fun L hc hl => ?_
    rcases Nat.lt_or_ge (cn_t A L t) 1000000 with q | q
    · exact absurd ⟨L, hl, hc, q⟩ h
    · exact q
/-- no contact stands twice in the best list -/
theorem cn_O_nodup (P : cn_P A) {v t g : Nat} (ht : t ≤ 1000000) {R p e : List Nat} {k : Nat} (h : cn_O nc fr tt A v t g R) (hR : R = p ++ k :: e) : k ∉ p := by
  intro hk
  obtain ⟨p1, p2, rfl⟩ := List.append_of_mem hk
  obtain ⟨-, -, hc, -, -, hs, -⟩ := h
  have e1 : R = p1 ++ ((k :: p2) ++ k :: e) := by rw [hR]; simp
  have c1 := cn_ch_app.mp (e1 ▸ hc)
  have c2 := cn_ch_app.mp c1.2
  have c3 : cn_ch nc fr tt (p1 ++ k :: e) v g := cn_ch_app.mpr ⟨c1.1, c1.2.1, c1.2.2.1, c2.2.2.2⟩
  have q := hs _ c3 (by rw [e1]; simp; omega)
  have q2 : cn_t A (p1 ++ k :: e) t ≤ cn_t A R t := by
    rw [e1, cn_t_app, cn_t_app, cn_t_app]
    exact cn_t_mono P _ _ _ (cn_t_ge P _ _ (cn_t_le P _ _ ht))
  omega
/-- the nodes on the way aren't the goal -/
theorem cn_O_mid (P : cn_P A) {v t g : Nat} (ht : t ≤ 1000000) {R p e : List Nat} {k : Nat} (h : cn_O nc fr tt A v t g R) (hR : R = p ++ k :: e) : cn_v tt p v ≠ g := by
  intro hg
  obtain ⟨-, -, hc, -, -, hs, -⟩ := h
  have c1 := cn_ch_app.mp (hR ▸ hc)
  have c2 : cn_ch nc fr tt p v g := by have := c1.1; rw [hg] at this; exact this
  have q := hs p c2 (by rw [hR]; simp)
  have q2 : cn_t A p t ≤ cn_t A R t := by
    rw [hR, cn_t_app]
    exact cn_t_ge P _ _ (cn_t_le P _ _ ht)
  omega
/-- what the best list is worth, by cn_Va -/
theorem cn_O_Va (P : cn_P A) {v t g : Nat} (ht : t ≤ 1000000) {R : List Nat} (h : cn_O nc fr tt A v t g R) {m : Nat} (hm : R.length ≤ m) (hm5 : m ≤ 5) : cn_Va nc fr tt A m v t g (cn_t A R t) := by
  obtain ⟨h1, h2, h3, h4, h5, -, -⟩ := h
  refine ⟨cn_t_le P _ _ ht, fun y hy => ⟨fun q => ⟨R, hm, h3, q⟩, ?_⟩⟩
  rintro ⟨L, l1, l2, l3⟩
  exact Nat.le_trans (h5 L l2 (by omega)) l3
theorem cn_O_Va2 {v t g x : Nat} {R : List Nat} (h : cn_O nc fr tt A v t g R) {m : Nat} (hm : m < R.length) (hx : cn_Va nc fr tt A m v t g x) : cn_t A R t < x := by
  obtain ⟨h1, h2, h3, h4, -, h6, -⟩ := h
  rcases Nat.lt_or_ge (cn_t A R t) x with q | q
  · exact q
  · obtain ⟨L, l1, l2, l3⟩ := (hx.2 _ h4).mp q
    have := h6 L l2 (by omega)
    omega
theorem cn_No_Va {v t g : Nat} (h : cn_No nc fr tt A v t g) {m : Nat} (hm5 : m ≤ 5) : cn_Va nc fr tt A m v t g 1000000 := by
  refine ⟨Nat.le_refl _, fun y hy => ⟨fun q => absurd q (by omega), ?_⟩⟩
  rintro ⟨L, l1, l2, l3⟩
  have := h L l2 (by omega)
  omega
/-- the k at the head of a best list's rest leads on -/
theorem cn_Le_hd {g bt v t k : Nat} {L : List Nat} (hc : cn_ch nc fr tt (k :: L) v g) (ht : cn_t A (k :: L) t ≤ bt) : cn_Le nc fr tt A g bt L.length v t k :=
  ⟨hc.1, hc.2.1, L, Nat.le_refl _, hc.2.2, ht⟩
theorem cn_G_app {g bt : Nat} {q : List Nat} : ∀ {p : List Nat} {v t : Nat}, cn_G nc fr tt A g bt (p ++ q) v t → cn_G nc fr tt A g bt q (cn_v tt p v) (cn_t A p t) := by
  intro p
  induction p with
  | nil => intro v t h; exact h
  | cons k p ih => intro v t h; exact ih h.2
/-! the search -/
/-- keeping the better of two lists -/
def cn_kp (tt : Nat → Nat) (A : Nat → Nat → Nat) (v t g : Nat) (s q : List Nat) : List Nat :=
  if cn_v tt q v = g ∧ (s = [] ∨ cn_t A q t < cn_t A s t ∨ (cn_t A q t = cn_t A s t ∧ q.length < s.length)) then q else s
def cn_fo (f : List Nat → Nat → List Nat) : Nat → Nat → List Nat → List Nat
  | 0, _, s => s
  | d + 1, k, s => cn_fo f d (k + 1) (f s k)
theorem cn_fo_add (f : List Nat → Nat → List Nat) (b : Nat) : ∀ a k s, cn_fo f (a + b) k s = cn_fo f b (k + a) (cn_fo f a k s) := by
  intro a
  induction a with
  | zero => intro k s; rw [Nat.zero_add]; rfl
  | succ a ih =>
    intro k s
    rw [Nat.succ_add]
    show cn_fo f (a + b) (k + 1) (f s k) = cn_fo f b (k + (a + 1)) (cn_fo f a (k + 1) (f s k))
    rw [ih]
    congr 1
    omega
theorem cn_fo_inv (I : List Nat → Prop) (f : List Nat → Nat → List Nat) (n : Nat) (hf : ∀ s k, k < n → I s → I (f s k)) : ∀ d k s, k + d ≤ n → I s → I (cn_fo f d k s) := by
  intro d
  induction d with
  | zero => intro k s _ h; exact h
  | succ d ih => intro k s hk h; exact ih (k + 1) _ (by omega) (hf s k (by omega) h)
def cn_df (nc : Nat) (fr tt : Nat → Nat) (A : Nat → Nat → Nat) (v t g : Nat) : Nat → List Nat → List Nat → List Nat
  | 0, _, s => s
  | j + 1, p, s => cn_fo (fun s k => if fr k = cn_v tt p v ∧ k ∉ p ∧ A k (cn_t A p t) < 1000000 then cn_df nc fr tt A v t g j (p ++ [k]) (cn_kp tt A v t g s (p ++ [k])) else s) nc 0 s
/-- one contact of the search at a list p -/
def cn_ds (nc : Nat) (fr tt : Nat → Nat) (A : Nat → Nat → Nat) (v t g j : Nat) (p : List Nat) (s : List Nat) (k : Nat) : List Nat :=
  if fr k = cn_v tt p v ∧ k ∉ p ∧ A k (cn_t A p t) < 1000000 then cn_df nc fr tt A v t g j (p ++ [k]) (cn_kp tt A v t g s (p ++ [k])) else s
theorem cn_df_s (v t g j : Nat) (p s : List Nat) : cn_df nc fr tt A v t g (j + 1) p s = cn_fo (cn_ds nc fr tt A v t g j p) nc 0 s := rfl
theorem cn_df_inv (I : List Nat → Prop) {v t g : Nat} : ∀ (j : Nat) (p s : List Nat), cn_ch nc fr tt p v (cn_v tt p v) → (∀ (e s : List Nat), e ≠ [] → e.length ≤ j → cn_ch nc fr tt (p ++ e) v (cn_v tt (p ++ e) v) → cn_t A (p ++ e) t < 1000000 → I s → I (cn_kp tt A v t g s (p ++ e))) → I s → I (cn_df nc fr tt A v t g j p s) := by
  intro j
  induction j with
  | zero => intro p s _ _ h; exact h
  | succ j ih =>
    intro p s hp hI h
    rw [cn_df_s]
    refine cn_fo_inv I _ nc ?_ nc 0 s (by omega) h
    intro s k hk hs
    unfold cn_ds
    split
    · rename_i hc
      have hck : cn_ch nc fr tt (p ++ [k]) v (cn_v tt (p ++ [k]) v) := by
        rw [cn_v_app]
        exact cn_ch_app.mpr ⟨hp, hk, hc.1, rfl⟩
      have htk : cn_t A (p ++ [k]) t < 1000000 := by rw [cn_t_app]; exact hc.2.2
      refine ih (p ++ [k]) _ hck ?_ (hI [k] s (by simp) (by simp) hck htk hs)
      intro e s' he hl hce hte hs'
      have e1 : p ++ [k] ++ e = p ++ (k :: e) := by simp
      rw [e1] at hce hte ⊢
      exact hI (k :: e) s' (by simp) (by simp; omega) hce hte hs'
    · exact hs
theorem cn_df_none {v t g : Nat} (h : cn_No nc fr tt A v t g) : cn_df nc fr tt A v t g 5 [] [] = [] := by
  refine cn_df_inv (fun s => s = []) 5 [] [] rfl ?_ rfl
  intro e s he hl hc ht hs
  replace hs : s = [] := hs
  subst hs
  show cn_kp tt A v t g [] ([] ++ e) = []
  unfold cn_kp
  rw [if_neg]
  rintro ⟨hg, -⟩
  rw [List.nil_append] at hc ht hg
  rw [hg] at hc
  have := h e hc hl
  omega
/-- s isn't as good as a list of length m that comes in at bt -/
def cn_Bad (A : Nat → Nat → Nat) (t bt m : Nat) (s : List Nat) : Prop := s = [] ∨ bt < cn_t A s t ∨ (cn_t A s t = bt ∧ m < s.length)
theorem cn_kp_bad {v t g bt m : Nat} {s q : List Nat} (hs : cn_Bad A t bt m s) (hq : cn_v tt q v = g → (bt < cn_t A q t ∨ (cn_t A q t = bt ∧ m < q.length))) : cn_Bad A t bt m (cn_kp tt A v t g s q) := by
  unfold cn_kp
  split
  · rename_i h
    exact Or.inr (hq h.1)
  · exact hs
theorem cn_kp_R {v t g : Nat} {R q : List Nat} (h : cn_O nc fr tt A v t g R) (hc : cn_ch nc fr tt q v (cn_v tt q v)) (hq : q.length ≤ 5) : cn_kp tt A v t g R q = R := by
  obtain ⟨h1, h2, h3, h4, h5, h6, -⟩ := h
  unfold cn_kp
  rw [if_neg]
  rintro ⟨hg, hh⟩
  rw [hg] at hc
  have a := h5 q hc hq
  rcases hh with hh | hh | hh
  · subst hh; simp at h1
  · omega
  · have := h6 q hc hh.2; omega
theorem cn_df_keep {v t g : Nat} {R : List Nat} (h : cn_O nc fr tt A v t g R) {j : Nat} {p : List Nat} (hp : cn_ch nc fr tt p v (cn_v tt p v)) (hl : p.length + j ≤ 5) : cn_df nc fr tt A v t g j p R = R := by
  refine cn_df_inv (fun s => s = R) j p R hp ?_ rfl
  intro e s he hl2 hc ht hs
  replace hs : s = R := hs
  rw [hs]
  exact cn_kp_R h hc (by simp; omega)
theorem cn_df_step (P : cn_P A) {v t g : Nat} (ht : t ≤ 1000000) {R : List Nat} (h : cn_O nc fr tt A v t g R) (e : List Nat) (k : Nat) (p : List Nat) (j : Nat) (s : List Nat) (hR : R = p ++ k :: e) (hj : p.length + j = 5) (hs : cn_Bad A t (cn_t A R t) R.length s) (hrec : e ≠ [] → ∀ (s' : List Nat) (j' : Nat), p.length + 1 + j' = 5 → cn_Bad A t (cn_t A R t) R.length s' → cn_df nc fr tt A v t g j' (p ++ [k]) s' = R) : cn_df nc fr tt A v t g j p s = R := by
  have hO := h
  obtain ⟨h1, h2, h3, h4, h5, h6, h7⟩ := h
  have hl : R.length = p.length + (e.length + 1) := by rw [hR]; simp
  obtain ⟨j, rfl⟩ : ∃ j', j = j' + 1 := ⟨j - 1, by omega⟩
  have hc := cn_ch_app.mp (hR ▸ h3)
  have hkn : k < nc := hc.2.1
  have hG : cn_G nc fr tt A g (cn_t A R t) (k :: e) (cn_v tt p v) (cn_t A p t) := cn_G_app (hR ▸ h7)
  rw [cn_df_s]
  have en : nc = k + (1 + (nc - k - 1)) := by omega
  rw [show cn_fo (cn_ds nc fr tt A v t g j p) nc 0 s = cn_fo (cn_ds nc fr tt A v t g j p) (k + (1 + (nc - k - 1))) 0 s from by rw [← en]]
  rw [cn_fo_add, cn_fo_add]
  have hb : cn_Bad A t (cn_t A R t) R.length (cn_fo (cn_ds nc fr tt A v t g j p) k 0 s) := by
    refine cn_fo_inv (cn_Bad A t (cn_t A R t) R.length) _ k ?_ k 0 s (by omega) hs
    intro s i hi hs
    unfold cn_ds
    split
    · rename_i hcond
      have hbad : ∀ (e' : List Nat), (i :: e').length ≤ j + 1 → cn_ch nc fr tt (p ++ i :: e') v (cn_v tt (p ++ i :: e') v) → cn_v tt (p ++ i :: e') v = g → (cn_t A R t < cn_t A (p ++ i :: e') t ∨ (cn_t A (p ++ i :: e') t = cn_t A R t ∧ R.length < (p ++ i :: e').length)) := by
        intro e' hl' hch hg
        rw [hg] at hch
        have q := h5 _ hch (by simp at hl' ⊢; omega)
        rcases Nat.lt_or_ge (cn_t A R t) (cn_t A (p ++ i :: e') t) with q1 | q1
        · exact Or.inl q1
        · refine Or.inr ⟨by omega, ?_⟩
          rcases Nat.lt_or_ge R.length (p ++ i :: e').length with q2 | q2
          · exact q2
          · exfalso
            have c2 := cn_ch_app.mp hch
            refine hG.1 i hi ⟨c2.2.1, c2.2.2.1, e', ?_, c2.2.2.2, ?_⟩
            · simp at q2; omega
            · rw [cn_t_app] at q1; exact q1
      have hik : i < nc := by omega
      have hck : cn_ch nc fr tt (p ++ [i]) v (cn_v tt (p ++ [i]) v) := by
        rw [cn_v_app]
        exact cn_ch_app.mpr ⟨hc.1, hik, hcond.1, rfl⟩
      refine cn_df_inv (cn_Bad A t (cn_t A R t) R.length) j (p ++ [i]) _ hck ?_ (cn_kp_bad hs (hbad [] (by simp) hck))
      intro e' s' he hl' hce hte hs'
      have e1 : p ++ [i] ++ e' = p ++ (i :: e') := by simp
      rw [e1] at hce hte ⊢
      exact cn_kp_bad hs' (hbad e' (by simp; omega) hce)
    · exact hs
  generalize cn_fo (cn_ds nc fr tt A v t g j p) k 0 s = s1 at hb ⊢
  have hck : cn_ch nc fr tt (p ++ [k]) v (cn_v tt (p ++ [k]) v) := by
    rw [cn_v_app]
    exact cn_ch_app.mpr ⟨hc.1, hkn, hc.2.2.1, rfl⟩
  have hmid : cn_fo (cn_ds nc fr tt A v t g j p) 1 (0 + k) s1 = R := by
    show cn_ds nc fr tt A v t g j p s1 (0 + k) = R
    rw [Nat.zero_add]
    unfold cn_ds
    have hA : A k (cn_t A p t) < 1000000 := by
      have q : cn_t A ((p ++ [k]) ++ e) t < 1000000 := by
        have e2 : (p ++ [k]) ++ e = R := by rw [hR]; simp
        rw [e2]; exact h4
      have q2 := cn_t_fin P ht q
      rw [cn_t_app] at q2
      exact q2
    rw [if_pos ⟨hc.2.2.1, cn_O_nodup P ht hO hR, hA⟩]
    by_cases he : e = []
    · subst he
      rw [← hR]
      have hk : cn_kp tt A v t g s1 R = R := by
        unfold cn_kp
        rw [if_pos]
        refine ⟨cn_ch_v h3, ?_⟩
        rcases hb with hb | hb | hb
        · exact Or.inl hb
        · exact Or.inr (Or.inl hb)
        · exact Or.inr (Or.inr ⟨hb.1.symm, hb.2⟩)
      rw [hk]
      exact cn_df_keep hO (by rw [cn_ch_v h3]; exact h3) (by simp at hl; omega)
    · refine hrec he _ _ (by omega) (cn_kp_bad hb ?_)
      intro hg
      rw [hg] at hck
      have hle : 0 < e.length := by
        cases e with
        | nil => exact absurd rfl he
        | cons a b => simp
      exact Or.inl (h6 _ hck (by simp; omega))
  rw [hmid]
  refine cn_fo_inv (fun s => s = R) _ nc ?_ _ _ R (by omega) rfl
  intro s i hi hs
  replace hs : s = R := hs
  rw [hs]
  show cn_ds nc fr tt A v t g j p R i = R
  unfold cn_ds
  split
  · rename_i hcond
    have hci : cn_ch nc fr tt (p ++ [i]) v (cn_v tt (p ++ [i]) v) := by
      rw [cn_v_app]
      exact cn_ch_app.mpr ⟨hc.1, hi, hcond.1, rfl⟩
    rw [cn_kp_R hO hci (by simp; omega)]
    exact cn_df_keep hO hci (by simp; omega)
  · rfl
theorem cn_df_R (P : cn_P A) {v t g : Nat} (ht : t ≤ 1000000) {R : List Nat} (h : cn_O nc fr tt A v t g R) : ∀ (e : List Nat) (k : Nat) (p : List Nat) (j : Nat) (s : List Nat), R = p ++ k :: e → p.length + j = 5 → cn_Bad A t (cn_t A R t) R.length s → cn_df nc fr tt A v t g j p s = R := by
  intro e
  induction e with
  | nil =>
    intro k p j s hR hj hs
    exact cn_df_step P ht h [] k p j s hR hj hs (fun hne => absurd rfl hne)
  | cons k' e ih =>
    intro k p j s hR hj hs
    exact cn_df_step P ht h (k' :: e) k p j s hR hj hs (fun _ s' j' h1 h2 => ih k' (p ++ [k]) j' s' (by rw [hR]; simp) (by simp; omega) h2)
theorem cn_df_best (P : cn_P A) {v t g : Nat} (ht : t ≤ 1000000) {R : List Nat} (h : cn_O nc fr tt A v t g R) : cn_df nc fr tt A v t g 5 [] [] = R := by
  cases hR : R with
  | nil => have := h.1; rw [hR] at this; simp at this
  | cons k e =>
    rw [← hR]
    exact cn_df_R P ht h e k [] 5 [] hR rfl (Or.inl rfl)
end CnBest
end
section
/-! the least begin on a contact, and the coming in -/
def cn_fs (p : Nat → Bool) : Nat → Nat → Option Nat
  | 0, _ => none
  | n + 1, b => if p b = true then some b else cn_fs p n (b + 1)
/-- r is the least begin from lo on, of len free ticks that end by e -/
def cn_F (Q : Nat → Prop) (lo len e : Nat) (r : Option Nat) : Prop :=
  (r = none → ∀ b, lo ≤ b → b + len ≤ e → ¬ Q b) ∧ (∀ b, r = some b → lo ≤ b ∧ b + len ≤ e ∧ Q b ∧ ∀ c, lo ≤ c → c < b → ¬ Q c)
theorem cn_F_eq {Q : Nat → Prop} {lo len e : Nat} {r r' : Option Nat} (h : cn_F Q lo len e r) (h' : cn_F Q lo len e r') : r = r' := by
  cases r with
  | none =>
    cases r' with
    | none => rfl
    | some b => exact absurd (h'.2 b rfl).2.2.1 (h.1 rfl b (h'.2 b rfl).1 (h'.2 b rfl).2.1)
  | some a =>
    cases r' with
    | none => exact absurd (h.2 a rfl).2.2.1 (h'.1 rfl a (h.2 a rfl).1 (h.2 a rfl).2.1)
    | some b =>
      obtain ⟨a1, a2, a3, a4⟩ := h.2 a rfl
      obtain ⟨b1, b2, b3, b4⟩ := h'.2 b rfl
      rcases Nat.lt_trichotomy a b with q | q | q
      · exact absurd a3 (b4 a a1 q)
      · rw [q]
      · exact absurd b3 (a4 b b1 q)
theorem cn_fs_F (p : Nat → Bool) (len e lo : Nat) : ∀ (n b : Nat), b + n = e + 1 - len → lo ≤ b → (∀ c, lo ≤ c → c < b → ¬ p c = true) → cn_F (fun c => p c = true) lo len e (cn_fs p n b) := by
  intro n
  induction n with
  | zero =>
    intro b hb hlo hc
    refine ⟨fun _ c h1 h2 => hc c h1 (by omega), fun c hh => ?_⟩
    exact absurd hh (by simp [cn_fs])
  | succ n ih =>
    intro b hb hlo hc
    unfold cn_fs
    by_cases hp : p b = true
    · rw [if_pos hp]
      refine ⟨fun hh => absurd hh (by simp), fun c hh => ?_⟩
      cases hh
      exact ⟨hlo, by omega, hp, hc⟩
    · rw [if_neg hp]
      refine ih (b + 1) (by omega) (by omega) fun c h1 h2 => ?_
      by_cases e1 : c = b
      · rw [e1]; exact hp
      · exact hc c h1 (by omega)
/-- the ticks of a contact that len ticks from b on take -/
def cn_fb (bz : Nat → Nat) (k len b : Nat) : Bool := (List.range len).all (fun i => bz (101 * k + (b + i)) == 0)
theorem cn_fb_iff {bz : Nat → Nat} {k len b : Nat} : cn_fb bz k len b = true ↔ ∀ t, b ≤ t → t < b + len → bz (101 * k + t) = 0 := by
  unfold cn_fb
  rw [List.all_eq_true]
  constructor
  · intro h t h1 h2
    have := h (t - b) (List.mem_range.mpr (by omega))
    rw [show b + (t - b) = t from by omega] at this
    exact eq_of_beq this
  · intro h i hi
    rw [List.mem_range] at hi
    exact beq_iff_eq.mpr (h (b + i) (by omega) (by omega))
def cn_tk (ra : Nat → Nat) (k s : Nat) : Nat := (s + ra k - 1) / ra k
theorem cn_tk_in {ra : Nat → Nat} {k s : Nat} (h1 : 1 ≤ ra k) (hs : 1 ≤ s) : 1 ≤ cn_tk ra k s ∧ cn_tk ra k s ≤ s := by
  unfold cn_tk
  constructor
  · rw [Nat.le_div_iff_mul_le h1]; omega
  · rw [Nat.div_le_iff_le_mul_add_pred h1]
    have : s * 1 ≤ ra k * s := by rw [Nat.mul_comm]; exact Nat.mul_le_mul_right s h1
    omega
def cn_lo (st : Nat → Nat) (k t : Nat) : Nat := if t ≤ st k then st k else t
/-- the least begin -/
def cn_B (st en ra bz : Nat → Nat) (s k t : Nat) : Option Nat :=
  cn_fs (cn_fb bz k (cn_tk ra k s)) (en k + 1 - cn_tk ra k s - cn_lo st k t) (cn_lo st k t)
theorem cn_B_F (st en ra bz : Nat → Nat) (s k t : Nat) : cn_F (fun c => cn_fb bz k (cn_tk ra k s) c = true) (cn_lo st k t) (cn_tk ra k s) (en k) (cn_B st en ra bz s k t) := by
  unfold cn_B
  rcases Nat.lt_or_ge (en k + 1 - cn_tk ra k s) (cn_lo st k t) with q | q
  · rw [show en k + 1 - cn_tk ra k s - cn_lo st k t = 0 from by omega]
    exact ⟨fun _ b h1 h2 => absurd h2 (by omega), fun b hh => absurd hh (by simp [cn_fs])⟩
  · exact cn_fs_F _ _ _ _ _ _ (by omega) (Nat.le_refl _) (fun c h1 h2 => absurd h2 (by omega))
/-- when a bundle of size s, ready at t, would come in over k -/
def cn_A (nc : Nat) (ca st en ra de bz : Nat → Nat) (s k t : Nat) : Nat :=
  if k < nc ∧ ca k = 0 ∧ t < 1000000 then (match cn_B st en ra bz s k t with | none => 1000000 | some b => b + cn_tk ra k s + de k) else 1000000
def cn_b (st en ra bz : Nat → Nat) (s k t : Nat) : Nat := (cn_B st en ra bz s k t).getD 0
/-- the contacts -/
def cn_Net (nc : Nat) (fr tt st en ra de : Nat → Nat) : Prop :=
  nc ≤ 10 ∧ ∀ k, k < nc → fr k < 6 ∧ tt k < 6 ∧ st k ≤ 100 ∧ en k ≤ 100 ∧ 1 ≤ ra k ∧ ra k ≤ 9 ∧ de k ≤ 9
section CnSearch
variable {nc : Nat} {ca fr tt st en ra de bz : Nat → Nat} {s : Nat}
theorem cn_A_none {k t : Nat} (h : cn_B st en ra bz s k t = none) : cn_A nc ca st en ra de bz s k t = 1000000 := by
  unfold cn_A
  split
  · rw [h]
  · rfl
theorem cn_A_some {k t b : Nat} (h : cn_B st en ra bz s k t = some b) (hk : k < nc) (hc : ca k = 0) (ht : t < 1000000) : cn_A nc ca st en ra de bz s k t = b + cn_tk ra k s + de k := by
  unfold cn_A
  rw [if_pos ⟨hk, hc, ht⟩, h]
theorem cn_A_no {k t : Nat} (h : ¬ (k < nc ∧ ca k = 0 ∧ t < 1000000)) : cn_A nc ca st en ra de bz s k t = 1000000 := by
  unfold cn_A
  rw [if_neg h]
/-- all that a coming in tells -/
theorem cn_A_lt {k t : Nat} (h : cn_A nc ca st en ra de bz s k t < 1000000) : ∃ b, cn_B st en ra bz s k t = some b ∧ cn_b st en ra bz s k t = b ∧ k < nc ∧ ca k = 0 ∧ t < 1000000 ∧ cn_A nc ca st en ra de bz s k t = b + cn_tk ra k s + de k ∧ t ≤ b ∧ b + cn_tk ra k s ≤ en k ∧ (∀ u, b ≤ u → u < b + cn_tk ra k s → bz (101 * k + u) = 0) := by
  by_cases c : k < nc ∧ ca k = 0 ∧ t < 1000000
  · have F := cn_B_F st en ra bz s k t
    cases hB : cn_B st en ra bz s k t with
    | none => rw [cn_A_none hB] at h; exact absurd h (by omega)
    | some b =>
      rw [hB] at F
      obtain ⟨f1, f2, f3, -⟩ := F.2 b rfl
      have hlo : t ≤ cn_lo st k t := by unfold cn_lo; split <;> omega
      exact ⟨b, rfl, by unfold cn_b; rw [hB]; rfl, c.1, c.2.1, c.2.2, cn_A_some hB c.1 c.2.1 c.2.2, by omega, f2, cn_fb_iff.mp f3⟩
  · rw [cn_A_no c] at h; exact absurd h (by omega)
theorem cn_B_mono {k t t' b' : Nat} (ht : t ≤ t') (h : cn_B st en ra bz s k t' = some b') : ∃ b, cn_B st en ra bz s k t = some b ∧ b ≤ b' := by
  have F := cn_B_F st en ra bz s k t
  have F' := cn_B_F st en ra bz s k t'
  rw [h] at F'
  obtain ⟨f1, f2, f3, -⟩ := F'.2 b' rfl
  have hlo : cn_lo st k t ≤ cn_lo st k t' := by unfold cn_lo; split <;> split <;> omega
  cases hB : cn_B st en ra bz s k t with
  | none => rw [hB] at F; exact absurd f3 (F.1 rfl b' (by omega) f2)
  | some b =>
    rw [hB] at F
    obtain ⟨g1, g2, g3, g4⟩ := F.2 b rfl
    refine ⟨b, rfl, ?_⟩
    rcases Nat.lt_or_ge b' b with q | q
    · exact absurd f3 (g4 b' (by omega) q)
    · exact q
theorem cn_A_P (N : cn_Net nc fr tt st en ra de) (hs : 1 ≤ s) : cn_P (cn_A nc ca st en ra de bz s) := by
  have h1 : ∀ k t, cn_A nc ca st en ra de bz s k t ≤ 1000000 := by
    intro k t
    rcases Nat.lt_or_ge (cn_A nc ca st en ra de bz s k t) 1000000 with q | q
    · omega
    · by_cases c : k < nc ∧ ca k = 0 ∧ t < 1000000
      · cases hB : cn_B st en ra bz s k t with
        | none => rw [cn_A_none hB]; exact Nat.le_refl _
        | some b =>
          have F := cn_B_F st en ra bz s k t
          rw [hB] at F
          have f2 := (F.2 b rfl).2.1
          have := (N.2 k c.1).2.2.2.1
          have := (N.2 k c.1).2.2.2.2.2.2
          rw [cn_A_some hB c.1 c.2.1 c.2.2]
          omega
      · rw [cn_A_no c]; exact Nat.le_refl _
  refine ⟨h1, ?_, ?_, ?_⟩
  · intro k t t' ht
    rcases Nat.lt_or_ge (cn_A nc ca st en ra de bz s k t') 1000000 with q | q
    · obtain ⟨b', e1, -, hk, hc, ht2, e2, -⟩ := cn_A_lt q
      obtain ⟨b, e3, hb⟩ := cn_B_mono ht e1
      rw [e2, cn_A_some e3 hk hc (by omega)]
      omega
    · exact Nat.le_trans (h1 k t) q
  · intro k t ht
    rcases Nat.lt_or_ge (cn_A nc ca st en ra de bz s k t) 1000000 with q | q
    · obtain ⟨b, e1, -, hk, hc, -, e2, hb, -⟩ := cn_A_lt q
      rw [e2]
      have := (cn_tk_in (N.2 k hk).2.2.2.2.1 hs).1
      omega
    · omega
  · intro k t ht
    exact cn_A_no (by omega)
end CnSearch
/-- the begins of a list -/
def cn_bl (A B : Nat → Nat → Nat) : List Nat → Nat → List Nat
  | [], _ => []
  | k :: L, t => B k t :: cn_bl A B L (A k t)
theorem cn_bl_len (A B : Nat → Nat → Nat) (L : List Nat) : ∀ t, (cn_bl A B L t).length = L.length := by
  induction L with
  | nil => intro t; rfl
  | cons k L ih => intro t; show (cn_bl A B L (A k t)).length + 1 = L.length + 1; rw [ih]
theorem cn_bl_app (A B : Nat → Nat → Nat) (p q : List Nat) : ∀ t, cn_bl A B (p ++ q) t = cn_bl A B p t ++ cn_bl A B q (cn_t A p t) := by
  induction p with
  | nil => intro t; rfl
  | cons k p ih => intro t; show B k t :: cn_bl A B (p ++ q) (A k t) = B k t :: (cn_bl A B p (A k t) ++ cn_bl A B q (cn_t A p (A k t))); rw [ih]
end
section
/-! sums, and how many bookings lie over a tick of a contact -/
def cn_S : Nat → (Nat → Nat) → Nat
  | 0, _ => 0
  | n + 1, f => cn_S n f + f n
theorem cn_S_congr {f g : Nat → Nat} : ∀ {n : Nat}, (∀ i, i < n → f i = g i) → cn_S n f = cn_S n g := by
  intro n
  induction n with
  | zero => intro _; rfl
  | succ n ih =>
    intro h
    show cn_S n f + f n = cn_S n g + g n
    rw [ih (fun i hi => h i (by omega)), h n (by omega)]
theorem cn_S_0 {f : Nat → Nat} : ∀ {n : Nat}, (∀ i, i < n → f i = 0) → cn_S n f = 0 := by
  intro n
  induction n with
  | zero => intro _; rfl
  | succ n ih =>
    intro h
    show cn_S n f + f n = 0
    rw [ih (fun i hi => h i (by omega)), h n (by omega)]
theorem cn_S_ge {f : Nat → Nat} : ∀ {n : Nat} {i : Nat}, i < n → f i ≤ cn_S n f := by
  intro n
  induction n with
  | zero => intro i h; omega
  | succ n ih =>
    intro i h
    show f i ≤ cn_S n f + f n
    by_cases e : i = n
    · rw [e]; omega
    · have := ih (i := i) (by omega); omega
theorem cn_S_zero {f : Nat → Nat} {n : Nat} (h : cn_S n f = 0) (i : Nat) (hi : i < n) : f i = 0 := by
  have := cn_S_ge (f := f) hi
  omega
theorem cn_S_upd {f g : Nat → Nat} {b : Nat} (h : ∀ i, i ≠ b → f i = g i) : ∀ {n : Nat}, b < n → cn_S n g + f b = cn_S n f + g b := by
  intro n
  induction n with
  | zero => intro hb; omega
  | succ n ih =>
    intro hb
    show cn_S n g + g n + f b = cn_S n f + f n + g b
    by_cases e : b = n
    · subst e
      have : cn_S b f = cn_S b g := cn_S_congr fun i hi => h i (by omega)
      omega
    · have := ih (by omega)
      have := h n (by omega)
      omega
theorem cn_S_add (f g : Nat → Nat) : ∀ n, cn_S n (fun i => f i + g i) = cn_S n f + cn_S n g := by
  intro n
  induction n with
  | zero => rfl
  | succ n ih =>
    show cn_S n (fun i => f i + g i) + (f n + g n) = cn_S n f + f n + (cn_S n g + g n)
    omega
theorem cn_S_swap (f : Nat → Nat → Nat) (m : Nat) : ∀ n, cn_S n (fun i => cn_S m (fun j => f i j)) = cn_S m (fun j => cn_S n (fun i => f i j)) := by
  intro n
  induction n with
  | zero => exact (cn_S_0 (fun _ _ => rfl)).symm
  | succ n ih =>
    show cn_S n (fun i => cn_S m (fun j => f i j)) + cn_S m (fun j => f n j) = cn_S m (fun j => cn_S n (fun i => f i j) + f n j)
    rw [cn_S_add, ih]
theorem cn_S_split (f : Nat → Nat) (a : Nat) : ∀ b, cn_S (a + b) f = cn_S a f + cn_S b (fun i => f (a + i)) := by
  intro b
  induction b with
  | zero => rfl
  | succ b ih =>
    show cn_S (a + b) f + f (a + b) = cn_S a f + (cn_S b (fun i => f (a + i)) + f (a + b))
    omega
theorem cn_S_le {f : Nat → Nat} {c : Nat} : ∀ {n : Nat}, (∀ i, i < n → f i ≤ c) → cn_S n f ≤ n * c := by
  intro n
  induction n with
  | zero => intro _; exact Nat.zero_le _
  | succ n ih =>
    intro h
    have h1 := ih (fun i hi => h i (by omega))
    have h2 := h n (by omega)
    show cn_S n f + f n ≤ (n + 1) * c
    rw [Nat.succ_mul]
    omega
/-- how many i below n lie in [b, b + len) -/
theorem cn_S_int (b len : Nat) : ∀ n, b + len ≤ n → cn_S n (fun t => if b ≤ t ∧ t < b + len then 1 else 0) = len := by
  have h : ∀ n, cn_S n (fun t => if b ≤ t ∧ t < b + len then 1 else 0) = (if n ≤ b then 0 else if n ≤ b + len then n - b else len) := by
    intro n
    induction n with
    | zero => rw [if_pos (Nat.zero_le _)]; rfl
    | succ n ih =>
      show cn_S n (fun t => if b ≤ t ∧ t < b + len then 1 else 0) + (if b ≤ n ∧ n < b + len then 1 else 0) = _
      rw [ih]
      repeat' split
      all_goals omega
  intro n hn
  rw [h n]
  split
  · omega
  · split <;> omega
/-- booking i of bundle b lies over tick t of contact k -/
def cn_i (ra sz : Nat → Nat) (hk hb : Nat → Nat → Nat) (k t b i : Nat) : Nat :=
  if hk b i = k ∧ hb b i ≤ t ∧ t < hb b i + cn_tk ra k (sz b) then 1 else 0
def cn_cv (nb : Nat) (hc ra sz : Nat → Nat) (hk hb : Nat → Nat → Nat) (k t : Nat) : Nat :=
  cn_S nb (fun b => cn_S (hc b) (fun i => cn_i ra sz hk hb k t b i))
theorem cn_i_1 {ra sz : Nat → Nat} {hk hb : Nat → Nat → Nat} {k t b i : Nat} (h : hk b i = k ∧ hb b i ≤ t ∧ t < hb b i + cn_tk ra k (sz b)) : cn_i ra sz hk hb k t b i = 1 := if_pos h
theorem cn_i_0 {ra sz : Nat → Nat} {hk hb : Nat → Nat → Nat} {k t b i : Nat} (h : ¬ (hk b i = k ∧ hb b i ≤ t ∧ t < hb b i + cn_tk ra k (sz b))) : cn_i ra sz hk hb k t b i = 0 := if_neg h
/-- a tick of a contact is free just if no booking lies over it -/
theorem cn_cv_0 {nb : Nat} {hc ra sz : Nat → Nat} {hk hb : Nat → Nat → Nat} {k t : Nat} : cn_cv nb hc ra sz hk hb k t = 0 ↔ ∀ b, b < nb → ∀ i, i < hc b → ¬ (hk b i = k ∧ hb b i ≤ t ∧ t < hb b i + cn_tk ra k (sz b)) := by
  unfold cn_cv
  constructor
  · intro h b hb' i hi hh
    have h1 := cn_S_zero (cn_S_zero h b hb') i hi
    have h2 : cn_i ra sz hk hb k t b i = 0 := h1
    rw [cn_i_1 hh] at h2
    omega
  · intro h
    exact cn_S_0 fun b hb' => cn_S_0 fun i hi => cn_i_0 (h b hb' i hi)
/-- the table says how many bookings lie over each tick: none or one -/
def cn_Bz (nb : Nat) (hc ra sz : Nat → Nat) (hk hb : Nat → Nat → Nat) (bz : Nat → Nat) : Prop :=
  ∀ k, k < 10 → ∀ t, t < 101 → bz (101 * k + t) = cn_cv nb hc ra sz hk hb k t ∧ bz (101 * k + t) ≤ 1
/-- the table with a row of ticks set -/
def cn_sb (bz : Nat → Nat) (k b len x : Nat) : Nat → Nat := fun j => if 101 * k + b ≤ j ∧ j < 101 * k + (b + len) then x else bz j
theorem cn_sb_at {bz : Nat → Nat} {k b len x k' t : Nat} (ht : t < 101) (hl : b + len ≤ 101) : cn_sb bz k b len x (101 * k' + t) = if k' = k ∧ b ≤ t ∧ t < b + len then x else bz (101 * k' + t) := by
  unfold cn_sb
  by_cases h : k' = k ∧ b ≤ t ∧ t < b + len
  · rw [if_pos h, if_pos (by obtain ⟨rfl, h1, h2⟩ := h; omega)]
  · rw [if_neg h, if_neg ?_]
    intro hh
    apply h
    have : k' = k := by omega
    subst this
    omega
/-- one more booking at the end of bundle b's -/
theorem cn_Bz_add {nb : Nat} {hc ra sz : Nat → Nat} {hk hb : Nat → Nat → Nat} {bz : Nat → Nat} {b k x : Nat} (h : cn_Bz nb hc ra sz hk hb bz) (hbn : b < nb) (e1 : hk b (hc b) = k) (e2 : hb b (hc b) = x) (hl : x + cn_tk ra k (sz b) ≤ 101) (hf : ∀ t, x ≤ t → t < x + cn_tk ra k (sz b) → bz (101 * k + t) = 0) : cn_Bz nb (cn_u hc b (hc b + 1)) ra sz hk hb (cn_sb bz k x (cn_tk ra k (sz b)) 1) := by
  intro k' hk' t ht
  obtain ⟨h1, h2⟩ := h k' hk' t ht
  rw [cn_sb_at ht hl]
  have q : cn_cv nb (cn_u hc b (hc b + 1)) ra sz hk hb k' t = cn_cv nb hc ra sz hk hb k' t + cn_i ra sz hk hb k' t b (hc b) := by
    unfold cn_cv
    have u := cn_S_upd (f := fun b => cn_S (hc b) (fun i => cn_i ra sz hk hb k' t b i)) (g := fun b' => cn_S (cn_u hc b (hc b + 1) b') (fun i => cn_i ra sz hk hb k' t b' i)) (b := b) (fun i hi => by show cn_S (hc i) _ = cn_S (cn_u hc b (hc b + 1) i) _; rw [cn_un hi]) hbn
    have e3 : cn_S (cn_u hc b (hc b + 1) b) (fun i => cn_i ra sz hk hb k' t b i) = cn_S (hc b) (fun i => cn_i ra sz hk hb k' t b i) + cn_i ra sz hk hb k' t b (hc b) := by
      rw [cn_us]; rfl
    try dsimp only at u
    rw [e3] at u
    omega
  rw [q]
  by_cases c : k' = k ∧ x ≤ t ∧ t < x + cn_tk ra k (sz b)
  · rw [if_pos c]
    obtain ⟨rfl, c1, c2⟩ := c
    rw [cn_i_1 ⟨e1, by omega, by omega⟩, ← h1, hf t c1 c2]
    omega
  · rw [if_neg c, cn_i_0 ?_]
    · omega
    · rintro ⟨d1, d2, d3⟩
      apply c
      rw [e1] at d1
      subst d1
      omega
/-- the bookings of b from i on are lost -/
theorem cn_Bz_cut {nb : Nat} {hc ra sz : Nat → Nat} {hk hb : Nat → Nat → Nat} {bz bz' : Nat → Nat} {b i : Nat} (h : cn_Bz nb hc ra sz hk hb bz) (hbn : b < nb) (hi : i ≤ hc b) (hz : ∀ k, k < 10 → ∀ t, t < 101 → bz' (101 * k + t) + cn_S (hc b - i) (fun l => cn_i ra sz hk hb k t b (i + l)) = bz (101 * k + t)) : cn_Bz nb (cn_u hc b i) ra sz hk hb bz' := by
  intro k hk' t ht
  obtain ⟨h1, h2⟩ := h k hk' t ht
  have h3 := hz k hk' t ht
  have q : cn_cv nb (cn_u hc b i) ra sz hk hb k t + cn_S (hc b - i) (fun l => cn_i ra sz hk hb k t b (i + l)) = cn_cv nb hc ra sz hk hb k t := by
    unfold cn_cv
    have u := cn_S_upd (f := fun b => cn_S (hc b) (fun i => cn_i ra sz hk hb k t b i)) (g := fun b' => cn_S (cn_u hc b i b') (fun i => cn_i ra sz hk hb k t b' i)) (b := b) (fun j hj => by show cn_S (hc j) _ = cn_S (cn_u hc b i j) _; rw [cn_un hj]) hbn
    have e3 : cn_S (hc b) (fun j => cn_i ra sz hk hb k t b j) = cn_S i (fun j => cn_i ra sz hk hb k t b j) + cn_S (hc b - i) (fun l => cn_i ra sz hk hb k t b (i + l)) := by
      have := cn_S_split (fun j => cn_i ra sz hk hb k t b j) i (hc b - i)
      rw [show i + (hc b - i) = hc b from by omega] at this
      exact this
    try dsimp only at u
    rw [cn_us, e3] at u
    omega
  omega
/-- one booking's ticks are made free again: the sum that is gone grows by it -/
theorem cn_Bz_clr {nb : Nat} {hc ra sz : Nat → Nat} {hk hb : Nat → Nat → Nat} {bz bz' : Nat → Nat} {b i j : Nat} (h : cn_Bz nb hc ra sz hk hb bz) (hbn : b < nb) (hij : i ≤ j) (hj : j < hc b) (hl : hb b j + cn_tk ra (hk b j) (sz b) ≤ 101) (hz : ∀ k, k < 10 → ∀ t, t < 101 → bz' (101 * k + t) + cn_S (j - i) (fun l => cn_i ra sz hk hb k t b (i + l)) = bz (101 * k + t)) : ∀ k, k < 10 → ∀ t, t < 101 → cn_sb bz' (hk b j) (hb b j) (cn_tk ra (hk b j) (sz b)) 0 (101 * k + t) + cn_S (j + 1 - i) (fun l => cn_i ra sz hk hb k t b (i + l)) = bz (101 * k + t) := by
  intro k hk' t ht
  obtain ⟨h1, h2⟩ := h k hk' t ht
  have h3 := hz k hk' t ht
  rw [cn_sb_at ht hl]
  rw [show j + 1 - i = (j - i) + 1 from by omega]
  have e : cn_S ((j - i) + 1) (fun l => cn_i ra sz hk hb k t b (i + l)) = cn_S (j - i) (fun l => cn_i ra sz hk hb k t b (i + l)) + cn_i ra sz hk hb k t b j := by
    show cn_S (j - i) _ + cn_i ra sz hk hb k t b (i + (j - i)) = _
    rw [show i + (j - i) = j from by omega]
  rw [e]
  by_cases c : k = hk b j ∧ hb b j ≤ t ∧ t < hb b j + cn_tk ra (hk b j) (sz b)
  · rw [if_pos c]
    have hi1 : cn_i ra sz hk hb k t b j = 1 := cn_i_1 ⟨c.1.symm, c.2.1, by rw [c.1]; exact c.2.2⟩
    -- the whole sum holds this one, and those before it
    have g1 : cn_S (hc b) (fun i => cn_i ra sz hk hb k t b i) ≤ cn_cv nb hc ra sz hk hb k t := cn_S_ge (f := fun b => cn_S (hc b) (fun i => cn_i ra sz hk hb k t b i)) hbn
    have g2 := cn_S_split (fun l => cn_i ra sz hk hb k t b l) i (hc b - i)
    rw [show i + (hc b - i) = hc b from by omega] at g2
    have g3 := cn_S_split (fun l => cn_i ra sz hk hb k t b (i + l)) (j - i + 1) (hc b - i - (j - i + 1))
    rw [show j - i + 1 + (hc b - i - (j - i + 1)) = hc b - i from by omega, e] at g3
    try dsimp only at g2 g3
    omega
  · rw [if_neg c, cn_i_0 ?_]
    · omega
    · rintro ⟨d1, d2, d3⟩
      apply c
      refine ⟨d1.symm, d2, ?_⟩
      rw [d1]
      exact d3
/-- the booked ticks of a contact, counted by ticks and by bookings -/
theorem cn_Bz_sum {nb : Nat} {hc ra sz : Nat → Nat} {hk hb : Nat → Nat → Nat} {bz : Nat → Nat} {k : Nat} (h : cn_Bz nb hc ra sz hk hb bz) (hk10 : k < 10) (hl : ∀ b, b < nb → ∀ i, i < hc b → hk b i = k → hb b i + cn_tk ra k (sz b) ≤ 101) : cn_S 101 (fun t => bz (101 * k + t)) = cn_S nb (fun b => cn_S (hc b) (fun i => if hk b i = k then cn_tk ra k (sz b) else 0)) := by
  have e1 : cn_S 101 (fun t => bz (101 * k + t)) = cn_S 101 (fun t => cn_S nb (fun b => cn_S (hc b) (fun i => cn_i ra sz hk hb k t b i))) := cn_S_congr fun t ht => (h k hk10 t ht).1
  rw [e1, cn_S_swap]
  refine cn_S_congr fun b hbn => ?_
  rw [cn_S_swap]
  refine cn_S_congr fun i hi => ?_
  by_cases c : hk b i = k
  · rw [if_pos c]
    have e2 : cn_S 101 (fun t => cn_i ra sz hk hb k t b i) = cn_S 101 (fun t => if hb b i ≤ t ∧ t < hb b i + cn_tk ra k (sz b) then 1 else 0) := by
      refine cn_S_congr fun t ht => ?_
      unfold cn_i
      by_cases d : hb b i ≤ t ∧ t < hb b i + cn_tk ra k (sz b)
      · rw [if_pos d, if_pos ⟨c, d⟩]
      · rw [if_neg d, if_neg (fun z => d z.2)]
    exact e2.trans (cn_S_int _ _ _ (hl b hbn i hi c))
  · rw [if_neg c]
    exact cn_S_0 fun t ht => cn_i_0 (fun z => c z.1)
end
section
/-! the class: going over a contact -/
def cn_N (F : Nat → Nat) : Nat → Int32 := fun j => nI (F j)
theorem cn_Ne (F : Nat → Nat) (j : Nat) : cn_N F j = nI (F j) := rfl
theorem cn_upd (F : Nat → Nat) (k x : Nat) : upd (cn_N F) k (nI x) = cn_N (cn_u F k x) := by
  funext j
  unfold upd cn_N cn_u
  split <;> rfl
theorem cn_N0 : (fun _ => (0 : Int32)) = cn_N (fun _ => 0) := rfl
theorem cn_upd_pt {a : Nat → Int32} {e : Nat → Nat} {n : Nat} (h : ∀ g, g < n → a g = nI (e g)) (k x : Nat) : ∀ g, g < n → upd a k (nI x) g = nI (cn_u e k x g) := by
  intro g hg
  unfold upd cn_u
  split
  · rfl
  · exact h g hg
/-- an array holds a list -/
def cn_H (a : Nat → Int32) (L : List Nat) : Prop := ∀ i, i < L.length → a i = nI (L.getD i 0)
theorem cn_H_0 (a : Nat → Int32) : cn_H a [] := fun i hi => absurd hi (Nat.not_lt_zero _)
theorem cn_H_snoc {a : Nat → Int32} {p : List Nat} (h : cn_H a p) (k : Nat) : cn_H (upd a p.length (nI k)) (p ++ [k]) := by
  intro i hi
  rw [List.length_append, List.length_singleton] at hi
  unfold upd
  by_cases e : i = p.length
  · rw [if_pos e, e]; simp
  · rw [if_neg e, h i (by omega)]
    have : i < p.length := by omega
    simp [List.getD_eq_getElem?_getD, List.getElem?_append_left this]
theorem cn_H_pre {a : Nat → Int32} {p q : List Nat} (h : cn_H a (p ++ q)) : cn_H a p := by
  intro i hi
  rw [h i (by rw [List.length_append]; omega)]
  simp [List.getD_eq_getElem?_getD, List.getElem?_append_left hi]
def cn_o : Option Nat → Int32
  | none => -1
  | some b => nI b
/-- what a walk over contacts wants -/
def cn_Ok (nc : Nat) (ca fr tt st en ra de bz : Nat → Nat) (s : Nat) : Prop :=
  cn_Net nc fr tt st en ra de ∧ (∀ j, bz j ≤ 1) ∧ (∀ j, ca j ≤ 1) ∧ 1 ≤ s ∧ s ≤ 30
theorem cn_ix (c k t : Nat) : nI c * nI k + nI t = nI (c * k + t) := by rw [pk_mul, nI_add]
section CxNet
variable {nc nb nw : Nat} {rc : Int32} {ca fr tt st en ra de bz so go sz hc : Nat → Nat} {li RO HI HK HB rk rb ea el : Nat → Int32}
theorem cx_ticks (N : cn_Net nc fr tt st en ra de) {k s : Nat} (hk : k < nc) (hs : 1 ≤ s) (hs2 : s ≤ 30) {post : Int32 → Prop} (h : post (nI (cn_tk ra k s))) : wpX_ticksFor post (nI nc, nI nb, nI nw, rc, cn_N ca, cn_N fr, cn_N tt, cn_N st, cn_N en, cn_N ra, cn_N de, cn_N bz, cn_N so, cn_N go, cn_N sz, li, RO, HI, cn_N hc, HK, HB, rk, rb, ea, el) (nI k) (nI s) := by
  obtain ⟨n1, n2⟩ := N
  have r1 := (n2 k hk).2.2.2.2.1
  have r9 := (n2 k hk).2.2.2.2.2.1
  have hk2 : k < 2 ^ 31 := by omega
  unfold wpX_ticksFor
  dsimp only
  simp only [nI_clamp hk2, cn_Ne]
  have e : (nI s + nI (ra k) - 1) / nI (ra k) = nI (cn_tk ra k s) := by
    show (nI s + nI (ra k) - nI 1) / nI (ra k) = _
    rw [nI_add, pk_sub (by omega), pk_div (by omega) (by omega) (by omega)]
    rfl
  rw [e]
  exact ⟨vp_in_nI (by omega) (by decide), vp_in_nI (by omega) (by decide), nI_ne0 (by omega) (by omega), h⟩
theorem cx_first_l (N : cn_Net nc fr tt st en ra de) (hz : ∀ j, bz j ≤ 1) {k len lo : Nat} (hk : k < nc) (hl1 : 1 ≤ len) (hl2 : len ≤ 30) {post : Int32 → Prop} (hp : ∀ r, cn_F (fun c => cn_fb bz k len c = true) lo len (en k) r → post (cn_o r)) : ∀ (n f t : Nat), en k - t < n → t ≤ 1000000 + 200 → lo + f ≤ t → f < len → (∀ u, t - f ≤ u → u < t → bz (101 * k + u) = 0) → (∀ b, lo ≤ b → b < t - f → ¬ cn_fb bz k len b = true) → wX_firstBegin_29 post (nI k) (nI len) (nI nc) (nI nb) (nI nw) rc (cn_N ca) (cn_N fr) (cn_N tt) (cn_N st) (cn_N en) (cn_N ra) (cn_N de) (cn_N bz) (cn_N so) (cn_N go) (cn_N sz) li RO HI (cn_N hc) HK HB rk rb ea el n (nI f) (nI t) := by
  obtain ⟨n1, n2⟩ := N
  have hen := (n2 k hk).2.2.2.1
  have hk2 : k < 2 ^ 31 := by omega
  intro n
  induction n with
  | zero => intro f t h; omega
  | succ n ih =>
    intro f t hn ht hlo hf hfree hno
    rw [wX_firstBegin_29]
    have e1 : (101 : Int32) * nI k + nI t = nI (101 * k + t) := cn_ix 101 k t
    simp only [nI_clamp hk2, cn_Ne, e1]
    refine ⟨vp_in_nI (by omega) (by decide), pk_le (en k) t (fun h => ?_) (fun h => ?_)⟩
    · refine hp none ⟨fun _ b hb1 hb2 => ?_, fun b hb => absurd hb (by simp)⟩
      exact hno b hb1 (by omega)
    · have hj : 101 * k + t < 2 ^ 31 := by omega
      have hb1 := hz (101 * k + t)
      simp only [nI_clamp hj]
      refine ⟨vp_in_nI (by omega) (by decide), pk_eq (bz (101 * k + t)) 0 (fun h0 => ?_) (fun h0 => ?_)⟩
      · unfold wX_firstBegin_63
        have hfree' : ∀ u, t + 1 - (f + 1) ≤ u → u < t + 1 → bz (101 * k + u) = 0 := by
          intro u hu1 hu2
          by_cases e : u = t
          · rw [e]; exact h0
          · exact hfree u (by omega) (by omega)
        refine pk_eq (f + 1) len (fun h2 => ?_) (fun h2 => ?_) (nI_1 f)
        · have e2 : nI t - nI len + 1 = nI (t + 1 - len) := by
            rw [← pk_sub (by omega), ← nI_1 t]
            grind
          rw [e2]
          refine hp (some (t + 1 - len)) ⟨fun hh => absurd hh (by simp), fun b hb => ?_⟩
          cases hb
          refine ⟨by omega, by omega, cn_fb_iff.mpr fun u hu1 hu2 => hfree' u (by omega) (by omega), fun c hc1 hc2 => hno c hc1 (by omega)⟩
        · rw [nI_1 f]
          refine nm_r (nI_1 t) ?_
          refine ih (f + 1) (t + 1) (by omega) (by omega) (by omega) (by omega) hfree' fun b hb1 hb2 => hno b hb1 (by omega)
      · unfold wX_firstBegin_63
        refine pk_eq 0 len (fun h2 => absurd h2 (by omega)) (fun h2 => ?_)
        refine nm_r (nI_1 t) ?_
        refine ih 0 (t + 1) (by omega) (by omega) (by omega) (by omega) (fun u hu1 hu2 => absurd hu2 (by omega)) fun b hb1 hb2 hb3 => ?_
        by_cases e : b < t - f
        · exact hno b hb1 e hb3
        · exact h0 (cn_fb_iff.mp hb3 t (by omega) (by omega))
theorem cx_first (N : cn_Net nc fr tt st en ra de) (hz : ∀ j, bz j ≤ 1) {k s t : Nat} (hk : k < nc) (hs : 1 ≤ s) (hs2 : s ≤ 30) (ht : t ≤ 1000000) {post : Int32 → Prop} (h : post (cn_o (cn_B st en ra bz s k t))) : wpX_firstBegin post (nI nc, nI nb, nI nw, rc, cn_N ca, cn_N fr, cn_N tt, cn_N st, cn_N en, cn_N ra, cn_N de, cn_N bz, cn_N so, cn_N go, cn_N sz, li, RO, HI, cn_N hc, HK, HB, rk, rb, ea, el) (nI k) (nI t) (nI (cn_tk ra k s)) := by
  have N2 := N
  obtain ⟨n1, n2⟩ := N
  have hen := (n2 k hk).2.2.2.1
  have hst := (n2 k hk).2.2.1
  have hk2 : k < 2 ^ 31 := by omega
  have htk := cn_tk_in (n2 k hk).2.2.2.2.1 hs
  have hp : ∀ r, cn_F (fun c => cn_fb bz k (cn_tk ra k s) c = true) (cn_lo st k t) (cn_tk ra k s) (en k) r → post (cn_o r) := by
    intro r F
    rw [cn_F_eq F (cn_B_F st en ra bz s k t)]
    exact h
  unfold wpX_firstBegin
  dsimp only
  simp only [nI_clamp hk2, cn_Ne]
  refine ⟨vp_in_nI (by omega) (by decide), pk_le t (st k) (fun h1 => ?_) (fun h1 => ?_)⟩
  · have elo : cn_lo st k t = st k := if_pos h1
    rw [elo] at hp
    refine ⟨vp_in_nI (by omega) (by decide), nm_e ⟨en k - st k + 1, ?_⟩⟩
    exact cx_first_l N2 hz hk htk.1 (by omega) hp _ 0 (st k) (by omega) (by omega) (by omega) (by omega) (fun u hu1 hu2 => absurd hu2 (by omega)) fun b hb1 hb2 => absurd hb2 (by omega)
  · have elo : cn_lo st k t = t := if_neg (by omega)
    rw [elo] at hp
    refine ⟨en k - t + 1, ?_⟩
    exact cx_first_l N2 hz hk htk.1 (by omega) hp _ 0 t (by omega) (by omega) (by omega) (by omega) (fun u hu1 hu2 => absurd hu2 (by omega)) fun b hb1 hb2 => absurd hb2 (by omega)
theorem cn_o_lt {b : Nat} (h : b < 2 ^ 31) : ¬ cn_o (some b) < 0 := nI_pos h
theorem cx_coming {s : Nat} (K : cn_Ok nc ca fr tt st en ra de bz s) {k t : Nat} (hk : k < nc) (ht : t ≤ 1000000) {post : Int32 → Prop} (h : post (nI ((cn_A nc ca st en ra de bz s) k t))) : wpX_comingIn post (nI nc, nI nb, nI nw, rc, cn_N ca, cn_N fr, cn_N tt, cn_N st, cn_N en, cn_N ra, cn_N de, cn_N bz, cn_N so, cn_N go, cn_N sz, li, RO, HI, cn_N hc, HK, HB, rk, rb, ea, el) (nI k) (nI t) (nI s) := by
  obtain ⟨N, hz, hca, hs, hs2⟩ := K
  have n1 := N.1
  have hk2 : k < 2 ^ 31 := by omega
  have hc := hca k
  unfold wpX_comingIn
  dsimp only
  simp only [nI_clamp hk2, cn_Ne]
  refine ⟨vp_in_nI (by omega) (by decide), pk_eq (ca k) 0 (fun c => ?_) (fun c => ?_)⟩
  · refine pk_lt t 1000000 (fun h1 => ?_) (fun h1 => ?_)
    · refine cx_ticks N hk hs hs2 ?_
      refine cx_first N hz hk hs hs2 ht ?_
      cases hB : cn_B st en ra bz s k t with
      | none =>
        rw [cn_A_none hB] at h
        exact br_f (by decide) h
      | some b =>
        have F := cn_B_F st en ra bz s k t
        rw [hB] at F
        have hb := (F.2 b rfl).2.1
        have hen := (N.2 k hk).2.2.2.1
        rw [cn_A_some hB hk c h1] at h
        refine br_t (nI_pos' (by omega)) ⟨vp_in_nI (by omega) (by decide), ?_⟩
        show post (nI b + nI (cn_tk ra k s) + nI (de k))
        rw [nI_add, nI_add]
        exact h
    · rw [cn_A_no (by omega)] at h
      exact h
  · rw [cn_A_no (by omega)] at h
    exact h
end CxNet
end
section
/-! the class: the earliest coming in at all nodes, by rounds -/
section CxSpread
variable {nc nb nw : Nat} {rc : Int32} {ca fr tt st en ra de bz so go sz hc : Nat → Nat} {li RO HI HK HB rk rb ea el : Nat → Int32}
theorem cx_sp78 {s : Nat} (K : cn_Ok nc ca fr tt st en ra de bz s) {post : SX → Prop} {J : Int32 → (Nat → Int32) → (Nat → Int32) → (Nat → Int32) → (Nat → Int32) → (Nat → Int32) → (Nat → Int32) → (Nat → Int32) → (Nat → Int32) → (Nat → Int32) → (Nat → Int32) → (Nat → Int32) → (Nat → Int32) → (Nat → Int32) → (Nat → Int32) → (Nat → Int32) → (Nat → Int32) → (Nat → Int32) → (Nat → Int32) → (Nat → Int32) → (Nat → Int32) → (Nat → Int32) → Prop} {x4 : Int32} {m : Nat} {E : Nat → Nat} (hE : ∀ g, g < 6 → el g = nI (E g)) (hE2 : ∀ g, g < 6 → E g ≤ 1000000)
    (hJ : ∀ (ea : Nat → Int32) (e : Nat → Nat), (∀ g, g < 6 → ea g = nI (e g)) → cn_R fr tt (cn_A nc ca st en ra de bz s) nc E e → J (nI (m + 1)) (cn_N ca) (cn_N fr) (cn_N tt) (cn_N st) (cn_N en) (cn_N ra) (cn_N de) (cn_N bz) (cn_N so) (cn_N go) (cn_N sz) li RO HI (cn_N hc) HK HB rk rb ea el) :
    ∀ (n k : Nat) (ea : Nat → Int32) (e : Nat → Nat), k ≤ nc → nc - k < n → (∀ g, g < 6 → ea g = nI (e g)) → cn_R fr tt (cn_A nc ca st en ra de bz s) k E e → wX_spread_78 post J (nI s) x4 (nI m) (nI nc) (nI nb) (nI nw) rc n (nI k) (cn_N ca) (cn_N fr) (cn_N tt) (cn_N st) (cn_N en) (cn_N ra) (cn_N de) (cn_N bz) (cn_N so) (cn_N go) (cn_N sz) li RO HI (cn_N hc) HK HB rk rb ea el := by
  have n1 := K.1.1
  intro n
  induction n with
  | zero => intro k ea e _ h; omega
  | succ n ih =>
    intro k ea e hk hn hea hR
    have hk2 : k < 2 ^ 31 := by omega
    rw [wX_spread_78]
    refine pk_le nc k (fun h => ?_) (fun h => ?_)
    · obtain rfl : k = nc := by omega
      refine nm_r (nI_1 m) ?_
      exact hJ ea e hea hR
    · obtain ⟨f1, f2, -⟩ := K.1.2 k h
      have hf2 : fr k < 2 ^ 31 := by omega
      have ht2 : tt k < 2 ^ 31 := by omega
      simp only [nI_clamp hk2, cn_Ne, nI_clamp hf2, nI_clamp ht2, hE _ f1]
      have he : e (tt k) ≤ 1000000 := (hR (tt k) 1000000).mpr (Or.inl (hE2 _ f2))
      have hA : (cn_A nc ca st en ra de bz s) k (E (fr k)) ≤ 1000000 := (cn_A_P K.1 K.2.2.2.1).1 k _
      have hR1 := cn_R_1 hR
      refine ⟨vp_in_nI (by omega) (by decide), vp_in_nI f1 (by decide), ?_⟩
      refine cx_coming K h (hE2 _ f1) ?_
      refine ⟨vp_in_nI (by omega) (by decide), vp_in_nI (by omega) (by decide), vp_in_nI f2 (by decide), ?_⟩
      refine pk_le (e (tt k)) ((cn_A nc ca st en ra de bz s) k (E (fr k))) (fun h1 => ?_) (fun h1 => ?_) (hea _ f2)
      · rw [if_pos h1] at hR1
        refine ⟨vp_in_nI (by omega) (by decide), vp_in_nI f2 (by decide), vp_in_nI f2 (by decide), nm_e (nm_r (nI_1 k) ?_)⟩
        rw [hea _ f2]
        exact ih (k + 1) _ _ (by omega) (by omega) (cn_upd_pt hea _ _) hR1
      · rw [if_neg (by omega)] at hR1
        refine ⟨vp_in_nI f2 (by decide), nm_e (nm_r (nI_1 k) ?_)⟩
        exact ih (k + 1) _ _ (by omega) (by omega) (cn_upd_pt hea _ _) hR1
theorem cx_sp48 {post : SX → Prop} {J : Int32 → (Nat → Int32) → (Nat → Int32) → (Nat → Int32) → (Nat → Int32) → (Nat → Int32) → (Nat → Int32) → (Nat → Int32) → (Nat → Int32) → (Nat → Int32) → (Nat → Int32) → (Nat → Int32) → (Nat → Int32) → (Nat → Int32) → (Nat → Int32) → (Nat → Int32) → (Nat → Int32) → (Nat → Int32) → (Nat → Int32) → (Nat → Int32) → (Nat → Int32) → (Nat → Int32) → Prop} {x3 x4 x5 : Int32}
    (hJ : ∀ (el : Nat → Int32), (∀ g, g < 6 → el g = ea g) → ∃ n78, wX_spread_78 post J x3 x4 x5 (nI nc) (nI nb) (nI nw) rc n78 0 (cn_N ca) (cn_N fr) (cn_N tt) (cn_N st) (cn_N en) (cn_N ra) (cn_N de) (cn_N bz) (cn_N so) (cn_N go) (cn_N sz) li RO HI (cn_N hc) HK HB rk rb ea el) :
    ∀ (n v : Nat) (el : Nat → Int32), v ≤ 6 → 6 - v < n → (∀ g, g < v → el g = ea g) → wX_spread_48 post J x3 x4 x5 (nI nc) (nI nb) (nI nw) rc n (nI v) (cn_N ca) (cn_N fr) (cn_N tt) (cn_N st) (cn_N en) (cn_N ra) (cn_N de) (cn_N bz) (cn_N so) (cn_N go) (cn_N sz) li RO HI (cn_N hc) HK HB rk rb ea el := by
  intro n
  induction n with
  | zero => intro k el _ h; omega
  | succ n ih =>
    intro v el hv hn hel
    have hv2 : v < 2 ^ 31 := by omega
    rw [wX_spread_48]
    refine pk_le 6 v (fun h => ?_) (fun h => ?_)
    · exact hJ el fun g hg => hel g (by omega)
    · simp only [nI_clamp hv2]
      refine ⟨vp_in_nI h (by decide), vp_in_nI h (by decide), nm_e (nm_r (nI_1 v) ?_)⟩
      refine ih (v + 1) _ (by omega) (by omega) fun g hg => ?_
      by_cases e : g = v
      · rw [e]; exact pk_us
      · rw [pk_un e]; exact hel g (by omega)
theorem cx_sp38 {s : Nat} (K : cn_Ok nc ca fr tt st en ra de bz s) {post : SX → Prop} {m v t : Nat} (hm : m ≤ 5)
    (hp : ∀ (ea el : Nat → Int32), (∀ g, g < 6 → ∃ x, ea g = nI x ∧ cn_Va nc fr tt (cn_A nc ca st en ra de bz s) m v t g x) → post (nI nc, nI nb, nI nw, rc, cn_N ca, cn_N fr, cn_N tt, cn_N st, cn_N en, cn_N ra, cn_N de, cn_N bz, cn_N so, cn_N go, cn_N sz, li, RO, HI, cn_N hc, HK, HB, rk, rb, ea, el)) :
    ∀ (n j : Nat) (ea el : Nat → Int32) (e : Nat → Nat), j ≤ m → m - j < n → (∀ g, g < 6 → ea g = nI (e g)) → (∀ g, g < 6 → cn_Va nc fr tt (cn_A nc ca st en ra de bz s) j v t g (e g)) → wX_spread_38 post (nI s) (nI m) (nI nc) (nI nb) (nI nw) rc n (nI j) (cn_N ca) (cn_N fr) (cn_N tt) (cn_N st) (cn_N en) (cn_N ra) (cn_N de) (cn_N bz) (cn_N so) (cn_N go) (cn_N sz) li RO HI (cn_N hc) HK HB rk rb ea el := by
  have P := cn_A_P (ca := ca) (bz := bz) K.1 K.2.2.2.1
  intro n
  induction n with
  | zero => intro j ea el e _ h; omega
  | succ n ih =>
    intro j ea el e hj hn hea hV
    rw [wX_spread_38]
    refine pk_le m j (fun h => ?_) (fun h => ?_)
    · obtain rfl : j = m := by omega
      exact hp ea el fun g hg => ⟨e g, hea g hg, hV g hg⟩
    · refine ⟨7, cx_sp48 ?_ 7 0 el (by omega) (by omega) fun g hg => absurd hg (by omega)⟩
      intro el' hel
      refine ⟨nc + 1, cx_sp78 K (m := j) (E := e) (fun g hg => by rw [hel g hg, hea g hg]) (fun g hg => (hV g hg).1) ?_ (nc + 1) 0 ea e (by omega) (by omega) hea (cn_R_0 e)⟩
      intro ea' e' hea' hR
      exact ih (j + 1) ea' el' e' (by omega) (by omega) hea' fun g hg => cn_Va_1 P (fun k hk => (K.1.2 k hk).1) hV hR g hg
theorem cx_sp3 {post : SX → Prop} {x3 x4 : Int32} {v t : Nat} (hv : v < 6)
    (hp : ∀ (ea : Nat → Int32), (∀ g, g < 6 → ea g = nI (if g = v then t else 1000000)) → ∃ n38, wX_spread_38 post x3 x4 (nI nc) (nI nb) (nI nw) rc n38 0 (cn_N ca) (cn_N fr) (cn_N tt) (cn_N st) (cn_N en) (cn_N ra) (cn_N de) (cn_N bz) (cn_N so) (cn_N go) (cn_N sz) li RO HI (cn_N hc) HK HB rk rb ea el) :
    ∀ (n j : Nat) (ea : Nat → Int32), j ≤ 6 → 6 - j < n → (∀ g, g < j → ea g = nI (if g = v then t else 1000000)) → wX_spread_3 post (nI v) (nI t) x3 x4 (nI nc) (nI nb) (nI nw) rc n (nI j) (cn_N ca) (cn_N fr) (cn_N tt) (cn_N st) (cn_N en) (cn_N ra) (cn_N de) (cn_N bz) (cn_N so) (cn_N go) (cn_N sz) li RO HI (cn_N hc) HK HB rk rb ea el := by
  intro n
  induction n with
  | zero => intro j ea _ h; omega
  | succ n ih =>
    intro j ea hj hn hea
    have hj2 : j < 2 ^ 31 := by omega
    rw [wX_spread_3]
    refine pk_le 6 j (fun h => ?_) (fun h => ?_)
    · exact hp ea fun g hg => hea g (by omega)
    · simp only [nI_clamp hj2]
      refine pk_eq j v (fun h1 => ?_) (fun h1 => ?_)
      · refine ⟨vp_in_nI h (by decide), nm_e (nm_r (nI_1 j) ?_)⟩
        refine ih (j + 1) _ (by omega) (by omega) fun g hg => ?_
        by_cases e : g = j
        · rw [e, pk_us, if_pos h1]
        · rw [pk_un e]; exact hea g (by omega)
      · refine ⟨vp_in_nI h (by decide), nm_e (nm_r (nI_1 j) ?_)⟩
        refine ih (j + 1) _ (by omega) (by omega) fun g hg => ?_
        by_cases e : g = j
        · rw [e, pk_us, if_neg h1]; rfl
        · rw [pk_un e]; exact hea g (by omega)
theorem cx_spread {s : Nat} (K : cn_Ok nc ca fr tt st en ra de bz s) {post : SX → Prop} {m v t : Nat} (hm : m ≤ 5) (hv : v < 6) (ht : t < 1000000)
    (hp : ∀ (ea el : Nat → Int32), (∀ g, g < 6 → ∃ x, ea g = nI x ∧ cn_Va nc fr tt (cn_A nc ca st en ra de bz s) m v t g x) → post (nI nc, nI nb, nI nw, rc, cn_N ca, cn_N fr, cn_N tt, cn_N st, cn_N en, cn_N ra, cn_N de, cn_N bz, cn_N so, cn_N go, cn_N sz, li, RO, HI, cn_N hc, HK, HB, rk, rb, ea, el)) : wpX_spread post (nI nc, nI nb, nI nw, rc, cn_N ca, cn_N fr, cn_N tt, cn_N st, cn_N en, cn_N ra, cn_N de, cn_N bz, cn_N so, cn_N go, cn_N sz, li, RO, HI, cn_N hc, HK, HB, rk, rb, ea, el) (nI v) (nI t) (nI s) (nI m) := by
  unfold wpX_spread
  dsimp only
  refine ⟨7, cx_sp3 hv ?_ 7 0 ea (by omega) (by omega) fun g hg => absurd hg (by omega)⟩
  intro ea' hea
  exact ⟨m + 1, cx_sp38 K hm hp (m + 1) 0 ea' el _ (by omega) (by omega) hea fun g hg => cn_Va_0 ht⟩
end CxSpread
end
section
/-! the class: the best route -/
section CxRoute
variable {nc nb nw : Nat} {rc : Int32} {ca fr tt st en ra de bz so go sz hc : Nat → Nat} {li RO HI HK HB rk rb ea el : Nat → Int32}
theorem cx_leads {s : Nat} (K : cn_Ok nc ca fr tt st en ra de bz s) {k v g t m bt : Nat} (hk : k < nc) (hv : v < 6) (hg : g < 6) (ht : t ≤ 1000000) (hm : m < 5) (hbt : bt < 1000000) {post : Int32 → SX → Prop} (h1 : cn_Le nc fr tt (cn_A nc ca st en ra de bz s) g bt m v t k → ∀ ea el, post 1 (nI nc, nI nb, nI nw, rc, cn_N ca, cn_N fr, cn_N tt, cn_N st, cn_N en, cn_N ra, cn_N de, cn_N bz, cn_N so, cn_N go, cn_N sz, li, RO, HI, cn_N hc, HK, HB, rk, rb, ea, el)) (h0 : ¬ cn_Le nc fr tt (cn_A nc ca st en ra de bz s) g bt m v t k → ∀ ea el, post 0 (nI nc, nI nb, nI nw, rc, cn_N ca, cn_N fr, cn_N tt, cn_N st, cn_N en, cn_N ra, cn_N de, cn_N bz, cn_N so, cn_N go, cn_N sz, li, RO, HI, cn_N hc, HK, HB, rk, rb, ea, el)) : wpX_leadsOn post (nI nc, nI nb, nI nw, rc, cn_N ca, cn_N fr, cn_N tt, cn_N st, cn_N en, cn_N ra, cn_N de, cn_N bz, cn_N so, cn_N go, cn_N sz, li, RO, HI, cn_N hc, HK, HB, rk, rb, ea, el) (nI k) (nI v) (nI g) (nI t) (nI s) (nI (m + 1)) (nI bt) := by
  have P := cn_A_P (ca := ca) (bz := bz) K.1 K.2.2.2.1
  have n1 := K.1.1
  have hk2 : k < 2 ^ 31 := by omega
  have hg2 : g < 2 ^ 31 := by omega
  obtain ⟨f1, f2, -⟩ := K.1.2 k hk
  have hA := P.1 k t
  unfold wpX_leadsOn
  dsimp only
  simp only [nI_clamp hk2, cn_Ne, nI_clamp hg2, nI_pred]
  refine ⟨vp_in_nI (by omega) (by decide), pk_eq (fr k) v (fun e1 => ?_) (fun e1 => ?_)⟩
  · refine cx_coming K hk ht ?_
    refine pk_lt ((cn_A nc ca st en ra de bz s) k t) 1000000 (fun e2 => ?_) (fun e2 => ?_)
    · refine ⟨vp_in_nI (by omega) (by decide), ?_⟩
      refine cx_spread K (by omega) f2 e2 ?_
      intro ea el hV
      obtain ⟨x, hx, hVx⟩ := hV g hg
      have hx2 := hVx.1
      refine ⟨vp_in_nI hg (by decide), pk_lt bt x (fun e3 => ?_) (fun e3 => ?_) rfl hx⟩
      · refine h0 ?_ ea el
        rintro ⟨-, -, L, l1, l2, l3⟩
        have := (hVx.2 bt hbt).mpr ⟨L, l1, l2, l3⟩
        omega
      · exact h1 ⟨hk, e1, (hVx.2 bt hbt).mp e3⟩ ea el
    · refine h0 ?_ ea el
      rintro ⟨-, -, L, l1, l2, l3⟩
      have := cn_t_ge P L _ hA
      omega
  · exact h0 (fun z => e1 z.2.1) ea el
theorem cx_next_l {s : Nat} (K : cn_Ok nc ca fr tt st en ra de bz s) {v g t m bt k0 : Nat} (hv : v < 6) (hg : g < 6) (ht : t ≤ 1000000) (hm : m < 5) (hbt : bt < 1000000) {post : Int32 → SX → Prop} (hk0 : cn_Le nc fr tt (cn_A nc ca st en ra de bz s) g bt m v t k0) (hmin : ∀ j, j < k0 → ¬ cn_Le nc fr tt (cn_A nc ca st en ra de bz s) g bt m v t j) (h : ∀ ea el, post (nI k0) (nI nc, nI nb, nI nw, rc, cn_N ca, cn_N fr, cn_N tt, cn_N st, cn_N en, cn_N ra, cn_N de, cn_N bz, cn_N so, cn_N go, cn_N sz, li, RO, HI, cn_N hc, HK, HB, rk, rb, ea, el)) :
    ∀ (n k : Nat) (ea el : Nat → Int32), k ≤ k0 → k0 - k < n → wX_nextContact_3 post (nI v) (nI g) (nI t) (nI s) (nI (m + 1)) (nI bt) n (nI k) (nI nc) (nI nb) (nI nw) rc (cn_N ca) (cn_N fr) (cn_N tt) (cn_N st) (cn_N en) (cn_N ra) (cn_N de) (cn_N bz) (cn_N so) (cn_N go) (cn_N sz) li RO HI (cn_N hc) HK HB rk rb ea el := by
  have n1 := K.1.1
  have hk0n := hk0.1
  intro n
  induction n with
  | zero => intro k ea el _ h; omega
  | succ n ih =>
    intro k ea el hk hn
    rw [wX_nextContact_3]
    have e1 : nI nc - 1 = nI (nc - 1) := pk_sub (b := 1) (by omega)
    refine pk_le (nc - 1) k (fun q => ?_) (fun q => ?_) e1
    · obtain rfl : k = k0 := by omega
      exact h ea el
    · refine cx_leads K (by omega) hv hg ht hm hbt ?_ ?_
      · intro hL ea el
        have e2 : k = k0 := by
          rcases Nat.lt_or_ge k k0 with q2 | q2
          · exact absurd hL (hmin k q2)
          · omega
        subst e2
        exact br_f (by decide) (h ea el)
      · intro hL ea el
        have e2 : k ≠ k0 := fun z => hL (z ▸ hk0)
        refine br_t rfl (nm_r (nI_1 k) ?_)
        exact ih (k + 1) ea el (by omega) (by omega)
theorem cx_next {s : Nat} (K : cn_Ok nc ca fr tt st en ra de bz s) {v g t m bt k0 : Nat} (hv : v < 6) (hg : g < 6) (ht : t ≤ 1000000) (hm : m < 5) (hbt : bt < 1000000) {post : Int32 → SX → Prop} (hk0 : cn_Le nc fr tt (cn_A nc ca st en ra de bz s) g bt m v t k0) (hmin : ∀ j, j < k0 → ¬ cn_Le nc fr tt (cn_A nc ca st en ra de bz s) g bt m v t j) (h : ∀ ea el, post (nI k0) (nI nc, nI nb, nI nw, rc, cn_N ca, cn_N fr, cn_N tt, cn_N st, cn_N en, cn_N ra, cn_N de, cn_N bz, cn_N so, cn_N go, cn_N sz, li, RO, HI, cn_N hc, HK, HB, rk, rb, ea, el)) : wpX_nextContact post (nI nc, nI nb, nI nw, rc, cn_N ca, cn_N fr, cn_N tt, cn_N st, cn_N en, cn_N ra, cn_N de, cn_N bz, cn_N so, cn_N go, cn_N sz, li, RO, HI, cn_N hc, HK, HB, rk, rb, ea, el) (nI v) (nI g) (nI t) (nI s) (nI (m + 1)) (nI bt) := by
  unfold wpX_nextContact
  dsimp only
  exact ⟨k0 + 1, cx_next_l K hv hg ht hm hbt hk0 hmin h (k0 + 1) 0 ea el (by omega) (by omega)⟩
theorem cn_v_lt {nc : Nat} {fr tt : Nat → Nat} (h6 : ∀ k, k < nc → tt k < 6) : ∀ (p : List Nat) (v g : Nat), v < 6 → cn_ch nc fr tt p v g → cn_v tt p v < 6 := by
  intro p
  induction p with
  | nil => intro v g hv _; exact hv
  | cons k p ih => intro v g hv hc; exact ih (tt k) g (h6 k hc.1) hc.2.2
theorem cx_fr88 {s : Nat} (K : cn_Ok nc ca fr tt st en ra de bz s) {v g t : Nat} (hv : v < 6) (hg : g < 6) (ht : t ≤ 1000000) {R : List Nat} (hO : cn_O nc fr tt (cn_A nc ca st en ra de bz s) v t g R) {post : Int32 → SX → Prop} (hp : ∀ rk rb ea el, cn_H rk R → cn_H rb (cn_bl (cn_A nc ca st en ra de bz s) (cn_b st en ra bz s) R t) → post (nI (cn_t (cn_A nc ca st en ra de bz s) R t)) (nI nc, nI nb, nI nw, nI R.length, cn_N ca, cn_N fr, cn_N tt, cn_N st, cn_N en, cn_N ra, cn_N de, cn_N bz, cn_N so, cn_N go, cn_N sz, li, RO, HI, cn_N hc, HK, HB, rk, rb, ea, el)) :
    ∀ (L p : List Nat) (n : Nat) (rk rb ea el : Nat → Int32), R = p ++ L → cn_H rk p → cn_H rb (cn_bl (cn_A nc ca st en ra de bz s) (cn_b st en ra bz s) p t) → L.length < n → wX_findRoute_88 post (nI g) (nI s) (nI (cn_t (cn_A nc ca st en ra de bz s) R t)) n (nI (cn_v tt p v)) (nI (cn_t (cn_A nc ca st en ra de bz s) p t)) (nI L.length) (nI nc) (nI nb) (nI nw) (nI p.length) (cn_N ca) (cn_N fr) (cn_N tt) (cn_N st) (cn_N en) (cn_N ra) (cn_N de) (cn_N bz) (cn_N so) (cn_N go) (cn_N sz) li RO HI (cn_N hc) HK HB rk rb ea el := by
  have P := cn_A_P (ca := ca) (bz := bz) K.1 K.2.2.2.1
  have n1 := K.1.1
  intro L
  induction L with
  | nil =>
    intro p n rk rb ea el hR h1 h2 hn
    rw [List.append_nil] at hR
    subst hR
    obtain ⟨n, rfl⟩ : ∃ n', n = n' + 1 := ⟨n - 1, by simp at hn; omega⟩
    rw [wX_findRoute_88]
    exact br_t (by decide) (hp rk rb ea el h1 h2)
  | cons k L ih =>
    intro p n rk rb ea el hR h1 h2 hn
    obtain ⟨n, rfl⟩ : ∃ n', n = n' + 1 := ⟨n - 1, by simp at hn; omega⟩
    obtain ⟨o1, o2, o3, o4, o5, o6, o7⟩ := hO
    have hlR : R.length = p.length + (L.length + 1) := by rw [hR]; simp
    have hc := cn_ch_app.mp (hR ▸ o3)
    have hkn : k < nc := hc.2.1
    have hk2 : k < 2 ^ 31 := by omega
    have hpl2 : p.length < 2 ^ 31 := by omega
    have hG : cn_G nc fr tt (cn_A nc ca st en ra de bz s) g (cn_t (cn_A nc ca st en ra de bz s) R t) (k :: L) (cn_v tt p v) (cn_t (cn_A nc ca st en ra de bz s) p t) := cn_G_app (hR ▸ o7)
    have htR : cn_t (cn_A nc ca st en ra de bz s) (k :: L) (cn_t (cn_A nc ca st en ra de bz s) p t) = cn_t (cn_A nc ca st en ra de bz s) R t := by rw [hR, cn_t_app]
    have hLe := cn_Le_hd (A := (cn_A nc ca st en ra de bz s)) (t := cn_t (cn_A nc ca st en ra de bz s) p t) (bt := cn_t (cn_A nc ca st en ra de bz s) R t) hc.2 (Nat.le_of_eq htR)
    have hvp := cn_v_lt (fun k hk => (K.1.2 k hk).2.1) p v _ hv hc.1
    have htp : cn_t (cn_A nc ca st en ra de bz s) p t ≤ 1000000 := cn_t_le P p t ht
    have hA : (cn_A nc ca st en ra de bz s) k (cn_t (cn_A nc ca st en ra de bz s) p t) < 1000000 := by
      have q := cn_t_ge P L _ (P.1 k (cn_t (cn_A nc ca st en ra de bz s) p t))
      have q2 : cn_t (cn_A nc ca st en ra de bz s) L ((cn_A nc ca st en ra de bz s) k (cn_t (cn_A nc ca st en ra de bz s) p t)) = cn_t (cn_A nc ca st en ra de bz s) R t := htR
      omega
    obtain ⟨b, hB, hb, -, -, -, eA, -, hbe, -⟩ := cn_A_lt hA
    have hen := (K.1.2 k hkn).2.2.2.1
    rw [wX_findRoute_88]
    refine br_f (nI_nle (by simp) (by simp; omega)) ?_
    refine cx_next K hvp hg htp (by omega) o4 hLe hG.1 ?_
    intro ea el
    simp only [nI_clamp hpl2, nI_clamp hk2, cn_Ne, pk_us]
    refine cx_ticks K.1 hkn K.2.2.2.1 K.2.2.2.2 ?_
    refine ⟨vp_in_nI (by omega) (by decide), nm_e ?_⟩
    refine cx_first K.1 K.2.1 hkn K.2.2.2.1 K.2.2.2.2 htp ?_
    rw [hB]
    refine ⟨vp_in_nI (by omega) (by decide), fun rb' hrb' => ⟨vp_in_nI (by omega) (by decide), vp_in_nI (by omega) (by decide), ?_⟩⟩
    have er : rb' p.length = nI b := by rw [hrb']; exact pk_us
    rw [er]
    have e8 : nI b + nI (cn_tk ra k s) + nI (de k) = nI (cn_t (cn_A nc ca st en ra de bz s) (p ++ [k]) t) := by
      rw [nI_add, nI_add, cn_t_app]
      exact congrArg nI eA.symm
    refine nm_r e8 ⟨vp_in_nI (by omega) (by decide), nm_r (e' := nI (cn_v tt (p ++ [k]) v)) ?_ (nm_r (e' := nI (p ++ [k]).length) ?_ (nm_r (e' := nI L.length) ?_ ?_))⟩
    · rw [cn_v_app]; rfl
    · rw [nI_1]; simp
    · exact pk_m1 L.length
    · refine ih (p ++ [k]) n _ rb' ea el (by rw [hR]; simp) (cn_H_snoc h1 k) ?_ (by simp at hn; omega)
      rw [hrb', cn_bl_app]
      have e9 : cn_bl (cn_A nc ca st en ra de bz s) (cn_b st en ra bz s) [k] (cn_t (cn_A nc ca st en ra de bz s) p t) = [b] := by show [cn_b st en ra bz s k (cn_t (cn_A nc ca st en ra de bz s) p t)] = [b]; rw [hb]
      rw [e9]
      have := cn_H_snoc h2 b
      rw [cn_bl_len] at this
      exact this
theorem cx_fr40 {s : Nat} (K : cn_Ok nc ca fr tt st en ra de bz s) {v g t : Nat} (hv : v < 6) (hg : g < 6) (ht : t < 1000000) {R : List Nat} (hO : cn_O nc fr tt (cn_A nc ca st en ra de bz s) v t g R) {post : Int32 → SX → Prop} (hp : ∀ ea el, wX_findRoute_73 post (nI v) (nI g) (nI t) (nI s) (nI (cn_t (cn_A nc ca st en ra de bz s) R t)) (nI R.length) (nI nc) (nI nb) (nI nw) rc (cn_N ca) (cn_N fr) (cn_N tt) (cn_N st) (cn_N en) (cn_N ra) (cn_N de) (cn_N bz) (cn_N so) (cn_N go) (cn_N sz) li RO HI (cn_N hc) HK HB rk rb ea el) :
    ∀ (n j x : Nat) (ea el : Nat → Int32), 1 ≤ j → j ≤ R.length → R.length - j < n → ea g = nI x → cn_Va nc fr tt (cn_A nc ca st en ra de bz s) j v t g x → wX_findRoute_40 post (nI v) (nI g) (nI t) (nI s) (nI (cn_t (cn_A nc ca st en ra de bz s) R t)) n (nI j) (nI nc) (nI nb) (nI nw) rc (cn_N ca) (cn_N fr) (cn_N tt) (cn_N st) (cn_N en) (cn_N ra) (cn_N de) (cn_N bz) (cn_N so) (cn_N go) (cn_N sz) li RO HI (cn_N hc) HK HB rk rb ea el := by
  have P := cn_A_P (ca := ca) (bz := bz) K.1 K.2.2.2.1
  have hR5 := hO.2.1
  have hg2 : g < 2 ^ 31 := by omega
  intro n
  induction n with
  | zero => intro j x ea el _ _ h; omega
  | succ n ih =>
    intro j x ea el h1 hj hn hx hV
    have hb := hO.2.2.2.1
    have hx2 := hV.1
    rw [wX_findRoute_40]
    refine pk_le 5 j (fun q => ?_) (fun q => ?_)
    · have e : j = R.length := by omega
      rw [e]; exact hp ea el
    · simp only [nI_clamp hg2]
      refine ⟨vp_in_nI hg (by decide), pk_le x (cn_t (cn_A nc ca st en ra de bz s) R t) (fun q2 => ?_) (fun q2 => ?_) hx⟩
      · have e : j = R.length := by
          rcases Nat.lt_or_ge j R.length with q3 | q3
          · have := cn_O_Va2 hO q3 hV; omega
          · omega
        rw [e]; exact hp ea el
      · have e : j ≠ R.length := by
          intro e
          have := cn_Va_eq hV (cn_O_Va P (by omega) hO (Nat.le_of_eq e.symm) (by omega))
          omega
        refine nm_r (nI_1 j) ?_
        refine cx_spread K (by omega) hv ht ?_
        intro ea el hV2
        obtain ⟨x', hx', hVx'⟩ := hV2 g hg
        exact ih (j + 1) x' ea el (by omega) (by omega) (by omega) hx' hVx'
theorem cx_find_R {s : Nat} (K : cn_Ok nc ca fr tt st en ra de bz s) {v g t : Nat} (hv : v < 6) (hg : g < 6) (ht : t < 1000000) {R : List Nat} (hO : cn_O nc fr tt (cn_A nc ca st en ra de bz s) v t g R) {post : Int32 → SX → Prop} (hp : ∀ rk rb ea el, cn_H rk R → cn_H rb (cn_bl (cn_A nc ca st en ra de bz s) (cn_b st en ra bz s) R t) → post (nI (cn_t (cn_A nc ca st en ra de bz s) R t)) (nI nc, nI nb, nI nw, nI R.length, cn_N ca, cn_N fr, cn_N tt, cn_N st, cn_N en, cn_N ra, cn_N de, cn_N bz, cn_N so, cn_N go, cn_N sz, li, RO, HI, cn_N hc, HK, HB, rk, rb, ea, el)) : wpX_findRoute post (nI nc, nI nb, nI nw, rc, cn_N ca, cn_N fr, cn_N tt, cn_N st, cn_N en, cn_N ra, cn_N de, cn_N bz, cn_N so, cn_N go, cn_N sz, li, RO, HI, cn_N hc, HK, HB, rk, rb, ea, el) (nI v) (nI g) (nI t) (nI s) := by
  have P := cn_A_P (ca := ca) (bz := bz) K.1 K.2.2.2.1
  have hg2 : g < 2 ^ 31 := by omega
  unfold wpX_findRoute
  dsimp only
  refine cx_spread K (m := 5) (by omega) hv ht ?_
  intro ea el hV
  obtain ⟨x, hx, hVx⟩ := hV g hg
  have ex : x = cn_t (cn_A nc ca st en ra de bz s) R t := cn_Va_eq hVx (cn_O_Va P (by omega) hO hO.2.1 (by omega))
  rw [ex] at hx
  have hb := hO.2.2.2.1
  simp only [nI_clamp hg2]
  refine ⟨vp_in_nI hg (by decide), nm_r hx (br_t (nI_lt (b := 1000000) hb (by decide)) ?_)⟩
  refine cx_spread K (m := 1) (by omega) hv ht ?_
  intro ea el hV
  obtain ⟨x1, hx1, hVx1⟩ := hV g hg
  refine ⟨6, cx_fr40 K hv hg ht hO ?_ 6 1 x1 ea el (by omega) hO.1 (by have := hO.2.1; omega) hx1 hVx1⟩
  intro ea el
  unfold wX_findRoute_73
  exact ⟨R.length + 1, cx_fr88 K hv hg (by omega) hO hp R [] (R.length + 1) rk rb ea el rfl (cn_H_0 _) (cn_H_0 _) (by omega)⟩
theorem cx_find_0 {s : Nat} (K : cn_Ok nc ca fr tt st en ra de bz s) {v g t : Nat} (hv : v < 6) (hg : g < 6) (ht : t < 1000000) (hO : cn_No nc fr tt (cn_A nc ca st en ra de bz s) v t g) {post : Int32 → SX → Prop} (hp : ∀ ea el, post 1000000 (nI nc, nI nb, nI nw, rc, cn_N ca, cn_N fr, cn_N tt, cn_N st, cn_N en, cn_N ra, cn_N de, cn_N bz, cn_N so, cn_N go, cn_N sz, li, RO, HI, cn_N hc, HK, HB, rk, rb, ea, el)) : wpX_findRoute post (nI nc, nI nb, nI nw, rc, cn_N ca, cn_N fr, cn_N tt, cn_N st, cn_N en, cn_N ra, cn_N de, cn_N bz, cn_N so, cn_N go, cn_N sz, li, RO, HI, cn_N hc, HK, HB, rk, rb, ea, el) (nI v) (nI g) (nI t) (nI s) := by
  have hg2 : g < 2 ^ 31 := by omega
  unfold wpX_findRoute
  dsimp only
  refine cx_spread K (m := 5) (by omega) hv ht ?_
  intro ea el hV
  obtain ⟨x, hx, hVx⟩ := hV g hg
  have ex : x = 1000000 := cn_Va_eq hVx (cn_No_Va hO (by omega))
  rw [ex] at hx
  simp only [nI_clamp hg2]
  exact ⟨vp_in_nI hg (by decide), nm_r hx (br_f (by decide) (hp ea el))⟩
end CxRoute
end
section
/-! the reference: going over a contact -/
/-- the bookings' bounds -/
def cn_Bk (nc nb : Nat) (en ra sz hc : Nat → Nat) (hk hb : Nat → Nat → Nat) : Prop :=
  nb ≤ 10 ∧ ∀ b, b < nb → 1 ≤ sz b ∧ sz b ≤ 30 ∧ hc b ≤ 60 ∧ ∀ i, i < hc b → hk b i < nc ∧ hb b i + cn_tk ra (hk b i) (sz b) ≤ en (hk b i)
/-- two arrays hold the bookings, w a bundle -/
def cn_L (w nb : Nat) (hc : Nat → Nat) (hk hb : Nat → Nat → Nat) (a c : Nat → Int32) : Prop :=
  ∀ b, b < nb → ∀ i, i < hc b → a (w * b + i) = nI (hk b i) ∧ c (w * b + i) = nI (hb b i)
/-- booking i of b keeps k from being taken from x to e -/
def cn_ov (ra sz : Nat → Nat) (hk hb : Nat → Nat → Nat) (k x e b i : Nat) : Prop := hk b i = k ∧ hb b i < e ∧ x < hb b i + cn_tk ra k (sz b)
theorem cn_fb_ov {nc nb : Nat} {fr tt st en ra de sz hc bz : Nat → Nat} {hk hb : Nat → Nat → Nat} (N : cn_Net nc fr tt st en ra de) (Z : cn_Bz nb hc ra sz hk hb bz) (Bk : cn_Bk nc nb en ra sz hc hk hb) {k x len : Nat} (hk' : k < nc) (hl : 1 ≤ len) (hx : x + len ≤ 101) : cn_fb bz k len x = true ↔ ∀ b, b < nb → ∀ i, i < hc b → ¬ cn_ov ra sz hk hb k x (x + len) b i := by
  have n1 := N.1
  rw [cn_fb_iff]
  constructor
  · rintro h b hb' i hi ⟨o1, o2, o3⟩
    obtain ⟨b1, b2, b3, b4⟩ := Bk.2 b hb'
    have b5 := b4 i hi
    rw [o1] at b5
    have htk := cn_tk_in (N.2 k hk').2.2.2.2.1 b1
    have hen := (N.2 k hk').2.2.2.1
    rcases Nat.lt_or_ge x (hb b i) with q | q
    · have z := Z k (by omega) (hb b i) (by omega)
      rw [h (hb b i) (by omega) (by omega)] at z
      exact cn_cv_0.mp z.1.symm b hb' i hi ⟨o1, by omega, by omega⟩
    · have z := Z k (by omega) x (by omega)
      rw [h x (by omega) (by omega)] at z
      exact cn_cv_0.mp z.1.symm b hb' i hi ⟨o1, by omega, by omega⟩
  · intro h t h1 h2
    rw [(Z k (by omega) t (by omega)).1]
    refine cn_cv_0.mpr fun b hb' i hi hh => h b hb' i hi ⟨hh.1, by omega, by omega⟩
section CyNet
variable {nc nb nw : Nat} {bs ba : Int32} {ca fr tt st en ra de bz so go sz hc : Nat → Nat} {li SK OV BG tr tb nd tm nx bo bb : Nat → Int32} {hk hb : Nat → Nat → Nat}
theorem cy_ticks (N : cn_Net nc fr tt st en ra de) {k s : Nat} (hk' : k < nc) (hs : 1 ≤ s) (hs2 : s ≤ 30) {post : Int32 → Prop} (h : post (nI (cn_tk ra k s))) : wpY_ticks post (nI nw, nI nc, nI nb, bs, ba, cn_N fr, cn_N tt, cn_N st, cn_N en, cn_N ra, cn_N de, cn_N ca, cn_N so, cn_N go, cn_N sz, li, SK, cn_N hc, OV, BG, tr, tb, nd, tm, nx, bo, bb) (nI k) (nI s) := by
  obtain ⟨n1, n2⟩ := N
  have r1 := (n2 k hk').2.2.2.2.1
  have r9 := (n2 k hk').2.2.2.2.2.1
  have hk2 : k < 2 ^ 31 := by omega
  unfold wpY_ticks
  dsimp only
  simp only [nI_clamp hk2, cn_Ne]
  have e : (nI s + nI (ra k) - 1) / nI (ra k) = nI (cn_tk ra k s) := by
    show (nI s + nI (ra k) - nI 1) / nI (ra k) = _
    rw [nI_add, pk_sub (by omega), pk_div (by omega) (by omega) (by omega)]
    rfl
  refine ⟨vp_in_nI (by omega) (by decide), br_t (nI_le (a := 1) r1 (by omega)) ⟨vp_in_nI (by omega) (by decide), ?_⟩⟩
  unfold wY_ticks_20
  rw [e]
  exact ⟨nI_ne0 (by omega) (by omega), h⟩
theorem cy_comes (N : cn_Net nc fr tt st en ra de) {k s x : Nat} (hk' : k < nc) (hs : 1 ≤ s) (hs2 : s ≤ 30) {post : Int32 → Prop} (h : post (nI (x + cn_tk ra k s + de k))) : wpY_comesIn post (nI nw, nI nc, nI nb, bs, ba, cn_N fr, cn_N tt, cn_N st, cn_N en, cn_N ra, cn_N de, cn_N ca, cn_N so, cn_N go, cn_N sz, li, SK, cn_N hc, OV, BG, tr, tb, nd, tm, nx, bo, bb) (nI k) (nI s) (nI x) := by
  have n1 := N.1
  have hk2 : k < 2 ^ 31 := by omega
  unfold wpY_comesIn
  dsimp only
  refine cy_ticks N hk' hs hs2 ⟨vp_in_nI (by omega) (by decide), ?_⟩
  rw [nI_clamp hk2, cn_Ne, nI_add, nI_add]
  exact h
theorem cy_free_i (N : cn_Net nc fr tt st en ra de) (Bk : cn_Bk nc nb en ra sz hc hk hb) (hL : cn_L 64 nb hc hk hb OV BG) {k x e b : Nat} (hk' : k < nc) (hx : x ≤ 2000000) (he : e ≤ 2000000) (hb' : b < nb) {post : Int32 → Prop} {J : Int32 → Prop} (h0 : ∀ i, i < hc b → cn_ov ra sz hk hb k x e b i → post 0) (h1 : (∀ i, i < hc b → ¬ cn_ov ra sz hk hb k x e b i) → J (nI (b + 1))) :
    ∀ (n i : Nat), i ≤ hc b → hc b - i < n → (∀ j, j < i → ¬ cn_ov ra sz hk hb k x e b j) → wY_isFree_19 post J (nI k) (nI x) (nI e) (nI b) (nI nw) (nI nc) (nI nb) bs ba (cn_N fr) (cn_N tt) (cn_N st) (cn_N en) (cn_N ra) (cn_N de) (cn_N ca) (cn_N so) (cn_N go) (cn_N sz) li SK (cn_N hc) OV BG tr tb nd tm nx bo bb n (nI (64 * b + i)) := by
  have n1 := N.1
  obtain ⟨c0, c1⟩ := Bk
  obtain ⟨s1, s2, hc60, hh⟩ := c1 b hb'
  have hb2 : b < 2 ^ 31 := by omega
  intro n
  induction n with
  | zero => intro i _ h; omega
  | succ n ih =>
    intro i hi hn hno
    have hi2 : 64 * b + i < 2 ^ 31 := by omega
    have e1 : (64 : Int32) * nI b + nI (hc b) = nI (64 * b + hc b) := cn_ix 64 b (hc b)
    have e2 : nI (64 * b + i) + 1 = nI (64 * b + (i + 1)) := nI_1 _
    rw [wY_isFree_19]
    simp only [nI_clamp hb2, cn_Ne, nI_clamp hi2, e1, e2]
    refine ⟨vp_in_nI (by omega) (by decide), pk_le (64 * b + hc b) (64 * b + i) (fun q => ?_) (fun q => ?_)⟩
    · refine nm_r (nI_1 b) (h1 fun j hj => hno j (by omega))
    · have hi3 : i < hc b := by omega
      obtain ⟨l1, l2⟩ := hL b hb' i hi3
      obtain ⟨g1, g2⟩ := hh i hi3
      have g3 := (N.2 _ g1).2.2.2.1
      have next : ¬ cn_ov ra sz hk hb k x e b i → wY_isFree_19 post J (nI k) (nI x) (nI e) (nI b) (nI nw) (nI nc) (nI nb) bs ba (cn_N fr) (cn_N tt) (cn_N st) (cn_N en) (cn_N ra) (cn_N de) (cn_N ca) (cn_N so) (cn_N go) (cn_N sz) li SK (cn_N hc) OV BG tr tb nd tm nx bo bb n (nI (64 * b + (i + 1))) := by
        intro hov
        refine ih (i + 1) (by omega) (by omega) fun j hj => ?_
        by_cases ej : j = i
        · rw [ej]; exact hov
        · exact hno j (by omega)
      simp only [l1, l2]
      refine ⟨vp_in_nI (by omega) (by decide), pk_eq (hk b i) k (fun q1 => ?_) (fun q1 => ?_)⟩
      · refine ⟨vp_in_nI (by omega) (by decide), pk_le e (hb b i) (fun q2 => ?_) (fun q2 => ?_)⟩
        · exact nm_e (next fun z => by have := z.2.1; omega)
        · refine ⟨vp_in_nI (by omega) (by decide), vp_in_nI (by omega) (by decide), ?_⟩
          refine cy_ticks N hk' s1 s2 ?_
          rw [nI_add]
          rw [q1] at g2 g3
          refine pk_le (hb b i + cn_tk ra k (sz b)) x (fun q3 => ?_) (fun q3 => ?_)
          · exact nm_e (next fun z => by have := z.2.2; omega)
          · exact h0 i hi3 ⟨q1, q2, q3⟩
      · exact nm_e (next fun z => q1 z.1)
theorem cy_free (N : cn_Net nc fr tt st en ra de) (Z : cn_Bz nb hc ra sz hk hb bz) (Bk : cn_Bk nc nb en ra sz hc hk hb) (hL : cn_L 64 nb hc hk hb OV BG) {k x len : Nat} (hk' : k < nc) (hl : 1 ≤ len) (hx : x + len ≤ 101) {post : Int32 → Prop} (h1 : cn_fb bz k len x = true → post 1) (h0 : ¬ cn_fb bz k len x = true → post 0) : wpY_isFree post (nI nw, nI nc, nI nb, bs, ba, cn_N fr, cn_N tt, cn_N st, cn_N en, cn_N ra, cn_N de, cn_N ca, cn_N so, cn_N go, cn_N sz, li, SK, cn_N hc, OV, BG, tr, tb, nd, tm, nx, bo, bb) (nI k) (nI x) (nI (x + len)) := by
  have hbn := Bk.1
  unfold wpY_isFree
  dsimp only
  refine ⟨nb + 1, ?_⟩
  have key : ∀ (n b : Nat), b ≤ nb → nb - b < n → (∀ c, c < b → ∀ i, i < hc c → ¬ cn_ov ra sz hk hb k x (x + len) c i) → wY_isFree_3 post (nI k) (nI x) (nI (x + len)) (nI nw) (nI nc) (nI nb) bs ba (cn_N fr) (cn_N tt) (cn_N st) (cn_N en) (cn_N ra) (cn_N de) (cn_N ca) (cn_N so) (cn_N go) (cn_N sz) li SK (cn_N hc) OV BG tr tb nd tm nx bo bb n (nI b) := by
    intro n
    induction n with
    | zero => intro b _ h; omega
    | succ n ih =>
      intro b hb' hn hno
      rw [wY_isFree_3]
      refine pk_le nb b (fun q => ?_) (fun q => ?_)
      · exact h1 ((cn_fb_ov N Z Bk hk' hl hx).mpr fun c hc' i hi => hno c (by omega) i hi)
      · refine nm_r (e' := nI (64 * b + 0)) (pk_mul 64 b) ⟨hc b + 1, ?_⟩
        refine cy_free_i N Bk hL hk' (by omega) (by omega) q ?_ ?_ (hc b + 1) 0 (by omega) (by omega) (fun j hj => absurd hj (by omega))
        · intro i hi ho
          refine h0 fun hf => ?_
          exact (cn_fb_ov N Z Bk hk' hl hx).mp hf b q i hi ho
        · intro hall
          refine ih (b + 1) (by omega) (by omega) fun c hc' i hi => ?_
          by_cases ec : c = b
          · subst ec; exact hall i hi
          · exact hno c (by omega) i hi
  exact key (nb + 1) 0 (by omega) (by omega) (fun c hc' => absurd hc' (by omega))
theorem cn_sublt {a b c : Nat} (ha : a < 2 ^ 30) (hb : b < 2 ^ 30) (hc : c < 2 ^ 30) : nI a - nI b < nI c ↔ a < c + b := by
  rw [Int32.lt_iff_toInt_lt, pk_sub_toInt ha hb, nI_toInt (by omega)]
  omega
theorem cy_early_l {s : Nat} (N : cn_Net nc fr tt st en ra de) (Z : cn_Bz nb hc ra sz hk hb bz) (Bk : cn_Bk nc nb en ra sz hc hk hb) (hL : cn_L 64 nb hc hk hb OV BG) {k len lo : Nat} (hk' : k < nc) (hl : 1 ≤ len) (hl2 : len ≤ 30) {post : Int32 → Prop} (hp : ∀ r, cn_F (fun c => cn_fb bz k len c = true) lo len (en k) r → post (cn_o r)) :
    ∀ (n x : Nat), en k + 1 - x < n → x ≤ 1000200 → lo ≤ x → (∀ c, lo ≤ c → c < x → ¬ cn_fb bz k len c = true) → wY_earliest_34 post (nI k) (nI len) (nI nw) (nI nc) (nI nb) bs ba (cn_N fr) (cn_N tt) (cn_N st) (cn_N en) (cn_N ra) (cn_N de) (cn_N ca) (cn_N so) (cn_N go) (cn_N sz) li SK (cn_N hc) OV BG tr tb nd tm nx bo bb n (nI x) := by
  have n1 := N.1
  have hen := (N.2 k hk').2.2.2.1
  have hk2 : k < 2 ^ 31 := by omega
  intro n
  induction n with
  | zero => intro x h; omega
  | succ n ih =>
    intro x hn hx hlo hno
    rw [wY_earliest_34]
    simp only [nI_clamp hk2, cn_Ne, nI_add]
    refine ⟨vp_in_nI (by omega) (by decide), ?_⟩
    rw [cn_sublt (by omega) (by omega) (by omega)]
    refine br_c (fun q => ?_) (fun q => ?_)
    · refine hp none ⟨fun _ b hb1 hb2 => hno b hb1 (by omega), fun b hb => absurd hb (by simp)⟩
    · refine cy_free N Z Bk hL hk' hl (by omega) (fun hf => ?_) (fun hf => ?_)
      · refine br_f (by decide) ?_
        refine hp (some x) ⟨fun hh => absurd hh (by simp), fun b hb => ?_⟩
        cases hb
        exact ⟨hlo, by omega, hf, hno⟩
      · refine br_t rfl (nm_r (nI_1 x) ?_)
        refine ih (x + 1) (by omega) (by omega) (by omega) fun c hc1 hc2 => ?_
        by_cases ec : c = x
        · rw [ec]; exact hf
        · exact hno c hc1 (by omega)
theorem cy_early {s : Nat} (N : cn_Net nc fr tt st en ra de) (Z : cn_Bz nb hc ra sz hk hb bz) (Bk : cn_Bk nc nb en ra sz hc hk hb) (hL : cn_L 64 nb hc hk hb OV BG) {k t : Nat} (hk' : k < nc) (hs : 1 ≤ s) (hs2 : s ≤ 30) (ht : t ≤ 1000000) {post : Int32 → Prop} (h : post (cn_o (cn_B st en ra bz s k t))) : wpY_earliest post (nI nw, nI nc, nI nb, bs, ba, cn_N fr, cn_N tt, cn_N st, cn_N en, cn_N ra, cn_N de, cn_N ca, cn_N so, cn_N go, cn_N sz, li, SK, cn_N hc, OV, BG, tr, tb, nd, tm, nx, bo, bb) (nI k) (nI s) (nI t) := by
  have n1 := N.1
  have hk2 : k < 2 ^ 31 := by omega
  have hst := (N.2 k hk').2.2.1
  have htk := cn_tk_in (N.2 k hk').2.2.2.2.1 hs
  have hp : ∀ r, cn_F (fun c => cn_fb bz k (cn_tk ra k s) c = true) (cn_lo st k t) (cn_tk ra k s) (en k) r → post (cn_o r) := by
    intro r F
    rw [cn_F_eq F (cn_B_F st en ra bz s k t)]
    exact h
  unfold wpY_earliest
  dsimp only
  refine cy_ticks N hk' hs hs2 ?_
  simp only [nI_clamp hk2, cn_Ne]
  refine ⟨vp_in_nI (by omega) (by decide), pk_le t (st k) (fun h1 => ?_) (fun h1 => ?_)⟩
  · have elo : cn_lo st k t = st k := if_pos h1
    rw [elo] at hp
    refine ⟨vp_in_nI (by omega) (by decide), nm_e ⟨en k + 1 - st k + 1, ?_⟩⟩
    exact cy_early_l (s := s) N Z Bk hL hk' htk.1 (by omega) hp _ (st k) (by omega) (by omega) (by omega) fun c h1 h2 => absurd h2 (by omega)
  · have elo : cn_lo st k t = t := if_neg (by omega)
    rw [elo] at hp
    refine ⟨en k + 1 - t + 1, ?_⟩
    exact cy_early_l (s := s) N Z Bk hL hk' htk.1 (by omega) hp _ t (by omega) (by omega) (by omega) fun c h1 h2 => absurd h2 (by omega)
end CyNet
end
section
/-! the reference: the search for the best route -/
theorem cn_ch_mem {nc : Nat} {fr tt : Nat → Nat} : ∀ {p : List Nat} {v g : Nat}, cn_ch nc fr tt p v g → ∀ x, x ∈ p → x < nc := by
  intro p
  induction p with
  | nil => intro v g _ x hx; exact absurd hx (by simp)
  | cons k p ih =>
    intro v g h x hx
    rcases List.mem_cons.mp hx with e | e
    · rw [e]; exact h.1
    · exact ih h.2.2 x e
theorem cn_getD_mem {p : List Nat} {i : Nat} (h : i < p.length) : p.getD i 0 ∈ p := by
  rw [List.getD_eq_getElem?_getD, List.getElem?_eq_getElem h]
  exact List.getElem_mem h
theorem cn_mem_getD {p : List Nat} {k : Nat} (h : k ∈ p) : ∃ i, i < p.length ∧ p.getD i 0 = k := by
  obtain ⟨i, hi, e⟩ := List.mem_iff_getElem.mp h
  refine ⟨i, hi, ?_⟩
  rw [List.getD_eq_getElem?_getD, List.getElem?_eq_getElem hi]
  exact e
/-- the fields keep s as the best so far -/
def cn_Kp (A B : Nat → Nat → Nat) (t : Nat) (s : List Nat) (bs ba : Int32) (bo bb : Nat → Int32) : Prop :=
  s.length ≤ 5 ∧ bs = nI s.length ∧ (s ≠ [] → ba = nI (cn_t A s t)) ∧ cn_H bo s ∧ cn_H bb (cn_bl A B s t)
/-- the stack holds the list p -/
def cn_K (tt : Nat → Nat) (A B : Nat → Nat → Nat) (v t : Nat) (p : List Nat) (tr tb nd tm : Nat → Int32) : Prop :=
  cn_H tr p ∧ cn_H tb (cn_bl A B p t) ∧ ∀ i, i ≤ p.length → nd i = nI (cn_v tt (p.take i) v) ∧ tm i = nI (cn_t A (p.take i) t)
theorem cn_K_top {tt : Nat → Nat} {A B : Nat → Nat → Nat} {v t : Nat} {p : List Nat} {tr tb nd tm : Nat → Int32} (h : cn_K tt A B v t p tr tb nd tm) : nd p.length = nI (cn_v tt p v) ∧ tm p.length = nI (cn_t A p t) := by
  have := h.2.2 p.length (Nat.le_refl _)
  rw [List.take_length] at this
  exact this
theorem cn_K_push {tt : Nat → Nat} {A B : Nat → Nat → Nat} {v t : Nat} {p : List Nat} {tr tb nd tm : Nat → Int32} (h : cn_K tt A B v t p tr tb nd tm) {k b : Nat} (hb : B k (cn_t A p t) = b) : cn_K tt A B v t (p ++ [k]) (upd tr p.length (nI k)) (upd tb p.length (nI b)) (upd nd (p.length + 1) (nI (tt k))) (upd tm (p.length + 1) (nI (A k (cn_t A p t)))) := by
  refine ⟨cn_H_snoc h.1 k, ?_, fun i hi => ?_⟩
  · rw [cn_bl_app]
    have e : cn_bl A B [k] (cn_t A p t) = [b] := by show [B k (cn_t A p t)] = [b]; rw [hb]
    rw [e]
    have := cn_H_snoc h.2.1 b
    rw [cn_bl_len] at this
    exact this
  · rw [List.length_append, List.length_singleton] at hi
    by_cases e : i = p.length + 1
    · subst e
      rw [pk_us, pk_us, List.take_of_length_le (by simp), cn_v_app, cn_t_app]
      exact ⟨rfl, rfl⟩
    · rw [pk_un e, pk_un e, List.take_append_of_le_length (by omega)]
      exact h.2.2 i (by omega)
theorem cn_K_pop {tt : Nat → Nat} {A B : Nat → Nat → Nat} {v t : Nat} {p q : List Nat} {tr tb nd tm : Nat → Int32} (h : cn_K tt A B v t (p ++ q) tr tb nd tm) : cn_K tt A B v t p tr tb nd tm := by
  refine ⟨cn_H_pre h.1, ?_, fun i hi => ?_⟩
  · have := h.2.1
    rw [cn_bl_app] at this
    exact cn_H_pre this
  · have := h.2.2 i (by rw [List.length_append]; omega)
    rw [List.take_append_of_le_length hi] at this
    exact this
section CySearch
variable {nc nb nw : Nat} {bs ba : Int32} {ca fr tt st en ra de bz so go sz hc : Nat → Nat} {li SK OV BG tr tb nd tm nx bo bb : Nat → Int32} {hk hb : Nat → Nat → Nat}
theorem cy_tried {p : List Nat} {k : Nat} (hH : cn_H tr p) (hp : p.length ≤ 5) (hm : ∀ x, x ∈ p → x < 10) (hk' : k < 10) {post : Int32 → Prop} (h1 : k ∈ p → post 1) (h0 : k ∉ p → post 0) : wpY_isTried post (nI nw, nI nc, nI nb, bs, ba, cn_N fr, cn_N tt, cn_N st, cn_N en, cn_N ra, cn_N de, cn_N ca, cn_N so, cn_N go, cn_N sz, li, SK, cn_N hc, OV, BG, tr, tb, nd, tm, nx, bo, bb) (nI k) (nI p.length) := by
  unfold wpY_isTried
  dsimp only
  refine ⟨p.length + 1, ?_⟩
  have key : ∀ (n i : Nat), i ≤ p.length → p.length - i < n → (∀ j, j < i → p.getD j 0 ≠ k) → wY_isTried_2 post (nI k) (nI p.length) (nI nw) (nI nc) (nI nb) bs ba (cn_N fr) (cn_N tt) (cn_N st) (cn_N en) (cn_N ra) (cn_N de) (cn_N ca) (cn_N so) (cn_N go) (cn_N sz) li SK (cn_N hc) OV BG tr tb nd tm nx bo bb n (nI i) := by
    intro n
    induction n with
    | zero => intro i _ h; omega
    | succ n ih =>
      intro i hi hn hno
      have hi2 : i < 2 ^ 31 := by omega
      rw [wY_isTried_2]
      refine pk_le p.length i (fun q => ?_) (fun q => ?_)
      · refine h0 fun hmem => ?_
        obtain ⟨j, hj, e⟩ := cn_mem_getD hmem
        exact hno j (by omega) e
      · simp only [nI_clamp hi2]
        have hx := hm _ (cn_getD_mem q)
        refine ⟨vp_in_nI (by omega) (by decide), pk_eq (p.getD i 0) k (fun q1 => ?_) (fun q1 => ?_) (hH i q)⟩
        · exact h1 (q1 ▸ cn_getD_mem q)
        · refine nm_r (nI_1 i) (ih (i + 1) (by omega) (by omega) fun j hj => ?_)
          by_cases e : j = i
          · rw [e]; exact q1
          · exact hno j (by omega)
  exact key (p.length + 1) 0 (by omega) (by omega) (fun j hj => absurd hj (by omega))
theorem cy_k85 {m : Nat} (hm : m ≤ 5) {post : SY → Prop} (hp : ∀ bo bb, (∀ j, j < m → bo j = tr j) → (∀ j, j < m → bb j = tb j) → post (nI nw, nI nc, nI nb, bs, ba, cn_N fr, cn_N tt, cn_N st, cn_N en, cn_N ra, cn_N de, cn_N ca, cn_N so, cn_N go, cn_N sz, li, SK, cn_N hc, OV, BG, tr, tb, nd, tm, nx, bo, bb)) :
    ∀ (n i : Nat) (bo bb : Nat → Int32), i ≤ m → m - i < n → (∀ j, j < i → bo j = tr j) → (∀ j, j < i → bb j = tb j) → wY_keep_85 post (nI m) (nI nw) (nI nc) (nI nb) bs ba n (nI i) (cn_N fr) (cn_N tt) (cn_N st) (cn_N en) (cn_N ra) (cn_N de) (cn_N ca) (cn_N so) (cn_N go) (cn_N sz) li SK (cn_N hc) OV BG tr tb nd tm nx bo bb := by
  intro n
  induction n with
  | zero => intro i bo bb _ h; omega
  | succ n ih =>
    intro i bo bb hi hn h1 h2
    have hi2 : i < 2 ^ 31 := by omega
    rw [wY_keep_85]
    refine pk_le m i (fun q => ?_) (fun q => ?_)
    · obtain rfl : i = m := by omega
      exact hp bo bb h1 h2
    · simp only [nI_clamp hi2]
      refine ⟨vp_in_nI (by omega) (by decide), vp_in_nI (by omega) (by decide), nm_e ⟨vp_in_nI (by omega) (by decide), vp_in_nI (by omega) (by decide), nm_e (nm_r (nI_1 i) ?_)⟩⟩
      refine ih (i + 1) _ _ (by omega) (by omega) (fun j hj => ?_) (fun j hj => ?_)
      · by_cases e : j = i
        · rw [e]; exact pk_us
        · rw [pk_un e]; exact h1 j (by omega)
      · by_cases e : j = i
        · rw [e]; exact pk_us
        · rw [pk_un e]; exact h2 j (by omega)
theorem cy_k56 {q : List Nat} (hq : q.length ≤ 5) {post : SY → Prop} {x : Int32} (hx : tm q.length = x) (hp : ∀ bo bb, (∀ j, j < q.length → bo j = tr j) → (∀ j, j < q.length → bb j = tb j) → post (nI nw, nI nc, nI nb, nI q.length, x, cn_N fr, cn_N tt, cn_N st, cn_N en, cn_N ra, cn_N de, cn_N ca, cn_N so, cn_N go, cn_N sz, li, SK, cn_N hc, OV, BG, tr, tb, nd, tm, nx, bo, bb)) : wY_keep_56 post (nI q.length) (nI nw) (nI nc) (nI nb) bs ba (cn_N fr) (cn_N tt) (cn_N st) (cn_N en) (cn_N ra) (cn_N de) (cn_N ca) (cn_N so) (cn_N go) (cn_N sz) li SK (cn_N hc) OV BG tr tb nd tm nx bo bb := by
  unfold wY_keep_56 wY_keep_61
  have hq2 : q.length < 2 ^ 31 := by omega
  refine br_f (by decide) ⟨vp_in_nI (by omega) (by decide), ?_⟩
  rw [nI_clamp hq2, hx]
  exact nm_e ⟨q.length + 1, cy_k85 hq hp (q.length + 1) 0 bo bb (by omega) (by omega) (fun j hj => absurd hj (by omega)) (fun j hj => absurd hj (by omega))⟩
theorem cy_keep {s : Nat} (P : cn_P (cn_A nc ca st en ra de bz s)) {v t g : Nat} (ht : t ≤ 1000000) (hg : g < 6) {q S : List Nat} (hq1 : 1 ≤ q.length) (hq : q.length ≤ 5) (hv6 : cn_v tt q v < 6) (hK : cn_K tt (cn_A nc ca st en ra de bz s) (cn_b st en ra bz s) v t q tr tb nd tm) (hS : cn_Kp (cn_A nc ca st en ra de bz s) (cn_b st en ra bz s) t S bs ba bo bb) {post : SY → Prop} (hp : ∀ bs ba bo bb, cn_Kp (cn_A nc ca st en ra de bz s) (cn_b st en ra bz s) t (cn_kp tt (cn_A nc ca st en ra de bz s) v t g S q) bs ba bo bb → post (nI nw, nI nc, nI nb, bs, ba, cn_N fr, cn_N tt, cn_N st, cn_N en, cn_N ra, cn_N de, cn_N ca, cn_N so, cn_N go, cn_N sz, li, SK, cn_N hc, OV, BG, tr, tb, nd, tm, nx, bo, bb)) : wpY_keep post (nI nw, nI nc, nI nb, bs, ba, cn_N fr, cn_N tt, cn_N st, cn_N en, cn_N ra, cn_N de, cn_N ca, cn_N so, cn_N go, cn_N sz, li, SK, cn_N hc, OV, BG, tr, tb, nd, tm, nx, bo, bb) (nI q.length) (nI g) := by
  obtain ⟨k1, k2⟩ := cn_K_top hK
  obtain ⟨hS0, hS1, hS2, hS3, hS4⟩ := hS
  have hq2 : q.length < 2 ^ 31 := by omega
  have htq := cn_t_le P q t ht
  have htS := cn_t_le P S t ht
  have yes : (cn_v tt q v = g ∧ (S = [] ∨ cn_t (cn_A nc ca st en ra de bz s) q t < cn_t (cn_A nc ca st en ra de bz s) S t ∨ (cn_t (cn_A nc ca st en ra de bz s) q t = cn_t (cn_A nc ca st en ra de bz s) S t ∧ q.length < S.length))) → wY_keep_56 post (nI q.length) (nI nw) (nI nc) (nI nb) bs ba (cn_N fr) (cn_N tt) (cn_N st) (cn_N en) (cn_N ra) (cn_N de) (cn_N ca) (cn_N so) (cn_N go) (cn_N sz) li SK (cn_N hc) OV BG tr tb nd tm nx bo bb := by
    intro hc
    refine cy_k56 hq k2 fun bo' bb' h1 h2 => hp _ _ _ _ ?_
    unfold cn_kp
    rw [if_pos hc]
    refine ⟨hq, rfl, fun _ => rfl, fun i hi => by rw [h1 i hi]; exact hK.1 i hi, fun i hi => ?_⟩
    rw [h2 i (by rw [cn_bl_len] at hi; exact hi)]
    exact hK.2.1 i hi
  have no : ¬ (cn_v tt q v = g ∧ (S = [] ∨ cn_t (cn_A nc ca st en ra de bz s) q t < cn_t (cn_A nc ca st en ra de bz s) S t ∨ (cn_t (cn_A nc ca st en ra de bz s) q t = cn_t (cn_A nc ca st en ra de bz s) S t ∧ q.length < S.length))) → post (nI nw, nI nc, nI nb, bs, ba, cn_N fr, cn_N tt, cn_N st, cn_N en, cn_N ra, cn_N de, cn_N ca, cn_N so, cn_N go, cn_N sz, li, SK, cn_N hc, OV, BG, tr, tb, nd, tm, nx, bo, bb) := by
    intro hc
    refine hp _ _ _ _ ?_
    unfold cn_kp
    rw [if_neg hc]
    exact ⟨hS0, hS1, hS2, hS3, hS4⟩
  have no60 : ¬ (cn_v tt q v = g ∧ (S = [] ∨ cn_t (cn_A nc ca st en ra de bz s) q t < cn_t (cn_A nc ca st en ra de bz s) S t ∨ (cn_t (cn_A nc ca st en ra de bz s) q t = cn_t (cn_A nc ca st en ra de bz s) S t ∧ q.length < S.length))) → wY_keep_60 post (nI q.length) (nI nw) (nI nc) (nI nb) bs ba (cn_N fr) (cn_N tt) (cn_N st) (cn_N en) (cn_N ra) (cn_N de) (cn_N ca) (cn_N so) (cn_N go) (cn_N sz) li SK (cn_N hc) OV BG tr tb nd tm nx bo bb := by
    intro hc
    unfold wY_keep_60 wY_keep_61
    exact br_t rfl (no hc)
  unfold wpY_keep
  dsimp only
  simp only [nI_clamp hq2]
  refine br_f (nI_ne0 (by omega) (by omega)) ⟨vp_in_nI (by omega) (by decide), pk_eq (cn_v tt q v) g (fun e1 => ?_) (fun e1 => no fun z => e1 z.1) k1⟩
  refine pk_eq S.length 0 (fun e2 => ?_) (fun e2 => ?_) hS1
  · exact yes ⟨e1, Or.inl (List.length_eq_zero_iff.mp e2)⟩
  · have hne : S ≠ [] := fun z => e2 (by rw [z]; rfl)
    refine ⟨vp_in_nI (by omega) (by decide), pk_lt (cn_t (cn_A nc ca st en ra de bz s) q t) (cn_t (cn_A nc ca st en ra de bz s) S t) (fun e3 => yes ⟨e1, Or.inr (Or.inl e3)⟩) (fun e3 => ?_) k2 (hS2 hne)⟩
    refine ⟨vp_in_nI (by omega) (by decide), pk_eq (cn_t (cn_A nc ca st en ra de bz s) q t) (cn_t (cn_A nc ca st en ra de bz s) S t) (fun e4 => ?_) (fun e4 => ?_) k2 (hS2 hne)⟩
    · refine pk_le S.length q.length (fun e5 => no60 ?_) (fun e5 => yes ⟨e1, Or.inr (Or.inr ⟨e4, e5⟩)⟩) hS1
      rintro ⟨-, z | z | z⟩
      · exact hne z
      · omega
      · omega
    · refine no60 ?_
      rintro ⟨-, z | z | z⟩
      · exact hne z
      · omega
      · omega
/-- the rounds that the search takes at most -/
def cn_T (nc : Nat) : Nat → Nat
  | 0 => 1
  | j + 1 => nc * (cn_T nc j + 1) + 1
end CySearch
end
section
/-! the reference: the search, its loop -/
section CyDfs
variable {nc nb nw : Nat} {bs ba : Int32} {ca fr tt st en ra de bz so go sz hc : Nat → Nat} {li SK OV BG tr tb nd tm nx bo bb : Nat → Int32} {hk hb : Nat → Nat → Nat}
/-- what the loop at a list p may rely on when it goes back up -/
def cy_Ret (nc nb nw : Nat) (ca fr tt st en ra de bz so go sz hc : Nat → Nat) (li SK OV BG : Nat → Int32) (s v t g : Nat) (post : Int32 → SY → Prop) (p S : List Nat) (nx0 : Nat → Int32) (n0 : Nat) : Prop :=
  ∀ (bs ba : Int32) (tr tb nd tm nx bo bb : Nat → Int32), cn_K tt (cn_A nc ca st en ra de bz s) (cn_b st en ra bz s) v t p tr tb nd tm → (∀ i, i < p.length → nx i = nx0 i) → cn_Kp (cn_A nc ca st en ra de bz s) (cn_b st en ra bz s) t S bs ba bo bb → ∀ n, n0 ≤ n → wY_findBest_29 post (nI g) (nI s) n (nI p.length + (-1)) (nI nw) (nI nc) (nI nb) bs ba (cn_N fr) (cn_N tt) (cn_N st) (cn_N en) (cn_N ra) (cn_N de) (cn_N ca) (cn_N so) (cn_N go) (cn_N sz) li SK (cn_N hc) OV BG tr tb nd tm nx bo bb
theorem cy_dfs_5 {s v t g : Nat} {post : Int32 → SY → Prop} {p S : List Nat} (hp5 : p.length = 5) {n0 : Nat} (hK : cn_K tt (cn_A nc ca st en ra de bz s) (cn_b st en ra bz s) v t p tr tb nd tm) (hS : cn_Kp (cn_A nc ca st en ra de bz s) (cn_b st en ra bz s) t S bs ba bo bb) (hR : cy_Ret nc nb nw ca fr tt st en ra de bz so go sz hc li SK OV BG s v t g post p S nx n0) : ∀ n, n0 + 1 ≤ n → wY_findBest_29 post (nI g) (nI s) n (nI p.length) (nI nw) (nI nc) (nI nb) bs ba (cn_N fr) (cn_N tt) (cn_N st) (cn_N en) (cn_N ra) (cn_N de) (cn_N ca) (cn_N so) (cn_N go) (cn_N sz) li SK (cn_N hc) OV BG tr tb nd tm nx bo bb := by
  intro n hn
  obtain ⟨n, rfl⟩ : ∃ n', n = n' + 1 := ⟨n - 1, by omega⟩
  have h5 : (5 : Nat) < 2 ^ 31 := by decide
  rw [wY_findBest_29]
  have e5 : nI p.length = 5 := by rw [hp5]; rfl
  refine br_f (nI_pos (by omega)) ⟨vp_in_nI (by omega) (by decide), fun x6 hx6 => ⟨vp_in_nI (by omega) (by decide), vp_in_nI (by omega) (by decide), fun nx' hnx' => br_t e5 (nm_e ?_)⟩⟩
  refine hR bs ba tr tb nd tm nx' bo bb hK (fun i hi => ?_) hS n (by omega)
  rw [hnx', nI_clamp (by omega)]
  exact pk_un (by omega)
theorem cy_dfs_end {s v t g : Nat} {post : Int32 → SY → Prop} {p S : List Nat} (hp5 : p.length < 5) (hnc : nc ≤ 10) {n0 : Nat} (hK : cn_K tt (cn_A nc ca st en ra de bz s) (cn_b st en ra bz s) v t p tr tb nd tm) (hx : nx p.length = nI nc) (hS : cn_Kp (cn_A nc ca st en ra de bz s) (cn_b st en ra bz s) t S bs ba bo bb) (hR : cy_Ret nc nb nw ca fr tt st en ra de bz so go sz hc li SK OV BG s v t g post p S nx n0) : ∀ n, n0 + 1 ≤ n → wY_findBest_29 post (nI g) (nI s) n (nI p.length) (nI nw) (nI nc) (nI nb) bs ba (cn_N fr) (cn_N tt) (cn_N st) (cn_N en) (cn_N ra) (cn_N de) (cn_N ca) (cn_N so) (cn_N go) (cn_N sz) li SK (cn_N hc) OV BG tr tb nd tm nx bo bb := by
  intro n hn
  obtain ⟨n, rfl⟩ : ∃ n', n = n' + 1 := ⟨n - 1, by omega⟩
  have hp2 : p.length < 2 ^ 31 := by omega
  rw [wY_findBest_29]
  simp only [nI_clamp hp2, hx]
  refine br_f (nI_pos (by omega)) ⟨vp_in_nI (by omega) (by decide), nm_e ⟨vp_in_nI (by omega) (by decide), vp_in_nI (by omega) (by decide), fun nx' hnx' => ?_⟩⟩
  refine pk_eq p.length 5 (fun q => absurd q (by omega)) (fun q => pk_lt nc nc (fun q2 => absurd q2 (by omega)) (fun q2 => nm_e ?_))
  refine hR bs ba tr tb nd tm nx' bo bb hK (fun i hi => ?_) hS n (by omega)
  rw [hnx']
  exact pk_un (by omega)
/-- one contact k of the search at p: either it is passed over, or the list grows by it -/
theorem cy_dfs_1 {s : Nat} (K : cn_Ok nc ca fr tt st en ra de bz s) (Z : cn_Bz nb hc ra sz hk hb bz) (Bk : cn_Bk nc nb en ra sz hc hk hb) (hL : cn_L 64 nb hc hk hb OV BG) {v t g : Nat} (hv : v < 6) (hg : g < 6) (ht : t ≤ 1000000) {post : Int32 → SY → Prop} {p S : List Nat} (hp5 : p.length < 5) (hch : cn_ch nc fr tt p v (cn_v tt p v)) (hfin : cn_t (cn_A nc ca st en ra de bz s) p t < 1000000) {k : Nat} (hk' : k < nc) (hK : cn_K tt (cn_A nc ca st en ra de bz s) (cn_b st en ra bz s) v t p tr tb nd tm) (hx : nx p.length = nI k) (hS : cn_Kp (cn_A nc ca st en ra de bz s) (cn_b st en ra bz s) t S bs ba bo bb) {n : Nat}
    (hno : ¬ (fr k = cn_v tt p v ∧ k ∉ p ∧ (cn_A nc ca st en ra de bz s) k (cn_t (cn_A nc ca st en ra de bz s) p t) < 1000000) → ∀ nx', nx' = upd nx p.length (nI (k + 1)) → wY_findBest_29 post (nI g) (nI s) n (nI p.length) (nI nw) (nI nc) (nI nb) bs ba (cn_N fr) (cn_N tt) (cn_N st) (cn_N en) (cn_N ra) (cn_N de) (cn_N ca) (cn_N so) (cn_N go) (cn_N sz) li SK (cn_N hc) OV BG tr tb nd tm nx' bo bb)
    (hyes : (fr k = cn_v tt p v ∧ k ∉ p ∧ (cn_A nc ca st en ra de bz s) k (cn_t (cn_A nc ca st en ra de bz s) p t) < 1000000) → ∀ (bs ba : Int32) (tr tb nd tm nx' bo bb : Nat → Int32), cn_K tt (cn_A nc ca st en ra de bz s) (cn_b st en ra bz s) v t (p ++ [k]) tr tb nd tm → nx' (p.length + 1) = 0 → nx' p.length = nI (k + 1) → (∀ i, i < p.length → nx' i = nx i) → cn_Kp (cn_A nc ca st en ra de bz s) (cn_b st en ra bz s) t (cn_kp tt (cn_A nc ca st en ra de bz s) v t g S (p ++ [k])) bs ba bo bb → wY_findBest_29 post (nI g) (nI s) n (nI (p.length + 1)) (nI nw) (nI nc) (nI nb) bs ba (cn_N fr) (cn_N tt) (cn_N st) (cn_N en) (cn_N ra) (cn_N de) (cn_N ca) (cn_N so) (cn_N go) (cn_N sz) li SK (cn_N hc) OV BG tr tb nd tm nx' bo bb) :
    wY_findBest_29 post (nI g) (nI s) (n + 1) (nI p.length) (nI nw) (nI nc) (nI nb) bs ba (cn_N fr) (cn_N tt) (cn_N st) (cn_N en) (cn_N ra) (cn_N de) (cn_N ca) (cn_N so) (cn_N go) (cn_N sz) li SK (cn_N hc) OV BG tr tb nd tm nx bo bb := by
  have P := cn_A_P (ca := ca) (bz := bz) K.1 K.2.2.2.1
  have n1 := K.1.1
  have hca := K.2.2.1 k
  have hp2 : p.length < 2 ^ 31 := by omega
  have hp3 : p.length + 1 < 2 ^ 31 := by omega
  have hk2 : k < 2 ^ 31 := by omega
  obtain ⟨t1, t2⟩ := cn_K_top hK
  obtain ⟨f1, f2, -⟩ := K.1.2 k hk'
  have hvp := cn_v_lt (fun k hk => (K.1.2 k hk).2.1) p v _ hv hch
  rw [wY_findBest_29]
  simp only [nI_clamp hp2, hx, nI_1, cn_Ne, t1, t2]
  refine br_f (nI_pos (by omega)) ⟨vp_in_nI (by omega) (by decide), nm_e ⟨vp_in_nI (by omega) (by decide), vp_in_nI (by omega) (by decide), fun nx' hnx' => ?_⟩⟩
  simp only [nI_clamp hk2]
  refine pk_eq p.length 5 (fun q => absurd q (by omega)) (fun q => pk_lt k nc (fun q2 => ?_) (fun q2 => absurd q2 (by omega)))
  refine ⟨vp_in_nI (by omega) (by decide), vp_in_nI (by omega) (by decide), pk_eq (fr k) (cn_v tt p v) (fun e1 => ?_) (fun e1 => hno (fun z => e1 z.1) nx' hnx')⟩
  refine ⟨vp_in_nI (by omega) (by decide), pk_eq (ca k) 0 (fun e2 => ?_) (fun e2 => hno (fun z => ?_) nx' hnx')⟩
  · refine cy_tried hK.1 (by omega) (fun x hx => by have := cn_ch_mem hch x hx; omega) (by omega) (fun e3 => ?_) (fun e3 => ?_)
    · exact br_f (by decide) (hno (fun z => z.2.1 e3) nx' hnx')
    · refine br_t rfl ⟨vp_in_nI (by omega) (by decide), ?_⟩
      refine cy_early K.1 Z Bk hL hk' K.2.2.2.1 K.2.2.2.2 (by omega) ?_
      cases hB : cn_B st en ra bz s k (cn_t (cn_A nc ca st en ra de bz s) p t) with
      | none =>
        refine br_t (by decide) (hno (fun z => ?_) nx' hnx')
        have := z.2.2
        rw [cn_A_none hB] at this
        omega
      | some b =>
        have eA := cn_A_some (de := de) hB hk' e2 hfin
        have F := cn_B_F st en ra bz s k (cn_t (cn_A nc ca st en ra de bz s) p t)
        rw [hB] at F
        have hbe := (F.2 b rfl).2.1
        have hen := (K.1.2 k hk').2.2.2.1
        have hde := (K.1.2 k hk').2.2.2.2.2.2
        have hAlt : (cn_A nc ca st en ra de bz s) k (cn_t (cn_A nc ca st en ra de bz s) p t) < 1000000 := by rw [eA]; omega
        have hB2 : cn_b st en ra bz s k (cn_t (cn_A nc ca st en ra de bz s) p t) = b := by unfold cn_b; rw [hB]; rfl
        have hK' := cn_K_push hK hB2
        refine br_f (nI_pos (by omega)) ⟨vp_in_nI (by omega) (by decide), nm_e ⟨vp_in_nI (by omega) (by decide), nm_e (nm_e ⟨vp_in_nI (by omega) (by decide), vp_in_nI (by omega) (by decide), ?_⟩)⟩⟩
        rw [nI_clamp hp3]
        refine nm_e ?_
        refine cy_comes K.1 hk' K.2.2.2.1 K.2.2.2.2 ?_
        rw [← eA]
        refine ⟨vp_in_nI (by omega) (by decide), nm_e ⟨vp_in_nI (by omega) (by decide), fun nx2 hnx2 => ?_⟩⟩
        have el : p.length + 1 = (p ++ [k]).length := by simp
        have hck : cn_ch nc fr tt (p ++ [k]) v (cn_v tt (p ++ [k]) v) := by
          rw [cn_v_app]
          exact cn_ch_app.mpr ⟨hch, hk', e1, rfl⟩
        have hv6 := cn_v_lt (fun k hk => (K.1.2 k hk).2.1) (p ++ [k]) v _ hv hck
        have hyes' := hyes ⟨e1, e3, hAlt⟩
        rw [el] at hyes' hK' ⊢
        refine cy_keep P ht hg (by simp) (by simp; omega) hv6 hK' hS ?_
        intro bs' ba' bo' bb' hS'
        refine hyes' bs' ba' _ _ _ _ nx2 bo' bb' hK' ?_ ?_ ?_ hS'
        · rw [hnx2, ← el]; exact pk_us
        · rw [hnx2, hnx', pk_un (by simp), pk_us]
        · intro i hi
          rw [hnx2, hnx', pk_un (by simp; omega), pk_un (by omega)]
  · have := z.2.2
    rw [cn_A_no (by omega)] at this
    omega
theorem cy_dfs {s : Nat} (K : cn_Ok nc ca fr tt st en ra de bz s) (Z : cn_Bz nb hc ra sz hk hb bz) (Bk : cn_Bk nc nb en ra sz hc hk hb) (hL : cn_L 64 nb hc hk hb OV BG) {v t g : Nat} (hv : v < 6) (hg : g < 6) (ht : t ≤ 1000000) {post : Int32 → SY → Prop} :
    ∀ (j : Nat) (p : List Nat), p.length + j = 5 → cn_ch nc fr tt p v (cn_v tt p v) → cn_t (cn_A nc ca st en ra de bz s) p t < 1000000 → ∀ (S : List Nat) (n0 : Nat) (bs ba : Int32) (tr tb nd tm nx bo bb : Nat → Int32), cn_K tt (cn_A nc ca st en ra de bz s) (cn_b st en ra bz s) v t p tr tb nd tm → nx p.length = 0 → cn_Kp (cn_A nc ca st en ra de bz s) (cn_b st en ra bz s) t S bs ba bo bb → cy_Ret nc nb nw ca fr tt st en ra de bz so go sz hc li SK OV BG s v t g post p (cn_df nc fr tt (cn_A nc ca st en ra de bz s) v t g j p S) nx n0 → ∀ n, n0 + cn_T nc j ≤ n → wY_findBest_29 post (nI g) (nI s) n (nI p.length) (nI nw) (nI nc) (nI nb) bs ba (cn_N fr) (cn_N tt) (cn_N st) (cn_N en) (cn_N ra) (cn_N de) (cn_N ca) (cn_N so) (cn_N go) (cn_N sz) li SK (cn_N hc) OV BG tr tb nd tm nx bo bb := by
  intro j
  induction j with
  | zero =>
    intro p hp5 hch hfin S n0 bs ba tr tb nd tm nx bo bb hK hx hS hR n hn
    exact cy_dfs_5 hp5 hK hS hR n hn
  | succ j ihj =>
    intro p hp5 hch hfin
    have inner : ∀ (d k : Nat), k + d = nc → ∀ (S : List Nat) (n0 : Nat) (bs ba : Int32) (tr tb nd tm nx bo bb : Nat → Int32), cn_K tt (cn_A nc ca st en ra de bz s) (cn_b st en ra bz s) v t p tr tb nd tm → nx p.length = nI k → cn_Kp (cn_A nc ca st en ra de bz s) (cn_b st en ra bz s) t S bs ba bo bb → cy_Ret nc nb nw ca fr tt st en ra de bz so go sz hc li SK OV BG s v t g post p (cn_fo (cn_ds nc fr tt (cn_A nc ca st en ra de bz s) v t g j p) d k S) nx n0 → ∀ n, n0 + d * (cn_T nc j + 1) + 1 ≤ n → wY_findBest_29 post (nI g) (nI s) n (nI p.length) (nI nw) (nI nc) (nI nb) bs ba (cn_N fr) (cn_N tt) (cn_N st) (cn_N en) (cn_N ra) (cn_N de) (cn_N ca) (cn_N so) (cn_N go) (cn_N sz) li SK (cn_N hc) OV BG tr tb nd tm nx bo bb := by
      intro d
      induction d with
      | zero =>
        intro k hkd S n0 bs ba tr tb nd tm nx bo bb hK hx hS hR n hn
        obtain rfl : k = nc := hkd
        exact cy_dfs_end (by omega) K.1.1 hK hx hS hR n (by omega)
      | succ d ihd =>
        intro k hkd S n0 bs ba tr tb nd tm nx bo bb hK hx hS hR n hn
        have hmul : (d + 1) * (cn_T nc j + 1) = d * (cn_T nc j + 1) + (cn_T nc j + 1) := Nat.succ_mul _ _
        obtain ⟨n, rfl⟩ : ∃ n', n = n' + 1 := ⟨n - 1, by omega⟩
        have hR' : cy_Ret nc nb nw ca fr tt st en ra de bz so go sz hc li SK OV BG s v t g post p (cn_fo (cn_ds nc fr tt (cn_A nc ca st en ra de bz s) v t g j p) d (k + 1) (cn_ds nc fr tt (cn_A nc ca st en ra de bz s) v t g j p S k)) nx n0 := hR
        refine cy_dfs_1 K Z Bk hL hv hg ht (by omega) hch hfin (by omega) hK hx hS ?_ ?_
        · intro hc nx' hnx'
          have e : cn_ds nc fr tt (cn_A nc ca st en ra de bz s) v t g j p S k = S := if_neg hc
          rw [e] at hR'
          refine ihd (k + 1) (by omega) S n0 bs ba tr tb nd tm nx' bo bb hK (by rw [hnx']; exact pk_us) hS ?_ n (by omega)
          intro bs' ba' tr' tb' nd' tm' nx2 bo' bb' hK2 hnx2 hS2 n2 hn2
          refine hR' bs' ba' tr' tb' nd' tm' nx2 bo' bb' hK2 (fun i hi => ?_) hS2 n2 hn2
          rw [hnx2 i hi, hnx']
          exact pk_un (by omega)
        · intro hc bs' ba' tr' tb' nd' tm' nx' bo' bb' hK' hz0 hz1 hz2 hS'
          have e : cn_ds nc fr tt (cn_A nc ca st en ra de bz s) v t g j p S k = cn_df nc fr tt (cn_A nc ca st en ra de bz s) v t g j (p ++ [k]) (cn_kp tt (cn_A nc ca st en ra de bz s) v t g S (p ++ [k])) := if_pos hc
          rw [e] at hR'
          have el : p.length + 1 = (p ++ [k]).length := by simp
          rw [el] at hz0 ⊢
          have hck : cn_ch nc fr tt (p ++ [k]) v (cn_v tt (p ++ [k]) v) := by
            rw [cn_v_app]
            exact cn_ch_app.mpr ⟨hch, by omega, hc.1, rfl⟩
          refine ihj (p ++ [k]) (by simp; omega) hck (by rw [cn_t_app]; exact hc.2.2) _ (n0 + d * (cn_T nc j + 1) + 1) bs' ba' tr' tb' nd' tm' nx' bo' bb' hK' hz0 hS' ?_ n (by omega)
          intro bs2 ba2 tr2 tb2 nd2 tm2 nx2 bo2 bb2 hK2 hnx2 hS2 n2 hn2
          have em : nI (p ++ [k]).length + (-1) = nI p.length := by rw [← el]; exact pk_m1 _
          rw [em]
          refine ihd (k + 1) (by omega) _ n0 bs2 ba2 tr2 tb2 nd2 tm2 nx2 bo2 bb2 (cn_K_pop hK2) ?_ hS2 ?_ n2 hn2
          · rw [hnx2 p.length (by rw [← el]; omega)]; exact hz1
          · intro bs3 ba3 tr3 tb3 nd3 tm3 nx3 bo3 bb3 hK3 hnx3 hS3 n3 hn3
            refine hR' bs3 ba3 tr3 tb3 nd3 tm3 nx3 bo3 bb3 hK3 (fun i hi => ?_) hS3 n3 hn3
            rw [hnx3 i hi, hnx2 i (by rw [← el]; omega)]
            exact hz2 i hi
    intro S n0 bs ba tr tb nd tm nx bo bb hK hx hS hR n hn
    exact inner nc 0 (by omega) S n0 bs ba tr tb nd tm nx bo bb hK hx hS hR n hn
theorem cy_find {s : Nat} (K : cn_Ok nc ca fr tt st en ra de bz s) (Z : cn_Bz nb hc ra sz hk hb bz) (Bk : cn_Bk nc nb en ra sz hc hk hb) (hL : cn_L 64 nb hc hk hb OV BG) {v t g : Nat} (hv : v < 6) (hg : g < 6) (ht : t < 1000000) {post : Int32 → SY → Prop} {S : List Nat} (hS : cn_df nc fr tt (cn_A nc ca st en ra de bz s) v t g 5 [] [] = S) (h0 : S = [] → ∀ bs ba tr tb nd tm nx bo bb, post 0 (nI nw, nI nc, nI nb, bs, ba, cn_N fr, cn_N tt, cn_N st, cn_N en, cn_N ra, cn_N de, cn_N ca, cn_N so, cn_N go, cn_N sz, li, SK, cn_N hc, OV, BG, tr, tb, nd, tm, nx, bo, bb)) (h1 : S ≠ [] → ∀ bs ba tr tb nd tm nx bo bb, cn_Kp (cn_A nc ca st en ra de bz s) (cn_b st en ra bz s) t S bs ba bo bb → post 1 (nI nw, nI nc, nI nb, bs, ba, cn_N fr, cn_N tt, cn_N st, cn_N en, cn_N ra, cn_N de, cn_N ca, cn_N so, cn_N go, cn_N sz, li, SK, cn_N hc, OV, BG, tr, tb, nd, tm, nx, bo, bb)) : wpY_findBest post (nI nw, nI nc, nI nb, bs, ba, cn_N fr, cn_N tt, cn_N st, cn_N en, cn_N ra, cn_N de, cn_N ca, cn_N so, cn_N go, cn_N sz, li, SK, cn_N hc, OV, BG, tr, tb, nd, tm, nx, bo, bb) (nI v) (nI t) (nI g) (nI s) := by
  unfold wpY_findBest
  dsimp only
  refine fun nd1 hnd1 tm1 htm1 nx1 hnx1 => ⟨0 + 1 + cn_T nc 5, ?_⟩
  refine cy_dfs K Z Bk hL hv hg (by omega) 5 [] rfl rfl ht [] 1 0 ba tr tb nd1 tm1 nx1 bo bb ?_ ?_ ?_ ?_ _ (by omega)
  · refine ⟨cn_H_0 _, cn_H_0 _, fun i hi => ?_⟩
    have e : i = 0 := Nat.le_zero.mp hi
    subst e
    rw [hnd1, htm1]
    exact ⟨pk_us, pk_us⟩
  · rw [hnx1]; exact pk_us
  · exact ⟨by decide, rfl, fun h => absurd rfl h, cn_H_0 _, cn_H_0 _⟩
  · rw [hS]
    intro bs' ba' tr' tb' nd' tm' nx' bo' bb' hK' hnx' hS' n hn
    obtain ⟨n, rfl⟩ : ∃ n', n = n' + 1 := ⟨n - 1, by omega⟩
    rw [wY_findBest_29]
    have hl := hS'.1
    refine br_t (by decide) (pk_le S.length 0 (fun q => ?_) (fun q => ?_) hS'.2.1)
    · exact h0 (List.length_eq_zero_iff.mp (by omega)) _ _ _ _ _ _ _ _ _
    · exact h1 (fun z => by rw [z] at q; exact absurd q (by decide)) _ _ _ _ _ _ _ _ _ hS'
theorem cy_find_R {s : Nat} (K : cn_Ok nc ca fr tt st en ra de bz s) (Z : cn_Bz nb hc ra sz hk hb bz) (Bk : cn_Bk nc nb en ra sz hc hk hb) (hL : cn_L 64 nb hc hk hb OV BG) {v t g : Nat} (hv : v < 6) (hg : g < 6) (ht : t < 1000000) {R : List Nat} (hO : cn_O nc fr tt (cn_A nc ca st en ra de bz s) v t g R) {post : Int32 → SY → Prop} (hp : ∀ ba tr tb nd tm nx bo bb, ba = nI (cn_t (cn_A nc ca st en ra de bz s) R t) → cn_H bo R → cn_H bb (cn_bl (cn_A nc ca st en ra de bz s) (cn_b st en ra bz s) R t) → post 1 (nI nw, nI nc, nI nb, nI R.length, ba, cn_N fr, cn_N tt, cn_N st, cn_N en, cn_N ra, cn_N de, cn_N ca, cn_N so, cn_N go, cn_N sz, li, SK, cn_N hc, OV, BG, tr, tb, nd, tm, nx, bo, bb)) : wpY_findBest post (nI nw, nI nc, nI nb, bs, ba, cn_N fr, cn_N tt, cn_N st, cn_N en, cn_N ra, cn_N de, cn_N ca, cn_N so, cn_N go, cn_N sz, li, SK, cn_N hc, OV, BG, tr, tb, nd, tm, nx, bo, bb) (nI v) (nI t) (nI g) (nI s) := by
  have P := cn_A_P (ca := ca) (bz := bz) K.1 K.2.2.2.1
  have hne : R ≠ [] := fun z => by have := hO.1; rw [z] at this; exact absurd this (by decide)
  refine cy_find K Z Bk hL hv hg ht (cn_df_best P (by omega) hO) (fun z => absurd z hne) ?_
  intro _ bs ba tr tb nd tm nx bo bb hS
  obtain ⟨-, rfl, q2, q3, q4⟩ := hS
  exact hp ba tr tb nd tm nx bo bb (q2 hne) q3 q4
theorem cy_find_0 {s : Nat} (K : cn_Ok nc ca fr tt st en ra de bz s) (Z : cn_Bz nb hc ra sz hk hb bz) (Bk : cn_Bk nc nb en ra sz hc hk hb) (hL : cn_L 64 nb hc hk hb OV BG) {v t g : Nat} (hv : v < 6) (hg : g < 6) (ht : t < 1000000) (hO : cn_No nc fr tt (cn_A nc ca st en ra de bz s) v t g) {post : Int32 → SY → Prop} (hp : ∀ bs ba tr tb nd tm nx bo bb, post 0 (nI nw, nI nc, nI nb, bs, ba, cn_N fr, cn_N tt, cn_N st, cn_N en, cn_N ra, cn_N de, cn_N ca, cn_N so, cn_N go, cn_N sz, li, SK, cn_N hc, OV, BG, tr, tb, nd, tm, nx, bo, bb)) : wpY_findBest post (nI nw, nI nc, nI nb, bs, ba, cn_N fr, cn_N tt, cn_N st, cn_N en, cn_N ra, cn_N de, cn_N ca, cn_N so, cn_N go, cn_N sz, li, SK, cn_N hc, OV, BG, tr, tb, nd, tm, nx, bo, bb) (nI v) (nI t) (nI g) (nI s) :=
  cy_find K Z Bk hL hv hg ht (cn_df_none hO) (fun _ => hp) (fun z => absurd rfl z)
end CyDfs
end
section
/-! the bookings as a whole: what holds at all times, and that planning keeps it -/
/-- the node behind i bookings of b -/
def cn_nd (tt so : Nat → Nat) (hk : Nat → Nat → Nat) (b : Nat) : Nat → Nat
  | 0 => so b
  | i + 1 => tt (hk b i)
/-- the time at which its bookings are over; 0 without -/
def cn_lt (ra de sz hc : Nat → Nat) (hk hb : Nat → Nat → Nat) (b : Nat) : Nat :=
  if hc b = 0 then 0 else hb b (hc b - 1) + cn_tk ra (hk b (hc b - 1)) (sz b) + de (hk b (hc b - 1))
def cn_rd (nw x : Nat) : Nat := if x ≤ nw then nw else x
/-- one bundle -/
def cn_Bd (nc : Nat) (ca fr tt en ra so go sz ro hc : Nat → Nat) (hk hb : Nat → Nat → Nat) (b : Nat) : Prop :=
  (so b < 6 ∧ go b < 6 ∧ 1 ≤ sz b ∧ sz b ≤ 30) ∧ (∀ i, i < hc b → hk b i < nc ∧ hb b i + cn_tk ra (hk b i) (sz b) ≤ en (hk b i) ∧ fr (hk b i) = cn_nd tt so hk b i ∧ cn_nd tt so hk b i ≠ go b) ∧ (ro b = 0 → cn_nd tt so hk b (hc b) ≠ go b) ∧ ro b ≤ 1 ∧ (ro b = 1 → 1 ≤ hc b) ∧ hc b ≤ 4 * cn_S 10 ca + 5 * ro b
def cn_W (nc nb : Nat) (ca fr tt st en ra de bz so go sz ro hc : Nat → Nat) (hk hb : Nat → Nat → Nat) : Prop :=
  cn_Net nc fr tt st en ra de ∧ (∀ j, bz j ≤ 1) ∧ (∀ j, ca j ≤ 1) ∧ cn_Bz nb hc ra sz hk hb bz ∧ nb ≤ 10 ∧ ∀ b, b < nb → cn_Bd nc ca fr tt en ra so go sz ro hc hk hb b
section CnWorld
variable {nc nb : Nat} {ca fr tt st en ra de bz so go sz ro hc : Nat → Nat} {hk hb : Nat → Nat → Nat}
theorem cn_ca10 (h : ∀ j, ca j ≤ 1) : cn_S 10 ca ≤ 10 := cn_S_le (c := 1) (n := 10) fun i _ => h i
theorem cn_W_Bk (W : cn_W nc nb ca fr tt st en ra de bz so go sz ro hc hk hb) : cn_Bk nc nb en ra sz hc hk hb := by
  obtain ⟨-, -, w3, -, w5, w6⟩ := W
  have := cn_ca10 w3
  refine ⟨w5, fun b hb' => ?_⟩
  obtain ⟨⟨-, -, s1, s2⟩, h, -, r1, -, hl⟩ := w6 b hb'
  exact ⟨s1, s2, by omega, fun i hi => ⟨(h i hi).1, (h i hi).2.1⟩⟩
theorem cn_W_Ok (W : cn_W nc nb ca fr tt st en ra de bz so go sz ro hc hk hb) {s : Nat} (h1 : 1 ≤ s) (h2 : s ≤ 30) : cn_Ok nc ca fr tt st en ra de bz s :=
  ⟨W.1, W.2.1, W.2.2.1, h1, h2⟩
theorem cn_W_nd (W : cn_W nc nb ca fr tt st en ra de bz so go sz ro hc hk hb) {b i : Nat} (hb' : b < nb) (hi : i ≤ hc b) : cn_nd tt so hk b i < 6 := by
  obtain ⟨⟨s6, -⟩, h, -⟩ := W.2.2.2.2.2 b hb'
  cases i with
  | zero => exact s6
  | succ i => exact (W.1.2 _ (h i (by omega)).1).2.1
theorem cn_W_lt (W : cn_W nc nb ca fr tt st en ra de bz so go sz ro hc hk hb) {b : Nat} (hb' : b < nb) : cn_lt ra de sz hc hk hb b ≤ 200 := by
  obtain ⟨-, h, -⟩ := W.2.2.2.2.2 b hb'
  unfold cn_lt
  split
  · omega
  · obtain ⟨h1, h2, -⟩ := h (hc b - 1) (by omega)
    have := (W.1.2 _ h1).2.2.2.1
    have := (W.1.2 _ h1).2.2.2.2.2.2
    omega
/-- the later bookings of b are those of a list -/
def cn_ex (f : Nat → Nat → Nat) (b m : Nat) (R : List Nat) : Nat → Nat → Nat := fun b' i => if b' = b ∧ m ≤ i then R.getD (i - m) 0 else f b' i
theorem cn_ex_lo {f : Nat → Nat → Nat} {b m : Nat} {R : List Nat} {i : Nat} (h : i < m) : cn_ex f b m R b i = f b i := if_neg (by omega)
theorem cn_ex_ne {f : Nat → Nat → Nat} {b m : Nat} {R : List Nat} {b' i : Nat} (h : b' ≠ b) : cn_ex f b m R b' i = f b' i := if_neg (by omega)
theorem cn_ex_hi {f : Nat → Nat → Nat} {b m : Nat} {R : List Nat} {j : Nat} : cn_ex f b m R b (m + j) = R.getD j 0 := by
  unfold cn_ex
  rw [if_pos (by omega), show m + j - m = j from by omega]
/-- the table with a list's bookings -/
def cn_bq (ra : Nat → Nat) (s : Nat) : List Nat → List Nat → (Nat → Nat) → (Nat → Nat)
  | k :: R, x :: T, bz => cn_bq ra s R T (cn_sb bz k x (cn_tk ra k s) 1)
  | _, _, bz => bz
theorem cn_sb_le {k x len y : Nat} (h : ∀ j, bz j ≤ 1) (hy : y ≤ 1) : ∀ j, cn_sb bz k x len y j ≤ 1 := by
  intro j
  unfold cn_sb
  split
  · exact hy
  · exact h j
theorem cn_bq_le {s : Nat} : ∀ (R T : List Nat) (bz : Nat → Nat), (∀ j, bz j ≤ 1) → ∀ j, cn_bq ra s R T bz j ≤ 1 := by
  intro R
  induction R with
  | nil => intro T bz h; exact h
  | cons k R ih =>
    intro T bz h
    cases T with
    | nil => exact h
    | cons x T => exact ih T _ (cn_sb_le h (by omega))
theorem cn_Bz_congr {hk' hb' : Nat → Nat → Nat} (h : cn_Bz nb hc ra sz hk hb bz) (h1 : ∀ b, b < nb → ∀ i, i < hc b → hk' b i = hk b i) (h2 : ∀ b, b < nb → ∀ i, i < hc b → hb' b i = hb b i) : cn_Bz nb hc ra sz hk' hb' bz := by
  intro k hk2 t ht
  obtain ⟨a, c⟩ := h k hk2 t ht
  refine ⟨?_, c⟩
  rw [a]
  unfold cn_cv
  refine cn_S_congr fun b hb2 => cn_S_congr fun i hi => ?_
  unfold cn_i
  rw [h1 b hb2 i hi, h2 b hb2 i hi]
theorem cn_uu {f : Nat → Nat} {k x y : Nat} : cn_u (cn_u f k x) k y = cn_u f k y := by
  funext j
  unfold cn_u
  split <;> rfl
theorem cn_uid {f : Nat → Nat} {k : Nat} : cn_u f k (f k) = f := by
  funext j
  unfold cn_u
  split
  · rename_i h; rw [h]
  · rfl
theorem cn_Bz_list {b : Nat} (hbn : b < nb) : ∀ (L M : List Nat) (hc bz : Nat → Nat), L.length = M.length → (∀ j, j < L.length → hk b (hc b + j) = L.getD j 0) → (∀ j, j < L.length → hb b (hc b + j) = M.getD j 0) → L.Nodup → (∀ j, j < L.length → M.getD j 0 + cn_tk ra (L.getD j 0) (sz b) ≤ 101) → (∀ j, j < L.length → ∀ t, M.getD j 0 ≤ t → t < M.getD j 0 + cn_tk ra (L.getD j 0) (sz b) → bz (101 * L.getD j 0 + t) = 0) → cn_Bz nb hc ra sz hk hb bz → cn_Bz nb (cn_u hc b (hc b + L.length)) ra sz hk hb (cn_bq ra (sz b) L M bz) := by
  intro L
  induction L with
  | nil =>
    intro M hc bz _ _ _ _ _ _ h
    rw [List.length_nil, Nat.add_zero, cn_uid]
    cases M <;> exact h
  | cons k L ih =>
    intro M hc bz hl h1 h2 hnd h3 h4 h
    cases M with
    | nil => exact absurd hl (by simp)
    | cons x M =>
      have a1 := h1 0 (by simp)
      have a2 := h2 0 (by simp)
      have a3 := h3 0 (by simp)
      have a4 := h4 0 (by simp)
      simp only [List.getD_cons_zero, Nat.add_zero] at a1 a2 a3 a4
      have step := cn_Bz_add h hbn a1 a2 a3 a4
      rw [List.nodup_cons] at hnd
      have r := ih M (cn_u hc b (hc b + 1)) (cn_sb bz k x (cn_tk ra k (sz b)) 1) (by simpa using hl) ?_ ?_ hnd.2 ?_ ?_ step
      · rw [cn_us, cn_uu] at r
        rw [List.length_cons, show hc b + (L.length + 1) = hc b + 1 + L.length from by omega]
        exact r
      · intro j hj
        have := h1 (j + 1) (by simp; omega)
        rw [List.getD_cons_succ] at this
        rw [cn_us, ← this]
        congr 1
        omega
      · intro j hj
        have := h2 (j + 1) (by simp; omega)
        rw [List.getD_cons_succ] at this
        rw [cn_us, ← this]
        congr 1
        omega
      · intro j hj
        have := h3 (j + 1) (by simp; omega)
        rw [List.getD_cons_succ, List.getD_cons_succ] at this
        exact this
      · intro j hj t ht1 ht2
        have q := h4 (j + 1) (by simp; omega)
        have q3 := h3 (j + 1) (by simp; omega)
        rw [List.getD_cons_succ, List.getD_cons_succ] at q q3
        have hne : L.getD j 0 ≠ k := by
          intro z
          exact hnd.1 (z ▸ cn_getD_mem hj)
        rw [cn_sb_at (by omega) a3, if_neg (fun z => hne z.1)]
        exact q t ht1 ht2
/-- what stands at place j of a best list -/
theorem cn_at_j {A B : Nat → Nat → Nat} {R : List Nat} {j t : Nat} (hj : j < R.length) : ∃ p k e, R = p ++ k :: e ∧ p.length = j ∧ R.getD j 0 = k ∧ (cn_bl A B R t).getD j 0 = B k (cn_t A p t) := by
  refine ⟨R.take j, R[j], R.drop (j + 1), ?_, ?_, ?_, ?_⟩
  · rw [List.getElem_cons_drop, List.take_append_drop]
  · rw [List.length_take]; omega
  · rw [List.getD_eq_getElem?_getD, List.getElem?_eq_getElem hj]; rfl
  · have e : R = R.take j ++ R[j] :: R.drop (j + 1) := by rw [List.getElem_cons_drop, List.take_append_drop]
    have hl : (R.take j).length = j := by rw [List.length_take]; omega
    generalize R.take j = p at *
    generalize R[j] = k at *
    generalize R.drop (j + 1) = e' at *
    subst e
    rw [cn_bl_app, List.getD_eq_getElem?_getD, List.getElem?_append_right (by rw [cn_bl_len]; omega), cn_bl_len, hl, Nat.sub_self]
    rfl
theorem cn_O_nd {A : Nat → Nat → Nat} (P : cn_P A) {v t g : Nat} (ht : t ≤ 1000000) {R : List Nat} (h : cn_O nc fr tt A v t g R) : R.Nodup := by
  have key : ∀ (e p : List Nat), R = p ++ e → (∀ x, x ∈ p → x ∉ e) ∧ e.Nodup := by
    intro e
    induction e with
    | nil => intro p _; exact ⟨fun x _ => by simp, List.nodup_nil⟩
    | cons k e ih =>
      intro p hR
      have q := ih (p ++ [k]) (by rw [hR]; simp)
      have hk := cn_O_nodup P ht h hR
      refine ⟨fun x hx hx2 => ?_, List.nodup_cons.mpr ⟨q.1 k (by simp), q.2⟩⟩
      rcases List.mem_cons.mp hx2 with e1 | e1
      · exact hk (e1 ▸ hx)
      · exact q.1 x (by simp [hx]) e1
  exact (key R [] rfl).2
theorem cn_W_plan (W : cn_W nc nb ca fr tt st en ra de bz so go sz ro hc hk hb) {b t : Nat} (hbn : b < nb) (hro : ro b = 0) (ht : t ≤ 1000000) {R T : List Nat} (hO : cn_O nc fr tt (cn_A nc ca st en ra de bz (sz b)) (cn_nd tt so hk b (hc b)) t (go b) R) (hT : T = cn_bl (cn_A nc ca st en ra de bz (sz b)) (cn_b st en ra bz (sz b)) R t) : cn_W nc nb ca fr tt st en ra de (cn_bq ra (sz b) R T bz) so go sz (cn_u ro b 1) (cn_u hc b (hc b + R.length)) (cn_ex hk b (hc b) R) (cn_ex hb b (hc b) T) := by
  have W0 := W
  obtain ⟨w1, w2, w3, w4, w5, w6⟩ := W
  have hb6 := w6 b hbn
  obtain ⟨⟨s6, g6, z1, z2⟩, q1, q2, q3, q4, q5⟩ := hb6
  have P := cn_A_P (ca := ca) (bz := bz) w1 z1
  have hTl : T.length = R.length := by rw [hT, cn_bl_len]
  -- the place j of the list
  have pl : ∀ j, j < R.length → ∃ p k e, R = p ++ k :: e ∧ p.length = j ∧ R.getD j 0 = k ∧ k < nc ∧ fr k = cn_v tt p (cn_nd tt so hk b (hc b)) ∧ T.getD j 0 + cn_tk ra k (sz b) ≤ en k ∧ cn_v tt p (cn_nd tt so hk b (hc b)) ≠ go b ∧ ∀ u, T.getD j 0 ≤ u → u < T.getD j 0 + cn_tk ra k (sz b) → bz (101 * k + u) = 0 := by
    intro j hj
    obtain ⟨p, k, e, e1, e2, e3, e4⟩ := cn_at_j (A := cn_A nc ca st en ra de bz (sz b)) (B := cn_b st en ra bz (sz b)) (t := t) hj
    rw [← hT] at e4
    have hc' := cn_ch_app.mp (e1 ▸ hO.2.2.1)
    have hfin : cn_A nc ca st en ra de bz (sz b) k (cn_t (cn_A nc ca st en ra de bz (sz b)) p t) < 1000000 := by
      have e5 : R = (p ++ [k]) ++ e := by rw [e1]; simp
      have f1 := hO.2.2.2.1
      rw [e5] at f1
      have f2 := cn_t_fin P ht f1
      rw [cn_t_app] at f2
      exact f2
    obtain ⟨x, x1, x2, x3, x4, x5, x6, x7, x8, x9⟩ := cn_A_lt hfin
    rw [x2] at e4
    refine ⟨p, k, e, e1, e2, e3, hc'.2.1, hc'.2.2.1, by rw [e4]; exact x8, cn_O_mid P ht hO e1, by rw [e4]; exact x9⟩
  have ndlo : ∀ i, i ≤ hc b → cn_nd tt so (cn_ex hk b (hc b) R) b i = cn_nd tt so hk b i := by
    intro i hi
    cases i with
    | zero => rfl
    | succ i => show tt (cn_ex hk b (hc b) R b i) = tt (hk b i); rw [cn_ex_lo (by omega)]
  have ndhi : ∀ j p e, R = p ++ e → p.length = j → cn_nd tt so (cn_ex hk b (hc b) R) b (hc b + j) = cn_v tt p (cn_nd tt so hk b (hc b)) := by
    intro j p e hR hpl
    rcases List.eq_nil_or_concat p with e0 | ⟨p', k, e0⟩
    · subst e0
      have : j = 0 := by rw [← hpl]; rfl
      subst this
      exact ndlo (hc b) (Nat.le_refl _)
    · rw [List.concat_eq_append] at e0
      subst e0
      have hj : j = p'.length + 1 := by rw [← hpl]; simp
      subst hj
      show tt (cn_ex hk b (hc b) R b (hc b + p'.length)) = _
      rw [cn_ex_hi, cn_v_app]
      show tt (R.getD p'.length 0) = tt k
      rw [hR]
      congr 1
      simp
  refine ⟨w1, cn_bq_le R T bz w2, w3, ?_, w5, ?_⟩
  · refine cn_Bz_list hbn R T hc bz hTl.symm (fun j _ => cn_ex_hi) (fun j _ => cn_ex_hi) (cn_O_nd P ht hO) ?_ ?_ ?_
    · intro j hj
      obtain ⟨p, k, e, e1, e2, e3, e4, e5, e6, -⟩ := pl j hj
      have := (w1.2 k e4).2.2.2.1
      rw [e3]
      omega
    · intro j hj
      obtain ⟨p, k, e, e1, e2, e3, e4, e5, e6, e7, e8⟩ := pl j hj
      rw [e3]
      exact e8
    · refine cn_Bz_congr w4 (fun b' hb' i hi => ?_) (fun b' hb' i hi => ?_)
      · by_cases e : b' = b
        · subst e; exact cn_ex_lo hi
        · exact cn_ex_ne e
      · by_cases e : b' = b
        · subst e; exact cn_ex_lo hi
        · exact cn_ex_ne e
  · intro b' hb'
    by_cases e : b' = b
    · subst e
      refine ⟨⟨s6, g6, z1, z2⟩, ?_, ?_, ?_, ?_, ?_⟩
      · intro i hi
        rw [cn_us] at hi
        rcases Nat.lt_or_ge i (hc b') with c | c
        · rw [cn_ex_lo c, cn_ex_lo c, ndlo i (by omega)]
          exact q1 i c
        · obtain ⟨j, rfl⟩ : ∃ j, i = hc b' + j := ⟨i - hc b', by omega⟩
          obtain ⟨p, k, e, e1, e2, e3, e4, e5, e6, e7, e8⟩ := pl j (by omega)
          rw [cn_ex_hi, cn_ex_hi, e3, ndhi j p (k :: e) e1 e2]
          exact ⟨e4, e6, e5, e7⟩
      · intro h; rw [cn_us] at h; omega
      · rw [cn_us]; omega
      · intro _; rw [cn_us]; have := hO.1; omega
      · rw [cn_us, cn_us]; have := hO.2.1; omega
    · obtain ⟨p1, p2, p3, p4, p5, p6⟩ := w6 b' hb'
      have nd' : ∀ i, cn_nd tt so (cn_ex hk b (hc b) R) b' i = cn_nd tt so hk b' i := by
        intro i
        cases i with
        | zero => rfl
        | succ i => show tt (cn_ex hk b (hc b) R b' i) = tt (hk b' i); rw [cn_ex_ne e]
      refine ⟨p1, ?_, ?_, ?_, ?_, ?_⟩
      · intro i hi
        rw [cn_un e] at hi
        rw [cn_ex_ne e, cn_ex_ne e, nd' i]
        exact p2 i hi
      · rw [cn_un e, cn_un e, nd']; exact p3
      · rw [cn_un e]; exact p4
      · rw [cn_un e, cn_un e]; exact p5
      · rw [cn_un e, cn_un e]; exact p6
end CnWorld
end
section
/-! the class: bookings -/
theorem cn_nb {x : Nat} (h : x ≤ 1) : vp_nar .boolean (nI x) = nI x := by
  have : x = 0 ∨ x = 1 := by omega
  rcases this with e | e <;> subst e <;> rfl
section CxBook
variable {nc nb nw : Nat} {rc : Int32} {ca fr tt st en ra de bz so go sz hc : Nat → Nat} {li RO HI HK HB rk rb ea el : Nat → Int32} {hk hb : Nat → Nat → Nat}
theorem cx_busy {k b len x : Nat} (hk' : k < 10) (hl : b + len ≤ 101) (hx : x ≤ 1) {post : SX → Prop} (h : post (nI nc, nI nb, nI nw, rc, cn_N ca, cn_N fr, cn_N tt, cn_N st, cn_N en, cn_N ra, cn_N de, cn_N (cn_sb bz k b len x), cn_N so, cn_N go, cn_N sz, li, RO, HI, cn_N hc, HK, HB, rk, rb, ea, el)) : wpX_setBusy post (nI nc, nI nb, nI nw, rc, cn_N ca, cn_N fr, cn_N tt, cn_N st, cn_N en, cn_N ra, cn_N de, cn_N bz, cn_N so, cn_N go, cn_N sz, li, RO, HI, cn_N hc, HK, HB, rk, rb, ea, el) (nI k) (nI b) (nI len) (nI x) := by
  unfold wpX_setBusy
  dsimp only
  refine ⟨len + 1, ?_⟩
  have key : ∀ (n d : Nat), d ≤ len → len - d < n → wX_setBusy_3 post (nI k) (nI b) (nI len) (nI x) (nI nc) (nI nb) (nI nw) rc n (nI (b + d)) (cn_N ca) (cn_N fr) (cn_N tt) (cn_N st) (cn_N en) (cn_N ra) (cn_N de) (cn_N (cn_sb bz k b d x)) (cn_N so) (cn_N go) (cn_N sz) li RO HI (cn_N hc) HK HB rk rb ea el := by
    intro n
    induction n with
    | zero => intro d _ h; omega
    | succ n ih =>
      intro d hd hn
      have e1 : (101 : Int32) * nI k + nI (b + d) = nI (101 * k + (b + d)) := cn_ix 101 k (b + d)
      have hi2 : 101 * k + (b + d) < 2 ^ 31 := by omega
      rw [wX_setBusy_3]
      simp only [nI_add b len, e1, nI_clamp hi2, cn_nb hx]
      refine pk_le (b + len) (b + d) (fun q => ?_) (fun q => ?_)
      · obtain rfl : d = len := by omega
        exact h
      · refine ⟨vp_in_nI (by omega) (by decide), nm_r (e' := cn_N (cn_sb bz k b (d + 1) x)) ?_ (nm_r (e' := nI (b + (d + 1))) (nI_1 _) (ih (d + 1) (by omega) (by omega)))⟩
        rw [cn_upd]
        congr 1
        funext j
        unfold cn_u cn_sb
        by_cases e : j = 101 * k + (b + d)
        · rw [if_pos e, if_pos (by omega)]
        · rw [if_neg e]
          by_cases e2 : 101 * k + b ≤ j ∧ j < 101 * k + (b + d)
          · rw [if_pos e2, if_pos (by omega)]
          · rw [if_neg e2, if_neg (by omega)]
  have e0 : cn_sb bz k b 0 x = bz := by
    funext j
    unfold cn_sb
    rw [if_neg (by omega)]
  have := key (len + 1) 0 (by omega) (by omega)
  rw [e0] at this
  exact this
theorem cx_comes (N : cn_Net nc fr tt st en ra de) (Bk : cn_Bk nc nb en ra sz hc hk hb) (hL : cn_L 100 nb hc hk hb HK HB) {b i : Nat} (hb' : b < nb) (hi : i < hc b) {post : Int32 → Prop} (h : post (nI (hb b i + cn_tk ra (hk b i) (sz b) + de (hk b i)))) : wpX_comesInBy post (nI nc, nI nb, nI nw, rc, cn_N ca, cn_N fr, cn_N tt, cn_N st, cn_N en, cn_N ra, cn_N de, cn_N bz, cn_N so, cn_N go, cn_N sz, li, RO, HI, cn_N hc, HK, HB, rk, rb, ea, el) (nI b) (nI i) := by
  have n1 := N.1
  obtain ⟨c0, c1⟩ := Bk
  obtain ⟨s1, s2, c60, hh⟩ := c1 b hb'
  obtain ⟨g1, g2⟩ := hh i hi
  obtain ⟨l1, l2⟩ := hL b hb' i hi
  have e1 : (100 : Int32) * nI b + nI i = nI (100 * b + i) := cn_ix 100 b i
  have hi2 : 100 * b + i < 2 ^ 31 := by omega
  have hb2 : b < 2 ^ 31 := by omega
  have hk2 : hk b i < 2 ^ 31 := by omega
  unfold wpX_comesInBy
  dsimp only
  simp only [e1, nI_clamp hi2, nI_clamp hb2, l1, l2, cn_Ne]
  refine ⟨vp_in_nI (by omega) (by decide), nm_e ⟨vp_in_nI (by omega) (by decide), vp_in_nI (by omega) (by decide), ?_⟩⟩
  refine cx_ticks N g1 s1 s2 ⟨vp_in_nI (by omega) (by decide), ?_⟩
  rw [nI_clamp hk2, nI_add, nI_add]
  exact h
theorem cx_last (N : cn_Net nc fr tt st en ra de) (Bk : cn_Bk nc nb en ra sz hc hk hb) (hL : cn_L 100 nb hc hk hb HK HB) {b : Nat} (hb' : b < nb) {post : Int32 → Prop} (h : post (nI (cn_nd tt so hk b (hc b)))) : wpX_lastNode post (nI nc, nI nb, nI nw, rc, cn_N ca, cn_N fr, cn_N tt, cn_N st, cn_N en, cn_N ra, cn_N de, cn_N bz, cn_N so, cn_N go, cn_N sz, li, RO, HI, cn_N hc, HK, HB, rk, rb, ea, el) (nI b) := by
  have n1 := N.1
  obtain ⟨c0, c1⟩ := Bk
  obtain ⟨s1, s2, c60, hh⟩ := c1 b hb'
  have hb2 : b < 2 ^ 31 := by omega
  unfold wpX_lastNode
  dsimp only
  simp only [nI_clamp hb2, cn_Ne]
  refine ⟨vp_in_nI (by omega) (by decide), pk_eq (hc b) 0 (fun q => ?_) (fun q => ?_)⟩
  · rw [q] at h
    exact ⟨vp_in_nI (by omega) (by decide), h⟩
  · obtain ⟨m, hm⟩ : ∃ m, hc b = m + 1 := ⟨hc b - 1, by omega⟩
    obtain ⟨g1, g2⟩ := hh m (by omega)
    obtain ⟨l1, l2⟩ := hL b hb' m (by omega)
    have hi2 : 100 * b + m < 2 ^ 31 := by omega
    have hk2 : hk b m < 2 ^ 31 := by omega
    have e1 : (100 : Int32) * nI b + nI (hc b) - 1 = nI (100 * b + m) := by
      rw [hm]
      show nI 100 * nI b + nI (m + 1) - nI 1 = _
      rw [cn_ix, pk_sub (by omega)]
      rfl
    simp only [e1, nI_clamp hi2, l1, nI_clamp hk2]
    rw [hm] at h
    exact ⟨vp_in_nI (by omega) (by decide), vp_in_nI (by omega) (by decide), vp_in_nI (by omega) (by decide), h⟩
/-- the loop that books a route -/
theorem cx_pl138 (N : cn_Net nc fr tt st en ra de) {b : Nat} (hb' : b < 10) (s1 : 1 ≤ sz b) (s2 : sz b ≤ 30) {post : SX → Prop} {h0 : Nat} :
    ∀ (L M : List Nat) (i n : Nat) (hc : Nat → Nat) (HK HB : Nat → Int32) (bz : Nat → Nat), L.length = M.length → i + L.length ≤ 5 → (∀ j, j < L.length → rk (i + j) = nI (L.getD j 0)) → (∀ j, j < L.length → rb (i + j) = nI (M.getD j 0)) → (∀ j, j < L.length → L.getD j 0 < nc) → (∀ j, j < L.length → M.getD j 0 + cn_tk ra (L.getD j 0) (sz b) ≤ 101) → hc b + L.length ≤ 60 → L.length < n →
    (∀ (HK' HB' : Nat → Int32), (∀ j, j < L.length → HK' (100 * b + (hc b + j)) = nI (L.getD j 0)) → (∀ j, j < L.length → HB' (100 * b + (hc b + j)) = nI (M.getD j 0)) → (∀ x, (x < 100 * b + hc b ∨ 100 * b + (hc b + L.length) ≤ x) → HK' x = HK x) → (∀ x, (x < 100 * b + hc b ∨ 100 * b + (hc b + L.length) ≤ x) → HB' x = HB x) → post (nI nc, nI nb, nI nw, nI (i + L.length), cn_N ca, cn_N fr, cn_N tt, cn_N st, cn_N en, cn_N ra, cn_N de, cn_N (cn_bq ra (sz b) L M bz), cn_N so, cn_N go, cn_N sz, li, RO, HI, cn_N (cn_u hc b (hc b + L.length)), HK', HB', rk, rb, ea, el)) →
    wX_plan_138 post (nI b) n (nI i) (nI nc) (nI nb) (nI nw) (nI (i + L.length)) (cn_N ca) (cn_N fr) (cn_N tt) (cn_N st) (cn_N en) (cn_N ra) (cn_N de) (cn_N bz) (cn_N so) (cn_N go) (cn_N sz) li RO HI (cn_N hc) HK HB rk rb ea el := by
  have n1 := N.1
  have hb2 : b < 2 ^ 31 := by omega
  intro L
  induction L with
  | nil =>
    intro M i n hc HK HB bz hl hi5 h1 h2 h3 h4 h60 hn hp
    obtain ⟨n, rfl⟩ : ∃ n', n = n' + 1 := ⟨n - 1, by omega⟩
    have hp' := hp HK HB (fun j hj => absurd hj (by simp)) (fun j hj => absurd hj (by simp)) (fun _ _ => rfl) (fun _ _ => rfl)
    have em : cn_bq ra (sz b) [] M bz = bz := by cases M <;> rfl
    rw [em, List.length_nil, Nat.add_zero, Nat.add_zero, cn_uid] at hp'
    rw [wX_plan_138]
    exact br_t (nI_le (by simp) (by omega)) hp'
  | cons k L ih =>
    intro M i n hc HK HB bz hl hi5 h1 h2 h3 h4 h60 hn hp
    cases M with
    | nil => exact absurd hl (by simp)
    | cons x M =>
      obtain ⟨n, rfl⟩ : ∃ n', n = n' + 1 := ⟨n - 1, by omega⟩
      rw [List.length_cons] at hi5 h60 hn
      have a1 := h1 0 (by simp)
      have a2 := h2 0 (by simp)
      have a3 := h3 0 (by simp)
      have a4 := h4 0 (by simp)
      simp only [List.getD_cons_zero, Nat.add_zero] at a1 a2 a3 a4
      have hi2 : i < 2 ^ 31 := by omega
      have e1 : (100 : Int32) * nI b + nI (hc b) = nI (100 * b + hc b) := cn_ix 100 b (hc b)
      have hx2 : 100 * b + hc b < 2 ^ 31 := by omega
      rw [wX_plan_138]
      simp only [nI_clamp hb2, nI_clamp hi2, cn_Ne, e1, nI_clamp hx2, a1, a2]
      refine pk_le (i + (k :: L).length) i (fun q => absurd q (by simp)) (fun q => ⟨vp_in_nI (by omega) (by decide), pk_le 100 (hc b) (fun q2 => absurd q2 (by omega)) (fun q2 => ?_) rfl rfl (by omega) (by omega)⟩) rfl rfl (by simp; omega) (by omega)
      refine ⟨vp_in_nI (by omega) (by decide), nm_e ⟨vp_in_nI (by omega) (by decide), vp_in_nI (by omega) (by decide), fun HK' hHK' => ⟨vp_in_nI (by omega) (by decide), vp_in_nI (by omega) (by decide), vp_in_nI (by omega) (by decide), fun HB' hHB' => ⟨vp_in_nI (by omega) (by decide), vp_in_nI (by omega) (by decide), nm_r (e' := cn_N (cn_u hc b (hc b + 1))) ?_ ⟨vp_in_nI (by omega) (by decide), ?_⟩⟩⟩⟩⟩
      · rw [nI_1, cn_upd]
      · refine cx_ticks N a3 s1 s2 ⟨vp_in_nI (by omega) (by decide), ?_⟩
        refine cx_busy (x := 1) (by omega) a4 (by omega) ?_
        refine nm_r (nI_1 i) ?_
        have er : i + (k :: L).length = i + 1 + L.length := by rw [List.length_cons]; omega
        rw [er]
        refine ih M (i + 1) n (cn_u hc b (hc b + 1)) HK' HB' _ (by simpa using hl) (by omega) ?_ ?_ ?_ ?_ (by rw [cn_us]; omega) (by omega) ?_
        · intro j hj
          have := h1 (j + 1) (by simp; omega)
          rw [List.getD_cons_succ] at this
          rw [← this]; congr 1; omega
        · intro j hj
          have := h2 (j + 1) (by simp; omega)
          rw [List.getD_cons_succ] at this
          rw [← this]; congr 1; omega
        · intro j hj
          have := h3 (j + 1) (by simp; omega)
          rw [List.getD_cons_succ] at this
          exact this
        · intro j hj
          have := h4 (j + 1) (by simp; omega)
          rw [List.getD_cons_succ, List.getD_cons_succ] at this
          exact this
        · intro HK2 HB2 g1 g2 g3 g4
          rw [cn_us] at g1 g2 g3 g4
          rw [cn_us, cn_uu]
          have hp' := hp HK2 HB2 ?_ ?_ ?_ ?_
          · rw [er, show hc b + (k :: L).length = hc b + 1 + L.length from by rw [List.length_cons]; omega] at hp'
            exact hp'
          · intro j hj
            rw [List.length_cons] at hj
            cases j with
            | zero =>
              rw [List.getD_cons_zero, g3 _ (Or.inl (by omega)), hHK']
              exact pk_us
            | succ j =>
              rw [List.getD_cons_succ, ← g1 j (by omega)]
              congr 1; omega
          · intro j hj
            rw [List.length_cons] at hj
            cases j with
            | zero =>
              rw [List.getD_cons_zero, g4 _ (Or.inl (by omega)), hHB']
              exact pk_us
            | succ j =>
              rw [List.getD_cons_succ, ← g2 j (by omega)]
              congr 1; omega
          · intro y hy
            rw [List.length_cons] at hy
            rw [g3 y (by omega), hHK']
            exact pk_un (by omega)
          · intro y hy
            rw [List.length_cons] at hy
            rw [g4 y (by omega), hHB']
            exact pk_un (by omega)
end CxBook
end
section
/-! the reference: bookings -/
section CyBook
variable {nc nb nw : Nat} {bs ba : Int32} {ca fr tt st en ra de bz so go sz hc : Nat → Nat} {li SK OV BG tr tb nd tm nx bo bb : Nat → Int32} {hk hb : Nat → Nat → Nat}
theorem cy_last (N : cn_Net nc fr tt st en ra de) (Bk : cn_Bk nc nb en ra sz hc hk hb) (hL : cn_L 64 nb hc hk hb OV BG) {b : Nat} (hb' : b < nb) {post : Int32 → Prop} (h : post (nI (cn_nd tt so hk b (hc b)))) : wpY_lastNode post (nI nw, nI nc, nI nb, bs, ba, cn_N fr, cn_N tt, cn_N st, cn_N en, cn_N ra, cn_N de, cn_N ca, cn_N so, cn_N go, cn_N sz, li, SK, cn_N hc, OV, BG, tr, tb, nd, tm, nx, bo, bb) (nI b) := by
  have n1 := N.1
  obtain ⟨c0, c1⟩ := Bk
  obtain ⟨s1, s2, c60, hh⟩ := c1 b hb'
  have hb2 : b < 2 ^ 31 := by omega
  unfold wpY_lastNode
  dsimp only
  simp only [nI_clamp hb2, cn_Ne]
  refine ⟨vp_in_nI (by omega) (by decide), pk_eq (hc b) 0 (fun q => ?_) (fun q => ?_)⟩
  · rw [q] at h
    exact ⟨vp_in_nI (by omega) (by decide), h⟩
  · obtain ⟨m, hm⟩ : ∃ m, hc b = m + 1 := ⟨hc b - 1, by omega⟩
    obtain ⟨g1, g2⟩ := hh m (by omega)
    obtain ⟨l1, l2⟩ := hL b hb' m (by omega)
    have hi2 : 64 * b + m < 2 ^ 31 := by omega
    have hk2 : hk b m < 2 ^ 31 := by omega
    have e1 : (64 : Int32) * nI b + nI (hc b) - 1 = nI (64 * b + m) := by
      rw [hm]
      show nI 64 * nI b + nI (m + 1) - nI 1 = _
      rw [cn_ix, pk_sub (by omega)]
      rfl
    simp only [e1, nI_clamp hi2, l1, nI_clamp hk2]
    rw [hm] at h
    exact ⟨vp_in_nI (by omega) (by decide), vp_in_nI (by omega) (by decide), vp_in_nI (by omega) (by decide), h⟩
theorem cy_ltime (N : cn_Net nc fr tt st en ra de) (Bk : cn_Bk nc nb en ra sz hc hk hb) (hL : cn_L 64 nb hc hk hb OV BG) {b : Nat} (hb' : b < nb) {post : Int32 → Prop} (h : post (nI (cn_lt ra de sz hc hk hb b))) : wpY_lastTime post (nI nw, nI nc, nI nb, bs, ba, cn_N fr, cn_N tt, cn_N st, cn_N en, cn_N ra, cn_N de, cn_N ca, cn_N so, cn_N go, cn_N sz, li, SK, cn_N hc, OV, BG, tr, tb, nd, tm, nx, bo, bb) (nI b) := by
  have n1 := N.1
  have Bk0 := Bk
  obtain ⟨c0, c1⟩ := Bk
  obtain ⟨s1, s2, c60, hh⟩ := c1 b hb'
  have hb2 : b < 2 ^ 31 := by omega
  unfold wpY_lastTime
  dsimp only
  simp only [nI_clamp hb2, cn_Ne]
  unfold cn_lt at h
  refine ⟨vp_in_nI (by omega) (by decide), fun x2 hx2 => ⟨vp_in_nI (by omega) (by decide), pk_eq (hc b) 0 (fun q => ?_) (fun q => ?_)⟩⟩
  · rw [if_pos q] at h
    exact h
  · obtain ⟨m, hm⟩ : ∃ m, hc b = m + 1 := ⟨hc b - 1, by omega⟩
    rw [if_neg q] at h
    have em : hc b - 1 = m := by omega
    rw [em] at h
    obtain ⟨g1, g2⟩ := hh m (by omega)
    obtain ⟨l1, l2⟩ := hL b hb' m (by omega)
    have hi2 : 64 * b + m < 2 ^ 31 := by omega
    have e1 : (64 : Int32) * nI b + nI (hc b) - 1 = nI (64 * b + m) := by
      rw [hm]
      show nI 64 * nI b + nI (m + 1) - nI 1 = _
      rw [cn_ix, pk_sub (by omega)]
      rfl
    rw [e1] at hx2
    subst hx2
    simp only [nI_clamp hi2, l1, l2]
    refine ⟨vp_in_nI (by omega) (by decide), vp_in_nI (by omega) (by decide), vp_in_nI (by omega) (by decide), ?_⟩
    exact cy_comes N g1 s1 s2 h
/-- the loop that books a route -/
theorem cy_pl86 {b : Nat} (hb' : b < 10) {post : SY → Prop} :
    ∀ (L M : List Nat) (i n : Nat) (hc : Nat → Nat) (OV BG : Nat → Int32), L.length = M.length → i + L.length ≤ 5 → (∀ j, j < L.length → bo (i + j) = nI (L.getD j 0)) → (∀ j, j < L.length → bb (i + j) = nI (M.getD j 0)) → hc b + L.length ≤ 60 → L.length < n →
    (∀ (OV' BG' : Nat → Int32), (∀ j, j < L.length → OV' (64 * b + (hc b + j)) = nI (L.getD j 0)) → (∀ j, j < L.length → BG' (64 * b + (hc b + j)) = nI (M.getD j 0)) → (∀ x, (x < 64 * b + hc b ∨ 64 * b + (hc b + L.length) ≤ x) → OV' x = OV x) → (∀ x, (x < 64 * b + hc b ∨ 64 * b + (hc b + L.length) ≤ x) → BG' x = BG x) → post (nI nw, nI nc, nI nb, nI (i + L.length), ba, cn_N fr, cn_N tt, cn_N st, cn_N en, cn_N ra, cn_N de, cn_N ca, cn_N so, cn_N go, cn_N sz, li, SK, cn_N (cn_u hc b (hc b + L.length)), OV', BG', tr, tb, nd, tm, nx, bo, bb)) →
    wY_plan_86 post (nI b) (nI nw) (nI nc) (nI nb) (nI (i + L.length)) ba n (nI i) (cn_N fr) (cn_N tt) (cn_N st) (cn_N en) (cn_N ra) (cn_N de) (cn_N ca) (cn_N so) (cn_N go) (cn_N sz) li SK (cn_N hc) OV BG tr tb nd tm nx bo bb := by
  have hb2 : b < 2 ^ 31 := by omega
  intro L
  induction L with
  | nil =>
    intro M i n hc OV BG hl hi5 h1 h2 h60 hn hp
    obtain ⟨n, rfl⟩ : ∃ n', n = n' + 1 := ⟨n - 1, by omega⟩
    have hp' := hp OV BG (fun j hj => absurd hj (by simp)) (fun j hj => absurd hj (by simp)) (fun _ _ => rfl) (fun _ _ => rfl)
    rw [List.length_nil, Nat.add_zero, Nat.add_zero, cn_uid] at hp'
    rw [wY_plan_86]
    exact br_t (nI_le (by simp) (by omega)) hp'
  | cons k L ih =>
    intro M i n hc OV BG hl hi5 h1 h2 h60 hn hp
    cases M with
    | nil => exact absurd hl (by simp)
    | cons x M =>
      obtain ⟨n, rfl⟩ : ∃ n', n = n' + 1 := ⟨n - 1, by omega⟩
      rw [List.length_cons] at hi5 h60 hn
      have a1 := h1 0 (by simp)
      have a2 := h2 0 (by simp)
      simp only [List.getD_cons_zero, Nat.add_zero] at a1 a2
      have hi2 : i < 2 ^ 31 := by omega
      have e1 : (64 : Int32) * nI b + nI (hc b) = nI (64 * b + hc b) := cn_ix 64 b (hc b)
      have hx2 : 64 * b + hc b < 2 ^ 31 := by omega
      rw [wY_plan_86]
      simp only [nI_clamp hb2, nI_clamp hi2, cn_Ne, e1, nI_clamp hx2, a1, a2]
      refine pk_le (i + (k :: L).length) i (fun q => absurd q (by simp)) (fun q => ?_) rfl rfl (by simp; omega) (by omega)
      refine ⟨vp_in_nI (by omega) (by decide), vp_in_nI (by omega) (by decide), vp_in_nI (by omega) (by decide), fun OV' hOV' => ⟨vp_in_nI (by omega) (by decide), vp_in_nI (by omega) (by decide), vp_in_nI (by omega) (by decide), fun BG' hBG' => ⟨vp_in_nI (by omega) (by decide), vp_in_nI (by omega) (by decide), nm_r (e' := cn_N (cn_u hc b (hc b + 1))) ?_ (nm_r (nI_1 i) ?_)⟩⟩⟩
      · rw [nI_1, cn_upd]
      · have er : i + (k :: L).length = i + 1 + L.length := by rw [List.length_cons]; omega
        rw [er]
        refine ih M (i + 1) n (cn_u hc b (hc b + 1)) OV' BG' (by simpa using hl) (by omega) ?_ ?_ (by rw [cn_us]; omega) (by omega) ?_
        · intro j hj
          have := h1 (j + 1) (by simp; omega)
          rw [List.getD_cons_succ] at this
          rw [← this]; congr 1; omega
        · intro j hj
          have := h2 (j + 1) (by simp; omega)
          rw [List.getD_cons_succ] at this
          rw [← this]; congr 1; omega
        · intro HK2 HB2 g1 g2 g3 g4
          rw [cn_us] at g1 g2 g3 g4
          rw [cn_us, cn_uu]
          have hp' := hp HK2 HB2 ?_ ?_ ?_ ?_
          · rw [er, show hc b + (k :: L).length = hc b + 1 + L.length from by rw [List.length_cons]; omega] at hp'
            exact hp'
          · intro j hj
            rw [List.length_cons] at hj
            cases j with
            | zero =>
              rw [List.getD_cons_zero, g3 _ (Or.inl (by omega)), hOV']
              exact pk_us
            | succ j =>
              rw [List.getD_cons_succ, ← g1 j (by omega)]
              congr 1; omega
          · intro j hj
            rw [List.length_cons] at hj
            cases j with
            | zero =>
              rw [List.getD_cons_zero, g4 _ (Or.inl (by omega)), hBG']
              exact pk_us
            | succ j =>
              rw [List.getD_cons_succ, ← g2 j (by omega)]
              congr 1; omega
          · intro y hy
            rw [List.length_cons] at hy
            rw [g3 y (by omega), hOV']
            exact pk_un (by omega)
          · intro y hy
            rw [List.length_cons] at hy
            rw [g4 y (by omega), hBG']
            exact pk_un (by omega)
end CyBook
end
section
/-! planning a bundle, on either side -/
section CxPlan
variable {nc nb nw : Nat} {rc : Int32} {ca fr tt st en ra de bz so go sz hc : Nat → Nat} {li RO HI HK HB rk rb ea el : Nat → Int32} {ro : Nat → Nat} {hk hb : Nat → Nat → Nat}
theorem cn_rd_le {nw x m : Nat} (h1 : nw ≤ m) (h2 : x ≤ m) : cn_rd nw x ≤ m := by unfold cn_rd; split <;> omega
theorem cx_plan45 (W : cn_W nc nb ca fr tt st en ra de bz so go sz ro hc hk hb) (hL : cn_L 100 nb hc hk hb HK HB) (hnw : nw ≤ 200000) {b : Nat} (hb' : b < nb) {post : SX → Prop} (h : wX_plan_45 post (nI b) (nI (cn_rd nw (cn_lt ra de sz hc hk hb b))) (nI nc) (nI nb) (nI nw) rc (cn_N ca) (cn_N fr) (cn_N tt) (cn_N st) (cn_N en) (cn_N ra) (cn_N de) (cn_N bz) (cn_N so) (cn_N go) (cn_N sz) li RO HI (cn_N hc) HK HB rk rb ea el) : wpX_plan post (nI nc, nI nb, nI nw, rc, cn_N ca, cn_N fr, cn_N tt, cn_N st, cn_N en, cn_N ra, cn_N de, cn_N bz, cn_N so, cn_N go, cn_N sz, li, RO, HI, cn_N hc, HK, HB, rk, rb, ea, el) (nI b) := by
  have Bk := cn_W_Bk W
  have hlt := cn_W_lt W hb'
  have n1 := W.1.1
  have nb1 := W.2.2.2.2.1
  obtain ⟨s1, s2, c60, hh⟩ := Bk.2 b hb'
  have hb2 : b < 2 ^ 31 := by omega
  unfold wpX_plan
  dsimp only
  simp only [nI_clamp hb2, cn_Ne]
  unfold cn_lt at h hlt
  refine ⟨vp_in_nI (by omega) (by decide), pk_le (hc b) 0 (fun q => ?_) (fun q => ?_)⟩
  · rw [if_pos (by omega)] at h
    have e : cn_rd nw 0 = nw := if_pos (by omega)
    rw [e] at h
    exact h
  · rw [if_neg (by omega)] at h hlt
    have e1 : nI (hc b) - 1 = nI (hc b - 1) := pk_sub (b := 1) (by omega)
    rw [e1]
    refine ⟨vp_in_nI (by omega) (by decide), cx_comes W.1 Bk hL hb' (by omega) ?_⟩
    generalize hb b (hc b - 1) + cn_tk ra (hk b (hc b - 1)) (sz b) + de (hk b (hc b - 1)) = x at h hlt ⊢
    unfold cn_rd at h
    refine pk_le x nw (fun q2 => ?_) (fun q2 => ?_)
    · rw [if_pos q2] at h
      exact h
    · rw [if_neg (by omega)] at h
      exact h
theorem cx_plan (W : cn_W nc nb ca fr tt st en ra de bz so go sz ro hc hk hb) (hL : cn_L 100 nb hc hk hb HK HB) (hnw : nw ≤ 200000) {b v t : Nat} (hb' : b < nb) (hro : ro b = 0) (hv : v = cn_nd tt so hk b (hc b)) (ht : t = cn_rd nw (cn_lt ra de sz hc hk hb b)) {s g : Nat} (hs : s = sz b) (hg : g = go b) {post : SX → Prop}
    (hno : cn_No nc fr tt (cn_A nc ca st en ra de bz s) v t g → ∀ rc rk rb ea el, post (nI nc, nI nb, nI nw, rc, cn_N ca, cn_N fr, cn_N tt, cn_N st, cn_N en, cn_N ra, cn_N de, cn_N bz, cn_N so, cn_N go, cn_N sz, li, upd RO b 0, HI, cn_N hc, HK, HB, rk, rb, ea, el))
    (hlate : ∀ R, cn_O nc fr tt (cn_A nc ca st en ra de bz s) v t g R → ¬ nI (cn_t (cn_A nc ca st en ra de bz s) R t) ≤ li b → ∀ rc rk rb ea el, post (nI nc, nI nb, nI nw, rc, cn_N ca, cn_N fr, cn_N tt, cn_N st, cn_N en, cn_N ra, cn_N de, cn_N bz, cn_N so, cn_N go, cn_N sz, li, upd RO b 0, HI, cn_N hc, HK, HB, rk, rb, ea, el))
    (hok : ∀ R, cn_O nc fr tt (cn_A nc ca st en ra de bz s) v t g R → nI (cn_t (cn_A nc ca st en ra de bz s) R t) ≤ li b → ∀ (HK' HB' : Nat → Int32) rc rk rb ea el, (∀ j, j < R.length → HK' (100 * b + (hc b + j)) = nI (R.getD j 0)) → (∀ j, j < R.length → HB' (100 * b + (hc b + j)) = nI ((cn_bl (cn_A nc ca st en ra de bz s) (cn_b st en ra bz s) R t).getD j 0)) → (∀ x, (x < 100 * b + hc b ∨ 100 * b + (hc b + R.length) ≤ x) → HK' x = HK x) → (∀ x, (x < 100 * b + hc b ∨ 100 * b + (hc b + R.length) ≤ x) → HB' x = HB x) → post (nI nc, nI nb, nI nw, rc, cn_N ca, cn_N fr, cn_N tt, cn_N st, cn_N en, cn_N ra, cn_N de, cn_N (cn_bq ra s R (cn_bl (cn_A nc ca st en ra de bz s) (cn_b st en ra bz s) R t) bz), cn_N so, cn_N go, cn_N sz, li, upd (upd RO b 0) b 1, HI, cn_N (cn_u hc b (hc b + R.length)), HK', HB', rk, rb, ea, el)) : wpX_plan post (nI nc, nI nb, nI nw, rc, cn_N ca, cn_N fr, cn_N tt, cn_N st, cn_N en, cn_N ra, cn_N de, cn_N bz, cn_N so, cn_N go, cn_N sz, li, RO, HI, cn_N hc, HK, HB, rk, rb, ea, el) (nI b) := by
  have Bk := cn_W_Bk W
  have hlt := cn_W_lt W hb'
  have n1 := W.1.1
  have nb1 := W.2.2.2.2.1
  have hb2 : b < 2 ^ 31 := by omega
  obtain ⟨⟨s6, g6, z1, z2⟩, q1, q2, q3, q4, q5⟩ := W.2.2.2.2.2 b hb'
  have hca := cn_ca10 W.2.2.1
  have K : cn_Ok nc ca fr tt st en ra de bz s := cn_W_Ok W (by omega) (by omega)
  have P := cn_A_P (ca := ca) (bz := bz) W.1 (s := s) (by omega)
  have hv6 : v < 6 := by rw [hv]; exact cn_W_nd W hb' (Nat.le_refl _)
  have hvg : v ≠ g := by rw [hv, hg]; exact q2 hro
  have ht6 : t < 1000000 := by
    have := cn_rd_le hnw (show cn_lt ra de sz hc hk hb b ≤ 200000 by omega)
    omega
  refine cx_plan45 W hL hnw hb' ?_
  unfold wX_plan_45
  refine cx_last W.1 Bk hL hb' ?_
  rw [← hv, ← ht]
  simp only [nI_clamp hb2, cn_Ne, ← hs, ← hg]
  have e0 : upd RO b (vp_nar .boolean 0) = upd RO b 0 := rfl
  refine ⟨vp_in_nI (by omega) (by decide), nm_r e0 ⟨vp_in_nI (by omega) (by decide), pk_eq v g (fun q => absurd q hvg) (fun q => ⟨vp_in_nI (by omega) (by decide), vp_in_nI (by omega) (by decide), ?_⟩)⟩⟩
  rcases cn_O_or (nc := nc) (fr := fr) (tt := tt) (A := (cn_A nc ca st en ra de bz s)) (t := t) hvg with hN | ⟨R, hO⟩
  · refine cx_find_0 K hv6 (by omega) ht6 hN ?_
    intro ea el
    exact br_t (by decide) (hno hN rc rk rb ea el)
  · refine cx_find_R K hv6 (by omega) ht6 hO ?_
    intro rk rb ea el hrk hrb
    have hfin := hO.2.2.2.1
    refine br_f (nI_ge (b := 1000000) hfin (by decide)) ⟨vp_in_nI (by omega) (by decide), br_c (fun hli => ?_) (fun hli => hlate R hO hli _ rk rb ea el)⟩
    have e1 : upd (upd RO b 0) b (vp_nar .boolean 1) = upd (upd RO b 0) b 1 := rfl
    refine ⟨vp_in_nI (by omega) (by decide), nm_r e1 ⟨R.length + 1, ?_⟩⟩
    have hmem := cn_ch_mem hO.2.2.1
    have h5 := hO.2.1
    have hbe : ∀ j, j < R.length → (cn_bl (cn_A nc ca st en ra de bz s) (cn_b st en ra bz s) R t).getD j 0 + cn_tk ra (R.getD j 0) (sz b) ≤ 101 := by
      intro j hj
      obtain ⟨p, k, e, d1, d2, d3, d4⟩ := cn_at_j (A := (cn_A nc ca st en ra de bz s)) (B := (cn_b st en ra bz s)) (t := t) hj
      have f1 := hO.2.2.2.1
      rw [show R = (p ++ [k]) ++ e from by rw [d1]; simp] at f1
      have f2 := cn_t_fin P (by omega) f1
      rw [cn_t_app] at f2
      obtain ⟨x, x1, x2, x3, x4, x5, x6, x7, x8, x9⟩ := cn_A_lt f2
      have := (W.1.2 k x3).2.2.2.1
      rw [d4, d3, x2, ← hs]
      omega
    have e9 : nI R.length = nI (0 + R.length) := by rw [Nat.zero_add]
    rw [e9]
    refine cx_pl138 (h0 := 0) W.1 (by omega) z1 z2 R (cn_bl (cn_A nc ca st en ra de bz s) (cn_b st en ra bz s) R t) 0 (R.length + 1) hc HK HB bz (cn_bl_len _ _ _ _).symm (by omega) ?_ ?_ (fun j hj => hmem _ (cn_getD_mem hj)) hbe (by omega) (by omega) ?_
    · intro j hj; rw [show 0 + j = j from Nat.zero_add j]; exact hrk j hj
    · intro j hj; rw [show 0 + j = j from Nat.zero_add j]; exact hrb j (by rw [cn_bl_len]; exact hj)
    · intro HK' HB' g1 g2 g3 g4
      rw [← hs]
      exact hok R hO hli HK' HB' _ rk rb ea el g1 g2 g3 g4
end CxPlan
section CyPlan
variable {nc nb nw : Nat} {bs ba : Int32} {ca fr tt st en ra de bz so go sz hc : Nat → Nat} {li SK OV BG tr tb nd tm nx bo bb : Nat → Int32} {ro : Nat → Nat} {hk hb : Nat → Nat → Nat}
theorem cy_plan24 (W : cn_W nc nb ca fr tt st en ra de bz so go sz ro hc hk hb) (hL : cn_L 64 nb hc hk hb OV BG) (hnw : nw ≤ 200000) {b : Nat} (hb' : b < nb) {post : SY → Prop} (h : wY_plan_24 post (nI b) (nI (cn_rd nw (cn_lt ra de sz hc hk hb b))) (nI nw) (nI nc) (nI nb) bs ba (cn_N fr) (cn_N tt) (cn_N st) (cn_N en) (cn_N ra) (cn_N de) (cn_N ca) (cn_N so) (cn_N go) (cn_N sz) li SK (cn_N hc) OV BG tr tb nd tm nx bo bb) : wpY_plan post (nI nw, nI nc, nI nb, bs, ba, cn_N fr, cn_N tt, cn_N st, cn_N en, cn_N ra, cn_N de, cn_N ca, cn_N so, cn_N go, cn_N sz, li, SK, cn_N hc, OV, BG, tr, tb, nd, tm, nx, bo, bb) (nI b) := by
  have Bk := cn_W_Bk W
  have hlt := cn_W_lt W hb'
  unfold wpY_plan
  dsimp only
  refine cy_ltime W.1 Bk hL hb' ?_
  refine pk_le (cn_lt ra de sz hc hk hb b) nw (fun q => ?_) (fun q => ?_)
  · have e : cn_rd nw (cn_lt ra de sz hc hk hb b) = nw := if_pos q
    rw [e] at h
    exact h
  · refine cy_ltime W.1 Bk hL hb' ?_
    have e : cn_rd nw (cn_lt ra de sz hc hk hb b) = cn_lt ra de sz hc hk hb b := if_neg (by omega)
    rw [e] at h
    exact h
theorem cy_pl68 {b : Nat} (hb' : b < 10) {post : SY → Prop} (h : post (nI nw, nI nc, nI nb, bs, ba, cn_N fr, cn_N tt, cn_N st, cn_N en, cn_N ra, cn_N de, cn_N ca, cn_N so, cn_N go, cn_N sz, li, upd SK b 1, cn_N hc, OV, BG, tr, tb, nd, tm, nx, bo, bb)) : wY_plan_68 post (nI b) (nI b) (nI nw) (nI nc) (nI nb) bs ba (cn_N fr) (cn_N tt) (cn_N st) (cn_N en) (cn_N ra) (cn_N de) (cn_N ca) (cn_N so) (cn_N go) (cn_N sz) li SK (cn_N hc) OV BG tr tb nd tm nx bo bb := by
  have hb2 : b < 2 ^ 31 := by omega
  unfold wY_plan_68 wY_plan_73
  simp only [nI_clamp hb2]
  have e0 : upd SK b (vp_nar .boolean 1) = upd SK b 1 := rfl
  refine ⟨vp_in_nI (by omega) (by decide), nm_r e0 ⟨vp_in_nI (by omega) (by decide), br_f ?_ h⟩⟩
  rw [pk_us]
  decide
theorem cy_plan (W : cn_W nc nb ca fr tt st en ra de bz so go sz ro hc hk hb) (hL : cn_L 64 nb hc hk hb OV BG) (hnw : nw ≤ 200000) {b v t : Nat} (hb' : b < nb) (hro : ro b = 0) (hv : v = cn_nd tt so hk b (hc b)) (ht : t = cn_rd nw (cn_lt ra de sz hc hk hb b)) {s g : Nat} (hs : s = sz b) (hg : g = go b) {post : SY → Prop}
    (hno : cn_No nc fr tt (cn_A nc ca st en ra de bz s) v t g → ∀ bs ba tr tb nd tm nx bo bb, post (nI nw, nI nc, nI nb, bs, ba, cn_N fr, cn_N tt, cn_N st, cn_N en, cn_N ra, cn_N de, cn_N ca, cn_N so, cn_N go, cn_N sz, li, upd SK b 1, cn_N hc, OV, BG, tr, tb, nd, tm, nx, bo, bb))
    (hlate : ∀ R, cn_O nc fr tt (cn_A nc ca st en ra de bz s) v t g R → ¬ nI (cn_t (cn_A nc ca st en ra de bz s) R t) ≤ li b → ∀ bs ba tr tb nd tm nx bo bb, post (nI nw, nI nc, nI nb, bs, ba, cn_N fr, cn_N tt, cn_N st, cn_N en, cn_N ra, cn_N de, cn_N ca, cn_N so, cn_N go, cn_N sz, li, upd SK b 1, cn_N hc, OV, BG, tr, tb, nd, tm, nx, bo, bb))
    (hok : ∀ R, cn_O nc fr tt (cn_A nc ca st en ra de bz s) v t g R → nI (cn_t (cn_A nc ca st en ra de bz s) R t) ≤ li b → ∀ (OV' BG' : Nat → Int32) bs ba tr tb nd tm nx bo bb, (∀ j, j < R.length → OV' (64 * b + (hc b + j)) = nI (R.getD j 0)) → (∀ j, j < R.length → BG' (64 * b + (hc b + j)) = nI ((cn_bl (cn_A nc ca st en ra de bz s) (cn_b st en ra bz s) R t).getD j 0)) → (∀ x, (x < 64 * b + hc b ∨ 64 * b + (hc b + R.length) ≤ x) → OV' x = OV x) → (∀ x, (x < 64 * b + hc b ∨ 64 * b + (hc b + R.length) ≤ x) → BG' x = BG x) → post (nI nw, nI nc, nI nb, bs, ba, cn_N fr, cn_N tt, cn_N st, cn_N en, cn_N ra, cn_N de, cn_N ca, cn_N so, cn_N go, cn_N sz, li, upd SK b 0, cn_N (cn_u hc b (hc b + R.length)), OV', BG', tr, tb, nd, tm, nx, bo, bb)) : wpY_plan post (nI nw, nI nc, nI nb, bs, ba, cn_N fr, cn_N tt, cn_N st, cn_N en, cn_N ra, cn_N de, cn_N ca, cn_N so, cn_N go, cn_N sz, li, SK, cn_N hc, OV, BG, tr, tb, nd, tm, nx, bo, bb) (nI b) := by
  have Bk := cn_W_Bk W
  have hlt := cn_W_lt W hb'
  have n1 := W.1.1
  have nb1 := W.2.2.2.2.1
  have hb2 : b < 2 ^ 31 := by omega
  obtain ⟨⟨s6, g6, z1, z2⟩, q1, q2, q3, q4, q5⟩ := W.2.2.2.2.2 b hb'
  have hca := cn_ca10 W.2.2.1
  have K : cn_Ok nc ca fr tt st en ra de bz s := cn_W_Ok W (by omega) (by omega)
  have hv6 : v < 6 := by rw [hv]; exact cn_W_nd W hb' (Nat.le_refl _)
  have hvg : v ≠ g := by rw [hv, hg]; exact q2 hro
  have ht6 : t < 1000000 := by
    have := cn_rd_le hnw (show cn_lt ra de sz hc hk hb b ≤ 200000 by omega)
    omega
  refine cy_plan24 W hL hnw hb' ?_
  unfold wY_plan_24
  refine cy_last W.1 Bk hL hb' ?_
  rw [← hv, ← ht]
  simp only [nI_clamp hb2, cn_Ne, ← hs, ← hg]
  refine ⟨vp_in_nI (by omega) (by decide), vp_in_nI (by omega) (by decide), ?_⟩
  rcases cn_O_or (nc := nc) (fr := fr) (tt := tt) (A := (cn_A nc ca st en ra de bz s)) (t := t) hvg with hN | ⟨R, hO⟩
  · refine cy_find_0 K W.2.2.2.1 Bk hL hv6 (by omega) ht6 hN ?_
    intro bs ba tr tb nd tm nx bo bb
    exact br_t rfl (cy_pl68 (by omega) (hno hN bs ba tr tb nd tm nx bo bb))
  · refine cy_find_R K W.2.2.2.1 Bk hL hv6 (by omega) ht6 hO ?_
    intro ba tr tb nd tm nx bo bb hba hbo hbb
    subst hba
    refine br_f (by decide) ⟨vp_in_nI (by omega) (by decide), br_c (fun hli => ?_) (fun hli => cy_pl68 (by omega) (hlate R hO hli _ _ tr tb nd tm nx bo bb))⟩
    have h5 := hO.2.1
    have e0 : upd SK b (vp_nar .boolean 0) = upd SK b 0 := rfl
    unfold wY_plan_73
    simp only [nI_clamp hb2]
    refine ⟨vp_in_nI (by omega) (by decide), nm_r e0 ⟨vp_in_nI (by omega) (by decide), br_t pk_us ⟨R.length + 1, ?_⟩⟩⟩
    have e9 : nI R.length = nI (0 + R.length) := by rw [Nat.zero_add]
    rw [e9]
    refine cy_pl86 (by omega) R (cn_bl (cn_A nc ca st en ra de bz s) (cn_b st en ra bz s) R t) 0 (R.length + 1) hc OV BG (cn_bl_len _ _ _ _).symm (by omega) ?_ ?_ (by omega) (by omega) ?_
    · intro j hj; rw [show 0 + j = j from Nat.zero_add j]; exact hbo j hj
    · intro j hj; rw [show 0 + j = j from Nat.zero_add j]; exact hbb j (by rw [cn_bl_len]; exact hj)
    · intro OV' BG' g1 g2 g3 g4
      exact hok R hO hli OV' BG' _ _ tr tb nd tm nx bo bb g1 g2 g3 g4
end CyPlan
end
section
/-! one abstract state for both sides, and planning over it -/
def cz_W (nc nb : Nat) (ca fr tt st en ra de so go sz : Nat → Nat) (bz ro hc : Nat → Nat) (hk hb : Nat → Nat → Nat) : Prop := cn_W nc nb ca fr tt st en ra de bz so go sz ro hc hk hb
/-- the class's state; H: the bundles whose mark isn't kept just now -/
def cz_X (nc nb nw : Nat) (ca fr tt st en ra de so go sz : Nat → Nat) (li : Nat → Int32) (HI : Nat → Int32) (H : Nat → Prop) (bz ro hc : Nat → Nat) (hk hb : Nat → Nat → Nat) (u : SX) : Prop :=
  ∃ (rc : Int32) (RO HK HB rk rb ea el : Nat → Int32), u = (nI nc, nI nb, nI nw, rc, cn_N ca, cn_N fr, cn_N tt, cn_N st, cn_N en, cn_N ra, cn_N de, cn_N bz, cn_N so, cn_N go, cn_N sz, li, RO, HI, cn_N hc, HK, HB, rk, rb, ea, el) ∧ cn_L 100 nb hc hk hb HK HB ∧ ∀ b, b < nb → ¬ H b → RO b = nI (ro b)
/-- the reference's state -/
def cz_Y (nc nb nw : Nat) (ca fr tt st en ra de so go sz : Nat → Nat) (li : Nat → Int32) (H : Nat → Prop) (bz ro hc : Nat → Nat) (hk hb : Nat → Nat → Nat) (v : SY) : Prop :=
  ∃ (bs ba : Int32) (SK OV BG tr tb nd tm nx bo bb : Nat → Int32), v = (nI nw, nI nc, nI nb, bs, ba, cn_N fr, cn_N tt, cn_N st, cn_N en, cn_N ra, cn_N de, cn_N ca, cn_N so, cn_N go, cn_N sz, li, SK, cn_N hc, OV, BG, tr, tb, nd, tm, nx, bo, bb) ∧ cn_L 64 nb hc hk hb OV BG ∧ ∀ b, b < nb → ¬ H b → SK b = nI (1 - ro b)
section CzPlan
variable {nc nb nw : Nat} {ca fr tt st en ra de so go sz : Nat → Nat} {li : Nat → Int32}
theorem cn_L_ex {w b : Nat} {hc : Nat → Nat} {hk hb : Nat → Nat → Nat} {a c a' c' : Nat → Int32} {R T : List Nat} (hw : 60 ≤ w) (hL : cn_L w nb hc hk hb a c) (h60 : ∀ x, x < nb → hc x ≤ 60) (hl : hc b + R.length ≤ 60) (h1 : ∀ j, j < R.length → a' (w * b + (hc b + j)) = nI (R.getD j 0)) (h2 : ∀ j, j < R.length → c' (w * b + (hc b + j)) = nI (T.getD j 0)) (h3 : ∀ x, (x < w * b + hc b ∨ w * b + (hc b + R.length) ≤ x) → a' x = a x) (h4 : ∀ x, (x < w * b + hc b ∨ w * b + (hc b + R.length) ≤ x) → c' x = c x) : cn_L w nb (cn_u hc b (hc b + R.length)) (cn_ex hk b (hc b) R) (cn_ex hb b (hc b) T) a' c' := by
  intro b' hb' i hi
  by_cases e : b' = b
  · subst e
    rw [cn_us] at hi
    rcases Nat.lt_or_ge i (hc b') with q | q
    · rw [cn_ex_lo q, cn_ex_lo q, h3 _ (Or.inl (by omega)), h4 _ (Or.inl (by omega))]
      exact hL b' hb' i q
    · obtain ⟨j, rfl⟩ : ∃ j, i = hc b' + j := ⟨i - hc b', by omega⟩
      rw [cn_ex_hi, cn_ex_hi]
      exact ⟨h1 j (by omega), h2 j (by omega)⟩
  · rw [cn_un e] at hi
    rw [cn_ex_ne e, cn_ex_ne e]
    have h6 := h60 b' hb'
    have hx : w * b' + i < w * b + hc b ∨ w * b + (hc b + R.length) ≤ w * b' + i := by
      rcases Nat.lt_or_ge b' b with q | q
      · left
        have : w * (b' + 1) ≤ w * b := Nat.mul_le_mul_left w q
        rw [Nat.mul_succ] at this
        omega
      · right
        have : w * (b + 1) ≤ w * b' := Nat.mul_le_mul_left w (by omega)
        rw [Nat.mul_succ] at this
        omega
    rw [h3 _ hx, h4 _ hx]
    exact hL b' hb' i hi
theorem cz_plan (bz ro hc : Nat → Nat) (hk hb : Nat → Nat → Nat) (W : cz_W nc nb ca fr tt st en ra de so go sz bz ro hc hk hb) (hnw : nw ≤ 200000) {b : Nat} (hb' : b < nb) (hro : ro b = 0) : ∃ (bz' ro' hc' : Nat → Nat) (hk' hb' : Nat → Nat → Nat), cz_W nc nb ca fr tt st en ra de so go sz bz' ro' hc' hk' hb' ∧ (∀ x, x ≠ b → ro' x = ro x) ∧ (∀ (HI : Nat → Int32) (H H' : Nat → Prop) (u : SX), (∀ x, x < nb → x ≠ b → H x → H' x) → cz_X nc nb nw ca fr tt st en ra de so go sz li HI H bz ro hc hk hb u → ∀ post : SX → Prop, (∀ u', cz_X nc nb nw ca fr tt st en ra de so go sz li HI H' bz' ro' hc' hk' hb' u' → post u') → wpX_plan post u (nI b)) ∧ (∀ (H H' : Nat → Prop) (v : SY), (∀ x, x < nb → x ≠ b → H x → H' x) → cz_Y nc nb nw ca fr tt st en ra de so go sz li H bz ro hc hk hb v → ∀ post : SY → Prop, (∀ v', cz_Y nc nb nw ca fr tt st en ra de so go sz li H' bz' ro' hc' hk' hb' v' → post v') → wpY_plan post v (nI b)) := by
  obtain ⟨⟨s6, g6, z1, z2⟩, q1, q2, q3, q4, q5⟩ := W.2.2.2.2.2 b hb'
  have Bk := cn_W_Bk W
  have hca := cn_ca10 W.2.2.1
  have hlt := cn_W_lt W hb'
  have ht6 : cn_rd nw (cn_lt ra de sz hc hk hb b) ≤ 1000000 := by
    have := cn_rd_le hnw (show cn_lt ra de sz hc hk hb b ≤ 200000 by omega)
    omega
  have hvg : cn_nd tt so hk b (hc b) ≠ go b := q2 hro
  -- the bundle stays unrouted
  have stay : (∀ (li0 : Unit), True) → (cn_No nc fr tt (cn_A nc ca st en ra de bz (sz b)) (cn_nd tt so hk b (hc b)) (cn_rd nw (cn_lt ra de sz hc hk hb b)) (go b) ∨ ∃ R, cn_O nc fr tt (cn_A nc ca st en ra de bz (sz b)) (cn_nd tt so hk b (hc b)) (cn_rd nw (cn_lt ra de sz hc hk hb b)) (go b) R ∧ ¬ nI (cn_t (cn_A nc ca st en ra de bz (sz b)) R (cn_rd nw (cn_lt ra de sz hc hk hb b))) ≤ li b) → ∃ (bz' ro' hc' : Nat → Nat) (hk' hb' : Nat → Nat → Nat), cz_W nc nb ca fr tt st en ra de so go sz bz' ro' hc' hk' hb' ∧ (∀ x, x ≠ b → ro' x = ro x) ∧ (∀ (HI : Nat → Int32) (H H' : Nat → Prop) (u : SX), (∀ x, x < nb → x ≠ b → H x → H' x) → cz_X nc nb nw ca fr tt st en ra de so go sz li HI H bz ro hc hk hb u → ∀ post : SX → Prop, (∀ u', cz_X nc nb nw ca fr tt st en ra de so go sz li HI H' bz' ro' hc' hk' hb' u' → post u') → wpX_plan post u (nI b)) ∧ (∀ (H H' : Nat → Prop) (v : SY), (∀ x, x < nb → x ≠ b → H x → H' x) → cz_Y nc nb nw ca fr tt st en ra de so go sz li H bz ro hc hk hb v → ∀ post : SY → Prop, (∀ v', cz_Y nc nb nw ca fr tt st en ra de so go sz li H' bz' ro' hc' hk' hb' v' → post v') → wpY_plan post v (nI b)) := by
    intro _ hst
    have hx : ∀ R, cn_O nc fr tt (cn_A nc ca st en ra de bz (sz b)) (cn_nd tt so hk b (hc b)) (cn_rd nw (cn_lt ra de sz hc hk hb b)) (go b) R → nI (cn_t (cn_A nc ca st en ra de bz (sz b)) R (cn_rd nw (cn_lt ra de sz hc hk hb b))) ≤ li b → False := by
      intro R hO hli
      rcases hst with hN | ⟨R', hO', hl'⟩
      · have := hN R hO.2.2.1 hO.2.1
        have := hO.2.2.2.1
        omega
      · have e1 := hO.2.2.2.2.1 R' hO'.2.2.1 hO'.2.1
        have e2 := hO'.2.2.2.2.1 R hO.2.2.1 hO.2.1
        have e3 : cn_t (cn_A nc ca st en ra de bz (sz b)) R (cn_rd nw (cn_lt ra de sz hc hk hb b)) = cn_t (cn_A nc ca st en ra de bz (sz b)) R' (cn_rd nw (cn_lt ra de sz hc hk hb b)) := Nat.le_antisymm e1 e2
        rw [e3] at hli
        exact hl' hli
    refine ⟨bz, ro, hc, hk, hb, W, fun _ _ => rfl, ?_, ?_⟩
    · rintro HI H H' u hH ⟨rc, RO, HK, HB, rk, rb, ea, el, rfl, hL, hR⟩ post hp
      have fin : ∀ rc rk rb ea el, post (nI nc, nI nb, nI nw, rc, cn_N ca, cn_N fr, cn_N tt, cn_N st, cn_N en, cn_N ra, cn_N de, cn_N bz, cn_N so, cn_N go, cn_N sz, li, upd RO b 0, HI, cn_N hc, HK, HB, rk, rb, ea, el) := by
        intro rc rk rb ea el
        refine hp _ ⟨rc, upd RO b 0, HK, HB, rk, rb, ea, el, rfl, hL, fun x hx1 hx2 => ?_⟩
        by_cases e : x = b
        · rw [e, pk_us, hro]; rfl
        · rw [pk_un e]; exact hR x hx1 (fun z => hx2 (hH x hx1 e z))
      exact cx_plan W hL hnw hb' hro rfl rfl rfl rfl (fun _ => fin) (fun _ _ _ => fin) (fun R hO hli => (hx R hO hli).elim)
    · rintro H H' v hH ⟨bs, ba, SK, OV, BG, tr, tb, nd, tm, nx, bo, bb, rfl, hL, hR⟩ post hp
      have fin : ∀ bs ba tr tb nd tm nx bo bb, post (nI nw, nI nc, nI nb, bs, ba, cn_N fr, cn_N tt, cn_N st, cn_N en, cn_N ra, cn_N de, cn_N ca, cn_N so, cn_N go, cn_N sz, li, upd SK b 1, cn_N hc, OV, BG, tr, tb, nd, tm, nx, bo, bb) := by
        intro bs ba tr tb nd tm nx bo bb
        refine hp _ ⟨bs, ba, upd SK b 1, OV, BG, tr, tb, nd, tm, nx, bo, bb, rfl, hL, fun x hx1 hx2 => ?_⟩
        by_cases e : x = b
        · rw [e, pk_us, hro]; rfl
        · rw [pk_un e]; exact hR x hx1 (fun z => hx2 (hH x hx1 e z))
      exact cy_plan W hL hnw hb' hro rfl rfl rfl rfl (fun _ => fin) (fun _ _ _ => fin) (fun R hO hli => (hx R hO hli).elim)
  rcases cn_O_or (nc := nc) (fr := fr) (tt := tt) (A := cn_A nc ca st en ra de bz (sz b)) (t := cn_rd nw (cn_lt ra de sz hc hk hb b)) hvg with hN | ⟨R, hO⟩
  · exact stay (fun _ => trivial) (Or.inl hN)
  · by_cases hli : nI (cn_t (cn_A nc ca st en ra de bz (sz b)) R (cn_rd nw (cn_lt ra de sz hc hk hb b))) ≤ li b
    · have hun : ∀ R', cn_O nc fr tt (cn_A nc ca st en ra de bz (sz b)) (cn_nd tt so hk b (hc b)) (cn_rd nw (cn_lt ra de sz hc hk hb b)) (go b) R' → R' = R := by
        intro R' hO'
        have P := cn_A_P (ca := ca) (bz := bz) W.1 z1
        exact (cn_df_best P ht6 hO').symm.trans (cn_df_best P ht6 hO)
      refine ⟨cn_bq ra (sz b) R (cn_bl (cn_A nc ca st en ra de bz (sz b)) (cn_b st en ra bz (sz b)) R (cn_rd nw (cn_lt ra de sz hc hk hb b))) bz, cn_u ro b 1, cn_u hc b (hc b + R.length), cn_ex hk b (hc b) R, cn_ex hb b (hc b) (cn_bl (cn_A nc ca st en ra de bz (sz b)) (cn_b st en ra bz (sz b)) R (cn_rd nw (cn_lt ra de sz hc hk hb b))), cn_W_plan W hb' hro ht6 hO rfl, fun x hx => cn_un hx, ?_, ?_⟩
      · rintro HI H H' u hH ⟨rc, RO, HK, HB, rk, rb, ea, el, rfl, hL, hR⟩ post hp
        refine cx_plan W hL hnw hb' hro rfl rfl rfl rfl (fun hN => ?_) (fun R' hO' hl' => ?_) (fun R' hO' hl' HK' HB' rc rk rb ea el g1 g2 g3 g4 => ?_)
        · have := hN R hO.2.2.1 hO.2.1
          have := hO.2.2.2.1
          omega
        · rw [hun R' hO'] at hl'
          exact absurd hli hl'
        · have e := hun R' hO'
          subst e
          refine hp _ ⟨rc, _, HK', HB', rk, rb, ea, el, rfl, cn_L_ex (by omega) hL (fun x hx => (Bk.2 x hx).2.2.1) (by have := hO'.2.1; omega) g1 g2 g3 g4, fun x hx1 hx2 => ?_⟩
          by_cases e : x = b
          · rw [e, pk_us, cn_us]; rfl
          · rw [pk_un e, pk_un e, cn_un e]; exact hR x hx1 (fun z => hx2 (hH x hx1 e z))
      · rintro H H' v hH ⟨bs, ba, SK, OV, BG, tr, tb, nd, tm, nx, bo, bb, rfl, hL, hR⟩ post hp
        refine cy_plan W hL hnw hb' hro rfl rfl rfl rfl (fun hN => ?_) (fun R' hO' hl' => ?_) (fun R' hO' hl' HK' HB' bs ba tr tb nd tm nx bo bb g1 g2 g3 g4 => ?_)
        · have := hN R hO.2.2.1 hO.2.1
          have := hO.2.2.2.1
          omega
        · rw [hun R' hO'] at hl'
          exact absurd hli hl'
        · have e := hun R' hO'
          subst e
          refine hp _ ⟨bs, ba, _, HK', HB', tr, tb, nd, tm, nx, bo, bb, rfl, cn_L_ex (by omega) hL (fun x hx => (Bk.2 x hx).2.2.1) (by have := hO'.2.1; omega) g1 g2 g3 g4, fun x hx1 hx2 => ?_⟩
          by_cases e : x = b
          · rw [e, pk_us, cn_us]; rfl
          · rw [pk_un e, cn_un e]; exact hR x hx1 (fun z => hx2 (hH x hx1 e z))
    · exact stay (fun _ => trivial) (Or.inr ⟨R, hO, hli⟩)
/-- nothing is hit -/
def cz_0 : Nat → Prop := fun _ => False
theorem cz_retry (hnw : nw ≤ 200000) : ∀ (d b : Nat), b + d = nb → ∀ (bz ro hc : Nat → Nat) (hk hb : Nat → Nat → Nat), cz_W nc nb ca fr tt st en ra de so go sz bz ro hc hk hb → ∃ (bz' ro' hc' : Nat → Nat) (hk' hb' : Nat → Nat → Nat), cz_W nc nb ca fr tt st en ra de so go sz bz' ro' hc' hk' hb' ∧ (∀ (HI : Nat → Int32) (u : SX), cz_X nc nb nw ca fr tt st en ra de so go sz li HI cz_0 bz ro hc hk hb u → ∀ post : SX → Prop, (∀ u', cz_X nc nb nw ca fr tt st en ra de so go sz li HI cz_0 bz' ro' hc' hk' hb' u' → post u') → ∀ n, d < n → wX_retry_2 post n (nI b) u.1 u.2.1 u.2.2.1 u.2.2.2.1 u.2.2.2.2.1 u.2.2.2.2.2.1 u.2.2.2.2.2.2.1 u.2.2.2.2.2.2.2.1 u.2.2.2.2.2.2.2.2.1 u.2.2.2.2.2.2.2.2.2.1 u.2.2.2.2.2.2.2.2.2.2.1 u.2.2.2.2.2.2.2.2.2.2.2.1 u.2.2.2.2.2.2.2.2.2.2.2.2.1 u.2.2.2.2.2.2.2.2.2.2.2.2.2.1 u.2.2.2.2.2.2.2.2.2.2.2.2.2.2.1 u.2.2.2.2.2.2.2.2.2.2.2.2.2.2.2.1 u.2.2.2.2.2.2.2.2.2.2.2.2.2.2.2.2.1 u.2.2.2.2.2.2.2.2.2.2.2.2.2.2.2.2.2.1 u.2.2.2.2.2.2.2.2.2.2.2.2.2.2.2.2.2.2.1 u.2.2.2.2.2.2.2.2.2.2.2.2.2.2.2.2.2.2.2.1 u.2.2.2.2.2.2.2.2.2.2.2.2.2.2.2.2.2.2.2.2.1 u.2.2.2.2.2.2.2.2.2.2.2.2.2.2.2.2.2.2.2.2.2.1 u.2.2.2.2.2.2.2.2.2.2.2.2.2.2.2.2.2.2.2.2.2.2.1 u.2.2.2.2.2.2.2.2.2.2.2.2.2.2.2.2.2.2.2.2.2.2.2.1 u.2.2.2.2.2.2.2.2.2.2.2.2.2.2.2.2.2.2.2.2.2.2.2.2) ∧ (∀ (v : SY), cz_Y nc nb nw ca fr tt st en ra de so go sz li cz_0 bz ro hc hk hb v → ∀ post : SY → Prop, (∀ v', cz_Y nc nb nw ca fr tt st en ra de so go sz li cz_0 bz' ro' hc' hk' hb' v' → post v') → ∀ n, d < n → wY_retry_2 post n (nI b) v.1 v.2.1 v.2.2.1 v.2.2.2.1 v.2.2.2.2.1 v.2.2.2.2.2.1 v.2.2.2.2.2.2.1 v.2.2.2.2.2.2.2.1 v.2.2.2.2.2.2.2.2.1 v.2.2.2.2.2.2.2.2.2.1 v.2.2.2.2.2.2.2.2.2.2.1 v.2.2.2.2.2.2.2.2.2.2.2.1 v.2.2.2.2.2.2.2.2.2.2.2.2.1 v.2.2.2.2.2.2.2.2.2.2.2.2.2.1 v.2.2.2.2.2.2.2.2.2.2.2.2.2.2.1 v.2.2.2.2.2.2.2.2.2.2.2.2.2.2.2.1 v.2.2.2.2.2.2.2.2.2.2.2.2.2.2.2.2.1 v.2.2.2.2.2.2.2.2.2.2.2.2.2.2.2.2.2.1 v.2.2.2.2.2.2.2.2.2.2.2.2.2.2.2.2.2.2.1 v.2.2.2.2.2.2.2.2.2.2.2.2.2.2.2.2.2.2.2.1 v.2.2.2.2.2.2.2.2.2.2.2.2.2.2.2.2.2.2.2.2.1 v.2.2.2.2.2.2.2.2.2.2.2.2.2.2.2.2.2.2.2.2.2.1 v.2.2.2.2.2.2.2.2.2.2.2.2.2.2.2.2.2.2.2.2.2.2.1 v.2.2.2.2.2.2.2.2.2.2.2.2.2.2.2.2.2.2.2.2.2.2.2.1 v.2.2.2.2.2.2.2.2.2.2.2.2.2.2.2.2.2.2.2.2.2.2.2.2.1 v.2.2.2.2.2.2.2.2.2.2.2.2.2.2.2.2.2.2.2.2.2.2.2.2.2.1 v.2.2.2.2.2.2.2.2.2.2.2.2.2.2.2.2.2.2.2.2.2.2.2.2.2.2) := by
  intro d
  induction d with
  | zero =>
    intro b hbd bz ro hc hk hb W
    have nb1 := W.2.2.2.2.1
    refine ⟨bz, ro, hc, hk, hb, W, ?_, ?_⟩
    · rintro HI u ⟨rc, RO, HK, HB, rk, rb, ea, el, rfl, hL, hR⟩ post hp n hn
      obtain ⟨n, rfl⟩ : ∃ n', n = n' + 1 := ⟨n - 1, by omega⟩
      rw [wX_retry_2]
      exact br_t (nI_le (by omega) (by omega)) (hp _ ⟨rc, RO, HK, HB, rk, rb, ea, el, rfl, hL, hR⟩)
    · rintro v ⟨bs, ba, SK, OV, BG, tr, tb, nd, tm, nx, bo, bb, rfl, hL, hR⟩ post hp n hn
      obtain ⟨n, rfl⟩ : ∃ n', n = n' + 1 := ⟨n - 1, by omega⟩
      rw [wY_retry_2]
      exact br_t (nI_le (by omega) (by omega)) (hp _ ⟨bs, ba, SK, OV, BG, tr, tb, nd, tm, nx, bo, bb, rfl, hL, hR⟩)
  | succ d ih =>
    intro b hbd bz ro hc hk hb W
    have nb1 := W.2.2.2.2.1
    have hbn : b < nb := by omega
    have hb2 : b < 2 ^ 31 := by omega
    have hr1 := (W.2.2.2.2.2 b hbn).2.2.2.1
    by_cases hro : ro b = 0
    · obtain ⟨bz1, ro1, hc1, hk1, hb1, W1, -, X1, Y1⟩ := cz_plan (li := li) bz ro hc hk hb W hnw hbn hro
      obtain ⟨bz2, ro2, hc2, hk2, hb2', W2, X2, Y2⟩ := ih (b + 1) (by omega) bz1 ro1 hc1 hk1 hb1 W1
      refine ⟨bz2, ro2, hc2, hk2, hb2', W2, ?_, ?_⟩
      · rintro HI u ⟨rc, RO, HK, HB, rk, rb, ea, el, rfl, hL, hR⟩ post hp n hn
        obtain ⟨n, rfl⟩ : ∃ n', n = n' + 1 := ⟨n - 1, by omega⟩
        rw [wX_retry_2]
        have e := hR b hbn (fun z => z)
        rw [hro] at e
        refine br_f (nI_ge hbn (by omega)) ⟨vp_in_nI (by omega) (by decide), br_t (by rw [nI_clamp hb2]; exact e) ?_⟩
        refine X1 HI cz_0 cz_0 _ (fun x _ _ z => z) ⟨rc, RO, HK, HB, rk, rb, ea, el, rfl, hL, hR⟩ _ ?_
        rintro u' hu'
        have hn' := X2 HI u' hu' post hp n (by omega)
        obtain ⟨rc', RO', HK', HB', rk', rb', ea', el', rfl, hL', hR'⟩ := hu'
        exact nm_r (nI_1 b) hn'
      · rintro v ⟨bs, ba, SK, OV, BG, tr, tb, nd, tm, nx, bo, bb, rfl, hL, hR⟩ post hp n hn
        obtain ⟨n, rfl⟩ : ∃ n', n = n' + 1 := ⟨n - 1, by omega⟩
        rw [wY_retry_2]
        have e := hR b hbn (fun z => z)
        rw [hro] at e
        refine br_f (nI_ge hbn (by omega)) ⟨vp_in_nI (by omega) (by decide), br_f (by rw [nI_clamp hb2]; show ¬ SK b = 0; rw [e]; decide) ?_⟩
        refine Y1 cz_0 cz_0 _ (fun x _ _ z => z) ⟨bs, ba, SK, OV, BG, tr, tb, nd, tm, nx, bo, bb, rfl, hL, hR⟩ _ ?_
        rintro v' hv'
        have hn' := Y2 v' hv' post hp n (by omega)
        obtain ⟨bs', ba', SK', OV', BG', tr', tb', nd', tm', nx', bo', bb', rfl, hL', hR'⟩ := hv'
        exact nm_r (nI_1 b) hn'
    · have hro1 : ro b = 1 := by omega
      obtain ⟨bz2, ro2, hc2, hk2, hb2', W2, X2, Y2⟩ := ih (b + 1) (by omega) bz ro hc hk hb W
      refine ⟨bz2, ro2, hc2, hk2, hb2', W2, ?_, ?_⟩
      · rintro HI u ⟨rc, RO, HK, HB, rk, rb, ea, el, rfl, hL, hR⟩ post hp n hn
        obtain ⟨n, rfl⟩ : ∃ n', n = n' + 1 := ⟨n - 1, by omega⟩
        rw [wX_retry_2]
        have e := hR b hbn (fun z => z)
        rw [hro1] at e
        refine br_f (nI_ge hbn (by omega)) ⟨vp_in_nI (by omega) (by decide), br_f (by rw [nI_clamp hb2]; show ¬ RO b = 0; rw [e]; decide) ?_⟩
        exact nm_r (nI_1 b) (X2 HI _ ⟨rc, RO, HK, HB, rk, rb, ea, el, rfl, hL, hR⟩ post hp n (by omega))
      · rintro v ⟨bs, ba, SK, OV, BG, tr, tb, nd, tm, nx, bo, bb, rfl, hL, hR⟩ post hp n hn
        obtain ⟨n, rfl⟩ : ∃ n', n = n' + 1 := ⟨n - 1, by omega⟩
        rw [wY_retry_2]
        have e := hR b hbn (fun z => z)
        rw [hro1] at e
        refine br_f (nI_ge hbn (by omega)) ⟨vp_in_nI (by omega) (by decide), br_t (by rw [nI_clamp hb2]; exact e) ?_⟩
        exact nm_r (nI_1 b) (Y2 _ ⟨bs, ba, SK, OV, BG, tr, tb, nd, tm, nx, bo, bb, rfl, hL, hR⟩ post hp n (by omega))
end CzPlan
end
section
/-! losing bookings -/
/-- the first booking of b on k by which it hasn't gone out wholly -/
def cn_h (ra sz hc : Nat → Nat) (hk hb : Nat → Nat → Nat) (nw k b : Nat) : Option Nat := cn_fs (fun i => decide (hk b i = k ∧ nw < hb b i + cn_tk ra k (sz b))) (hc b) 0
theorem cn_fs_lt (p : Nat → Bool) : ∀ (n b c : Nat), cn_fs p n b = some c → c < b + n := by
  intro n
  induction n with
  | zero => intro b c h; exact absurd h (by simp [cn_fs])
  | succ n ih =>
    intro b c h
    unfold cn_fs at h
    split at h
    · cases h; omega
    · have := ih (b + 1) c h; omega
theorem cn_h_lt {ra sz hc : Nat → Nat} {hk hb : Nat → Nat → Nat} {nw k b i : Nat} (h : cn_h ra sz hc hk hb nw k b = some i) : i < hc b := by
  have := cn_fs_lt _ _ _ _ h
  omega
/-- the table when d bookings of b, from j on, are made free -/
def cn_cl (ra sz : Nat → Nat) (hk hb : Nat → Nat → Nat) (b : Nat) : Nat → Nat → (Nat → Nat) → (Nat → Nat)
  | 0, _, bz => bz
  | d + 1, j, bz => cn_cl ra sz hk hb b d (j + 1) (cn_sb bz (hk b j) (hb b j) (cn_tk ra (hk b j) (sz b)) 0)
section CnCut
variable {nc nb : Nat} {ca fr tt st en ra de bz so go sz ro hc : Nat → Nat} {hk hb : Nat → Nat → Nat}
theorem cn_cl_le {b : Nat} : ∀ (d j : Nat) (bz : Nat → Nat), (∀ x, bz x ≤ 1) → ∀ x, cn_cl ra sz hk hb b d j bz x ≤ 1 := by
  intro d
  induction d with
  | zero => intro j bz h; exact h
  | succ d ih => intro j bz h; exact ih (j + 1) _ (cn_sb_le h (by omega))
theorem cn_cl_Bz {b i : Nat} (h : cn_Bz nb hc ra sz hk hb bz) (hbn : b < nb) (hl : ∀ j, j < hc b → hb b j + cn_tk ra (hk b j) (sz b) ≤ 101) : ∀ (d j : Nat) (bz' : Nat → Nat), j + d = hc b → i ≤ j → (∀ k, k < 10 → ∀ t, t < 101 → bz' (101 * k + t) + cn_S (j - i) (fun l => cn_i ra sz hk hb k t b (i + l)) = bz (101 * k + t)) → cn_Bz nb (cn_u hc b i) ra sz hk hb (cn_cl ra sz hk hb b d j bz') := by
  intro d
  induction d with
  | zero =>
    intro j bz' hj hij hz
    have e : j = hc b := by omega
    subst e
    exact cn_Bz_cut h hbn hij hz
  | succ d ih =>
    intro j bz' hj hij hz
    exact ih (j + 1) _ (by omega) (by omega) (cn_Bz_clr h hbn hij (by omega) (hl j (by omega)) hz)
theorem cn_W_cut (W : cn_W nc nb ca fr tt st en ra de bz so go sz ro hc hk hb) {b i : Nat} (hbn : b < nb) (hi : i < hc b) (h4 : i ≤ 4 * cn_S 10 ca) : cn_W nc nb ca fr tt st en ra de (cn_cl ra sz hk hb b (hc b - i) i bz) so go sz (cn_u ro b 0) (cn_u hc b i) hk hb := by
  obtain ⟨w1, w2, w3, w4, w5, w6⟩ := W
  refine ⟨w1, cn_cl_le _ _ _ w2, w3, ?_, w5, fun b' hb' => ?_⟩
  · refine cn_cl_Bz w4 hbn ?_ (hc b - i) i bz (by omega) (Nat.le_refl _) ?_
    · intro j hj
      obtain ⟨g1, g2, -⟩ := (w6 b hbn).2.1 j hj
      have := (w1.2 _ g1).2.2.2.1
      omega
    · intro k _ t _
      rw [Nat.sub_self]
      rfl
  · by_cases e : b' = b
    · subst e
      obtain ⟨p1, p2, p3, p4, p5, p6⟩ := w6 b' hb'
      refine ⟨p1, ?_, ?_, ?_, ?_, ?_⟩
      · intro j hj
        rw [cn_us] at hj
        exact p2 j (by omega)
      · intro _
        rw [cn_us]
        exact (p2 i hi).2.2.2
      · rw [cn_us]; omega
      · intro h; rw [cn_us] at h; omega
      · rw [cn_us, cn_us]; omega
    · obtain ⟨p1, p2, p3, p4, p5, p6⟩ := w6 b' hb'
      refine ⟨p1, ?_, ?_, ?_, ?_, ?_⟩
      · rw [cn_un e]; exact p2
      · rw [cn_un e, cn_un e]; exact p3
      · rw [cn_un e]; exact p4
      · rw [cn_un e, cn_un e]; exact p5
      · rw [cn_un e, cn_un e]; exact p6
end CnCut
section CxCut
variable {nc nb nw : Nat} {rc : Int32} {ca fr tt st en ra de bz so go sz hc : Nat → Nat} {li RO HI HK HB rk rb ea el : Nat → Int32} {hk hb : Nat → Nat → Nat}
theorem cx_open (N : cn_Net nc fr tt st en ra de) (Bk : cn_Bk nc nb en ra sz hc hk hb) (hL : cn_L 100 nb hc hk hb HK HB) (hnw : nw ≤ 200000) {b k : Nat} (hb' : b < nb) (hk' : k < nc) {post : Int32 → Prop} (h : post (cn_o (cn_h ra sz hc hk hb nw k b))) : wpX_openBooking post (nI nc, nI nb, nI nw, rc, cn_N ca, cn_N fr, cn_N tt, cn_N st, cn_N en, cn_N ra, cn_N de, cn_N bz, cn_N so, cn_N go, cn_N sz, li, RO, HI, cn_N hc, HK, HB, rk, rb, ea, el) (nI b) (nI k) := by
  have n1 := N.1
  obtain ⟨c0, c1⟩ := Bk
  obtain ⟨s1, s2, c60, hh⟩ := c1 b hb'
  have hb2 : b < 2 ^ 31 := by omega
  unfold wpX_openBooking
  dsimp only
  refine ⟨hc b + 1, ?_⟩
  have key : ∀ (d i : Nat), i + d = hc b → post (cn_o (cn_fs (fun i => decide (hk b i = k ∧ nw < hb b i + cn_tk ra k (sz b))) d i)) → ∀ n, d < n → wX_openBooking_2 post (nI b) (nI k) (nI nc) (nI nb) (nI nw) rc (cn_N ca) (cn_N fr) (cn_N tt) (cn_N st) (cn_N en) (cn_N ra) (cn_N de) (cn_N bz) (cn_N so) (cn_N go) (cn_N sz) li RO HI (cn_N hc) HK HB rk rb ea el n (nI i) := by
    intro d
    induction d with
    | zero =>
      intro i hi hp n hn
      obtain ⟨n, rfl⟩ : ∃ n', n = n' + 1 := ⟨n - 1, by omega⟩
      rw [wX_openBooking_2]
      simp only [nI_clamp hb2, cn_Ne]
      exact ⟨vp_in_nI (by omega) (by decide), br_t (nI_le (by omega) (by omega)) hp⟩
    | succ d ih =>
      intro i hi hp n hn
      obtain ⟨n, rfl⟩ : ∃ n', n = n' + 1 := ⟨n - 1, by omega⟩
      have hi3 : i < hc b := by omega
      obtain ⟨l1, l2⟩ := hL b hb' i hi3
      obtain ⟨g1, g2⟩ := hh i hi3
      have g3 := (N.2 _ g1).2.2.2.1
      have htk := cn_tk_in (N.2 k hk').2.2.2.2.1 s1
      have e1 : (100 : Int32) * nI b + nI i = nI (100 * b + i) := cn_ix 100 b i
      have hi2 : 100 * b + i < 2 ^ 31 := by omega
      have hp1 := hp
      unfold cn_fs at hp1
      rw [wX_openBooking_2]
      simp only [nI_clamp hb2, cn_Ne, e1, nI_clamp hi2, l2]
      refine ⟨vp_in_nI (by omega) (by decide), br_f (nI_ge hi3 (by omega)) ⟨vp_in_nI (by omega) (by decide), vp_in_nI (by omega) (by decide), ?_⟩⟩
      refine cx_ticks N hk' s1 s2 ?_
      rw [nI_add]
      refine pk_le (hb b i + cn_tk ra k (sz b)) nw (fun q => ?_) (fun q => ?_)
      · unfold wX_openBooking_47
        simp only [e1, nI_clamp hi2, l1]
        rw [if_neg (by simp; omega)] at hp1
        refine ⟨vp_in_nI (by omega) (by decide), br_c (fun _ => br_t (by trivial) (nm_r (nI_1 i) ?_)) (fun _ => nm_r (nI_1 i) ?_)⟩
        · exact ih (i + 1) (by omega) hp1 n (by omega)
        · exact ih (i + 1) (by omega) hp1 n (by omega)
      · unfold wX_openBooking_47
        simp only [e1, nI_clamp hi2, l1]
        refine ⟨vp_in_nI (by omega) (by decide), pk_eq (hk b i) k (fun q2 => br_f (by decide) ?_) (fun q2 => nm_r (nI_1 i) ?_)⟩
        · rw [if_pos (by simp; exact ⟨q2, q⟩)] at hp1
          exact hp1
        · rw [if_neg (by simp; intro z; exact absurd z q2)] at hp1
          exact ih (i + 1) (by omega) hp1 n (by omega)
  exact key (hc b) 0 (by omega) h (hc b + 1) (by omega)
theorem cx_lose (N : cn_Net nc fr tt st en ra de) (Bk : cn_Bk nc nb en ra sz hc hk hb) (hL : cn_L 100 nb hc hk hb HK HB) {b i : Nat} (hb' : b < nb) (hi : i ≤ hc b) {post : SX → Prop} (h : post (nI nc, nI nb, nI nw, rc, cn_N ca, cn_N fr, cn_N tt, cn_N st, cn_N en, cn_N ra, cn_N de, cn_N (cn_cl ra sz hk hb b (hc b - i) i bz), cn_N so, cn_N go, cn_N sz, li, RO, HI, cn_N (cn_u hc b i), HK, HB, rk, rb, ea, el)) : wpX_loseFrom post (nI nc, nI nb, nI nw, rc, cn_N ca, cn_N fr, cn_N tt, cn_N st, cn_N en, cn_N ra, cn_N de, cn_N bz, cn_N so, cn_N go, cn_N sz, li, RO, HI, cn_N hc, HK, HB, rk, rb, ea, el) (nI b) (nI i) := by
  have n1 := N.1
  obtain ⟨c0, c1⟩ := Bk
  obtain ⟨s1, s2, c60, hh⟩ := c1 b hb'
  have hb2 : b < 2 ^ 31 := by omega
  unfold wpX_loseFrom
  dsimp only
  refine ⟨hc b - i + 1, ?_⟩
  have key : ∀ (d j : Nat) (bz : Nat → Nat), j + d = hc b → post (nI nc, nI nb, nI nw, rc, cn_N ca, cn_N fr, cn_N tt, cn_N st, cn_N en, cn_N ra, cn_N de, cn_N (cn_cl ra sz hk hb b d j bz), cn_N so, cn_N go, cn_N sz, li, RO, HI, cn_N (cn_u hc b i), HK, HB, rk, rb, ea, el) → ∀ n, d < n → wX_loseFrom_2 post (nI b) (nI i) n (nI j) (nI nc) (nI nb) (nI nw) rc (cn_N ca) (cn_N fr) (cn_N tt) (cn_N st) (cn_N en) (cn_N ra) (cn_N de) (cn_N bz) (cn_N so) (cn_N go) (cn_N sz) li RO HI (cn_N hc) HK HB rk rb ea el := by
    intro d
    induction d with
    | zero =>
      intro j bz hj hp n hn
      obtain ⟨n, rfl⟩ : ∃ n', n = n' + 1 := ⟨n - 1, by omega⟩
      rw [wX_loseFrom_2]
      simp only [nI_clamp hb2, cn_Ne]
      refine ⟨vp_in_nI (by omega) (by decide), br_t (nI_le (by omega) (by omega)) ⟨vp_in_nI (by omega) (by decide), nm_r (cn_upd hc b i) hp⟩⟩
    | succ d ih =>
      intro j bz hj hp n hn
      obtain ⟨n, rfl⟩ : ∃ n', n = n' + 1 := ⟨n - 1, by omega⟩
      have hj3 : j < hc b := by omega
      obtain ⟨l1, l2⟩ := hL b hb' j hj3
      obtain ⟨g1, g2⟩ := hh j hj3
      have g3 := (N.2 _ g1).2.2.2.1
      have e1 : (100 : Int32) * nI b + nI j = nI (100 * b + j) := cn_ix 100 b j
      have hj2 : 100 * b + j < 2 ^ 31 := by omega
      rw [wX_loseFrom_2]
      simp only [nI_clamp hb2, cn_Ne, e1, nI_clamp hj2, l1, l2]
      refine ⟨vp_in_nI (by omega) (by decide), br_f (nI_ge hj3 (by omega)) ⟨vp_in_nI (by omega) (by decide), nm_e ⟨vp_in_nI (by omega) (by decide), ?_⟩⟩⟩
      refine cx_ticks N g1 s1 s2 ⟨vp_in_nI (by omega) (by decide), ?_⟩
      refine cx_busy (x := 0) (by omega) (by omega) (by omega) ?_
      exact nm_r (nI_1 j) (ih (j + 1) _ (by omega) hp n (by omega))
  exact key (hc b - i) i bz (by omega) h (hc b - i + 1) (by omega)
end CxCut
section CyCut
variable {nc nb nw : Nat} {bs ba : Int32} {ca fr tt st en ra de bz so go sz hc : Nat → Nat} {li SK OV BG tr tb nd tm nx bo bb : Nat → Int32} {hk hb : Nat → Nat → Nat}
theorem cy_hit (N : cn_Net nc fr tt st en ra de) (Bk : cn_Bk nc nb en ra sz hc hk hb) (hL : cn_L 64 nb hc hk hb OV BG) (hnw : nw ≤ 200000) {b k : Nat} (hb' : b < nb) (hk' : k < nc) {post : Int32 → Prop} (h : post (cn_o (cn_h ra sz hc hk hb nw k b))) : wpY_hitAt post (nI nw, nI nc, nI nb, bs, ba, cn_N fr, cn_N tt, cn_N st, cn_N en, cn_N ra, cn_N de, cn_N ca, cn_N so, cn_N go, cn_N sz, li, SK, cn_N hc, OV, BG, tr, tb, nd, tm, nx, bo, bb) (nI b) (nI k) := by
  have n1 := N.1
  obtain ⟨c0, c1⟩ := Bk
  obtain ⟨s1, s2, c60, hh⟩ := c1 b hb'
  have hb2 : b < 2 ^ 31 := by omega
  unfold wpY_hitAt
  dsimp only
  refine ⟨hc b + 1, ?_⟩
  have key : ∀ (d i : Nat), i + d = hc b → post (cn_o (cn_fs (fun i => decide (hk b i = k ∧ nw < hb b i + cn_tk ra k (sz b))) d i)) → ∀ n, d < n → wY_hitAt_2 post (nI b) (nI k) (nI nw) (nI nc) (nI nb) bs ba (cn_N fr) (cn_N tt) (cn_N st) (cn_N en) (cn_N ra) (cn_N de) (cn_N ca) (cn_N so) (cn_N go) (cn_N sz) li SK (cn_N hc) OV BG tr tb nd tm nx bo bb n (nI i) := by
    intro d
    induction d with
    | zero =>
      intro i hi hp n hn
      obtain ⟨n, rfl⟩ : ∃ n', n = n' + 1 := ⟨n - 1, by omega⟩
      rw [wY_hitAt_2]
      simp only [nI_clamp hb2, cn_Ne]
      exact ⟨vp_in_nI (by omega) (by decide), br_t (nI_le (by omega) (by omega)) hp⟩
    | succ d ih =>
      intro i hi hp n hn
      obtain ⟨n, rfl⟩ : ∃ n', n = n' + 1 := ⟨n - 1, by omega⟩
      have hi3 : i < hc b := by omega
      obtain ⟨l1, l2⟩ := hL b hb' i hi3
      obtain ⟨g1, g2⟩ := hh i hi3
      have g3 := (N.2 _ g1).2.2.2.1
      have htk := cn_tk_in (N.2 k hk').2.2.2.2.1 s1
      have e1 : (64 : Int32) * nI b + nI i = nI (64 * b + i) := cn_ix 64 b i
      have hi2 : 64 * b + i < 2 ^ 31 := by omega
      have hp1 := hp
      unfold cn_fs at hp1
      rw [wY_hitAt_2]
      simp only [nI_clamp hb2, cn_Ne, e1, nI_clamp hi2, l1, l2]
      refine ⟨vp_in_nI (by omega) (by decide), br_f (nI_ge hi3 (by omega)) ⟨vp_in_nI (by omega) (by decide), pk_eq (hk b i) k (fun q2 => ?_) (fun q2 => nm_r (nI_1 i) ?_)⟩⟩
      · refine ⟨vp_in_nI (by omega) (by decide), vp_in_nI (by omega) (by decide), ?_⟩
        refine cy_ticks N hk' s1 s2 ?_
        rw [nI_add]
        refine pk_le (hb b i + cn_tk ra k (sz b)) nw (fun q => nm_r (nI_1 i) ?_) (fun q => ?_)
        · rw [if_neg (by simp; omega)] at hp1
          exact ih (i + 1) (by omega) hp1 n (by omega)
        · rw [if_pos (by simp; exact ⟨q2, q⟩)] at hp1
          exact hp1
      · rw [if_neg (by simp; intro z; exact absurd z q2)] at hp1
        exact ih (i + 1) (by omega) hp1 n (by omega)
  exact key (hc b) 0 (by omega) h (hc b + 1) (by omega)
end CyCut
end
section
/-! cancelling a contact: both loops over the bundles, in lockstep -/
theorem cn_bt1 : ∀ i, i < 32 → bt 1 i = decide (i = 0) := by decide +kernel
theorem cn_bset {x : Int32} {b i : Nat} (hb : b < 32) (hi : i < 32) : bt (x ||| ((1 : Int32) <<< (nI b &&& 31))) i = (bt x i || decide (i = b)) := by
  rw [b_or, b_shl b hb 1 hi]
  congr 1
  by_cases h : b ≤ i
  · rw [cn_bt1 (i - b) (by omega)]
    by_cases e : i = b
    · subst e; simp
    · have h2 : ¬ (i - b = 0) := by omega
      simp [h2, e]
  · have e : ¬ i = b := by omega
    simp [h, e]
theorem cn_btst {x : Int32} {b : Nat} (hb : b < 32) : ((x >>> (nI b &&& 31)) &&& 1) = 1 ↔ bt x b = true := by
  have h0 : bt (x >>> (nI b &&& 31)) 0 = bt x b := by
    rw [b_sshr b hb x (by omega), if_pos (by omega), Nat.add_zero]
  constructor
  · intro h
    have h1 : bt ((x >>> (nI b &&& 31)) &&& 1) 0 = bt 1 0 := by rw [h]
    rw [b_and, h0, cn_bt1 0 (by omega)] at h1
    simpa using h1
  · intro h
    refine b_ext fun i hi => ?_
    rw [b_and, cn_bt1 i hi]
    by_cases e : i = 0
    · subst e
      rw [h0, h]; rfl
    · simp [e]
section CzCancel
variable {nc nb nw : Nat} {ca fr tt st en ra de so go sz : Nat → Nat} {li : Nat → Int32}
theorem cz_X_mono {HI : Nat → Int32} {H H' : Nat → Prop} {bz ro hc : Nat → Nat} {hk hb : Nat → Nat → Nat} {u : SX} (hH : ∀ x, x < nb → H x → H' x) (h : cz_X nc nb nw ca fr tt st en ra de so go sz li HI H bz ro hc hk hb u) : cz_X nc nb nw ca fr tt st en ra de so go sz li HI H' bz ro hc hk hb u := by
  obtain ⟨rc, RO, HK, HB, rk, rb, ea, el, e, hL, hR⟩ := h
  exact ⟨rc, RO, HK, HB, rk, rb, ea, el, e, hL, fun x h1 h2 => hR x h1 (fun z => h2 (hH x h1 z))⟩
theorem cz_Y_mono {H H' : Nat → Prop} {bz ro hc : Nat → Nat} {hk hb : Nat → Nat → Nat} {v : SY} (hH : ∀ x, x < nb → H x → H' x) (h : cz_Y nc nb nw ca fr tt st en ra de so go sz li H bz ro hc hk hb v) : cz_Y nc nb nw ca fr tt st en ra de so go sz li H' bz ro hc hk hb v := by
  obtain ⟨bs, ba, SK, OV, BG, tr, tb, nd, tm, nx, bo, bb, e, hL, hR⟩ := h
  exact ⟨bs, ba, SK, OV, BG, tr, tb, nd, tm, nx, bo, bb, e, hL, fun x h1 h2 => hR x h1 (fun z => h2 (hH x h1 z))⟩
theorem cz_c2 (hnw : nw ≤ 200000) {H : Nat → Prop} {HI : Nat → Int32} {Mk : Int32} (hHI : ∀ x, x < nb → (HI x = 0 ↔ ¬ H x)) (hMk : ∀ x, x < nb → (bt Mk x = true ↔ H x)) : ∀ (d b : Nat), b + d = nb → ∀ (bz ro hc : Nat → Nat) (hk hb : Nat → Nat → Nat), cz_W nc nb ca fr tt st en ra de so go sz bz ro hc hk hb → (∀ x, x < nb → b ≤ x → H x → ro x = 0) → ∃ (bz' ro' hc' : Nat → Nat) (hk' hb' : Nat → Nat → Nat), cz_W nc nb ca fr tt st en ra de so go sz bz' ro' hc' hk' hb' ∧ (∀ u : SX, cz_X nc nb nw ca fr tt st en ra de so go sz li HI (fun x => H x ∧ b ≤ x) bz ro hc hk hb u → ∀ (post : Int32 → SX → Prop) (m : Int32), (∀ u', cz_X nc nb nw ca fr tt st en ra de so go sz li HI cz_0 bz' ro' hc' hk' hb' u' → post m u') → ∀ n, d < n → wX_cancel_85 post m n (nI b) u.1 u.2.1 u.2.2.1 u.2.2.2.1 u.2.2.2.2.1 u.2.2.2.2.2.1 u.2.2.2.2.2.2.1 u.2.2.2.2.2.2.2.1 u.2.2.2.2.2.2.2.2.1 u.2.2.2.2.2.2.2.2.2.1 u.2.2.2.2.2.2.2.2.2.2.1 u.2.2.2.2.2.2.2.2.2.2.2.1 u.2.2.2.2.2.2.2.2.2.2.2.2.1 u.2.2.2.2.2.2.2.2.2.2.2.2.2.1 u.2.2.2.2.2.2.2.2.2.2.2.2.2.2.1 u.2.2.2.2.2.2.2.2.2.2.2.2.2.2.2.1 u.2.2.2.2.2.2.2.2.2.2.2.2.2.2.2.2.1 u.2.2.2.2.2.2.2.2.2.2.2.2.2.2.2.2.2.1 u.2.2.2.2.2.2.2.2.2.2.2.2.2.2.2.2.2.2.1 u.2.2.2.2.2.2.2.2.2.2.2.2.2.2.2.2.2.2.2.1 u.2.2.2.2.2.2.2.2.2.2.2.2.2.2.2.2.2.2.2.2.1 u.2.2.2.2.2.2.2.2.2.2.2.2.2.2.2.2.2.2.2.2.2.1 u.2.2.2.2.2.2.2.2.2.2.2.2.2.2.2.2.2.2.2.2.2.2.1 u.2.2.2.2.2.2.2.2.2.2.2.2.2.2.2.2.2.2.2.2.2.2.2.1 u.2.2.2.2.2.2.2.2.2.2.2.2.2.2.2.2.2.2.2.2.2.2.2.2) ∧ (∀ v : SY, cz_Y nc nb nw ca fr tt st en ra de so go sz li (fun x => H x ∧ b ≤ x) bz ro hc hk hb v → ∀ (post : Int32 → SY → Prop) (m : Int32), (∀ v', cz_Y nc nb nw ca fr tt st en ra de so go sz li cz_0 bz' ro' hc' hk' hb' v' → post m v') → ∀ n, d < n → wY_cancel_88 post Mk m n (nI b) v.1 v.2.1 v.2.2.1 v.2.2.2.1 v.2.2.2.2.1 v.2.2.2.2.2.1 v.2.2.2.2.2.2.1 v.2.2.2.2.2.2.2.1 v.2.2.2.2.2.2.2.2.1 v.2.2.2.2.2.2.2.2.2.1 v.2.2.2.2.2.2.2.2.2.2.1 v.2.2.2.2.2.2.2.2.2.2.2.1 v.2.2.2.2.2.2.2.2.2.2.2.2.1 v.2.2.2.2.2.2.2.2.2.2.2.2.2.1 v.2.2.2.2.2.2.2.2.2.2.2.2.2.2.1 v.2.2.2.2.2.2.2.2.2.2.2.2.2.2.2.1 v.2.2.2.2.2.2.2.2.2.2.2.2.2.2.2.2.1 v.2.2.2.2.2.2.2.2.2.2.2.2.2.2.2.2.2.1 v.2.2.2.2.2.2.2.2.2.2.2.2.2.2.2.2.2.2.1 v.2.2.2.2.2.2.2.2.2.2.2.2.2.2.2.2.2.2.2.1 v.2.2.2.2.2.2.2.2.2.2.2.2.2.2.2.2.2.2.2.2.1 v.2.2.2.2.2.2.2.2.2.2.2.2.2.2.2.2.2.2.2.2.2.1 v.2.2.2.2.2.2.2.2.2.2.2.2.2.2.2.2.2.2.2.2.2.2.1 v.2.2.2.2.2.2.2.2.2.2.2.2.2.2.2.2.2.2.2.2.2.2.2.1 v.2.2.2.2.2.2.2.2.2.2.2.2.2.2.2.2.2.2.2.2.2.2.2.2.1 v.2.2.2.2.2.2.2.2.2.2.2.2.2.2.2.2.2.2.2.2.2.2.2.2.2.1 v.2.2.2.2.2.2.2.2.2.2.2.2.2.2.2.2.2.2.2.2.2.2.2.2.2.2) := by
  intro d
  induction d with
  | zero =>
    intro b hbd bz ro hc hk hb W hro
    have nb1 := W.2.2.2.2.1
    obtain ⟨bz1, ro1, hc1, hk1, hb1, W1, X1, Y1⟩ := cz_retry (li := li) hnw nb 0 (by omega) bz ro hc hk hb W
    refine ⟨bz1, ro1, hc1, hk1, hb1, W1, ?_, ?_⟩
    · intro u hu post m hp n hn
      obtain ⟨n, rfl⟩ : ∃ n', n = n' + 1 := ⟨n - 1, by omega⟩
      have hu2 : cz_X nc nb nw ca fr tt st en ra de so go sz li HI cz_0 bz ro hc hk hb u := cz_X_mono (fun x h1 h2 => by have := h2.2; omega) hu
      have hx := X1 HI u hu2 (fun u => post m u) hp (nb + 1) (by omega)
      obtain ⟨rc, RO, HK, HB, rk, rb, ea, el, rfl, hL, hR⟩ := hu
      rw [wX_cancel_85]
      refine br_t (nI_le (by omega) (by omega)) ?_
      unfold wpX_retry
      exact ⟨nb + 1, hx⟩
    · intro v hv post m hp n hn
      obtain ⟨n, rfl⟩ : ∃ n', n = n' + 1 := ⟨n - 1, by omega⟩
      have hv2 : cz_Y nc nb nw ca fr tt st en ra de so go sz li cz_0 bz ro hc hk hb v := cz_Y_mono (fun x h1 h2 => by have := h2.2; omega) hv
      have hy := Y1 v hv2 (fun v => post m v) hp (nb + 1) (by omega)
      obtain ⟨bs, ba, SK, OV, BG, tr, tb, nd, tm, nx, bo, bb, rfl, hL, hR⟩ := hv
      rw [wY_cancel_88]
      refine br_t (nI_le (by omega) (by omega)) ?_
      unfold wpY_retry
      exact ⟨nb + 1, hy⟩
  | succ d ih =>
    intro b hbd bz ro hc hk hb W hro
    have nb1 := W.2.2.2.2.1
    have hbn : b < nb := by omega
    have hb2 : b < 2 ^ 31 := by omega
    by_cases hH : H b
    · obtain ⟨bz1, ro1, hc1, hk1, hb1, W1, R1, X1, Y1⟩ := cz_plan (li := li) bz ro hc hk hb W hnw hbn (hro b hbn (Nat.le_refl _) hH)
      obtain ⟨bz2, ro2, hc2, hk2, hb2', W2, X2, Y2⟩ := ih (b + 1) (by omega) bz1 ro1 hc1 hk1 hb1 W1 (fun x h1 h2 h3 => by rw [R1 x (by omega)]; exact hro x h1 (by omega) h3)
      refine ⟨bz2, ro2, hc2, hk2, hb2', W2, ?_, ?_⟩
      · intro u hu post m hp n hn
        obtain ⟨n, rfl⟩ : ∃ n', n = n' + 1 := ⟨n - 1, by omega⟩
        have hx := X1 HI (fun x => H x ∧ b ≤ x) (fun x => H x ∧ b + 1 ≤ x) u (fun x h1 h2 h3 => ⟨h3.1, by have := h3.2; omega⟩) hu
        obtain ⟨rc, RO, HK, HB, rk, rb, ea, el, rfl, hL, hR⟩ := hu
        rw [wX_cancel_85]
        have hne : ¬ HI b = 0 := fun z => (hHI b hbn).mp z hH
        refine br_f (nI_ge hbn (by omega)) ⟨vp_in_nI (by omega) (by decide), br_f (by rw [nI_clamp hb2]; exact hne) ?_⟩
        refine hx _ ?_
        intro u' hu'
        have hn' := X2 u' hu' post m hp n (by omega)
        obtain ⟨rc', RO', HK', HB', rk', rb', ea', el', rfl, hL', hR'⟩ := hu'
        exact nm_r (nI_1 b) hn'
      · intro v hv post m hp n hn
        obtain ⟨n, rfl⟩ : ∃ n', n = n' + 1 := ⟨n - 1, by omega⟩
        have hy := Y1 (fun x => H x ∧ b ≤ x) (fun x => H x ∧ b + 1 ≤ x) v (fun x h1 h2 h3 => ⟨h3.1, by have := h3.2; omega⟩) hv
        obtain ⟨bs, ba, SK, OV, BG, tr, tb, nd, tm, nx, bo, bb, rfl, hL, hR⟩ := hv
        rw [wY_cancel_88]
        refine br_f (nI_ge hbn (by omega)) (br_t ((cn_btst (by omega)).mpr ((hMk b hbn).mpr hH)) ?_)
        refine hy _ ?_
        intro v' hv'
        have hn' := Y2 v' hv' post m hp n (by omega)
        obtain ⟨bs', ba', SK', OV', BG', tr', tb', nd', tm', nx', bo', bb', rfl, hL', hR'⟩ := hv'
        exact nm_r (nI_1 b) hn'
    · obtain ⟨bz2, ro2, hc2, hk2, hb2', W2, X2, Y2⟩ := ih (b + 1) (by omega) bz ro hc hk hb W (fun x h1 h2 h3 => hro x h1 (by omega) h3)
      have hmono : ∀ x, x < nb → (H x ∧ b ≤ x) → (H x ∧ b + 1 ≤ x) := by
        rintro x h1 ⟨h2, h3⟩
        have : x ≠ b := fun z => hH (z ▸ h2)
        exact ⟨h2, by omega⟩
      refine ⟨bz2, ro2, hc2, hk2, hb2', W2, ?_, ?_⟩
      · intro u hu post m hp n hn
        obtain ⟨n, rfl⟩ : ∃ n', n = n' + 1 := ⟨n - 1, by omega⟩
        have hn' := X2 u (cz_X_mono hmono hu) post m hp n (by omega)
        obtain ⟨rc, RO, HK, HB, rk, rb, ea, el, rfl, hL, hR⟩ := hu
        rw [wX_cancel_85]
        have he : HI b = 0 := (hHI b hbn).mpr hH
        refine br_f (nI_ge hbn (by omega)) ⟨vp_in_nI (by omega) (by decide), br_t (by rw [nI_clamp hb2]; exact he) ?_⟩
        exact nm_r (nI_1 b) hn'
      · intro v hv post m hp n hn
        obtain ⟨n, rfl⟩ : ∃ n', n = n' + 1 := ⟨n - 1, by omega⟩
        have hn' := Y2 v (cz_Y_mono hmono hv) post m hp n (by omega)
        obtain ⟨bs, ba, SK, OV, BG, tr, tb, nd, tm, nx, bo, bb, rfl, hL, hR⟩ := hv
        rw [wY_cancel_88]
        refine br_f (nI_ge hbn (by omega)) (br_f (fun z => hH ((hMk b hbn).mp ((cn_btst (by omega)).mp z))) ?_)
        exact nm_r (nI_1 b) hn'
/-- the bookings of the bundles before b are gone through: H those that are hit, Mk the reference's mask, m how many -/
theorem cz_c1 {k : Nat} (hk0 : k < nc) (hnw : nw ≤ 200000) {hk hb : Nat → Nat → Nat} : ∀ (d b : Nat), b + d = nb → ∀ (bz ro hc : Nat → Nat) (H : Nat → Prop) (Mk : Int32) (m : Nat), cz_W nc nb ca fr tt st en ra de so go sz bz ro hc hk hb → (∀ x, x < nb → H x → x < b ∧ ro x = 0) → (∀ x, x < nb → (bt Mk x = true ↔ H x)) → (∀ x, b ≤ x → x < nb → hc x + 4 ≤ 4 * cn_S 10 ca + 5 * ro x) → ∃ (bz' ro' hc' : Nat → Nat) (H' : Nat → Prop) (Mk' : Int32) (m' : Nat), cz_W nc nb ca fr tt st en ra de so go sz bz' ro' hc' hk hb ∧ (∀ x, x < nb → H' x → ro' x = 0) ∧ (∀ x, x < nb → (bt Mk' x = true ↔ H' x)) ∧ (∀ (HI : Nat → Int32) (u : SX), (∀ x, x < b → (HI x = 0 ↔ ¬ H x)) → cz_X nc nb nw ca fr tt st en ra de so go sz li HI H bz ro hc hk hb u → ∀ post : Int32 → SX → Prop, (∀ (HI' : Nat → Int32) (u' : SX), (∀ x, x < nb → (HI' x = 0 ↔ ¬ H' x)) → cz_X nc nb nw ca fr tt st en ra de so go sz li HI' H' bz' ro' hc' hk hb u' → ∃ n85, wX_cancel_85 post (nI m') n85 0 u'.1 u'.2.1 u'.2.2.1 u'.2.2.2.1 u'.2.2.2.2.1 u'.2.2.2.2.2.1 u'.2.2.2.2.2.2.1 u'.2.2.2.2.2.2.2.1 u'.2.2.2.2.2.2.2.2.1 u'.2.2.2.2.2.2.2.2.2.1 u'.2.2.2.2.2.2.2.2.2.2.1 u'.2.2.2.2.2.2.2.2.2.2.2.1 u'.2.2.2.2.2.2.2.2.2.2.2.2.1 u'.2.2.2.2.2.2.2.2.2.2.2.2.2.1 u'.2.2.2.2.2.2.2.2.2.2.2.2.2.2.1 u'.2.2.2.2.2.2.2.2.2.2.2.2.2.2.2.1 u'.2.2.2.2.2.2.2.2.2.2.2.2.2.2.2.2.1 u'.2.2.2.2.2.2.2.2.2.2.2.2.2.2.2.2.2.1 u'.2.2.2.2.2.2.2.2.2.2.2.2.2.2.2.2.2.2.1 u'.2.2.2.2.2.2.2.2.2.2.2.2.2.2.2.2.2.2.2.1 u'.2.2.2.2.2.2.2.2.2.2.2.2.2.2.2.2.2.2.2.2.1 u'.2.2.2.2.2.2.2.2.2.2.2.2.2.2.2.2.2.2.2.2.2.1 u'.2.2.2.2.2.2.2.2.2.2.2.2.2.2.2.2.2.2.2.2.2.2.1 u'.2.2.2.2.2.2.2.2.2.2.2.2.2.2.2.2.2.2.2.2.2.2.2.1 u'.2.2.2.2.2.2.2.2.2.2.2.2.2.2.2.2.2.2.2.2.2.2.2.2) → ∀ n, d < n → wX_cancel_30 post (nI k) n (nI m) (nI b) u.1 u.2.1 u.2.2.1 u.2.2.2.1 u.2.2.2.2.1 u.2.2.2.2.2.1 u.2.2.2.2.2.2.1 u.2.2.2.2.2.2.2.1 u.2.2.2.2.2.2.2.2.1 u.2.2.2.2.2.2.2.2.2.1 u.2.2.2.2.2.2.2.2.2.2.1 u.2.2.2.2.2.2.2.2.2.2.2.1 u.2.2.2.2.2.2.2.2.2.2.2.2.1 u.2.2.2.2.2.2.2.2.2.2.2.2.2.1 u.2.2.2.2.2.2.2.2.2.2.2.2.2.2.1 u.2.2.2.2.2.2.2.2.2.2.2.2.2.2.2.1 u.2.2.2.2.2.2.2.2.2.2.2.2.2.2.2.2.1 u.2.2.2.2.2.2.2.2.2.2.2.2.2.2.2.2.2.1 u.2.2.2.2.2.2.2.2.2.2.2.2.2.2.2.2.2.2.1 u.2.2.2.2.2.2.2.2.2.2.2.2.2.2.2.2.2.2.2.1 u.2.2.2.2.2.2.2.2.2.2.2.2.2.2.2.2.2.2.2.2.1 u.2.2.2.2.2.2.2.2.2.2.2.2.2.2.2.2.2.2.2.2.2.1 u.2.2.2.2.2.2.2.2.2.2.2.2.2.2.2.2.2.2.2.2.2.2.1 u.2.2.2.2.2.2.2.2.2.2.2.2.2.2.2.2.2.2.2.2.2.2.2.1 u.2.2.2.2.2.2.2.2.2.2.2.2.2.2.2.2.2.2.2.2.2.2.2.2) ∧ (∀ v : SY, cz_Y nc nb nw ca fr tt st en ra de so go sz li H bz ro hc hk hb v → ∀ post : Int32 → SY → Prop, (∀ v' : SY, cz_Y nc nb nw ca fr tt st en ra de so go sz li H' bz' ro' hc' hk hb v' → ∃ n88, wY_cancel_88 post Mk' (nI m') n88 0 v'.1 v'.2.1 v'.2.2.1 v'.2.2.2.1 v'.2.2.2.2.1 v'.2.2.2.2.2.1 v'.2.2.2.2.2.2.1 v'.2.2.2.2.2.2.2.1 v'.2.2.2.2.2.2.2.2.1 v'.2.2.2.2.2.2.2.2.2.1 v'.2.2.2.2.2.2.2.2.2.2.1 v'.2.2.2.2.2.2.2.2.2.2.2.1 v'.2.2.2.2.2.2.2.2.2.2.2.2.1 v'.2.2.2.2.2.2.2.2.2.2.2.2.2.1 v'.2.2.2.2.2.2.2.2.2.2.2.2.2.2.1 v'.2.2.2.2.2.2.2.2.2.2.2.2.2.2.2.1 v'.2.2.2.2.2.2.2.2.2.2.2.2.2.2.2.2.1 v'.2.2.2.2.2.2.2.2.2.2.2.2.2.2.2.2.2.1 v'.2.2.2.2.2.2.2.2.2.2.2.2.2.2.2.2.2.2.1 v'.2.2.2.2.2.2.2.2.2.2.2.2.2.2.2.2.2.2.2.1 v'.2.2.2.2.2.2.2.2.2.2.2.2.2.2.2.2.2.2.2.2.1 v'.2.2.2.2.2.2.2.2.2.2.2.2.2.2.2.2.2.2.2.2.2.1 v'.2.2.2.2.2.2.2.2.2.2.2.2.2.2.2.2.2.2.2.2.2.2.1 v'.2.2.2.2.2.2.2.2.2.2.2.2.2.2.2.2.2.2.2.2.2.2.2.1 v'.2.2.2.2.2.2.2.2.2.2.2.2.2.2.2.2.2.2.2.2.2.2.2.2.1 v'.2.2.2.2.2.2.2.2.2.2.2.2.2.2.2.2.2.2.2.2.2.2.2.2.2.1 v'.2.2.2.2.2.2.2.2.2.2.2.2.2.2.2.2.2.2.2.2.2.2.2.2.2.2) → ∀ n, d < n → wY_cancel_37 post (nI k) v.1 v.2.1 v.2.2.1 v.2.2.2.1 v.2.2.2.2.1 n Mk (nI m) (nI b) v.2.2.2.2.2.1 v.2.2.2.2.2.2.1 v.2.2.2.2.2.2.2.1 v.2.2.2.2.2.2.2.2.1 v.2.2.2.2.2.2.2.2.2.1 v.2.2.2.2.2.2.2.2.2.2.1 v.2.2.2.2.2.2.2.2.2.2.2.1 v.2.2.2.2.2.2.2.2.2.2.2.2.1 v.2.2.2.2.2.2.2.2.2.2.2.2.2.1 v.2.2.2.2.2.2.2.2.2.2.2.2.2.2.1 v.2.2.2.2.2.2.2.2.2.2.2.2.2.2.2.1 v.2.2.2.2.2.2.2.2.2.2.2.2.2.2.2.2.1 v.2.2.2.2.2.2.2.2.2.2.2.2.2.2.2.2.2.1 v.2.2.2.2.2.2.2.2.2.2.2.2.2.2.2.2.2.2.1 v.2.2.2.2.2.2.2.2.2.2.2.2.2.2.2.2.2.2.2.1 v.2.2.2.2.2.2.2.2.2.2.2.2.2.2.2.2.2.2.2.2.1 v.2.2.2.2.2.2.2.2.2.2.2.2.2.2.2.2.2.2.2.2.2.1 v.2.2.2.2.2.2.2.2.2.2.2.2.2.2.2.2.2.2.2.2.2.2.1 v.2.2.2.2.2.2.2.2.2.2.2.2.2.2.2.2.2.2.2.2.2.2.2.1 v.2.2.2.2.2.2.2.2.2.2.2.2.2.2.2.2.2.2.2.2.2.2.2.2.1 v.2.2.2.2.2.2.2.2.2.2.2.2.2.2.2.2.2.2.2.2.2.2.2.2.2.1 v.2.2.2.2.2.2.2.2.2.2.2.2.2.2.2.2.2.2.2.2.2.2.2.2.2.2) := by
  intro d
  induction d with
  | zero =>
    intro b hbd bz ro hc H Mk m W h1 h2 h3
    have nb1 := W.2.2.2.2.1
    refine ⟨bz, ro, hc, H, Mk, m, W, fun x q1 q2 => (h1 x q1 q2).2, h2, ?_, ?_⟩
    · intro HI u hHI hu post hp n hn
      obtain ⟨n, rfl⟩ : ∃ n', n = n' + 1 := ⟨n - 1, by omega⟩
      have hp' := hp HI u (fun x q => hHI x (by omega)) hu
      obtain ⟨rc, RO, HK, HB, rk, rb, ea, el, rfl, hL, hR⟩ := hu
      rw [wX_cancel_30]
      exact br_t (nI_le (by omega) (by omega)) hp'
    · intro v hv post hp n hn
      obtain ⟨n, rfl⟩ : ∃ n', n = n' + 1 := ⟨n - 1, by omega⟩
      have hp' := hp v hv
      obtain ⟨bs, ba, SK, OV, BG, tr, tb, nd, tm, nx, bo, bb, rfl, hL, hR⟩ := hv
      rw [wY_cancel_37]
      exact br_t (nI_le (by omega) (by omega)) hp'
  | succ d ih =>
    intro b hbd bz ro hc H Mk m W h1 h2 h3
    have nb1 := W.2.2.2.2.1
    have n1 := W.1.1
    have hbn : b < nb := by omega
    have hb2 : b < 2 ^ 31 := by omega
    have Bk := cn_W_Bk W
    have hHb : ¬ H b := fun z => by have := (h1 b hbn z).1; omega
    cases hh : cn_h ra sz hc hk hb nw k b with
    | none =>
      obtain ⟨bz2, ro2, hc2, H2, Mk2, m2, W2, a2, b2, X2, Y2⟩ := ih (b + 1) (by omega) bz ro hc H Mk m W (fun x q1 q2 => ⟨by have := (h1 x q1 q2).1; omega, (h1 x q1 q2).2⟩) h2 (fun x q1 q2 => h3 x (by omega) q2)
      refine ⟨bz2, ro2, hc2, H2, Mk2, m2, W2, a2, b2, ?_, ?_⟩
      · rintro HI u hHI ⟨rc, RO, HK, HB, rk, rb, ea, el, rfl, hL, hR⟩ post hp n hn
        obtain ⟨n, rfl⟩ : ∃ n', n = n' + 1 := ⟨n - 1, by omega⟩
        rw [wX_cancel_30]
        refine br_f (nI_ge hbn (by omega)) ?_
        refine cx_open W.1 Bk hL hnw hbn hk0 ?_
        rw [hh]
        refine br_t (by decide) ?_
        unfold wX_cancel_61
        refine ⟨vp_in_nI (by omega) (by decide), fun HI' hHI' => br_t (by decide) (nm_r (nI_1 b) ?_)⟩
        rw [nI_clamp hb2] at hHI'
        refine X2 HI' _ ?_ ⟨rc, RO, HK, HB, rk, rb, ea, el, rfl, hL, hR⟩ post hp n (by omega)
        intro x hx
        by_cases e : x = b
        · rw [e, hHI', pk_us]
          exact ⟨fun _ => hHb, fun _ => rfl⟩
        · rw [hHI', pk_un e]
          exact hHI x (by omega)
      · rintro v ⟨bs, ba, SK, OV, BG, tr, tb, nd, tm, nx, bo, bb, rfl, hL, hR⟩ post hp n hn
        obtain ⟨n, rfl⟩ : ∃ n', n = n' + 1 := ⟨n - 1, by omega⟩
        rw [wY_cancel_37]
        refine br_f (nI_ge hbn (by omega)) ?_
        refine cy_hit W.1 Bk hL hnw hbn hk0 ?_
        rw [hh]
        refine br_t (by decide) (nm_r (nI_1 b) ?_)
        exact Y2 _ ⟨bs, ba, SK, OV, BG, tr, tb, nd, tm, nx, bo, bb, rfl, hL, hR⟩ post hp n (by omega)
    | some i =>
      have hi : i < hc b := cn_h_lt hh
      have h60 := (Bk.2 b hbn).2.2.1
      have hb3 := h3 b (Nat.le_refl _) hbn
      have hr1 := (W.2.2.2.2.2 b hbn).2.2.2.1
      have W1 := cn_W_cut W hbn hi (by omega)
      have k1 : ∀ x, x < nb → (H x ∨ x = b) → x < b + 1 ∧ cn_u ro b 0 x = 0 := by
        intro x hx1 hx2
        by_cases e : x = b
        · rw [e, cn_us]; exact ⟨by omega, rfl⟩
        · rcases hx2 with hx2 | hx2
          · rw [cn_un e]
            have := h1 x hx1 hx2
            exact ⟨by omega, this.2⟩
          · exact absurd hx2 e
      have k2 : ∀ x, x < nb → (bt (Mk ||| ((1 : Int32) <<< (nI b &&& 31))) x = true ↔ (H x ∨ x = b)) := by
        intro x hx
        rw [cn_bset (by omega) (by omega), Bool.or_eq_true, decide_eq_true_eq, h2 x hx]
      have k3 : ∀ x, b + 1 ≤ x → x < nb → cn_u hc b i x + 4 ≤ 4 * cn_S 10 ca + 5 * cn_u ro b 0 x := by
        intro x hx1 hx2
        rw [cn_un (by omega), cn_un (by omega)]
        exact h3 x (by omega) hx2
      obtain ⟨bz2, ro2, hc2, H2, Mk2, m2, W2, a2, b2, X2, Y2⟩ := ih (b + 1) (by omega) _ (cn_u ro b 0) (cn_u hc b i) (fun x => H x ∨ x = b) (Mk ||| ((1 : Int32) <<< (nI b &&& 31))) (m + 1) W1 k1 k2 k3
      · refine ⟨bz2, ro2, hc2, H2, Mk2, m2, W2, a2, b2, ?_, ?_⟩
        · rintro HI u hHI ⟨rc, RO, HK, HB, rk, rb, ea, el, rfl, hL, hR⟩ post hp n hn
          obtain ⟨n, rfl⟩ : ∃ n', n = n' + 1 := ⟨n - 1, by omega⟩
          rw [wX_cancel_30]
          refine br_f (nI_ge hbn (by omega)) ?_
          refine cx_open W.1 Bk hL hnw hbn hk0 ?_
          rw [hh]
          refine br_f (cn_o_lt (by omega)) ?_
          unfold wX_cancel_61
          refine ⟨vp_in_nI (by omega) (by decide), fun HI' hHI' => br_f (cn_o_lt (by omega)) ?_⟩
          rw [nI_clamp hb2] at hHI'
          refine cx_lose W.1 Bk hL hbn (Nat.le_of_lt hi) ?_
          refine nm_r (nI_1 m) (nm_r (nI_1 b) ?_)
          refine X2 HI' _ ?_ ⟨rc, RO, HK, HB, rk, rb, ea, el, rfl, ?_, ?_⟩ post hp n (by omega)
          · intro x hx
            by_cases e : x = b
            · rw [e, hHI', pk_us]
              exact ⟨fun z => absurd z (by decide), fun z => absurd (Or.inr rfl) z⟩
            · rw [hHI', pk_un e, hHI x (by omega)]
              exact ⟨fun z w => w.elim z e, fun z w => z (Or.inl w)⟩
          · intro x hx j hj
            by_cases e : x = b
            · subst e
              rw [cn_us] at hj
              exact hL x hx j (by omega)
            · rw [cn_un e] at hj
              exact hL x hx j hj
          · intro x hx1 hx2
            have e : x ≠ b := fun z => hx2 (Or.inr z)
            rw [cn_un e]
            exact hR x hx1 (fun z => hx2 (Or.inl z))
        · rintro v ⟨bs, ba, SK, OV, BG, tr, tb, nd, tm, nx, bo, bb, rfl, hL, hR⟩ post hp n hn
          obtain ⟨n, rfl⟩ : ∃ n', n = n' + 1 := ⟨n - 1, by omega⟩
          rw [wY_cancel_37]
          refine br_f (nI_ge hbn (by omega)) ?_
          refine cy_hit W.1 Bk hL hnw hbn hk0 ?_
          rw [hh]
          have eu : upd (cn_N hc) (nI b).toNatClampNeg (cn_o (some i)) = cn_N (cn_u hc b i) := by rw [nI_clamp hb2]; exact cn_upd hc b i
          refine br_f (cn_o_lt (by omega)) ⟨vp_in_nI (by omega) (by decide), nm_r eu (nm_e (nm_r (nI_1 m) (nm_r (nI_1 b) ?_)))⟩
          refine Y2 _ ⟨bs, ba, SK, OV, BG, tr, tb, nd, tm, nx, bo, bb, rfl, ?_, ?_⟩ post hp n (by omega)
          · intro x hx j hj
            by_cases e : x = b
            · subst e
              rw [cn_us] at hj
              exact hL x hx j (by omega)
            · rw [cn_un e] at hj
              exact hL x hx j hj
          · intro x hx1 hx2
            have e : x ≠ b := fun z => hx2 (Or.inr z)
            rw [cn_un e]
            exact hR x hx1 (fun z => hx2 (Or.inl z))
end CzCancel
end
section
/-! a new contact, a new bundle, a cancelled contact: the world goes on -/
section CnMore
variable {nc nb : Nat} {ca fr tt st en ra de bz so go sz ro hc : Nat → Nat} {hk hb : Nat → Nat → Nat}
theorem cn_W_ca (W : cn_W nc nb ca fr tt st en ra de bz so go sz ro hc hk hb) {k : Nat} (hk10 : k < 10) (hc0 : ca k = 0) : cn_W nc nb (cn_u ca k 1) fr tt st en ra de bz so go sz ro hc hk hb ∧ ∀ x, x < nb → hc x + 4 ≤ 4 * cn_S 10 (cn_u ca k 1) + 5 * ro x := by
  obtain ⟨w1, w2, w3, w4, w5, w6⟩ := W
  have hs : cn_S 10 (cn_u ca k 1) = cn_S 10 ca + 1 := by
    have := cn_S_upd (f := ca) (g := cn_u ca k 1) (b := k) (fun i hi => (cn_un hi).symm) hk10
    rw [cn_us] at this
    omega
  refine ⟨⟨w1, w2, ?_, w4, w5, fun b hb' => ?_⟩, fun x hx => ?_⟩
  · intro j
    unfold cn_u
    split
    · omega
    · exact w3 j
  · obtain ⟨p1, p2, p3, p4, p5, p6⟩ := w6 b hb'
    exact ⟨p1, p2, p3, p4, p5, by omega⟩
  · obtain ⟨p1, p2, p3, p4, p5, p6⟩ := w6 x hx
    omega
theorem cn_W_new (W : cn_W nc nb ca fr tt st en ra de bz so go sz ro hc hk hb) (hn : nc < 10) {a c x e r y : Nat} (ha : a < 6) (hc' : c < 6) (hx : x ≤ 100) (he : e ≤ 100) (hr : 1 ≤ r) (hr9 : r ≤ 9) (hy : y ≤ 9) : cn_W (nc + 1) nb ca (cn_u fr nc a) (cn_u tt nc c) (cn_u st nc x) (cn_u en nc e) (cn_u ra nc r) (cn_u de nc y) bz so go sz ro hc hk hb := by
  obtain ⟨w1, w2, w3, w4, w5, w6⟩ := W
  have tkeq : ∀ k s, k < nc → cn_tk (cn_u ra nc r) k s = cn_tk ra k s := by
    intro k s hk'
    unfold cn_tk
    rw [cn_un (by omega)]
  refine ⟨⟨by omega, fun k hk' => ?_⟩, w2, w3, ?_, w5, fun b hb' => ?_⟩
  · by_cases q : k = nc
    · subst q
      rw [cn_us, cn_us, cn_us, cn_us, cn_us, cn_us]
      exact ⟨ha, hc', hx, he, hr, hr9, hy⟩
    · rw [cn_un q, cn_un q, cn_un q, cn_un q, cn_un q, cn_un q]
      exact w1.2 k (by omega)
  · intro k hk' t ht
    obtain ⟨z1, z2⟩ := w4 k hk' t ht
    refine ⟨?_, z2⟩
    rw [z1]
    unfold cn_cv
    refine cn_S_congr fun b hb' => cn_S_congr fun i hi => ?_
    have g := ((w6 b hb').2.1 i hi).1
    unfold cn_i
    by_cases q : hk b i = k
    · rw [tkeq k (sz b) (by omega)]
    · rw [if_neg (fun z => q z.1), if_neg (fun z => q z.1)]
  · obtain ⟨p1, p2, p3, p4, p5, p6⟩ := w6 b hb'
    have ndeq : ∀ i, i ≤ hc b → cn_nd (cn_u tt nc c) so hk b i = cn_nd tt so hk b i := by
      intro i hi
      cases i with
      | zero => rfl
      | succ i =>
        have g := (p2 i (by omega)).1
        show cn_u tt nc c (hk b i) = tt (hk b i)
        rw [cn_un (by omega)]
    refine ⟨p1, fun i hi => ?_, ?_, p4, p5, p6⟩
    · obtain ⟨g1, g2, g3, g4⟩ := p2 i hi
      rw [tkeq _ _ g1, cn_un (by omega), cn_un (by omega), ndeq i (by omega)]
      exact ⟨by omega, g2, g3, g4⟩
    · rw [ndeq _ (Nat.le_refl _)]
      exact p3
theorem cn_W_send (W : cn_W nc nb ca fr tt st en ra de bz so go sz ro hc hk hb) (hn : nb < 10) {a c s : Nat} (ha : a < 6) (hc' : c < 6) (hac : a ≠ c) (hs : 1 ≤ s) (hs2 : s ≤ 30) : cn_W nc (nb + 1) ca fr tt st en ra de bz (cn_u so nb a) (cn_u go nb c) (cn_u sz nb s) (cn_u ro nb 0) (cn_u hc nb 0) hk hb := by
  obtain ⟨w1, w2, w3, w4, w5, w6⟩ := W
  refine ⟨w1, w2, w3, ?_, by omega, fun b hb' => ?_⟩
  · intro k hk' t ht
    obtain ⟨z1, z2⟩ := w4 k hk' t ht
    refine ⟨?_, z2⟩
    rw [z1]
    unfold cn_cv
    show _ = cn_S nb (fun b => cn_S (cn_u hc nb 0 b) (fun i => cn_i ra (cn_u sz nb s) hk hb k t b i)) + cn_S (cn_u hc nb 0 nb) (fun i => cn_i ra (cn_u sz nb s) hk hb k t nb i)
    rw [cn_us]
    show _ = _ + 0
    rw [Nat.add_zero]
    refine cn_S_congr fun b hb' => ?_
    rw [cn_un (by omega)]
    refine cn_S_congr fun i hi => ?_
    unfold cn_i
    rw [cn_un (by omega)]
  · by_cases q : b = nb
    · subst q
      unfold cn_Bd
      rw [cn_us, cn_us, cn_us, cn_us, cn_us]
      refine ⟨⟨ha, hc', hs, hs2⟩, fun i hi => absurd hi (by omega), fun _ => ?_, by omega, fun h => absurd h (by omega), by omega⟩
      show cn_u so b a b ≠ c
      rw [cn_us]
      exact hac
    · obtain ⟨p1, p2, p3, p4, p5, p6⟩ := w6 b (by omega)
      have ndeq : ∀ i, cn_nd tt (cn_u so nb a) hk b i = cn_nd tt so hk b i := by
        intro i
        cases i with
        | zero => exact cn_un q
        | succ i => rfl
      unfold cn_Bd
      rw [cn_un q, cn_un q, cn_un q, cn_un q, cn_un q]
      refine ⟨p1, fun i hi => ?_, ?_, p4, p5, p6⟩
      · rw [ndeq]; exact p2 i hi
      · rw [ndeq]; exact p3
end CnMore
end
section
/-! what the arguments are checked for -/
theorem cn_i6 : (6 : Int32) ≠ 0 := by decide
section CzArgs
variable {nc nb nw : Nat} {rc bs ba : Int32} {ca fr tt st en ra de bz so go sz ro hc : Nat → Nat} {hk hb : Nat → Nat → Nat} {li RO HI HK HB rk rb ea el SK OV BG tr tb nd tm nx bo bb : Nat → Int32}
theorem cz_ends (p0 : Int32) : ((∀ post : Int32 → Prop, post 0 → wpX_areEnds post p0) ∧ (∀ post : Int32 → Prop, post 1 → wpY_badEnds post (nI nw, nI nc, nI nb, bs, ba, cn_N fr, cn_N tt, cn_N st, cn_N en, cn_N ra, cn_N de, cn_N ca, cn_N so, cn_N go, cn_N sz, li, SK, cn_N hc, OV, BG, tr, tb, nd, tm, nx, bo, bb) p0)) ∨ (∃ a c : Nat, a < 6 ∧ c < 6 ∧ a ≠ c ∧ p0 / 6 = nI a ∧ p0 - p0 / 6 * 6 = nI c ∧ (∀ post : Int32 → Prop, post 1 → wpX_areEnds post p0) ∧ (∀ post : Int32 → Prop, post 0 → wpY_badEnds post (nI nw, nI nc, nI nb, bs, ba, cn_N fr, cn_N tt, cn_N st, cn_N en, cn_N ra, cn_N de, cn_N ca, cn_N so, cn_N go, cn_N sz, li, SK, cn_N hc, OV, BG, tr, tb, nd, tm, nx, bo, bb) p0)) := by
  have h36 : (36 : Int32).toInt = 36 := by decide
  have h35 : (35 : Int32).toInt = 35 := by decide
  rcases pk_ix p0 (n := 36) (by decide) with h | h | ⟨j, hj, rfl⟩
  · left
    constructor
    · intro post hp; exact br_t h hp
    · intro post hp; exact br_t h hp
  · left
    have h2 : (35 : Int32) < p0 := by
      rw [Int32.lt_iff_toInt_lt, h35]
      have h3 : (36 : Int32) ≤ p0 := h
      rw [Int32.le_iff_toInt_le, h36] at h3
      omega
    constructor
    · intro post hp; exact br_c (fun _ => hp) (fun _ => br_t h hp)
    · intro post hp; exact br_c (fun _ => hp) (fun _ => br_t h2 hp)
  · have e1 : nI j / 6 = nI (j / 6) := pk_div (d := 6) (by omega) (by decide) (by decide)
    have e2 : nI j - nI j / 6 * 6 = nI (j % 6) := pk_rem (d := 6) (by omega) (by decide) (by decide)
    have n0 : ¬ nI j < 0 := nI_pos (by omega)
    have n36 : ¬ (36 : Int32) ≤ nI j := nI_ge (b := 36) hj (by decide)
    have n35 : ¬ (35 : Int32) < nI j := nI_nlt (a := 35) (by omega) (by decide)
    by_cases q : j / 6 = j % 6
    · left
      have q2 : nI j / 6 = nI j - nI j / 6 * 6 := by rw [e2, e1, q]
      constructor
      · intro post hp; exact br_f n0 (br_f n36 ⟨cn_i6, cn_i6, br_t q2 hp⟩)
      · intro post hp; exact br_f n0 (br_f n35 ⟨cn_i6, cn_i6, br_t q2 hp⟩)
    · right
      have q2 : ¬ nI j / 6 = nI j - nI j / 6 * 6 := by rw [e2, e1, nI_eq (by omega) (by omega)]; exact q
      refine ⟨j / 6, j % 6, by omega, by omega, q, e1, e2, ?_, ?_⟩
      · intro post hp; exact br_f n0 (br_f n36 ⟨cn_i6, cn_i6, br_f q2 hp⟩)
      · intro post hp; exact br_f n0 (br_f n35 ⟨cn_i6, cn_i6, br_f q2 hp⟩)
theorem cz_size (p1 : Int32) : ((∀ post : Int32 → Prop, post 0 → wpX_isSize post p1) ∧ (∀ post : Int32 → Prop, post 1 → wpY_badSize post (nI nw, nI nc, nI nb, bs, ba, cn_N fr, cn_N tt, cn_N st, cn_N en, cn_N ra, cn_N de, cn_N ca, cn_N so, cn_N go, cn_N sz, li, SK, cn_N hc, OV, BG, tr, tb, nd, tm, nx, bo, bb) p1)) ∨ (∃ s : Nat, 1 ≤ s ∧ s ≤ 30 ∧ p1 = nI s ∧ (∀ post : Int32 → Prop, post 1 → wpX_isSize post p1) ∧ (∀ post : Int32 → Prop, post 0 → wpY_badSize post (nI nw, nI nc, nI nb, bs, ba, cn_N fr, cn_N tt, cn_N st, cn_N en, cn_N ra, cn_N de, cn_N ca, cn_N so, cn_N go, cn_N sz, li, SK, cn_N hc, OV, BG, tr, tb, nd, tm, nx, bo, bb) p1)) := by
  by_cases h1 : p1 < 1
  · left
    exact ⟨fun post hp => br_t h1 hp, fun post hp => br_t h1 hp⟩
  · have h1i : (1 : Int32).toInt = 1 := by decide
    have h30i : (30 : Int32).toInt = 30 := by decide
    by_cases h2 : p1 ≤ 30
    · right
      have h3 : ¬ p1 < 0 := by
        rw [Int32.lt_iff_toInt_lt] at h1 ⊢
        rw [h1i] at h1
        rw [Int32.toInt_zero]
        omega
      obtain ⟨s, hs, rfl⟩ := nI_of2 (n := 30) h30i h3 h2
      have h4 : 1 ≤ s := by
        rcases Nat.lt_or_ge s 1 with q | q
        · exact absurd (nI_lt (b := 1) q (by decide)) h1
        · exact q
      have h5 : ¬ (30 : Int32) < nI s := nI_nlt (a := 30) hs (by decide)
      exact ⟨s, h4, hs, rfl, fun post hp => br_f h1 (br_f h5 hp), fun post hp => br_f h1 (br_t h2 hp)⟩
    · left
      have h5 : (30 : Int32) < p1 := Int32.not_le.mp h2
      exact ⟨fun post hp => br_f h1 (br_t h5 hp), fun post hp => br_f h1 (br_f h2 hp)⟩
theorem cz_bun (hnb : nb ≤ 10) (p0 : Int32) : ((∀ post : Int32 → Prop, post 0 → wpX_isBundle post (nI nc, nI nb, nI nw, rc, cn_N ca, cn_N fr, cn_N tt, cn_N st, cn_N en, cn_N ra, cn_N de, cn_N bz, cn_N so, cn_N go, cn_N sz, li, RO, HI, cn_N hc, HK, HB, rk, rb, ea, el) p0) ∧ (∀ post : Int32 → Prop, post 1 → wpY_badBundle post (nI nw, nI nc, nI nb, bs, ba, cn_N fr, cn_N tt, cn_N st, cn_N en, cn_N ra, cn_N de, cn_N ca, cn_N so, cn_N go, cn_N sz, li, SK, cn_N hc, OV, BG, tr, tb, nd, tm, nx, bo, bb) p0)) ∨ (∃ b : Nat, b < nb ∧ p0 = nI b ∧ (∀ post : Int32 → Prop, post 1 → wpX_isBundle post (nI nc, nI nb, nI nw, rc, cn_N ca, cn_N fr, cn_N tt, cn_N st, cn_N en, cn_N ra, cn_N de, cn_N bz, cn_N so, cn_N go, cn_N sz, li, RO, HI, cn_N hc, HK, HB, rk, rb, ea, el) p0) ∧ (∀ post : Int32 → Prop, post 0 → wpY_badBundle post (nI nw, nI nc, nI nb, bs, ba, cn_N fr, cn_N tt, cn_N st, cn_N en, cn_N ra, cn_N de, cn_N ca, cn_N so, cn_N go, cn_N sz, li, SK, cn_N hc, OV, BG, tr, tb, nd, tm, nx, bo, bb) p0)) := by
  rcases pk_ix p0 (n := nb) (by omega) with h | h | ⟨j, hj, rfl⟩
  · left
    exact ⟨fun post hp => br_t h hp, fun post hp => br_t h hp⟩
  · left
    have h2 : ¬ p0 < nI nb := Int32.not_lt.mpr h
    exact ⟨fun post hp => br_c (fun _ => hp) (fun _ => br_t h hp), fun post hp => br_c (fun _ => hp) (fun _ => br_f h2 hp)⟩
  · right
    exact ⟨j, hj, rfl, fun post hp => br_f (nI_pos (by omega)) (br_f (nI_ge hj (by omega)) hp), fun post hp => br_f (nI_pos (by omega)) (br_t (nI_lt hj (by omega)) hp)⟩
theorem cz_con (hnc : nc ≤ 10) (p0 : Int32) : ((∀ post : Int32 → Prop, post 0 → wpX_isContact post (nI nc, nI nb, nI nw, rc, cn_N ca, cn_N fr, cn_N tt, cn_N st, cn_N en, cn_N ra, cn_N de, cn_N bz, cn_N so, cn_N go, cn_N sz, li, RO, HI, cn_N hc, HK, HB, rk, rb, ea, el) p0) ∧ (p0 < 0 ∨ nI nc ≤ p0)) ∨ (∃ k : Nat, k < nc ∧ p0 = nI k ∧ (∀ post : Int32 → Prop, post 1 → wpX_isContact post (nI nc, nI nb, nI nw, rc, cn_N ca, cn_N fr, cn_N tt, cn_N st, cn_N en, cn_N ra, cn_N de, cn_N bz, cn_N so, cn_N go, cn_N sz, li, RO, HI, cn_N hc, HK, HB, rk, rb, ea, el) p0)) := by
  rcases pk_ix p0 (n := nc) (by omega) with h | h | ⟨j, hj, rfl⟩
  · left
    exact ⟨fun post hp => br_t h hp, Or.inl h⟩
  · left
    exact ⟨fun post hp => br_c (fun _ => hp) (fun _ => br_t h hp), Or.inr h⟩
  · right
    exact ⟨j, hj, rfl, fun post hp => br_f (nI_pos (by omega)) (br_f (nI_ge hj (by omega)) hp)⟩
end CzArgs
end
section
/-! the methods that only read -/
section CzRead
variable {nc nb nw : Nat} {rc bs ba : Int32} {ca fr tt st en ra de bz so go sz ro hc : Nat → Nat} {hk hb : Nat → Nat → Nat} {li RO HI HK HB rk rb ea el SK OV BG tr tb nd tm nx bo bb : Nat → Int32}
theorem cx_ltime (N : cn_Net nc fr tt st en ra de) (Bk : cn_Bk nc nb en ra sz hc hk hb) (hL : cn_L 100 nb hc hk hb HK HB) {b : Nat} (hb' : b < nb) (h1 : 1 ≤ hc b) {post : Int32 → Prop} (h : post (nI (cn_lt ra de sz hc hk hb b))) : wpX_comesInBy post (nI nc, nI nb, nI nw, rc, cn_N ca, cn_N fr, cn_N tt, cn_N st, cn_N en, cn_N ra, cn_N de, cn_N bz, cn_N so, cn_N go, cn_N sz, li, RO, HI, cn_N hc, HK, HB, rk, rb, ea, el) (nI b) (nI (hc b) - 1) := by
  have e1 : nI (hc b) - 1 = nI (hc b - 1) := pk_sub (b := 1) h1
  rw [e1]
  unfold cn_lt at h
  rw [if_neg (by omega)] at h
  exact cx_comes N Bk hL hb' (by omega) h
theorem cz_state (W : cn_W nc nb ca fr tt st en ra de bz so go sz ro hc hk hb) (hnw : nw ≤ 200000) (hLX : cn_L 100 nb hc hk hb HK HB) (hLY : cn_L 64 nb hc hk hb OV BG) (hRX : ∀ b, b < nb → RO b = nI (ro b)) (hRY : ∀ b, b < nb → SK b = nI (1 - ro b)) (p0 : Int32) : ∃ r : Int32, (∀ post : Int32 → Prop, post r → wpX_state post (nI nc, nI nb, nI nw, rc, cn_N ca, cn_N fr, cn_N tt, cn_N st, cn_N en, cn_N ra, cn_N de, cn_N bz, cn_N so, cn_N go, cn_N sz, li, RO, HI, cn_N hc, HK, HB, rk, rb, ea, el) p0) ∧ (∀ post : Int32 → Prop, post r → wpY_state post (nI nw, nI nc, nI nb, bs, ba, cn_N fr, cn_N tt, cn_N st, cn_N en, cn_N ra, cn_N de, cn_N ca, cn_N so, cn_N go, cn_N sz, li, SK, cn_N hc, OV, BG, tr, tb, nd, tm, nx, bo, bb) p0) := by
  have nb1 := W.2.2.2.2.1
  have Bk := cn_W_Bk W
  rcases cz_bun (nc := nc) (nw := nw) (rc := rc) (bs := bs) (ba := ba) (ca := ca) (fr := fr) (tt := tt) (st := st) (en := en) (ra := ra) (de := de) (bz := bz) (so := so) (go := go) (sz := sz) (hc := hc) (li := li) (RO := RO) (HI := HI) (HK := HK) (HB := HB) (rk := rk) (rb := rb) (ea := ea) (el := el) (SK := SK) (OV := OV) (BG := BG) (tr := tr) (tb := tb) (nd := nd) (tm := tm) (nx := nx) (bo := bo) (bb := bb) nb1 p0 with ⟨hX, hY⟩ | ⟨b, hb', rfl, hX, hY⟩
  · refine ⟨-1, fun post h => ?_, fun post h => ?_⟩
    · unfold wpX_state; dsimp only; exact hX _ (br_t rfl h)
    · unfold wpY_state; dsimp only; exact hY _ (br_f (by decide) h)
  · have hb2 : b < 2 ^ 31 := by omega
    have eX := hRX b hb'
    have eY := hRY b hb'
    obtain ⟨-, -, -, r1, r2, -⟩ := W.2.2.2.2.2 b hb'
    have hlt := cn_W_lt W hb'
    by_cases q : ro b = 0
    · rw [q] at eX eY
      refine ⟨0, fun post h => ?_, fun post h => ?_⟩
      · unfold wpX_state
        dsimp only
        refine hX _ (br_f (by decide) ⟨vp_in_nI (by omega) (by decide), br_t ?_ h⟩)
        rw [nI_clamp hb2]; exact eX
      · unfold wpY_state
        dsimp only
        refine hY _ (br_t rfl ⟨vp_in_nI (by omega) (by decide), br_f ?_ h⟩)
        rw [nI_clamp hb2, eY]; decide
    · have q1 : ro b = 1 := by omega
      have h1 := r2 q1
      rw [q1] at eX eY
      by_cases q2 : nw < cn_lt ra de sz hc hk hb b
      · refine ⟨1, fun post h => ?_, fun post h => ?_⟩
        · unfold wpX_state
          dsimp only
          refine hX _ (br_f (by decide) ⟨vp_in_nI (by omega) (by decide), br_f ?_ ⟨vp_in_nI (by omega) (by decide), ?_⟩⟩)
          · rw [nI_clamp hb2, eX]; decide
          · rw [nI_clamp hb2]
            exact cx_ltime W.1 Bk hLX hb' h1 (br_t (nI_lt q2 (by omega)) h)
        · unfold wpY_state
          dsimp only
          refine hY _ (br_t rfl ⟨vp_in_nI (by omega) (by decide), br_t ?_ ?_⟩)
          · rw [nI_clamp hb2]; exact eY
          · exact cy_ltime W.1 Bk hLY hb' (br_t (nI_lt q2 (by omega)) h)
      · refine ⟨2, fun post h => ?_, fun post h => ?_⟩
        · unfold wpX_state
          dsimp only
          refine hX _ (br_f (by decide) ⟨vp_in_nI (by omega) (by decide), br_f ?_ ⟨vp_in_nI (by omega) (by decide), ?_⟩⟩)
          · rw [nI_clamp hb2, eX]; decide
          · rw [nI_clamp hb2]
            exact cx_ltime W.1 Bk hLX hb' h1 (br_f (nI_nlt (by omega) (by omega)) h)
        · unfold wpY_state
          dsimp only
          refine hY _ (br_t rfl ⟨vp_in_nI (by omega) (by decide), br_t ?_ ?_⟩)
          · rw [nI_clamp hb2]; exact eY
          · exact cy_ltime W.1 Bk hLY hb' (br_f (nI_nlt (by omega) (by omega)) h)
end CzRead
end
section
/-! more methods that only read -/
section CzRead2
variable {nc nb nw : Nat} {rc bs ba : Int32} {ca fr tt st en ra de bz so go sz ro hc : Nat → Nat} {hk hb : Nat → Nat → Nat} {li RO HI HK HB rk rb ea el SK OV BG tr tb nd tm nx bo bb : Nat → Int32}
theorem cz_arrival (W : cn_W nc nb ca fr tt st en ra de bz so go sz ro hc hk hb) (hnw : nw ≤ 200000) (hLX : cn_L 100 nb hc hk hb HK HB) (hLY : cn_L 64 nb hc hk hb OV BG) (hRX : ∀ b, b < nb → RO b = nI (ro b)) (hRY : ∀ b, b < nb → SK b = nI (1 - ro b)) (p0 : Int32) : ∃ r : Int32, (∀ post : Int32 → Prop, post r → wpX_arrival post (nI nc, nI nb, nI nw, rc, cn_N ca, cn_N fr, cn_N tt, cn_N st, cn_N en, cn_N ra, cn_N de, cn_N bz, cn_N so, cn_N go, cn_N sz, li, RO, HI, cn_N hc, HK, HB, rk, rb, ea, el) p0) ∧ (∀ post : Int32 → Prop, post r → wpY_arrival post (nI nw, nI nc, nI nb, bs, ba, cn_N fr, cn_N tt, cn_N st, cn_N en, cn_N ra, cn_N de, cn_N ca, cn_N so, cn_N go, cn_N sz, li, SK, cn_N hc, OV, BG, tr, tb, nd, tm, nx, bo, bb) p0) := by
  have nb1 := W.2.2.2.2.1
  have Bk := cn_W_Bk W
  rcases cz_bun (nc := nc) (nb := nb) (nw := nw) (rc := rc) (bs := bs) (ba := ba) (ca := ca) (fr := fr) (tt := tt) (st := st) (en := en) (ra := ra) (de := de) (bz := bz) (so := so) (go := go) (sz := sz) (hc := hc) (li := li) (RO := RO) (HI := HI) (HK := HK) (HB := HB) (rk := rk) (rb := rb) (ea := ea) (el := el) (SK := SK) (OV := OV) (BG := BG) (tr := tr) (tb := tb) (nd := nd) (tm := tm) (nx := nx) (bo := bo) (bb := bb) nb1 p0 with ⟨hX, hY⟩ | ⟨b, hb', rfl, hX, hY⟩
  · refine ⟨-1, fun post h => ?_, fun post h => ?_⟩
    · unfold wpX_arrival; dsimp only; exact hX _ (br_t rfl h)
    · unfold wpY_arrival; dsimp only; exact hY _ (br_f (by decide) h)
  · have hb2 : b < 2 ^ 31 := by omega
    have eX := hRX b hb'
    have eY := hRY b hb'
    obtain ⟨-, -, -, r1, r2, -⟩ := W.2.2.2.2.2 b hb'
    by_cases q : ro b = 0
    · rw [q] at eX eY
      refine ⟨-2, fun post h => ?_, fun post h => ?_⟩
      · unfold wpX_arrival
        dsimp only
        refine hX _ (br_f (by decide) ⟨vp_in_nI (by omega) (by decide), br_t ?_ h⟩)
        rw [nI_clamp hb2]; exact eX
      · unfold wpY_arrival
        dsimp only
        refine hY _ (br_t rfl ⟨vp_in_nI (by omega) (by decide), br_f ?_ h⟩)
        rw [nI_clamp hb2, eY]; decide
    · have q1 : ro b = 1 := by omega
      have h1 := r2 q1
      rw [q1] at eX eY
      refine ⟨nI (cn_lt ra de sz hc hk hb b), fun post h => ?_, fun post h => ?_⟩
      · unfold wpX_arrival
        dsimp only
        refine hX _ (br_f (by decide) ⟨vp_in_nI (by omega) (by decide), br_f ?_ ⟨vp_in_nI (by omega) (by decide), ?_⟩⟩)
        · rw [nI_clamp hb2, eX]; decide
        · rw [nI_clamp hb2]
          exact cx_ltime W.1 Bk hLX hb' h1 h
      · unfold wpY_arrival
        dsimp only
        refine hY _ (br_t rfl ⟨vp_in_nI (by omega) (by decide), br_t ?_ ?_⟩)
        · rw [nI_clamp hb2]; exact eY
        · exact cy_ltime W.1 Bk hLY hb' h
theorem cz_hops (W : cn_W nc nb ca fr tt st en ra de bz so go sz ro hc hk hb) (hnw : nw ≤ 200000) (hLX : cn_L 100 nb hc hk hb HK HB) (hLY : cn_L 64 nb hc hk hb OV BG) (hRX : ∀ b, b < nb → RO b = nI (ro b)) (hRY : ∀ b, b < nb → SK b = nI (1 - ro b)) (p0 : Int32) : ∃ r : Int32, (∀ post : Int32 → Prop, post r → wpX_hops post (nI nc, nI nb, nI nw, rc, cn_N ca, cn_N fr, cn_N tt, cn_N st, cn_N en, cn_N ra, cn_N de, cn_N bz, cn_N so, cn_N go, cn_N sz, li, RO, HI, cn_N hc, HK, HB, rk, rb, ea, el) p0) ∧ (∀ post : Int32 → Prop, post r → wpY_hops post (nI nw, nI nc, nI nb, bs, ba, cn_N fr, cn_N tt, cn_N st, cn_N en, cn_N ra, cn_N de, cn_N ca, cn_N so, cn_N go, cn_N sz, li, SK, cn_N hc, OV, BG, tr, tb, nd, tm, nx, bo, bb) p0) := by
  have nb1 := W.2.2.2.2.1
  rcases cz_bun (nc := nc) (nb := nb) (nw := nw) (rc := rc) (bs := bs) (ba := ba) (ca := ca) (fr := fr) (tt := tt) (st := st) (en := en) (ra := ra) (de := de) (bz := bz) (so := so) (go := go) (sz := sz) (hc := hc) (li := li) (RO := RO) (HI := HI) (HK := HK) (HB := HB) (rk := rk) (rb := rb) (ea := ea) (el := el) (SK := SK) (OV := OV) (BG := BG) (tr := tr) (tb := tb) (nd := nd) (tm := tm) (nx := nx) (bo := bo) (bb := bb) nb1 p0 with ⟨hX, hY⟩ | ⟨b, hb', rfl, hX, hY⟩
  · refine ⟨-1, fun post h => ?_, fun post h => ?_⟩
    · unfold wpX_hops; dsimp only; exact hX _ (br_t rfl h)
    · unfold wpY_hops; dsimp only; exact hY _ (br_f (by decide) h)
  · have hb2 : b < 2 ^ 31 := by omega
    refine ⟨nI (hc b), fun post h => ?_, fun post h => ?_⟩
    · unfold wpX_hops
      dsimp only
      refine hX _ (br_f (by decide) ⟨vp_in_nI (by omega) (by decide), ?_⟩)
      rw [nI_clamp hb2]; exact h
    · unfold wpY_hops
      dsimp only
      refine hY _ (br_t rfl ⟨vp_in_nI (by omega) (by decide), ?_⟩)
      rw [nI_clamp hb2]; exact h
theorem cz_hop (W : cn_W nc nb ca fr tt st en ra de bz so go sz ro hc hk hb) (hnw : nw ≤ 200000) (hLX : cn_L 100 nb hc hk hb HK HB) (hLY : cn_L 64 nb hc hk hb OV BG) (hRX : ∀ b, b < nb → RO b = nI (ro b)) (hRY : ∀ b, b < nb → SK b = nI (1 - ro b)) (p0 p1 : Int32) : ∃ r : Int32, (∀ post : Int32 → Prop, post r → wpX_hop post (nI nc, nI nb, nI nw, rc, cn_N ca, cn_N fr, cn_N tt, cn_N st, cn_N en, cn_N ra, cn_N de, cn_N bz, cn_N so, cn_N go, cn_N sz, li, RO, HI, cn_N hc, HK, HB, rk, rb, ea, el) p0 p1) ∧ (∀ post : Int32 → Prop, post r → wpY_hop post (nI nw, nI nc, nI nb, bs, ba, cn_N fr, cn_N tt, cn_N st, cn_N en, cn_N ra, cn_N de, cn_N ca, cn_N so, cn_N go, cn_N sz, li, SK, cn_N hc, OV, BG, tr, tb, nd, tm, nx, bo, bb) p0 p1) := by
  have nb1 := W.2.2.2.2.1
  have Bk := cn_W_Bk W
  rcases cz_bun (nc := nc) (nb := nb) (nw := nw) (rc := rc) (bs := bs) (ba := ba) (ca := ca) (fr := fr) (tt := tt) (st := st) (en := en) (ra := ra) (de := de) (bz := bz) (so := so) (go := go) (sz := sz) (hc := hc) (li := li) (RO := RO) (HI := HI) (HK := HK) (HB := HB) (rk := rk) (rb := rb) (ea := ea) (el := el) (SK := SK) (OV := OV) (BG := BG) (tr := tr) (tb := tb) (nd := nd) (tm := tm) (nx := nx) (bo := bo) (bb := bb) nb1 p0 with ⟨hX, hY⟩ | ⟨b, hb', rfl, hX, hY⟩
  · refine ⟨-1, fun post h => ?_, fun post h => ?_⟩
    · unfold wpX_hop; dsimp only; exact hX _ (br_t rfl h)
    · unfold wpY_hop; dsimp only; exact hY _ (br_f (by decide) h)
  · have hb2 : b < 2 ^ 31 := by omega
    have h60 := (Bk.2 b hb').2.2.1
    rcases pk_ix p1 (n := hc b) (by omega) with q | q | ⟨i, hi, rfl⟩
    · refine ⟨-2, fun post h => ?_, fun post h => ?_⟩
      · unfold wpX_hop; dsimp only; exact hX _ (br_f (by decide) (br_t q h))
      · unfold wpY_hop; dsimp only; exact hY _ (br_t rfl (br_t q h))
    · have q2 : ¬ p1 < nI (hc b) := Int32.not_lt.mpr q
      refine ⟨-2, fun post h => ?_, fun post h => ?_⟩
      · unfold wpX_hop
        dsimp only
        refine hX _ (br_f (by decide) (br_c (fun _ => h) (fun _ => ⟨vp_in_nI (by omega) (by decide), br_f ?_ h⟩)))
        rw [nI_clamp hb2]; exact q2
      · unfold wpY_hop
        dsimp only
        refine hY _ (br_t rfl (br_c (fun _ => h) (fun _ => ⟨vp_in_nI (by omega) (by decide), br_f ?_ h⟩)))
        rw [nI_clamp hb2]; exact q2
    · obtain ⟨x1, x2⟩ := hLX b hb' i hi
      obtain ⟨y1, y2⟩ := hLY b hb' i hi
      have hx2 : 100 * b + i < 2 ^ 31 := by omega
      have hy2 : 64 * b + i < 2 ^ 31 := by omega
      have e1 : (100 : Int32) * nI b + nI i = nI (100 * b + i) := cn_ix 100 b i
      have e2 : (64 : Int32) * nI b + nI i = nI (64 * b + i) := cn_ix 64 b i
      refine ⟨1000 * nI (hk b i) + nI (hb b i), fun post h => ?_, fun post h => ?_⟩
      · unfold wpX_hop
        dsimp only
        refine hX _ (br_f (by decide) (br_f (nI_pos (by omega)) ⟨vp_in_nI (by omega) (by decide), br_t ?_ ?_⟩))
        · rw [nI_clamp hb2]; exact nI_lt hi (by omega)
        · rw [e1, nI_clamp hx2, x1, x2]
          exact ⟨vp_in_nI (by omega) (by decide), vp_in_nI (by omega) (by decide), h⟩
      · unfold wpY_hop
        dsimp only
        refine hY _ (br_t rfl (br_f (nI_pos (by omega)) ⟨vp_in_nI (by omega) (by decide), br_t ?_ ?_⟩))
        · rw [nI_clamp hb2]; exact nI_lt hi (by omega)
        · rw [e2, nI_clamp hy2, y1, y2]
          exact ⟨vp_in_nI (by omega) (by decide), vp_in_nI (by omega) (by decide), h⟩
theorem cz_place_l (W : cn_W nc nb ca fr tt st en ra de bz so go sz ro hc hk hb) (hnw : nw ≤ 200000) (hLX : cn_L 100 nb hc hk hb HK HB) (hLY : cn_L 64 nb hc hk hb OV BG) (hRX : ∀ b, b < nb → RO b = nI (ro b)) (hRY : ∀ b, b < nb → SK b = nI (1 - ro b)) {b : Nat} (hb' : b < nb) : ∀ (d i : Nat), i + d = hc b → ∃ r : Int32, (∀ (post : Int32 → Prop) (n : Nat), d < n → post r → wX_place_12 post (nI b) (nI nc) (nI nb) (nI nw) rc (cn_N ca) (cn_N fr) (cn_N tt) (cn_N st) (cn_N en) (cn_N ra) (cn_N de) (cn_N bz) (cn_N so) (cn_N go) (cn_N sz) li RO HI (cn_N hc) HK HB rk rb ea el n (nI i)) ∧ (∀ (post : Int32 → Prop) (n : Nat), d < n → post r → wY_place_22 post (nI b) (nI nw) (nI nc) (nI nb) bs ba (cn_N fr) (cn_N tt) (cn_N st) (cn_N en) (cn_N ra) (cn_N de) (cn_N ca) (cn_N so) (cn_N go) (cn_N sz) li SK (cn_N hc) OV BG tr tb nd tm nx bo bb n (nI (cn_nd tt so hk b i)) (nI (64 * b + i))) := by
  have nb1 := W.2.2.2.2.1
  have n1 := W.1.1
  have Bk := cn_W_Bk W
  have hb2 : b < 2 ^ 31 := by omega
  obtain ⟨s1, s2, h60, hh⟩ := Bk.2 b hb'
  have e0 : (64 : Int32) * nI b + nI (hc b) = nI (64 * b + hc b) := cn_ix 64 b (hc b)
  intro d
  induction d with
  | zero =>
    intro i hi
    have hi' : i = hc b := by omega
    refine ⟨nI (cn_nd tt so hk b (hc b)), fun post n hn h => ?_, fun post n hn h => ?_⟩
    · obtain ⟨n, rfl⟩ : ∃ n', n = n' + 1 := ⟨n - 1, by omega⟩
      rw [wX_place_12]
      simp only [nI_clamp hb2, cn_Ne]
      exact ⟨vp_in_nI (by omega) (by decide), br_t (nI_le (by omega) (by omega)) (cx_last W.1 Bk hLX hb' h)⟩
    · obtain ⟨n, rfl⟩ : ∃ n', n = n' + 1 := ⟨n - 1, by omega⟩
      rw [wY_place_22]
      simp only [nI_clamp hb2, cn_Ne, e0]
      rw [hi']
      exact ⟨vp_in_nI (by omega) (by decide), br_t (nI_le (by omega) (by omega)) h⟩
  | succ d ih =>
    intro i hi
    have hi3 : i < hc b := by omega
    obtain ⟨x1, x2⟩ := hLX b hb' i hi3
    obtain ⟨y1, y2⟩ := hLY b hb' i hi3
    obtain ⟨g1, g2⟩ := hh i hi3
    obtain ⟨-, -, gf, -⟩ := (W.2.2.2.2.2 b hb').2.1 i hi3
    have g3 := (W.1.2 _ g1).2.2.2.1
    have g4 := (W.1.2 _ g1).2.2.2.2.2.2
    have hx2 : 100 * b + i < 2 ^ 31 := by omega
    have hy2 : 64 * b + i < 2 ^ 31 := by omega
    have hk2 : hk b i < 2 ^ 31 := by omega
    have e1 : (100 : Int32) * nI b + nI i = nI (100 * b + i) := cn_ix 100 b i
    have e2 : nI (64 * b + i) + 1 = nI (64 * b + (i + 1)) := nI_1 _
    -- what either side asks at booking i
    have sx : ∀ (post : Int32 → Prop) (n : Nat), (hb b i + cn_tk ra (hk b i) (sz b) + de (hk b i) ≤ nw → wX_place_12 post (nI b) (nI nc) (nI nb) (nI nw) rc (cn_N ca) (cn_N fr) (cn_N tt) (cn_N st) (cn_N en) (cn_N ra) (cn_N de) (cn_N bz) (cn_N so) (cn_N go) (cn_N sz) li RO HI (cn_N hc) HK HB rk rb ea el n (nI (i + 1))) → (nw < hb b i + cn_tk ra (hk b i) (sz b) + de (hk b i) → nw ≤ hb b i → post (nI (cn_nd tt so hk b i))) → (nw < hb b i + cn_tk ra (hk b i) (sz b) + de (hk b i) → hb b i < nw → post (10 + nI (hk b i))) → wX_place_12 post (nI b) (nI nc) (nI nb) (nI nw) rc (cn_N ca) (cn_N fr) (cn_N tt) (cn_N st) (cn_N en) (cn_N ra) (cn_N de) (cn_N bz) (cn_N so) (cn_N go) (cn_N sz) li RO HI (cn_N hc) HK HB rk rb ea el (n + 1) (nI i) := by
      intro post n k1 k2 k3
      rw [wX_place_12]
      simp only [nI_clamp hb2, cn_Ne, e1, nI_clamp hx2, x1, x2]
      refine ⟨vp_in_nI (by omega) (by decide), br_f (nI_ge hi3 (by omega)) (cx_comes W.1 Bk hLX hb' hi3 ?_)⟩
      refine pk_le (hb b i + cn_tk ra (hk b i) (sz b) + de (hk b i)) nw (fun q => nm_r (nI_1 i) (k1 q)) (fun q => ⟨vp_in_nI (by omega) (by decide), nm_e ⟨vp_in_nI (by omega) (by decide), pk_le nw (hb b i) (fun q2 => ⟨vp_in_nI (by omega) (by decide), ?_⟩) (fun q2 => k3 q q2)⟩⟩)
      rw [nI_clamp hk2, gf]
      exact k2 q q2
    have sy : ∀ (post : Int32 → Prop) (n : Nat), (hb b i + cn_tk ra (hk b i) (sz b) + de (hk b i) ≤ nw → wY_place_22 post (nI b) (nI nw) (nI nc) (nI nb) bs ba (cn_N fr) (cn_N tt) (cn_N st) (cn_N en) (cn_N ra) (cn_N de) (cn_N ca) (cn_N so) (cn_N go) (cn_N sz) li SK (cn_N hc) OV BG tr tb nd tm nx bo bb n (nI (cn_nd tt so hk b (i + 1))) (nI (64 * b + (i + 1)))) → (nw < hb b i + cn_tk ra (hk b i) (sz b) + de (hk b i) → nw ≤ hb b i → post (nI (cn_nd tt so hk b i))) → (nw < hb b i + cn_tk ra (hk b i) (sz b) + de (hk b i) → hb b i < nw → post (10 + nI (hk b i))) → wY_place_22 post (nI b) (nI nw) (nI nc) (nI nb) bs ba (cn_N fr) (cn_N tt) (cn_N st) (cn_N en) (cn_N ra) (cn_N de) (cn_N ca) (cn_N so) (cn_N go) (cn_N sz) li SK (cn_N hc) OV BG tr tb nd tm nx bo bb (n + 1) (nI (cn_nd tt so hk b i)) (nI (64 * b + i)) := by
      intro post n k1 k2 k3
      rw [wY_place_22]
      simp only [nI_clamp hb2, cn_Ne, e0, nI_clamp hy2, y1, y2, nI_clamp hk2, e2]
      refine ⟨vp_in_nI (by omega) (by decide), br_f (nI_ge (by omega) (by omega)) ⟨vp_in_nI (by omega) (by decide), vp_in_nI (by omega) (by decide), vp_in_nI (by omega) (by decide), cy_comes W.1 g1 s1 s2 ?_⟩⟩
      refine pk_le (hb b i + cn_tk ra (hk b i) (sz b) + de (hk b i)) nw (fun q => ⟨vp_in_nI (by omega) (by decide), vp_in_nI (by omega) (by decide), nm_e (nm_e (k1 q))⟩) (fun q => ⟨vp_in_nI (by omega) (by decide), pk_le nw (hb b i) (fun q2 => k2 q q2) (fun q2 => ⟨vp_in_nI (by omega) (by decide), k3 q q2⟩)⟩)
    by_cases q : hb b i + cn_tk ra (hk b i) (sz b) + de (hk b i) ≤ nw
    · obtain ⟨r, hX, hY⟩ := ih (i + 1) (by omega)
      refine ⟨r, fun post n hn h => ?_, fun post n hn h => ?_⟩
      · obtain ⟨n, rfl⟩ : ∃ n', n = n' + 1 := ⟨n - 1, by omega⟩
        exact sx post n (fun _ => hX post n (by omega) h) (fun z => absurd z (by omega)) (fun z => absurd z (by omega))
      · obtain ⟨n, rfl⟩ : ∃ n', n = n' + 1 := ⟨n - 1, by omega⟩
        exact sy post n (fun _ => hY post n (by omega) h) (fun z => absurd z (by omega)) (fun z => absurd z (by omega))
    · by_cases q2 : nw ≤ hb b i
      · refine ⟨nI (cn_nd tt so hk b i), fun post n hn h => ?_, fun post n hn h => ?_⟩
        · obtain ⟨n, rfl⟩ : ∃ n', n = n' + 1 := ⟨n - 1, by omega⟩
          exact sx post n (fun z => absurd z q) (fun _ _ => h) (fun _ z => absurd z (by omega))
        · obtain ⟨n, rfl⟩ : ∃ n', n = n' + 1 := ⟨n - 1, by omega⟩
          exact sy post n (fun z => absurd z q) (fun _ _ => h) (fun _ z => absurd z (by omega))
      · refine ⟨10 + nI (hk b i), fun post n hn h => ?_, fun post n hn h => ?_⟩
        · obtain ⟨n, rfl⟩ : ∃ n', n = n' + 1 := ⟨n - 1, by omega⟩
          exact sx post n (fun z => absurd z q) (fun _ z => absurd z q2) (fun _ _ => h)
        · obtain ⟨n, rfl⟩ : ∃ n', n = n' + 1 := ⟨n - 1, by omega⟩
          exact sy post n (fun z => absurd z q) (fun _ z => absurd z q2) (fun _ _ => h)
theorem cz_place (W : cn_W nc nb ca fr tt st en ra de bz so go sz ro hc hk hb) (hnw : nw ≤ 200000) (hLX : cn_L 100 nb hc hk hb HK HB) (hLY : cn_L 64 nb hc hk hb OV BG) (hRX : ∀ b, b < nb → RO b = nI (ro b)) (hRY : ∀ b, b < nb → SK b = nI (1 - ro b)) (p0 : Int32) : ∃ r : Int32, (∀ post : Int32 → Prop, post r → wpX_place post (nI nc, nI nb, nI nw, rc, cn_N ca, cn_N fr, cn_N tt, cn_N st, cn_N en, cn_N ra, cn_N de, cn_N bz, cn_N so, cn_N go, cn_N sz, li, RO, HI, cn_N hc, HK, HB, rk, rb, ea, el) p0) ∧ (∀ post : Int32 → Prop, post r → wpY_place post (nI nw, nI nc, nI nb, bs, ba, cn_N fr, cn_N tt, cn_N st, cn_N en, cn_N ra, cn_N de, cn_N ca, cn_N so, cn_N go, cn_N sz, li, SK, cn_N hc, OV, BG, tr, tb, nd, tm, nx, bo, bb) p0) := by
  have nb1 := W.2.2.2.2.1
  rcases cz_bun (nc := nc) (nb := nb) (nw := nw) (rc := rc) (bs := bs) (ba := ba) (ca := ca) (fr := fr) (tt := tt) (st := st) (en := en) (ra := ra) (de := de) (bz := bz) (so := so) (go := go) (sz := sz) (hc := hc) (li := li) (RO := RO) (HI := HI) (HK := HK) (HB := HB) (rk := rk) (rb := rb) (ea := ea) (el := el) (SK := SK) (OV := OV) (BG := BG) (tr := tr) (tb := tb) (nd := nd) (tm := tm) (nx := nx) (bo := bo) (bb := bb) nb1 p0 with ⟨hX, hY⟩ | ⟨b, hb', rfl, hX, hY⟩
  · refine ⟨-1, fun post h => ?_, fun post h => ?_⟩
    · unfold wpX_place; dsimp only; exact hX _ (br_t rfl h)
    · unfold wpY_place; dsimp only; exact hY _ (br_f (by decide) h)
  · have hb2 : b < 2 ^ 31 := by omega
    obtain ⟨r, lX, lY⟩ := cz_place_l W hnw hLX hLY hRX hRY hb' (rc := rc) (HI := HI) (rk := rk) (rb := rb) (ea := ea) (el := el) (bs := bs) (ba := ba) (tr := tr) (tb := tb) (nd := nd) (tm := tm) (nx := nx) (bo := bo) (bb := bb) (li := li) (hc b) 0 (by omega)
    refine ⟨r, fun post h => ?_, fun post h => ?_⟩
    · unfold wpX_place
      dsimp only
      exact hX _ (br_f (by decide) ⟨hc b + 1, lX post _ (by omega) h⟩)
    · unfold wpY_place
      dsimp only
      refine hY _ (br_t rfl ⟨vp_in_nI (by omega) (by decide), nm_r (e' := nI (so b)) ?_ (nm_r (e' := nI (64 * b + 0)) (pk_mul 64 b) ⟨hc b + 1, lY post _ (by omega) h⟩)⟩)
      rw [nI_clamp hb2]; rfl
end CzRead2
end
section
/-! booked: ticks counted, and bookings summed up -/
section CzBooked
variable {nc nb nw : Nat} {rc bs ba : Int32} {ca fr tt st en ra de bz so go sz ro hc : Nat → Nat} {hk hb : Nat → Nat → Nat} {li RO HI HK HB rk rb ea el SK OV BG tr tb nd tm nx bo bb : Nat → Int32}
theorem cx_booked_l (hz : ∀ j, bz j ≤ 1) {k : Nat} (hk10 : k < 10) {post : Int32 → Prop} (h : post (nI (cn_S 101 (fun t => bz (101 * k + t))))) : ∀ (n t : Nat), t ≤ 101 → 101 - t < n → wX_booked_26 post (nI k) (nI nc) (nI nb) (nI nw) rc (cn_N ca) (cn_N fr) (cn_N tt) (cn_N st) (cn_N en) (cn_N ra) (cn_N de) (cn_N bz) (cn_N so) (cn_N go) (cn_N sz) li RO HI (cn_N hc) HK HB rk rb ea el n (nI (cn_S t (fun t => bz (101 * k + t)))) (nI t) := by
  intro n
  induction n with
  | zero => intro t _ h; omega
  | succ n ih =>
    intro t ht hn
    have e1 : (101 : Int32) * nI k + nI t = nI (101 * k + t) := cn_ix 101 k t
    have hj : 101 * k + t < 2 ^ 31 := by omega
    have hz1 := hz (101 * k + t)
    have es : cn_S (t + 1) (fun t => bz (101 * k + t)) = cn_S t (fun t => bz (101 * k + t)) + bz (101 * k + t) := rfl
    rw [wX_booked_26]
    simp only [cn_Ne, e1, nI_clamp hj]
    refine pk_le 101 t (fun q => ?_) (fun q => ⟨vp_in_nI (by omega) (by decide), pk_eq (bz (101 * k + t)) 0 (fun q2 => ?_) (fun q2 => ?_)⟩)
    · have e : t = 101 := by omega
      subst e
      exact h
    · refine nm_r (e' := nI (cn_S (t + 1) (fun t => bz (101 * k + t)))) ?_ (nm_r (nI_1 t) (ih (t + 1) (by omega) (by omega)))
      rw [es, q2]
      exact nI_add _ 0
    · refine nm_r (e' := nI (cn_S (t + 1) (fun t => bz (101 * k + t)))) ?_ (nm_r (nI_1 t) (ih (t + 1) (by omega) (by omega)))
      rw [es, show bz (101 * k + t) = 1 from by omega]
      exact nI_add _ 1
theorem cy_booked_i (N : cn_Net nc fr tt st en ra de) (Bk : cn_Bk nc nb en ra sz hc hk hb) (hL : cn_L 64 nb hc hk hb OV BG) {k b a : Nat} (hk' : k < nc) (hb' : b < nb) {post : Int32 → Prop} {J : Int32 → Int32 → Prop} (h : J (nI (a + cn_S (hc b) (fun i => if hk b i = k then cn_tk ra k (sz b) else 0))) (nI (b + 1))) :
    ∀ (n i : Nat), i ≤ hc b → hc b - i < n → wY_booked_44 post J (nI k) (nI b) (nI nw) (nI nc) (nI nb) bs ba (cn_N fr) (cn_N tt) (cn_N st) (cn_N en) (cn_N ra) (cn_N de) (cn_N ca) (cn_N so) (cn_N go) (cn_N sz) li SK (cn_N hc) OV BG tr tb nd tm nx bo bb n (nI (a + cn_S i (fun i => if hk b i = k then cn_tk ra k (sz b) else 0))) (nI (64 * b + i)) := by
  have n1 := N.1
  obtain ⟨c0, c1⟩ := Bk
  obtain ⟨s1, s2, hc60, hh⟩ := c1 b hb'
  have hb2 : b < 2 ^ 31 := by omega
  intro n
  induction n with
  | zero => intro i _ h; omega
  | succ n ih =>
    intro i hi hn
    have hi2 : 64 * b + i < 2 ^ 31 := by omega
    have e1 : (64 : Int32) * nI b + nI (hc b) = nI (64 * b + hc b) := cn_ix 64 b (hc b)
    have e2 : nI (64 * b + i) + 1 = nI (64 * b + (i + 1)) := nI_1 _
    have es : cn_S (i + 1) (fun i => if hk b i = k then cn_tk ra k (sz b) else 0) = cn_S i (fun i => if hk b i = k then cn_tk ra k (sz b) else 0) + (if hk b i = k then cn_tk ra k (sz b) else 0) := rfl
    rw [wY_booked_44]
    simp only [nI_clamp hb2, cn_Ne, nI_clamp hi2, e1, e2]
    refine ⟨vp_in_nI (by omega) (by decide), pk_le (64 * b + hc b) (64 * b + i) (fun q => ?_) (fun q => ?_)⟩
    · have e : i = hc b := by omega
      subst e
      exact nm_r (nI_1 b) h
    · have hi3 : i < hc b := by omega
      obtain ⟨l1, l2⟩ := hL b hb' i hi3
      obtain ⟨g1, g2⟩ := hh i hi3
      simp only [l1]
      refine ⟨vp_in_nI (by omega) (by decide), pk_eq (hk b i) k (fun q1 => ⟨vp_in_nI (by omega) (by decide), cy_ticks N hk' s1 s2 ?_⟩) (fun q1 => nm_e ?_)⟩
      · have := ih (i + 1) (by omega) (by omega)
        rw [es, if_pos q1, ← Nat.add_assoc] at this
        exact nm_r (nI_add _ _) (nm_e this)
      · have := ih (i + 1) (by omega) (by omega)
        rw [es, if_neg q1, Nat.add_zero] at this
        exact this
theorem cy_booked_l (N : cn_Net nc fr tt st en ra de) (Bk : cn_Bk nc nb en ra sz hc hk hb) (hL : cn_L 64 nb hc hk hb OV BG) {k : Nat} (hk' : k < nc) {post : Int32 → Prop} (h : post (nI (cn_S nb (fun b => cn_S (hc b) (fun i => if hk b i = k then cn_tk ra k (sz b) else 0))))) :
    ∀ (n b : Nat), b ≤ nb → nb - b < n → wY_booked_30 post (nI k) (nI nw) (nI nc) (nI nb) bs ba (cn_N fr) (cn_N tt) (cn_N st) (cn_N en) (cn_N ra) (cn_N de) (cn_N ca) (cn_N so) (cn_N go) (cn_N sz) li SK (cn_N hc) OV BG tr tb nd tm nx bo bb n (nI (cn_S b (fun b => cn_S (hc b) (fun i => if hk b i = k then cn_tk ra k (sz b) else 0)))) (nI b) := by
  have hbn := Bk.1
  intro n
  induction n with
  | zero => intro b _ h; omega
  | succ n ih =>
    intro b hb' hn
    rw [wY_booked_30]
    refine pk_le nb b (fun q => ?_) (fun q => ?_)
    · have e : b = nb := by omega
      subst e
      exact h
    · refine nm_r (e' := nI (64 * b + 0)) (pk_mul 64 b) ⟨hc b + 1, ?_⟩
      exact cy_booked_i N Bk hL hk' q (ih (b + 1) (by omega) (by omega)) (hc b + 1) 0 (by omega) (by omega)
theorem cz_booked (W : cn_W nc nb ca fr tt st en ra de bz so go sz ro hc hk hb) (hnw : nw ≤ 200000) (hLX : cn_L 100 nb hc hk hb HK HB) (hLY : cn_L 64 nb hc hk hb OV BG) (hRX : ∀ b, b < nb → RO b = nI (ro b)) (hRY : ∀ b, b < nb → SK b = nI (1 - ro b)) (p0 : Int32) : ∃ r : Int32, (∀ post : Int32 → Prop, post r → wpX_booked post (nI nc, nI nb, nI nw, rc, cn_N ca, cn_N fr, cn_N tt, cn_N st, cn_N en, cn_N ra, cn_N de, cn_N bz, cn_N so, cn_N go, cn_N sz, li, RO, HI, cn_N hc, HK, HB, rk, rb, ea, el) p0) ∧ (∀ post : Int32 → Prop, post r → wpY_booked post (nI nw, nI nc, nI nb, bs, ba, cn_N fr, cn_N tt, cn_N st, cn_N en, cn_N ra, cn_N de, cn_N ca, cn_N so, cn_N go, cn_N sz, li, SK, cn_N hc, OV, BG, tr, tb, nd, tm, nx, bo, bb) p0) := by
  have n1 := W.1.1
  have Bk := cn_W_Bk W
  rcases cz_con (nc := nc) (nb := nb) (nw := nw) (rc := rc) (ca := ca) (fr := fr) (tt := tt) (st := st) (en := en) (ra := ra) (de := de) (bz := bz) (so := so) (go := go) (sz := sz) (hc := hc) (li := li) (RO := RO) (HI := HI) (HK := HK) (HB := HB) (rk := rk) (rb := rb) (ea := ea) (el := el) n1 p0 with ⟨hX, hbad⟩ | ⟨k, hk', rfl, hX⟩
  · refine ⟨-1, fun post h => ?_, fun post h => ?_⟩
    · unfold wpX_booked; dsimp only; exact hX _ (br_t rfl h)
    · unfold wpY_booked
      dsimp only
      rcases hbad with q | q
      · exact br_t q h
      · exact br_c (fun _ => h) (fun _ => br_f (Int32.not_lt.mpr q) h)
  · have hk2 : k < 2 ^ 31 := by omega
    have hca := W.2.2.1 k
    by_cases q : ca k = 0
    · have qe : cn_N ca k = 0 := by rw [cn_Ne, q]; rfl
      refine ⟨nI (cn_S 101 (fun t => bz (101 * k + t))), fun post h => ?_, fun post h => ?_⟩
      · unfold wpX_booked
        dsimp only
        refine hX _ (br_f (by decide) ⟨vp_in_nI (by omega) (by decide), br_t ?_ ⟨102, cx_booked_l W.2.1 (by omega) h 102 0 (by omega) (by omega)⟩⟩)
        rw [nI_clamp hk2]; exact qe
      · rw [cn_Bz_sum W.2.2.2.1 (by omega) ?_] at h
        · unfold wpY_booked
          dsimp only
          refine br_f (nI_pos (by omega)) (br_t (nI_lt hk' (by omega)) ⟨vp_in_nI (by omega) (by decide), br_t ?_ ⟨nb + 1, cy_booked_l W.1 Bk hLY hk' h (nb + 1) 0 (by omega) (by omega)⟩⟩)
          rw [nI_clamp hk2]; exact qe
        · intro b hb' i hi e
          have g := (Bk.2 b hb').2.2.2 i hi
          rw [e] at g
          have := (W.1.2 k hk').2.2.2.1
          omega
    · have qe : ¬ cn_N ca k = 0 := by rw [cn_Ne]; exact nI_ne0 (by omega) (by omega)
      refine ⟨-2, fun post h => ?_, fun post h => ?_⟩
      · unfold wpX_booked
        dsimp only
        refine hX _ (br_f (by decide) ⟨vp_in_nI (by omega) (by decide), br_f ?_ h⟩)
        rw [nI_clamp hk2]; exact qe
      · unfold wpY_booked
        dsimp only
        refine br_f (nI_pos (by omega)) (br_t (nI_lt hk' (by omega)) ⟨vp_in_nI (by omega) (by decide), br_f ?_ h⟩)
        rw [nI_clamp hk2]; exact qe
end CzBooked
end
section
/-! what might be: quote, reach, latest -/
section CzQuery
variable {nc nb nw : Nat} {rc bs ba : Int32} {ca fr tt st en ra de bz so go sz ro hc : Nat → Nat} {hk hb : Nat → Nat → Nat} {li RO HI HK HB rk rb ea el SK OV BG tr tb nd tm nx bo bb : Nat → Int32}
theorem cz_quote (W : cn_W nc nb ca fr tt st en ra de bz so go sz ro hc hk hb) (hnw : nw ≤ 200000) (hLX : cn_L 100 nb hc hk hb HK HB) (hLY : cn_L 64 nb hc hk hb OV BG) (hRX : ∀ b, b < nb → RO b = nI (ro b)) (hRY : ∀ b, b < nb → SK b = nI (1 - ro b)) (p0 p1 : Int32) : ∃ r : Int32, (∀ post : Int32 → SX → Prop, (∀ ea el, post r (nI nc, nI nb, nI nw, rc, cn_N ca, cn_N fr, cn_N tt, cn_N st, cn_N en, cn_N ra, cn_N de, cn_N bz, cn_N so, cn_N go, cn_N sz, li, RO, HI, cn_N hc, HK, HB, rk, rb, ea, el)) → wpX_quote post (nI nc, nI nb, nI nw, rc, cn_N ca, cn_N fr, cn_N tt, cn_N st, cn_N en, cn_N ra, cn_N de, cn_N bz, cn_N so, cn_N go, cn_N sz, li, RO, HI, cn_N hc, HK, HB, rk, rb, ea, el) p0 p1) ∧ (∀ post : Int32 → SY → Prop, (∀ bs ba tr tb nd tm nx bo bb, post r (nI nw, nI nc, nI nb, bs, ba, cn_N fr, cn_N tt, cn_N st, cn_N en, cn_N ra, cn_N de, cn_N ca, cn_N so, cn_N go, cn_N sz, li, SK, cn_N hc, OV, BG, tr, tb, nd, tm, nx, bo, bb)) → wpY_quote post (nI nw, nI nc, nI nb, bs, ba, cn_N fr, cn_N tt, cn_N st, cn_N en, cn_N ra, cn_N de, cn_N ca, cn_N so, cn_N go, cn_N sz, li, SK, cn_N hc, OV, BG, tr, tb, nd, tm, nx, bo, bb) p0 p1) := by
  have Bk := cn_W_Bk W
  rcases cz_ends (nc := nc) (nb := nb) (nw := nw) (bs := bs) (ba := ba) (ca := ca) (fr := fr) (tt := tt) (st := st) (en := en) (ra := ra) (de := de) (so := so) (go := go) (sz := sz) (hc := hc) (li := li) (SK := SK) (OV := OV) (BG := BG) (tr := tr) (tb := tb) (nd := nd) (tm := tm) (nx := nx) (bo := bo) (bb := bb) p0 with ⟨hX, hY⟩ | ⟨a, c, ha, hc', hac, ea', ec', hX, hY⟩
  · refine ⟨-1, fun post h => ?_, fun post h => ?_⟩
    · unfold wpX_quote; dsimp only; exact hX _ (br_t rfl (h _ _))
    · unfold wpY_quote; dsimp only; exact hY _ (br_f (by decide) (h _ _ _ _ _ _ _ _ _))
  · rcases cz_size (nc := nc) (nb := nb) (nw := nw) (bs := bs) (ba := ba) (ca := ca) (fr := fr) (tt := tt) (st := st) (en := en) (ra := ra) (de := de) (so := so) (go := go) (sz := sz) (hc := hc) (li := li) (SK := SK) (OV := OV) (BG := BG) (tr := tr) (tb := tb) (nd := nd) (tm := tm) (nx := nx) (bo := bo) (bb := bb) p1 with ⟨hX1, hY1⟩ | ⟨s, hs1, hs2, rfl, hX1, hY1⟩
    · refine ⟨-1, fun post h => ?_, fun post h => ?_⟩
      · unfold wpX_quote; dsimp only; exact hX _ (br_f (by decide) (hX1 _ (br_t rfl (h _ _))))
      · unfold wpY_quote; dsimp only; exact hY _ (br_t rfl (hY1 _ (br_f (by decide) (h _ _ _ _ _ _ _ _ _))))
    · have K : cn_Ok nc ca fr tt st en ra de bz s := cn_W_Ok W hs1 hs2
      have P := cn_A_P (ca := ca) (bz := bz) W.1 hs1
      have hc2 : c < 2 ^ 31 := by omega
      rcases cn_O_or (nc := nc) (fr := fr) (tt := tt) (A := (cn_A nc ca st en ra de bz s)) (t := nw) hac with hN | ⟨R, hO⟩
      · refine ⟨-2, fun post h => ?_, fun post h => ?_⟩
        · unfold wpX_quote
          dsimp only
          refine hX _ (br_f (by decide) (hX1 _ (br_f (by decide) ⟨cn_i6, ?_⟩)))
          rw [ec', ea']
          refine cx_spread K (m := 5) (by omega) ha (by omega) ?_
          intro ea el hV
          obtain ⟨x, hx, hVx⟩ := hV c hc'
          have ex : x = 1000000 := cn_Va_eq hVx (cn_No_Va hN (by omega))
          rw [ex] at hx
          simp only [nI_clamp hc2]
          exact ⟨cn_i6, vp_in_nI hc' (by decide), nm_r hx (br_f (by decide) (h ea el))⟩
        · unfold wpY_quote
          dsimp only
          refine hY _ (br_t rfl (hY1 _ (br_t rfl ⟨cn_i6, cn_i6, ?_⟩)))
          rw [ec', ea']
          refine cy_find_0 K W.2.2.2.1 Bk hLY ha hc' (by omega) hN ?_
          intro bs ba tr tb nd tm nx bo bb
          exact br_t rfl (h bs ba tr tb nd tm nx bo bb)
      · refine ⟨nI (cn_t (cn_A nc ca st en ra de bz s) R nw), fun post h => ?_, fun post h => ?_⟩
        · unfold wpX_quote
          dsimp only
          refine hX _ (br_f (by decide) (hX1 _ (br_f (by decide) ⟨cn_i6, ?_⟩)))
          rw [ec', ea']
          refine cx_spread K (m := 5) (by omega) ha (by omega) ?_
          intro ea el hV
          obtain ⟨x, hx, hVx⟩ := hV c hc'
          have ex : x = cn_t (cn_A nc ca st en ra de bz s) R nw := cn_Va_eq hVx (cn_O_Va P (by omega) hO hO.2.1 (by omega))
          rw [ex] at hx
          simp only [nI_clamp hc2]
          exact ⟨cn_i6, vp_in_nI hc' (by decide), nm_r hx (br_t (nI_lt (b := 1000000) hO.2.2.2.1 (by decide)) (h ea el))⟩
        · unfold wpY_quote
          dsimp only
          refine hY _ (br_t rfl (hY1 _ (br_t rfl ⟨cn_i6, cn_i6, ?_⟩)))
          rw [ec', ea']
          refine cy_find_R K W.2.2.2.1 Bk hLY ha hc' (by omega) hO ?_
          intro ba tr tb nd tm nx bo bb hba hbo hbb
          subst hba
          exact br_f (by decide) (h _ _ tr tb nd tm nx bo bb)
/-- the goal g can be come in at in time -/
def cn_In (nc : Nat) (fr tt : Nat → Nat) (A : Nat → Nat → Nat) (by' : Int32) (v g t : Nat) : Prop := ∃ R, cn_O nc fr tt A v t g R ∧ nI (cn_t A R t) ≤ by'
/-- what either side sees at a goal -/
theorem cn_In_Va {s : Nat} (P : cn_P (cn_A nc ca st en ra de bz s)) {by' : Int32} {v g t x : Nat} (hvg : v ≠ g) (ht : t ≤ 1000000) (hV : cn_Va nc fr tt (cn_A nc ca st en ra de bz s) 5 v t g x) : (x < 1000000 ∧ nI x ≤ by') ↔ cn_In nc fr tt (cn_A nc ca st en ra de bz s) by' v g t := by
  constructor
  · rintro ⟨h1, h2⟩
    rcases cn_O_or (nc := nc) (fr := fr) (tt := tt) (A := (cn_A nc ca st en ra de bz s)) (t := t) hvg with hN | ⟨R, hO⟩
    · have ex : x = 1000000 := cn_Va_eq hV (cn_No_Va hN (by omega))
      omega
    · have ex : x = cn_t (cn_A nc ca st en ra de bz s) R t := cn_Va_eq hV (cn_O_Va P ht hO hO.2.1 (by omega))
      exact ⟨R, hO, by rw [← ex]; exact h2⟩
  · rintro ⟨R, hO, h⟩
    have ex : x = cn_t (cn_A nc ca st en ra de bz s) R t := cn_Va_eq hV (cn_O_Va P ht hO hO.2.1 (by omega))
    rw [ex]
    exact ⟨hO.2.2.2.1, h⟩
theorem cn_In_anti {s : Nat} (P : cn_P (cn_A nc ca st en ra de bz s)) {by' : Int32} {v g t t' : Nat} (hvg : v ≠ g) (htt : t ≤ t') (h : cn_In nc fr tt (cn_A nc ca st en ra de bz s) by' v g t') : cn_In nc fr tt (cn_A nc ca st en ra de bz s) by' v g t := by
  obtain ⟨R', hO', h'⟩ := h
  have hm := cn_t_mono P R' t t' htt
  have hf := hO'.2.2.2.1
  rcases cn_O_or (nc := nc) (fr := fr) (tt := tt) (A := (cn_A nc ca st en ra de bz s)) (t := t) hvg with hN | ⟨R, hO⟩
  · have := hN R' hO'.2.2.1 hO'.2.1
    omega
  · have := hO.2.2.2.2.1 R' hO'.2.2.1 hO'.2.1
    exact ⟨R, hO, Int32.le_trans (nI_le (by omega) (by omega)) h'⟩
/-- the reference's question: is there a route, and is it in time? -/
theorem cy_in {s : Nat} (K : cn_Ok nc ca fr tt st en ra de bz s) (Z : cn_Bz nb hc ra sz hk hb bz) (Bk : cn_Bk nc nb en ra sz hc hk hb) (hL : cn_L 64 nb hc hk hb OV BG) {v t g : Nat} (hv : v < 6) (hg : g < 6) (hvg : v ≠ g) (ht : t < 1000000) {by' : Int32} {post : Int32 → SY → Prop} (h1 : cn_In nc fr tt (cn_A nc ca st en ra de bz s) by' v g t → ∀ bs ba tr tb nd tm nx bo bb, ¬ by' < ba → post 1 (nI nw, nI nc, nI nb, bs, ba, cn_N fr, cn_N tt, cn_N st, cn_N en, cn_N ra, cn_N de, cn_N ca, cn_N so, cn_N go, cn_N sz, li, SK, cn_N hc, OV, BG, tr, tb, nd, tm, nx, bo, bb)) (h0 : ¬ cn_In nc fr tt (cn_A nc ca st en ra de bz s) by' v g t → ∀ bs ba tr tb nd tm nx bo bb, post 0 (nI nw, nI nc, nI nb, bs, ba, cn_N fr, cn_N tt, cn_N st, cn_N en, cn_N ra, cn_N de, cn_N ca, cn_N so, cn_N go, cn_N sz, li, SK, cn_N hc, OV, BG, tr, tb, nd, tm, nx, bo, bb)) (h2 : ¬ cn_In nc fr tt (cn_A nc ca st en ra de bz s) by' v g t → ∀ bs ba tr tb nd tm nx bo bb, by' < ba → post 1 (nI nw, nI nc, nI nb, bs, ba, cn_N fr, cn_N tt, cn_N st, cn_N en, cn_N ra, cn_N de, cn_N ca, cn_N so, cn_N go, cn_N sz, li, SK, cn_N hc, OV, BG, tr, tb, nd, tm, nx, bo, bb)) : wpY_findBest post (nI nw, nI nc, nI nb, bs, ba, cn_N fr, cn_N tt, cn_N st, cn_N en, cn_N ra, cn_N de, cn_N ca, cn_N so, cn_N go, cn_N sz, li, SK, cn_N hc, OV, BG, tr, tb, nd, tm, nx, bo, bb) (nI v) (nI t) (nI g) (nI s) := by
  have P := cn_A_P (ca := ca) (bz := bz) K.1 K.2.2.2.1
  rcases cn_O_or (nc := nc) (fr := fr) (tt := tt) (A := (cn_A nc ca st en ra de bz s)) (t := t) hvg with hN | ⟨R, hO⟩
  · refine cy_find_0 K Z Bk hL hv hg ht hN (h0 ?_)
    rintro ⟨R, hO, -⟩
    have := hN R hO.2.2.1 hO.2.1
    have := hO.2.2.2.1
    omega
  · refine cy_find_R K Z Bk hL hv hg ht hO ?_
    intro ba tr tb nd tm nx bo bb hba hbo hbb
    subst hba
    by_cases q : nI (cn_t (cn_A nc ca st en ra de bz s) R t) ≤ by'
    · exact h1 ⟨R, hO, q⟩ _ _ tr tb nd tm nx bo bb (Int32.not_lt.mpr q)
    · refine h2 ?_ _ _ tr tb nd tm nx bo bb (Int32.not_le.mp q)
      rintro ⟨R', hO', q'⟩
      have e1 := hO.2.2.2.2.1 R' hO'.2.2.1 hO'.2.1
      have e2 := hO'.2.2.2.2.1 R hO.2.2.1 hO.2.1
      rw [Nat.le_antisymm e2 e1] at q'
      exact q q'
theorem cz_reach_l (W : cn_W nc nb ca fr tt st en ra de bz so go sz ro hc hk hb) (hnw : nw ≤ 200000) (hLX : cn_L 100 nb hc hk hb HK HB) (hLY : cn_L 64 nb hc hk hb OV BG) (hRX : ∀ b, b < nb → RO b = nI (ro b)) (hRY : ∀ b, b < nb → SK b = nI (1 - ro b)) {s : Nat} (hs1 : 1 ≤ s) (hs2 : s ≤ 30) {v : Nat} (hv : v < 6) (by' : Int32) : ∀ (d g : Nat), g + d = 6 → ∀ S : Int32, S ||| ((1 : Int32) <<< (nI v &&& 31)) = S → ∃ r : Int32, (∀ (post : Int32 → SX → Prop) (n : Nat) (ea el : Nat → Int32), (∀ g, g < 6 → ∃ x, ea g = nI x ∧ cn_Va nc fr tt (cn_A nc ca st en ra de bz s) 5 v nw g x) → d < n → post r (nI nc, nI nb, nI nw, rc, cn_N ca, cn_N fr, cn_N tt, cn_N st, cn_N en, cn_N ra, cn_N de, cn_N bz, cn_N so, cn_N go, cn_N sz, li, RO, HI, cn_N hc, HK, HB, rk, rb, ea, el) → wX_reach_38 post by' (nI nc) (nI nb) (nI nw) rc (cn_N ca) (cn_N fr) (cn_N tt) (cn_N st) (cn_N en) (cn_N ra) (cn_N de) (cn_N bz) (cn_N so) (cn_N go) (cn_N sz) li RO HI (cn_N hc) HK HB rk rb ea el n S (nI g)) ∧ (∀ (post : Int32 → SY → Prop) (n : Nat) (bs ba : Int32) (tr tb nd tm nx bo bb : Nat → Int32), d < n → (∀ bs ba tr tb nd tm nx bo bb, post r (nI nw, nI nc, nI nb, bs, ba, cn_N fr, cn_N tt, cn_N st, cn_N en, cn_N ra, cn_N de, cn_N ca, cn_N so, cn_N go, cn_N sz, li, SK, cn_N hc, OV, BG, tr, tb, nd, tm, nx, bo, bb)) → wY_reach_27 post (nI v) (nI s) by' n S (nI g) (nI nw) (nI nc) (nI nb) bs ba (cn_N fr) (cn_N tt) (cn_N st) (cn_N en) (cn_N ra) (cn_N de) (cn_N ca) (cn_N so) (cn_N go) (cn_N sz) li SK (cn_N hc) OV BG tr tb nd tm nx bo bb) := by
  have K : cn_Ok nc ca fr tt st en ra de bz s := cn_W_Ok W hs1 hs2
  have P := cn_A_P (ca := ca) (bz := bz) W.1 hs1
  have Bk := cn_W_Bk W
  intro d
  induction d with
  | zero =>
    intro g hg S hS
    refine ⟨S, fun post n ea el hV hn h => ?_, fun post n bs ba tr tb nd tm nx bo bb hn h => ?_⟩
    · obtain ⟨n, rfl⟩ : ∃ n', n = n' + 1 := ⟨n - 1, by omega⟩
      rw [wX_reach_38]
      exact br_t (nI_le (a := 6) (by omega) (by omega)) h
    · obtain ⟨n, rfl⟩ : ∃ n', n = n' + 1 := ⟨n - 1, by omega⟩
      rw [wY_reach_27]
      exact br_t (nI_le (a := 6) (by omega) (by omega)) (h _ _ _ _ _ _ _ _ _)
  | succ d ih =>
    intro g hg S hS
    have hg6 : g < 6 := by omega
    have hg2 : g < 2 ^ 31 := by omega
    have n6 : ¬ (6 : Int32) ≤ nI g := nI_ge (b := 6) hg6 (by decide)
    by_cases hgv : g = v
    · subst hgv
      obtain ⟨r, hX, hY⟩ := ih (g + 1) (by omega) S hS
      refine ⟨r, fun post n ea el hV hn h => ?_, fun post n bs ba tr tb nd tm nx bo bb hn h => ?_⟩
      · obtain ⟨n, rfl⟩ : ∃ n', n = n' + 1 := ⟨n - 1, by omega⟩
        have next := hX post n ea el hV (by omega) h
        rw [wX_reach_38]
        refine br_f n6 ⟨vp_in_nI hg6 (by decide), br_c (fun _ => nm_r (Int32.or_zero) (nm_r (nI_1 g) next)) (fun _ => ⟨vp_in_nI hg6 (by decide), br_c (fun _ => nm_r (Int32.or_zero) (nm_r (nI_1 g) next)) (fun _ => nm_r hS (nm_r (nI_1 g) next))⟩)⟩
      · obtain ⟨n, rfl⟩ : ∃ n', n = n' + 1 := ⟨n - 1, by omega⟩
        rw [wY_reach_27]
        exact br_f n6 (br_t rfl (nm_r (nI_1 g) (hY post n bs ba tr tb nd tm nx bo bb (by omega) h)))
    · have hne : ¬ nI g = nI v := by rw [nI_eq (by omega) (by omega)]; exact hgv
      by_cases hin : cn_In nc fr tt (cn_A nc ca st en ra de bz s) by' v g nw
      · have hS' : (S ||| ((1 : Int32) <<< (nI g &&& 31))) ||| ((1 : Int32) <<< (nI v &&& 31)) = S ||| ((1 : Int32) <<< (nI g &&& 31)) := by
          rw [Int32.or_assoc, Int32.or_comm ((1 : Int32) <<< (nI g &&& 31)), ← Int32.or_assoc, hS]
        obtain ⟨r, hX, hY⟩ := ih (g + 1) (by omega) _ hS'
        refine ⟨r, fun post n ea el hV hn h => ?_, fun post n bs ba tr tb nd tm nx bo bb hn h => ?_⟩
        · obtain ⟨n, rfl⟩ : ∃ n', n = n' + 1 := ⟨n - 1, by omega⟩
          obtain ⟨x, hx, hVx⟩ := hV g hg6
          have hxi := (cn_In_Va (by' := by') P (Ne.symm hgv) (by omega) hVx).mpr hin
          have next := hX post n ea el hV (by omega) h
          rw [wX_reach_38]
          simp only [nI_clamp hg2, hx]
          exact br_f n6 ⟨vp_in_nI hg6 (by decide), br_f (nI_ge (b := 1000000) hxi.1 (by decide)) ⟨vp_in_nI hg6 (by decide), br_f (Int32.not_lt.mpr hxi.2) (nm_e (nm_r (nI_1 g) next))⟩⟩
        · obtain ⟨n, rfl⟩ : ∃ n', n = n' + 1 := ⟨n - 1, by omega⟩
          rw [wY_reach_27]
          refine br_f n6 (br_f hne ?_)
          refine cy_in (by' := by') K W.2.2.2.1 Bk hLY hv hg6 (Ne.symm hgv) (by omega) ?_ (fun z => absurd hin z) (fun z => absurd hin z)
          intro _ bs ba tr tb nd tm nx bo bb hb'
          exact br_f (by decide) (br_f hb' (nm_e (nm_r (nI_1 g) (hY post n bs ba tr tb nd tm nx bo bb (by omega) h))))
      · obtain ⟨r, hX, hY⟩ := ih (g + 1) (by omega) S hS
        refine ⟨r, fun post n ea el hV hn h => ?_, fun post n bs ba tr tb nd tm nx bo bb hn h => ?_⟩
        · obtain ⟨n, rfl⟩ : ∃ n', n = n' + 1 := ⟨n - 1, by omega⟩
          obtain ⟨x, hx, hVx⟩ := hV g hg6
          have hx6 := hVx.1
          have hxi : ¬ (x < 1000000 ∧ nI x ≤ by') := fun z => hin ((cn_In_Va (by' := by') P (Ne.symm hgv) (by omega) hVx).mp z)
          have next := hX post n ea el hV (by omega) h
          rw [wX_reach_38]
          simp only [nI_clamp hg2, hx]
          refine br_f n6 ⟨vp_in_nI hg6 (by decide), pk_le 1000000 x (fun _ => nm_r (Int32.or_zero) (nm_r (nI_1 g) next)) (fun q => ⟨vp_in_nI hg6 (by decide), br_t ?_ (nm_r (Int32.or_zero) (nm_r (nI_1 g) next))⟩)⟩
          exact Int32.not_le.mp (fun z => hxi ⟨q, z⟩)
        · obtain ⟨n, rfl⟩ : ∃ n', n = n' + 1 := ⟨n - 1, by omega⟩
          rw [wY_reach_27]
          refine br_f n6 (br_f hne ?_)
          refine cy_in (by' := by') K W.2.2.2.1 Bk hLY hv hg6 (Ne.symm hgv) (by omega) (fun z => absurd z hin) ?_ ?_
          · intro _ bs ba tr tb nd tm nx bo bb
            exact br_t rfl (nm_r (nI_1 g) (hY post n bs ba tr tb nd tm nx bo bb (by omega) h))
          · intro _ bs ba tr tb nd tm nx bo bb hb'
            exact br_f (by decide) (br_t hb' (nm_r (nI_1 g) (hY post n bs ba tr tb nd tm nx bo bb (by omega) h)))
theorem cz_reach (W : cn_W nc nb ca fr tt st en ra de bz so go sz ro hc hk hb) (hnw : nw ≤ 200000) (hLX : cn_L 100 nb hc hk hb HK HB) (hLY : cn_L 64 nb hc hk hb OV BG) (hRX : ∀ b, b < nb → RO b = nI (ro b)) (hRY : ∀ b, b < nb → SK b = nI (1 - ro b)) (p0 p1 p2 : Int32) : ∃ r : Int32, (∀ post : Int32 → SX → Prop, (∀ ea el, post r (nI nc, nI nb, nI nw, rc, cn_N ca, cn_N fr, cn_N tt, cn_N st, cn_N en, cn_N ra, cn_N de, cn_N bz, cn_N so, cn_N go, cn_N sz, li, RO, HI, cn_N hc, HK, HB, rk, rb, ea, el)) → wpX_reach post (nI nc, nI nb, nI nw, rc, cn_N ca, cn_N fr, cn_N tt, cn_N st, cn_N en, cn_N ra, cn_N de, cn_N bz, cn_N so, cn_N go, cn_N sz, li, RO, HI, cn_N hc, HK, HB, rk, rb, ea, el) p0 p1 p2) ∧ (∀ post : Int32 → SY → Prop, (∀ bs ba tr tb nd tm nx bo bb, post r (nI nw, nI nc, nI nb, bs, ba, cn_N fr, cn_N tt, cn_N st, cn_N en, cn_N ra, cn_N de, cn_N ca, cn_N so, cn_N go, cn_N sz, li, SK, cn_N hc, OV, BG, tr, tb, nd, tm, nx, bo, bb)) → wpY_reach post (nI nw, nI nc, nI nb, bs, ba, cn_N fr, cn_N tt, cn_N st, cn_N en, cn_N ra, cn_N de, cn_N ca, cn_N so, cn_N go, cn_N sz, li, SK, cn_N hc, OV, BG, tr, tb, nd, tm, nx, bo, bb) p0 p1 p2) := by
  have h6 : (6 : Int32).toInt = 6 := by decide
  have h5 : (5 : Int32).toInt = 5 := by decide
  rcases pk_ix p0 (n := 6) (by decide) with q | q | ⟨v, hv, rfl⟩
  · exact ⟨-1, fun post h => br_t q (h _ _), fun post h => br_t q (h _ _ _ _ _ _ _ _ _)⟩
  · have q2 : (5 : Int32) < p0 := by
      rw [Int32.lt_iff_toInt_lt, h5]
      have h3 : (6 : Int32) ≤ p0 := q
      rw [Int32.le_iff_toInt_le, h6] at h3
      omega
    exact ⟨-1, fun post h => br_c (fun _ => h _ _) (fun _ => br_t q (h _ _)), fun post h => br_c (fun _ => h _ _ _ _ _ _ _ _ _) (fun _ => br_t q2 (h _ _ _ _ _ _ _ _ _))⟩
  · have n0 : ¬ nI v < 0 := nI_pos (by omega)
    have n6 : ¬ (6 : Int32) ≤ nI v := nI_ge (b := 6) hv (by decide)
    have n5 : ¬ (5 : Int32) < nI v := nI_nlt (a := 5) (by omega) (by decide)
    rcases cz_size (nc := nc) (nb := nb) (nw := nw) (bs := bs) (ba := ba) (ca := ca) (fr := fr) (tt := tt) (st := st) (en := en) (ra := ra) (de := de) (so := so) (go := go) (sz := sz) (hc := hc) (li := li) (SK := SK) (OV := OV) (BG := BG) (tr := tr) (tb := tb) (nd := nd) (tm := tm) (nx := nx) (bo := bo) (bb := bb) p1 with ⟨hX1, hY1⟩ | ⟨s, hs1, hs2, rfl, hX1, hY1⟩
    · refine ⟨-1, fun post h => ?_, fun post h => ?_⟩
      · unfold wpX_reach; dsimp only; exact br_f n0 (br_f n6 (hX1 _ (br_t rfl (h _ _))))
      · unfold wpY_reach; dsimp only; exact br_f n0 (br_f n5 (hY1 _ (br_f (by decide) (h _ _ _ _ _ _ _ _ _))))
    · have K : cn_Ok nc ca fr tt st en ra de bz s := cn_W_Ok W hs1 hs2
      have hS : ((1 : Int32) <<< (nI v &&& 31)) ||| ((1 : Int32) <<< (nI v &&& 31)) = (1 : Int32) <<< (nI v &&& 31) := Int32.or_self
      obtain ⟨r, lX, lY⟩ := cz_reach_l W hnw hLX hLY hRX hRY (rc := rc) (HI := HI) (rk := rk) (rb := rb) (li := li) hs1 hs2 hv p2 6 0 (by omega) _ hS
      refine ⟨r, fun post h => ?_, fun post h => ?_⟩
      · unfold wpX_reach
        dsimp only
        refine br_f n0 (br_f n6 (hX1 _ (br_f (by decide) ?_)))
        refine cx_spread K (m := 5) (by omega) hv (by omega) ?_
        intro ea el hV
        exact nm_e ⟨7, lX post 7 ea el hV (by omega) (h ea el)⟩
      · unfold wpY_reach
        dsimp only
        exact br_f n0 (br_f n5 (hY1 _ (br_t rfl (nm_e ⟨7, lY post 7 bs ba tr tb nd tm nx bo bb (by omega) h⟩))))
end CzQuery
end
section
/-! latest: the class halves, the reference goes down from 100 -/
section CzLatest
variable {nc nb nw : Nat} {rc bs ba : Int32} {ca fr tt st en ra de bz so go sz ro hc : Nat → Nat} {hk hb : Nat → Nat → Nat} {li RO HI HK HB rk rb ea el SK OV BG tr tb nd tm nx bo bb : Nat → Int32}
theorem cx_intime {s : Nat} (K : cn_Ok nc ca fr tt st en ra de bz s) {p0 by' : Int32} {a c t : Nat} (ha : a < 6) (hc' : c < 6) (hac : a ≠ c) (ea' : p0 / 6 = nI a) (ec' : p0 - p0 / 6 * 6 = nI c) (ht : t < 1000000) {post : Int32 → SX → Prop} (h1 : cn_In nc fr tt (cn_A nc ca st en ra de bz s) by' a c t → ∀ ea el, post 1 (nI nc, nI nb, nI nw, rc, cn_N ca, cn_N fr, cn_N tt, cn_N st, cn_N en, cn_N ra, cn_N de, cn_N bz, cn_N so, cn_N go, cn_N sz, li, RO, HI, cn_N hc, HK, HB, rk, rb, ea, el)) (h0 : ¬ cn_In nc fr tt (cn_A nc ca st en ra de bz s) by' a c t → ∀ ea el, post 0 (nI nc, nI nb, nI nw, rc, cn_N ca, cn_N fr, cn_N tt, cn_N st, cn_N en, cn_N ra, cn_N de, cn_N bz, cn_N so, cn_N go, cn_N sz, li, RO, HI, cn_N hc, HK, HB, rk, rb, ea, el)) : wpX_isInTime post (nI nc, nI nb, nI nw, rc, cn_N ca, cn_N fr, cn_N tt, cn_N st, cn_N en, cn_N ra, cn_N de, cn_N bz, cn_N so, cn_N go, cn_N sz, li, RO, HI, cn_N hc, HK, HB, rk, rb, ea, el) p0 (nI s) (nI t) by' := by
  have P := cn_A_P (ca := ca) (bz := bz) K.1 K.2.2.2.1
  have hc2 : c < 2 ^ 31 := by omega
  unfold wpX_isInTime
  dsimp only
  rw [ec', ea']
  refine ⟨cn_i6, cx_spread K (m := 5) (by omega) ha ht ?_⟩
  intro ea el hV
  obtain ⟨x, hx, hVx⟩ := hV c hc'
  have hx6 := hVx.1
  have hxi := cn_In_Va (by' := by') P hac (by omega) hVx
  simp only [nI_clamp hc2]
  refine ⟨cn_i6, vp_in_nI hc' (by decide), nm_r hx (pk_le 1000000 x (fun q => h0 (fun z => ?_) ea el) (fun q => br_c (fun q2 => h0 (fun z => ?_) ea el) (fun q2 => h1 ?_ ea el)))⟩
  · have := (hxi.mpr z).1; omega
  · exact Int32.not_le.mpr q2 (hxi.mpr z).2
  · exact hxi.mp ⟨q, Int32.not_lt.mp q2⟩
theorem cx_latest_l {s : Nat} (K : cn_Ok nc ca fr tt st en ra de bz s) {p0 by' : Int32} {a c T : Nat} (ha : a < 6) (hc' : c < 6) (hac : a ≠ c) (ea' : p0 / 6 = nI a) (ec' : p0 - p0 / 6 * 6 = nI c) (hT : T ≤ 100) (hin : ∀ t, t ≤ 100 → (cn_In nc fr tt (cn_A nc ca st en ra de bz s) by' a c t ↔ t ≤ T)) {post : Int32 → SX → Prop} (h : ∀ ea el, post (nI T) (nI nc, nI nb, nI nw, rc, cn_N ca, cn_N fr, cn_N tt, cn_N st, cn_N en, cn_N ra, cn_N de, cn_N bz, cn_N so, cn_N go, cn_N sz, li, RO, HI, cn_N hc, HK, HB, rk, rb, ea, el)) :
    ∀ (j i lo hi n : Nat) (ea el : Nat → Int32), i + j = 7 → lo ≤ T → T ≤ hi → hi ≤ 100 → hi - lo < 2 ^ j → j < n → wX_latest_55 post p0 (nI s) by' n (nI lo) (nI hi) (nI i) (nI nc) (nI nb) (nI nw) rc (cn_N ca) (cn_N fr) (cn_N tt) (cn_N st) (cn_N en) (cn_N ra) (cn_N de) (cn_N bz) (cn_N so) (cn_N go) (cn_N sz) li RO HI (cn_N hc) HK HB rk rb ea el := by
  intro j
  induction j with
  | zero =>
    intro i lo hi n ea el hij h1 h2 h3 h4 hn
    obtain ⟨n, rfl⟩ : ∃ n', n = n' + 1 := ⟨n - 1, by omega⟩
    have e : lo = T := by rw [Nat.pow_zero] at h4; omega
    have e2 : hi = T := by rw [Nat.pow_zero] at h4; omega
    rw [wX_latest_55, e, e2]
    exact br_f (nI_ge (b := 8) (by omega) (by decide)) (br_t (nI_le (by omega) (by omega)) (h ea el))
  | succ j ih =>
    intro i lo hi n ea el hij h1 h2 h3 h4 hn
    obtain ⟨n, rfl⟩ : ∃ n', n = n' + 1 := ⟨n - 1, by omega⟩
    rw [Nat.pow_succ] at h4
    rw [wX_latest_55]
    refine br_f (nI_ge (b := 8) (by omega) (by decide)) (pk_le hi lo (fun q => ?_) (fun q => ?_))
    · have e : lo = T := by omega
      rw [e]
      exact h ea el
    · have em : (nI lo + nI hi + 1) >>> ((1 : Int32) &&& 31) = nI ((lo + hi + 1) / 2) := by
        rw [nI_add, nI_1]
        exact pk_shrN (by omega) _ 1 (by decide)
      refine nm_r em ?_
      refine cx_intime K ha hc' hac ea' ec' (by omega) ?_ ?_
      · intro hi' ea el
        rw [hin _ (by omega)] at hi'
        refine br_f (by decide) (nm_r (nI_1 i) ?_)
        exact ih (i + 1) ((lo + hi + 1) / 2) hi n ea el (by omega) hi' h2 h3 (by omega) (by omega)
      · intro hi' ea el
        rw [hin _ (by omega)] at hi'
        have ep : nI ((lo + hi + 1) / 2) - 1 = nI ((lo + hi + 1) / 2 - 1) := pk_sub (b := 1) (by omega)
        refine br_t rfl (nm_r ep (nm_r (nI_1 i) ?_))
        exact ih (i + 1) lo ((lo + hi + 1) / 2 - 1) n ea el (by omega) h1 (by omega) (by omega) (by omega) (by omega)
theorem cn_m1lt {e nw : Nat} (h : e ≤ nw) (hn : nw < 2 ^ 31) : nI e + (-1) < nI nw := by
  cases e with
  | zero =>
    rw [Int32.lt_iff_toInt_lt, nI_toInt hn, show (nI 0 + (-1)).toInt = -1 from by decide]
    omega
  | succ e =>
    rw [pk_m1]
    exact nI_lt (by omega) hn
/-- the reference's loop: r is what it finds from e - 1 down to nw -/
theorem cy_latest_l {s : Nat} (K : cn_Ok nc ca fr tt st en ra de bz s) (Z : cn_Bz nb hc ra sz hk hb bz) (Bk : cn_Bk nc nb en ra sz hc hk hb) (hL : cn_L 64 nb hc hk hb OV BG) (hnw : nw ≤ 200000) {p0 by' : Int32} {a c : Nat} (ha : a < 6) (hc' : c < 6) (hac : a ≠ c) (ea' : p0 / 6 = nI a) (ec' : p0 - p0 / 6 * 6 = nI c) {post : Int32 → SY → Prop} {r : Int32} (h : ∀ bs ba tr tb nd tm nx bo bb, post r (nI nw, nI nc, nI nb, bs, ba, cn_N fr, cn_N tt, cn_N st, cn_N en, cn_N ra, cn_N de, cn_N ca, cn_N so, cn_N go, cn_N sz, li, SK, cn_N hc, OV, BG, tr, tb, nd, tm, nx, bo, bb)) :
    ∀ (n e : Nat) (bs ba : Int32) (tr tb nd tm nx bo bb : Nat → Int32), e < n → e ≤ 101 → (e ≤ nw → r = -4) → (∀ t, nw ≤ t → t < e → cn_In nc fr tt (cn_A nc ca st en ra de bz s) by' a c t → (∀ u, t < u → u < e → ¬ cn_In nc fr tt (cn_A nc ca st en ra de bz s) by' a c u) → r = nI t) → ((∀ t, nw ≤ t → t < e → ¬ cn_In nc fr tt (cn_A nc ca st en ra de bz s) by' a c t) → r = -4) → wY_latest_22 post p0 (nI s) by' n (nI e + (-1)) (nI nw) (nI nc) (nI nb) bs ba (cn_N fr) (cn_N tt) (cn_N st) (cn_N en) (cn_N ra) (cn_N de) (cn_N ca) (cn_N so) (cn_N go) (cn_N sz) li SK (cn_N hc) OV BG tr tb nd tm nx bo bb := by
  intro n
  induction n with
  | zero => intro e bs ba tr tb nd tm nx bo bb h1; omega
  | succ n ih =>
    intro e bs ba tr tb nd tm nx bo bb h1 h2 h3 h4 h5
    rw [wY_latest_22]
    rcases Nat.lt_or_ge nw e with q | q
    · obtain ⟨t, rfl⟩ : ∃ t, e = t + 1 := ⟨e - 1, by omega⟩
      rw [pk_m1]
      refine br_f (nI_nlt (by omega) (by omega)) ⟨cn_i6, cn_i6, ?_⟩
      rw [ec', ea']
      have next : ¬ cn_In nc fr tt (cn_A nc ca st en ra de bz s) by' a c t → ∀ bs ba tr tb nd tm nx bo bb, wY_latest_22 post p0 (nI s) by' n (nI t + (-1)) (nI nw) (nI nc) (nI nb) bs ba (cn_N fr) (cn_N tt) (cn_N st) (cn_N en) (cn_N ra) (cn_N de) (cn_N ca) (cn_N so) (cn_N go) (cn_N sz) li SK (cn_N hc) OV BG tr tb nd tm nx bo bb := by
        intro hno bs ba tr tb nd tm nx bo bb
        refine ih t bs ba tr tb nd tm nx bo bb (by omega) (by omega) (fun z => h5 (fun u u1 u2 => ?_)) (fun u u1 u2 u3 u4 => h4 u u1 (by omega) u3 (fun w w1 w2 => ?_)) (fun z => h5 (fun u u1 u2 => ?_))
        · have : u = t := by omega
          rw [this]; exact hno
        · by_cases e : w = t
          · rw [e]; exact hno
          · exact u4 w w1 (by omega)
        · by_cases e : u = t
          · rw [e]; exact hno
          · exact z u u1 (by omega)
      refine cy_in (by' := by') K Z Bk hL ha hc' hac (by omega) ?_ ?_ ?_
      · intro hin bs ba tr tb nd tm nx bo bb hb'
        refine br_f (by decide) (br_f hb' ?_)
        have er : r = nI t := h4 t (by omega) (by omega) hin (fun u u1 u2 => absurd u2 (by omega))
        rw [← er]
        exact h bs ba tr tb nd tm nx bo bb
      · intro hno bs ba tr tb nd tm nx bo bb
        exact br_t rfl (nm_e (next hno bs ba tr tb nd tm nx bo bb))
      · intro hno bs ba tr tb nd tm nx bo bb hb'
        exact br_f (by decide) (br_t hb' (nm_e (next hno bs ba tr tb nd tm nx bo bb)))
    · refine br_t (cn_m1lt q (by omega)) ?_
      rw [← h3 q]
      exact h bs ba tr tb nd tm nx bo bb
theorem cz_latest (W : cn_W nc nb ca fr tt st en ra de bz so go sz ro hc hk hb) (hnw : nw ≤ 200000) (hLX : cn_L 100 nb hc hk hb HK HB) (hLY : cn_L 64 nb hc hk hb OV BG) (hRX : ∀ b, b < nb → RO b = nI (ro b)) (hRY : ∀ b, b < nb → SK b = nI (1 - ro b)) (p0 p1 p2 : Int32) : ∃ r : Int32, (∀ post : Int32 → SX → Prop, (∀ ea el, post r (nI nc, nI nb, nI nw, rc, cn_N ca, cn_N fr, cn_N tt, cn_N st, cn_N en, cn_N ra, cn_N de, cn_N bz, cn_N so, cn_N go, cn_N sz, li, RO, HI, cn_N hc, HK, HB, rk, rb, ea, el)) → wpX_latest post (nI nc, nI nb, nI nw, rc, cn_N ca, cn_N fr, cn_N tt, cn_N st, cn_N en, cn_N ra, cn_N de, cn_N bz, cn_N so, cn_N go, cn_N sz, li, RO, HI, cn_N hc, HK, HB, rk, rb, ea, el) p0 p1 p2) ∧ (∀ post : Int32 → SY → Prop, (∀ bs ba tr tb nd tm nx bo bb, post r (nI nw, nI nc, nI nb, bs, ba, cn_N fr, cn_N tt, cn_N st, cn_N en, cn_N ra, cn_N de, cn_N ca, cn_N so, cn_N go, cn_N sz, li, SK, cn_N hc, OV, BG, tr, tb, nd, tm, nx, bo, bb)) → wpY_latest post (nI nw, nI nc, nI nb, bs, ba, cn_N fr, cn_N tt, cn_N st, cn_N en, cn_N ra, cn_N de, cn_N ca, cn_N so, cn_N go, cn_N sz, li, SK, cn_N hc, OV, BG, tr, tb, nd, tm, nx, bo, bb) p0 p1 p2) := by
  have Bk := cn_W_Bk W
  rcases cz_ends (nc := nc) (nb := nb) (nw := nw) (bs := bs) (ba := ba) (ca := ca) (fr := fr) (tt := tt) (st := st) (en := en) (ra := ra) (de := de) (so := so) (go := go) (sz := sz) (hc := hc) (li := li) (SK := SK) (OV := OV) (BG := BG) (tr := tr) (tb := tb) (nd := nd) (tm := tm) (nx := nx) (bo := bo) (bb := bb) p0 with ⟨hX, hY⟩ | ⟨a, c, ha, hc', hac, ea', ec', hX, hY⟩
  · refine ⟨-1, fun post h => ?_, fun post h => ?_⟩
    · unfold wpX_latest; dsimp only; exact hX _ (br_t rfl (h _ _))
    · unfold wpY_latest; dsimp only; exact hY _ (br_f (by decide) (h _ _ _ _ _ _ _ _ _))
  · rcases cz_size (nc := nc) (nb := nb) (nw := nw) (bs := bs) (ba := ba) (ca := ca) (fr := fr) (tt := tt) (st := st) (en := en) (ra := ra) (de := de) (so := so) (go := go) (sz := sz) (hc := hc) (li := li) (SK := SK) (OV := OV) (BG := BG) (tr := tr) (tb := tb) (nd := nd) (tm := tm) (nx := nx) (bo := bo) (bb := bb) p1 with ⟨hX1, hY1⟩ | ⟨s, hs1, hs2, rfl, hX1, hY1⟩
    · refine ⟨-1, fun post h => ?_, fun post h => ?_⟩
      · unfold wpX_latest; dsimp only; exact hX _ (br_f (by decide) (hX1 _ (br_t rfl (h _ _))))
      · unfold wpY_latest; dsimp only; exact hY _ (br_t rfl (hY1 _ (br_f (by decide) (h _ _ _ _ _ _ _ _ _))))
    · have K : cn_Ok nc ca fr tt st en ra de bz s := cn_W_Ok W hs1 hs2
      have P := cn_A_P (ca := ca) (bz := bz) W.1 hs1
      have e100 : (100 : Int32) = nI 101 + (-1) := by decide
      have ly : ∀ (r : Int32) (post : Int32 → SY → Prop), (101 ≤ nw → r = -4) → (∀ t, nw ≤ t → t < 101 → cn_In nc fr tt (cn_A nc ca st en ra de bz s) p2 a c t → (∀ u, t < u → u < 101 → ¬ cn_In nc fr tt (cn_A nc ca st en ra de bz s) p2 a c u) → r = nI t) → ((∀ t, nw ≤ t → t < 101 → ¬ cn_In nc fr tt (cn_A nc ca st en ra de bz s) p2 a c t) → r = -4) → (∀ bs ba tr tb nd tm nx bo bb, post r (nI nw, nI nc, nI nb, bs, ba, cn_N fr, cn_N tt, cn_N st, cn_N en, cn_N ra, cn_N de, cn_N ca, cn_N so, cn_N go, cn_N sz, li, SK, cn_N hc, OV, BG, tr, tb, nd, tm, nx, bo, bb)) → wpY_latest post (nI nw, nI nc, nI nb, bs, ba, cn_N fr, cn_N tt, cn_N st, cn_N en, cn_N ra, cn_N de, cn_N ca, cn_N so, cn_N go, cn_N sz, li, SK, cn_N hc, OV, BG, tr, tb, nd, tm, nx, bo, bb) p0 (nI s) p2 := by
        intro r post h1 h2 h3 h
        unfold wpY_latest
        dsimp only
        refine hY _ (br_t rfl (hY1 _ (br_t rfl ⟨102, ?_⟩)))
        rw [e100]
        exact cy_latest_l K W.2.2.2.1 Bk hLY hnw ha hc' hac ea' ec' h 102 101 bs ba tr tb nd tm nx bo bb (by omega) (by omega) h1 h2 h3
      by_cases q : 100 < nw
      · refine ⟨-4, fun post h => ?_, fun post h => ?_⟩
        · unfold wpX_latest
          dsimp only
          exact hX _ (br_f (by decide) (hX1 _ (br_f (by decide) (br_t (nI_lt (a := 100) q (by omega)) (h _ _)))))
        · exact ly (-4) post (fun _ => rfl) (fun t t1 t2 => absurd t2 (by omega)) (fun _ => rfl) h
      · have n100 : ¬ (100 : Int32) < nI nw := nI_nlt (a := 100) (by omega) (by decide)
        by_cases hin : cn_In nc fr tt (cn_A nc ca st en ra de bz s) p2 a c nw
        · -- the last time at which it is in time
          obtain ⟨d, ⟨hd1, hd2⟩, hd3⟩ := pk_least (fun d => d ≤ 100 ∧ cn_In nc fr tt (cn_A nc ca st en ra de bz s) p2 a c (100 - d)) ⟨100 - nw, by omega, by rw [show 100 - (100 - nw) = nw from by omega]; exact hin⟩
          have hmax : ∀ u, 100 - d < u → u < 101 → ¬ cn_In nc fr tt (cn_A nc ca st en ra de bz s) p2 a c u := by
            intro u u1 u2 hu
            refine hd3 (100 - u) (by omega) ⟨by omega, ?_⟩
            rw [show 100 - (100 - u) = u from by omega]
            exact hu
          have hiff : ∀ t, t ≤ 100 → (cn_In nc fr tt (cn_A nc ca st en ra de bz s) p2 a c t ↔ t ≤ 100 - d) := by
            intro t ht
            constructor
            · intro h
              rcases Nat.lt_or_ge (100 - d) t with q2 | q2
              · exact absurd h (hmax t q2 (by omega))
              · exact q2
            · intro h
              exact cn_In_anti P hac h hd2
          have hnT : nw ≤ 100 - d := (hiff nw (by omega)).mp hin
          refine ⟨nI (100 - d), fun post h => ?_, fun post h => ?_⟩
          · unfold wpX_latest
            dsimp only
            refine hX _ (br_f (by decide) (hX1 _ (br_f (by decide) (br_f n100 ?_))))
            refine cx_intime K ha hc' hac ea' ec' (by omega) (fun _ ea el => ?_) (fun z => absurd hin z)
            refine br_f (by decide) ⟨8, ?_⟩
            exact cx_latest_l K ha hc' hac ea' ec' (by omega) hiff h 7 0 nw 100 8 ea el (by omega) hnT (by omega) (by omega) (by omega) (by omega)
          · refine ly (nI (100 - d)) post (fun z => absurd z (by omega)) (fun t t1 t2 t3 t4 => ?_) (fun z => absurd hin (z nw (by omega) (by omega))) h
            have h1 : t ≤ 100 - d := (hiff t (by omega)).mp t3
            rcases Nat.lt_or_ge t (100 - d) with q2 | q2
            · exact absurd hd2 (t4 (100 - d) q2 (by omega))
            · rw [show t = 100 - d from by omega]
        · refine ⟨-4, fun post h => ?_, fun post h => ?_⟩
          · unfold wpX_latest
            dsimp only
            refine hX _ (br_f (by decide) (hX1 _ (br_f (by decide) (br_f n100 ?_))))
            refine cx_intime K ha hc' hac ea' ec' (by omega) (fun z => absurd z hin) (fun _ ea el => br_t rfl (h ea el))
          · exact ly (-4) post (fun _ => rfl) (fun t t1 t2 t3 => absurd (cn_In_anti P hac t1 t3) hin) (fun _ => rfl) h
end CzLatest
end
section
/-! what a new contact's arguments are checked for -/
theorem cn_i101 : (101 : Int32) ≠ 0 := by decide
theorem cn_i10 : (10 : Int32) ≠ 0 := by decide
theorem cz_span (p1 : Int32) : ((∀ post : Int32 → Prop, post 0 → wpX_isSpan post p1) ∧ (p1 < 0 ∨ 10200 < p1 ∨ (p1 - p1 / 101 * 101) ≤ (p1 / 101))) ∨ (∃ x e : Nat, x ≤ 100 ∧ e ≤ 100 ∧ p1 / 101 = nI x ∧ p1 - p1 / 101 * 101 = nI e ∧ (∀ post : Int32 → Prop, post 1 → wpX_isSpan post p1) ∧ ¬ p1 < 0 ∧ ¬ 10200 < p1 ∧ ¬ (p1 - p1 / 101 * 101) ≤ (p1 / 101)) := by
  by_cases h0 : p1 < 0
  · exact Or.inl ⟨fun post hp => br_t h0 hp, Or.inl h0⟩
  · obtain ⟨j, hj, rfl⟩ := nI_of h0
    have e1 : nI j / 101 = nI (j / 101) := pk_div (d := 101) hj (by decide) (by decide)
    have e2 : nI j - nI j / 101 * 101 = nI (j % 101) := pk_rem (d := 101) hj (by decide) (by decide)
    by_cases q : j % 101 ≤ j / 101
    · left
      have q2 : (nI j - nI j / 101 * 101) ≤ (nI j / 101) := by rw [e2, e1]; exact nI_le q (by omega)
      exact ⟨fun post hp => br_f h0 ⟨cn_i101, cn_i101, br_t q2 hp⟩, Or.inr (Or.inr q2)⟩
    · have q2 : ¬ (nI j - nI j / 101 * 101) ≤ (nI j / 101) := by rw [e2, e1]; exact nI_ge (by omega) (by omega)
      by_cases w : 101 ≤ j / 101
      · left
        have w2 : (101 : Int32) ≤ nI j / 101 := by rw [e1]; exact nI_le (a := 101) w (by omega)
        have w3 : (10200 : Int32) < nI j := nI_lt (a := 10200) (by omega) hj
        exact ⟨fun post hp => br_f h0 ⟨cn_i101, cn_i101, br_f q2 ⟨cn_i101, br_t w2 hp⟩⟩, Or.inr (Or.inl w3)⟩
      · right
        have w2 : ¬ (101 : Int32) ≤ nI j / 101 := by rw [e1]; exact nI_ge (b := 101) (by omega) (by decide)
        have w3 : ¬ (10200 : Int32) < nI j := nI_nlt (a := 10200) (by omega) (by decide)
        exact ⟨j / 101, j % 101, by omega, by omega, e1, e2, fun post hp => br_f h0 ⟨cn_i101, cn_i101, br_f q2 ⟨cn_i101, br_f w2 hp⟩⟩, h0, w3, q2⟩
theorem cz_terms (p2 : Int32) : ((∀ post : Int32 → Prop, post 0 → wpX_areTerms post p2) ∧ (p2 < 10 ∨ ¬ p2 ≤ 99)) ∨ (∃ r y : Nat, 1 ≤ r ∧ r ≤ 9 ∧ y ≤ 9 ∧ p2 / 10 = nI r ∧ p2 - p2 / 10 * 10 = nI y ∧ (∀ post : Int32 → Prop, post 1 → wpX_areTerms post p2) ∧ ¬ p2 < 10 ∧ p2 ≤ 99) := by
  by_cases h0 : p2 < 10
  · exact Or.inl ⟨fun post hp => br_t h0 hp, Or.inl h0⟩
  · have h10 : (10 : Int32).toInt = 10 := by decide
    have h3 : ¬ p2 < 0 := by
      rw [Int32.lt_iff_toInt_lt] at h0 ⊢
      rw [h10] at h0
      rw [Int32.toInt_zero]
      omega
    obtain ⟨j, hj, rfl⟩ := nI_of h3
    have h4 : 10 ≤ j := by
      rcases Nat.lt_or_ge j 10 with q | q
      · exact absurd (nI_lt (b := 10) q (by decide)) h0
      · exact q
    by_cases q : 100 ≤ j
    · left
      have q2 : (100 : Int32) ≤ nI j := nI_le (a := 100) q hj
      have q3 : ¬ nI j ≤ 99 := nI_ge (a := 99) (by omega) hj
      exact ⟨fun post hp => br_f h0 (br_t q2 hp), Or.inr q3⟩
    · right
      have q2 : ¬ (100 : Int32) ≤ nI j := nI_ge (b := 100) (by omega) (by decide)
      have q3 : nI j ≤ 99 := nI_le (b := 99) (by omega) (by decide)
      exact ⟨j / 10, j % 10, by omega, by omega, by omega, pk_div (d := 10) hj (by decide) (by decide), pk_rem (d := 10) hj (by decide) (by decide), fun post hp => br_f h0 (br_f q2 hp), h0, q3⟩
end
section
/-! what is owed -/
def i_Rel (k : Nat) (u : SX) (v : SY) : Prop :=
  ∃ (nc nb nw : Nat) (ca fr tt st en ra de so go sz : Nat → Nat) (li HI : Nat → Int32) (bz ro hc : Nat → Nat) (hk hb : Nat → Nat → Nat), cz_W nc nb ca fr tt st en ra de so go sz bz ro hc hk hb ∧ nw ≤ 50 * k ∧ cz_X nc nb nw ca fr tt st en ra de so go sz li HI cz_0 bz ro hc hk hb u ∧ cz_Y nc nb nw ca fr tt st en ra de so go sz li cz_0 bz ro hc hk hb v
theorem cz_in {k nc nb nw : Nat} {ca fr tt st en ra de so go sz : Nat → Nat} {li HI : Nat → Int32} {bz ro hc : Nat → Nat} {hk hb : Nat → Nat → Nat} {u : SX} {v : SY} (W : cz_W nc nb ca fr tt st en ra de so go sz bz ro hc hk hb) (hn : nw ≤ 50 * k) (hX : cz_X nc nb nw ca fr tt st en ra de so go sz li HI cz_0 bz ro hc hk hb u) (hY : cz_Y nc nb nw ca fr tt st en ra de so go sz li cz_0 bz ro hc hk hb v) : i_Rel k u v :=
  ⟨nc, nb, nw, ca, fr, tt, st, en, ra, de, so, go, sz, li, HI, bz, ro, hc, hk, hb, W, hn, hX, hY⟩
theorem i_up {k : Nat} {u : SX} {v : SY} (h : i_Rel k u v) : i_Rel (k + 4) u v := by
  obtain ⟨nc, nb, nw, ca, fr, tt, st, en, ra, de, so, go, sz, li, HI, bz, ro, hc, hk, hb, W, hnw, hX, hY⟩ := h
  exact cz_in W (by omega) hX hY
theorem i_vc0 : wpX_init (fun u => wpY_init (fun v => i_Rel 0 u v)) := by
  unfold wpX_init wpY_init
  have W : cz_W 0 0 (fun _ => 0) (fun _ => 0) (fun _ => 0) (fun _ => 0) (fun _ => 0) (fun _ => 0) (fun _ => 0) (fun _ => 0) (fun _ => 0) (fun _ => 0) (fun _ => 0) (fun _ => 0) (fun _ => 0) (fun _ _ => 0) (fun _ _ => 0) := by
    refine ⟨⟨by omega, fun k hk => absurd hk (by omega)⟩, fun j => Nat.zero_le _, fun j => Nat.zero_le _, fun k hk t ht => ⟨rfl, Nat.zero_le _⟩, by omega, fun b hb => absurd hb (by omega)⟩
  refine cz_in (nw := 0) (li := fun _ => 0) (HI := fun _ => 0) W (by omega) ?_ ?_
  · exact ⟨0, fun _ => 0, fun _ => 0, fun _ => 0, fun _ => 0, fun _ => 0, fun _ => 0, fun _ => 0, rfl, fun b hb => absurd hb (by omega), fun b hb => absurd hb (by omega)⟩
  · exact ⟨0, 0, fun _ => 0, fun _ => 0, fun _ => 0, fun _ => 0, fun _ => 0, fun _ => 0, fun _ => 0, fun _ => 0, fun _ => 0, fun _ => 0, rfl, fun b hb => absurd hb (by omega), fun b hb => absurd hb (by omega)⟩
theorem i_vc_contact {k : Nat} {u : SX} {v : SY} (I : i_Rel k u v) (hk : k + 4 ≤ 2048) (v1 : Int32) (v2 : Int32) (v3 : Int32) : wpX_contact (fun r u' => wpY_contact (fun r' v' => r' = r ∧ i_Rel (k + 4) u' v') v v1 v2 v3) u v1 v2 v3 := by
  have I4 := i_up I
  obtain ⟨nc, nb, nw, ca, fr, tt, st, en, ra, de, so, go, sz, li, HI, bz, ro, hc, hk', hb', W, hnw, hX, hY⟩ := I
  obtain ⟨rc, RO, HK, HB, rk, rb, ea, el, rfl, hLX, hRX⟩ := hX
  obtain ⟨bs, ba, SK, OV, BG, tr, tb, nd, tm, nx, bo, bb, rfl, hLY, hRY⟩ := hY
  have n1 := W.1.1
  have nb1 := W.2.2.2.2.1
  unfold wpX_contact
  dsimp only
  rcases cz_ends (nc := nc) (nb := nb) (nw := nw) (bs := bs) (ba := ba) (ca := ca) (fr := fr) (tt := tt) (st := st) (en := en) (ra := ra) (de := de) (so := so) (go := go) (sz := sz) (hc := hc) (li := li) (SK := SK) (OV := OV) (BG := BG) (tr := tr) (tb := tb) (nd := nd) (tm := tm) (nx := nx) (bo := bo) (bb := bb) v1 with ⟨hXe, hYe⟩ | ⟨a, c, ha, hc1, hac, ea1, ec1, hXe, hYe⟩
  · refine hXe _ (br_t rfl ?_)
    unfold wpY_contact
    dsimp only
    exact hYe _ (br_f (by decide) ⟨rfl, I4⟩)
  · refine hXe _ (br_f (by decide) ?_)
    rcases cz_span v2 with ⟨hXs, hYs⟩ | ⟨x, e, hx, he, ex, ee, hXs, hYs1, hYs2, hYs3⟩
    · refine hXs _ (br_t rfl ?_)
      unfold wpY_contact
      dsimp only
      refine hYe _ (br_t rfl ?_)
      rcases hYs with q | q | q
      · exact br_t q ⟨rfl, I4⟩
      · exact br_c (fun _ => ⟨rfl, I4⟩) (fun _ => br_t q ⟨rfl, I4⟩)
      · exact br_c (fun _ => ⟨rfl, I4⟩) (fun _ => br_c (fun _ => ⟨rfl, I4⟩) (fun _ => ⟨cn_i101, cn_i101, br_t q ⟨rfl, I4⟩⟩))
    · refine hXs _ (br_f (by decide) ?_)
      rcases cz_terms v3 with ⟨hXt, hYt⟩ | ⟨r, y, hr1, hr9, hy, er, ey, hXt, hYt1, hYt2⟩
      · refine hXt _ (br_t rfl ?_)
        unfold wpY_contact
        dsimp only
        refine hYe _ (br_t rfl (br_f hYs1 (br_f hYs2 ⟨cn_i101, cn_i101, br_f hYs3 ?_⟩)))
        rcases hYt with q | q
        · exact br_t q ⟨rfl, I4⟩
        · exact br_c (fun _ => ⟨rfl, I4⟩) (fun _ => br_f q ⟨rfl, I4⟩)
      · refine hXt _ (br_f (by decide) ?_)
        by_cases hn : nc < 10
        · have hn2 : nc < 2 ^ 31 := by omega
          have W1 := cn_W_new W hn ha hc1 hx he hr1 hr9 hy
          obtain ⟨bz1, ro1, hc1', hk1, hb1, W2, X2, Y2⟩ := cz_retry (nw := nw) (li := li) (by omega) nb 0 (by omega) bz ro hc hk' hb' W1
          rw [nI_clamp hn2, ec1, ee, ey, ea1, ex, er]
          refine br_t (nI_lt (b := 10) hn (by decide)) (nm_r (nI_1 nc) ⟨cn_i6, vp_in_nI hn (by decide), nm_r (cn_upd fr nc a) ⟨cn_i6, vp_in_nI hn (by decide), nm_r (cn_upd tt nc c) ⟨cn_i101, vp_in_nI hn (by decide), nm_r (cn_upd st nc x) ⟨cn_i101, vp_in_nI hn (by decide), nm_r (cn_upd en nc e) ⟨cn_i10, vp_in_nI hn (by decide), nm_r (cn_upd ra nc r) ⟨cn_i10, vp_in_nI hn (by decide), nm_r (cn_upd de nc y) ?_⟩⟩⟩⟩⟩⟩)
          unfold wpX_retry
          refine ⟨nb + 1, X2 HI _ ⟨rc, RO, HK, HB, rk, rb, ea, el, rfl, hLX, hRX⟩ _ ?_ (nb + 1) (by omega)⟩
          rintro u' hu'
          obtain ⟨rc', RO', HK', HB', rk', rb', ea', el', rfl, hLX', hRX'⟩ := hu'
          show wpY_contact _ (nI nw, nI nc, nI nb, bs, ba, cn_N fr, cn_N tt, cn_N st, cn_N en, cn_N ra, cn_N de, cn_N ca, cn_N so, cn_N go, cn_N sz, li, SK, cn_N hc, OV, BG, tr, tb, nd, tm, nx, bo, bb) v1 v2 v3
          unfold wpY_contact
          dsimp only
          rw [nI_clamp hn2, ec1, ee, ey, ea1, ex, er]
          rw [ee, ex] at hYs3
          have n10 : ¬ nI nc = 10 := by
            have := nI_eq (a := nc) (b := 10) hn2 (by decide)
            intro z
            have := this.mp z
            omega
          refine hYe _ (br_t rfl (br_f hYs1 (br_f hYs2 ⟨cn_i101, cn_i101, br_f hYs3 (br_f hYt1 (br_t hYt2 (br_f n10 ⟨cn_i6, vp_in_nI hn (by decide), nm_r (cn_upd fr nc a) ⟨cn_i6, vp_in_nI hn (by decide), nm_r (cn_upd tt nc c) ⟨cn_i101, vp_in_nI hn (by decide), nm_r (cn_upd st nc x) ⟨cn_i101, vp_in_nI hn (by decide), nm_r (cn_upd en nc e) ⟨cn_i10, vp_in_nI hn (by decide), nm_r (cn_upd ra nc r) ⟨cn_i10, vp_in_nI hn (by decide), nm_r (cn_upd de nc y) (nm_r (nI_1 nc) ?_)⟩⟩⟩⟩⟩⟩)))⟩)))
          unfold wpY_retry
          refine ⟨nb + 1, Y2 _ ⟨bs, ba, SK, OV, BG, tr, tb, nd, tm, nx, bo, bb, rfl, hLY, hRY⟩ _ ?_ (nb + 1) (by omega)⟩
          rintro v' hv'
          obtain ⟨bs', ba', SK', OV', BG', tr', tb', nd', tm', nx', bo', bb', rfl, hLY', hRY'⟩ := hv'
          exact ⟨nI_pred nc, cz_in (nw := nw) (li := li) (HI := HI) W2 (by omega) ⟨rc', RO', HK', HB', rk', rb', ea', el', rfl, hLX', hRX'⟩ ⟨bs', ba', SK', OV', BG', tr', tb', nd', tm', nx', bo', bb', rfl, hLY', hRY'⟩⟩
        · have e10 : nc = 10 := by omega
          subst e10
          refine br_f (by decide) ?_
          unfold wpY_contact
          dsimp only
          exact hYe _ (br_t rfl (br_f hYs1 (br_f hYs2 ⟨cn_i101, cn_i101, br_f hYs3 (br_f hYt1 (br_t hYt2 (br_t rfl ⟨rfl, I4⟩)))⟩)))
theorem i_vc_cancel {k : Nat} {u : SX} {v : SY} (I : i_Rel k u v) (hk : k + 4 ≤ 2048) (v1 : Int32) : wpX_cancel (fun r u' => wpY_cancel (fun r' v' => r' = r ∧ i_Rel (k + 4) u' v') v v1) u v1 := by
  have I4 := i_up I
  obtain ⟨nc, nb, nw, ca, fr, tt, st, en, ra, de, so, go, sz, li, HI, bz, ro, hc, hk', hb', W, hnw, hX, hY⟩ := I
  obtain ⟨rc, RO, HK, HB, rk, rb, ea, el, rfl, hLX, hRX⟩ := hX
  obtain ⟨bs, ba, SK, OV, BG, tr, tb, nd, tm, nx, bo, bb, rfl, hLY, hRY⟩ := hY
  have n1 := W.1.1
  have nb1 := W.2.2.2.2.1
  unfold wpX_cancel
  dsimp only
  rcases cz_con (nc := nc) (nb := nb) (nw := nw) (rc := rc) (ca := ca) (fr := fr) (tt := tt) (st := st) (en := en) (ra := ra) (de := de) (bz := bz) (so := so) (go := go) (sz := sz) (hc := hc) (li := li) (RO := RO) (HI := HI) (HK := HK) (HB := HB) (rk := rk) (rb := rb) (ea := ea) (el := el) n1 v1 with ⟨hXc, hbad⟩ | ⟨q, hq, rfl, hXc⟩
  · refine hXc _ (br_t rfl ?_)
    unfold wpY_cancel
    dsimp only
    rcases hbad with z | z
    · exact br_t z ⟨rfl, I4⟩
    · exact br_c (fun _ => ⟨rfl, I4⟩) (fun _ => br_t z ⟨rfl, I4⟩)
  · have hq2 : q < 2 ^ 31 := by omega
    have hca := W.2.2.1 q
    refine hXc _ (br_f (by decide) ⟨vp_in_nI (by omega) (by decide), ?_⟩)
    simp only [nI_clamp hq2, cn_Ne]
    refine pk_eq (ca q) 0 (fun e0 => ?_) (fun e0 => ?_)
    · have eu : upd (cn_N ca) q (vp_nar .boolean 1) = cn_N (cn_u ca q 1) := cn_upd ca q 1
      obtain ⟨W1, hbd⟩ := cn_W_ca W (show q < 10 by omega) e0
      obtain ⟨bz1, ro1, hc1, H1, Mk1, m1, W2, a2, b2, X2, Y2⟩ := cz_c1 (nw := nw) (li := li) hq (by omega) nb 0 (by omega) bz ro hc cz_0 0 0 W1 (fun x _ z => z.elim) (fun x _ => by rw [b_0]; exact ⟨fun z => absurd z (by decide), fun z => z.elim⟩) (fun x _ hx => hbd x hx)
      refine ⟨vp_in_nI (by omega) (by decide), nm_r eu ⟨nb + 1, X2 HI _ (fun x hx => absurd hx (by omega)) ⟨rc, RO, HK, HB, rk, rb, ea, el, rfl, hLX, hRX⟩ _ ?_ (nb + 1) (by omega)⟩⟩
      intro HI' u' hHI' hu'
      obtain ⟨bz3, ro3, hc3, hk3, hb3, W3, X3, Y3⟩ := cz_c2 (nw := nw) (li := li) (by omega) hHI' b2 nb 0 (by omega) bz1 ro1 hc1 hk' hb' W2 (fun x h1 _ h2 => a2 x h1 h2)
      refine ⟨nb + 1, X3 u' (cz_X_mono (fun x _ h => ⟨h, Nat.zero_le _⟩) hu') _ _ ?_ (nb + 1) (by omega)⟩
      intro u2 hu2
      unfold wpY_cancel
      dsimp only
      simp only [nI_clamp hq2, cn_Ne]
      refine br_f (nI_pos (by omega)) (br_f (nI_ge hq (by omega)) ⟨vp_in_nI (by omega) (by decide), br_t (by rw [e0]; rfl) ⟨vp_in_nI (by omega) (by decide), nm_r eu ⟨nb + 1, Y2 _ ⟨bs, ba, SK, OV, BG, tr, tb, nd, tm, nx, bo, bb, rfl, hLY, hRY⟩ _ ?_ (nb + 1) (by omega)⟩⟩⟩)
      intro v' hv'
      refine ⟨nb + 1, Y3 v' (cz_Y_mono (fun x _ h => ⟨h, Nat.zero_le _⟩) hv') _ _ ?_ (nb + 1) (by omega)⟩
      intro v2 hv2
      exact ⟨rfl, cz_in W3 (by omega) hu2 hv2⟩
    · unfold wpY_cancel
      dsimp only
      refine br_f (nI_pos (by omega)) (br_f (nI_ge hq (by omega)) ⟨vp_in_nI (by omega) (by decide), br_f ?_ ⟨rfl, I4⟩⟩)
      rw [nI_clamp hq2, cn_Ne]
      exact nI_ne0 (by omega) (by omega)
theorem i_vc_booked {k : Nat} {u : SX} {v : SY} (I : i_Rel k u v) (hk : k + 4 ≤ 2048) (v1 : Int32) : wpX_booked (fun r => wpY_booked (fun r' => r' = r ∧ i_Rel (k + 4) u v) v v1) u v1 := by
  have I4 := i_up I
  obtain ⟨nc, nb, nw, ca, fr, tt, st, en, ra, de, so, go, sz, li, HI, bz, ro, hc, hk', hb', W, hnw, hX, hY⟩ := I
  obtain ⟨rc, RO, HK, HB, rk, rb, ea, el, rfl, hLX, hRX⟩ := hX
  obtain ⟨bs, ba, SK, OV, BG, tr, tb, nd, tm, nx, bo, bb, rfl, hLY, hRY⟩ := hY
  obtain ⟨r, h1, h2⟩ := cz_booked (nc := nc) (nb := nb) (nw := nw) (rc := rc) (bs := bs) (ba := ba) (ca := ca) (fr := fr) (tt := tt) (st := st) (en := en) (ra := ra) (de := de) (bz := bz) (so := so) (go := go) (sz := sz) (hc := hc) (li := li) (RO := RO) (HI := HI) (HK := HK) (HB := HB) (rk := rk) (rb := rb) (ea := ea) (el := el) (SK := SK) (OV := OV) (BG := BG) (tr := tr) (tb := tb) (nd := nd) (tm := tm) (nx := nx) (bo := bo) (bb := bb) W (by omega) hLX hLY (fun b hb => hRX b hb (fun z => z)) (fun b hb => hRY b hb (fun z => z)) v1
  exact h1 _ (h2 _ ⟨rfl, I4⟩)
theorem i_vc_send {k : Nat} {u : SX} {v : SY} (I : i_Rel k u v) (hk : k + 4 ≤ 2048) (v1 : Int32) (v2 : Int32) (v3 : Int32) : wpX_send (fun r u' => wpY_send (fun r' v' => r' = r ∧ i_Rel (k + 4) u' v') v v1 v2 v3) u v1 v2 v3 := by
  have I4 := i_up I
  obtain ⟨nc, nb, nw, ca, fr, tt, st, en, ra, de, so, go, sz, li, HI, bz, ro, hc, hk', hb', W, hnw, hX, hY⟩ := I
  obtain ⟨rc, RO, HK, HB, rk, rb, ea, el, rfl, hLX, hRX⟩ := hX
  obtain ⟨bs, ba, SK, OV, BG, tr, tb, nd, tm, nx, bo, bb, rfl, hLY, hRY⟩ := hY
  have nb1 := W.2.2.2.2.1
  unfold wpX_send
  dsimp only
  rcases cz_ends (nc := nc) (nb := nb) (nw := nw) (bs := bs) (ba := ba) (ca := ca) (fr := fr) (tt := tt) (st := st) (en := en) (ra := ra) (de := de) (so := so) (go := go) (sz := sz) (hc := hc) (li := li) (SK := SK) (OV := OV) (BG := BG) (tr := tr) (tb := tb) (nd := nd) (tm := tm) (nx := nx) (bo := bo) (bb := bb) v1 with ⟨hXe, hYe⟩ | ⟨a, c, ha, hc1, hac, ea1, ec1, hXe, hYe⟩
  · refine hXe _ (br_t rfl ?_)
    unfold wpY_send
    dsimp only
    exact hYe _ (br_f (by decide) ⟨rfl, I4⟩)
  · refine hXe _ (br_f (by decide) ?_)
    rcases cz_size (nc := nc) (nb := nb) (nw := nw) (bs := bs) (ba := ba) (ca := ca) (fr := fr) (tt := tt) (st := st) (en := en) (ra := ra) (de := de) (so := so) (go := go) (sz := sz) (hc := hc) (li := li) (SK := SK) (OV := OV) (BG := BG) (tr := tr) (tb := tb) (nd := nd) (tm := tm) (nx := nx) (bo := bo) (bb := bb) v2 with ⟨hXs, hYs⟩ | ⟨s, hs1, hs2, rfl, hXs, hYs⟩
    · refine hXs _ (br_t rfl ?_)
      unfold wpY_send
      dsimp only
      exact hYe _ (br_t rfl (hYs _ (br_f (by decide) ⟨rfl, I4⟩)))
    · refine hXs _ (br_f (by decide) ?_)
      by_cases hn : nb < 10
      · have hn2 : nb < 2 ^ 31 := by omega
        have W1 := cn_W_send W hn ha hc1 hac hs1 hs2
        obtain ⟨bz1, ro1, hc1', hk1, hb1, W2, -, X2, Y2⟩ := cz_plan (nw := nw) (li := upd li nb v3) bz (cn_u ro nb 0) (cn_u hc nb 0) hk' hb' W1 (by omega) (b := nb) (by omega) cn_us
        have hL' : ∀ (w : Nat) (p q : Nat → Int32), cn_L w nb hc hk' hb' p q → cn_L w (nb + 1) (cn_u hc nb 0) hk' hb' p q := by
          intro w p q h b hb i hi
          by_cases e : b = nb
          · rw [e, cn_us] at hi; omega
          · rw [cn_un e] at hi
            exact h b (by omega) i hi
        rw [nI_clamp hn2, ec1, ea1]
        refine br_t (nI_lt (b := 10) hn (by decide)) (nm_r (nI_1 nb) ⟨cn_i6, vp_in_nI hn (by decide), nm_r (cn_upd so nb a) ⟨cn_i6, vp_in_nI hn (by decide), nm_r (cn_upd go nb c) ⟨vp_in_nI hn (by decide), nm_r (cn_upd sz nb s) ⟨vp_in_nI hn (by decide), nm_e ⟨vp_in_nI hn (by decide), nm_r (cn_upd hc nb 0) ?_⟩⟩⟩⟩⟩)
        refine X2 HI (fun x => x = nb) cz_0 _ (fun x _ h1 h2 => h1 h2) ⟨rc, RO, HK, HB, rk, rb, ea, el, rfl, hL' _ _ _ hLX, fun b hb hb2 => by rw [cn_un hb2]; exact hRX b (Nat.lt_of_le_of_ne (by omega) hb2) (fun z => z)⟩ _ ?_
        rintro u' hu'
        obtain ⟨rc', RO', HK', HB', rk', rb', ea', el', rfl, hLX', hRX'⟩ := hu'
        show wpY_send _ (nI nw, nI nc, nI nb, bs, ba, cn_N fr, cn_N tt, cn_N st, cn_N en, cn_N ra, cn_N de, cn_N ca, cn_N so, cn_N go, cn_N sz, li, SK, cn_N hc, OV, BG, tr, tb, nd, tm, nx, bo, bb) v1 (nI s) v3
        unfold wpY_send
        dsimp only
        rw [nI_clamp hn2, ec1, ea1]
        have n10 : ¬ nI nb = 10 := by
          have := nI_eq (a := nb) (b := 10) hn2 (by decide)
          intro z
          have := this.mp z
          omega
        refine hYe _ (br_t rfl (hYs _ (br_t rfl (br_f n10 ⟨cn_i6, vp_in_nI hn (by decide), nm_r (cn_upd so nb a) ⟨cn_i6, vp_in_nI hn (by decide), nm_r (cn_upd go nb c) ⟨vp_in_nI hn (by decide), nm_r (cn_upd sz nb s) ⟨vp_in_nI hn (by decide), nm_e ⟨vp_in_nI hn (by decide), nm_r (cn_upd hc nb 0) (nm_r (nI_1 nb) ?_)⟩⟩⟩⟩⟩))))
        refine Y2 (fun x => x = nb) cz_0 _ (fun x _ h1 h2 => h1 h2) ⟨bs, ba, SK, OV, BG, tr, tb, nd, tm, nx, bo, bb, rfl, hL' _ _ _ hLY, fun b hb hb2 => by rw [cn_un hb2]; exact hRY b (Nat.lt_of_le_of_ne (by omega) hb2) (fun z => z)⟩ _ ?_
        rintro v' hv'
        obtain ⟨bs', ba', SK', OV', BG', tr', tb', nd', tm', nx', bo', bb', rfl, hLY', hRY'⟩ := hv'
        exact ⟨rfl, cz_in (nw := nw) (li := upd li nb v3) (HI := HI) W2 (by omega) ⟨rc', RO', HK', HB', rk', rb', ea', el', rfl, hLX', hRX'⟩ ⟨bs', ba', SK', OV', BG', tr', tb', nd', tm', nx', bo', bb', rfl, hLY', hRY'⟩⟩
      · have e10 : nb = 10 := by omega
        subst e10
        refine br_f (by decide) ?_
        unfold wpY_send
        dsimp only
        exact hYe _ (br_t rfl (hYs _ (br_t rfl (br_t rfl ⟨rfl, I4⟩))))
theorem i_vc_pass {k : Nat} {u : SX} {v : SY} (I : i_Rel k u v) (hk : k + 4 ≤ 2048) (v1 : Int32) : wpX_pass (fun r u' => wpY_pass (fun r' v' => r' = r ∧ i_Rel (k + 4) u' v') v v1) u v1 := by
  have I4 := i_up I
  obtain ⟨nc, nb, nw, ca, fr, tt, st, en, ra, de, so, go, sz, li, HI, bz, ro, hc, hk', hb', W, hnw, hX, hY⟩ := I
  obtain ⟨rc, RO, HK, HB, rk, rb, ea, el, rfl, hLX, hRX⟩ := hX
  obtain ⟨bs, ba, SK, OV, BG, tr, tb, nd, tm, nx, bo, bb, rfl, hLY, hRY⟩ := hY
  by_cases h0 : v1 < 0
  · exact br_t h0 (br_t h0 ⟨rfl, I4⟩)
  · by_cases h2 : v1 ≤ 200
    · obtain ⟨t, ht, rfl⟩ := nI_of2 (n := 200) (by decide) h0 h2
      refine br_f h0 (br_t h2 (nm_r (nI_add nw t) (br_f h0 (br_t h2 (nm_r (nI_add nw t) ⟨rfl, cz_in W (nw := nw + t) (li := li) (HI := HI) (by omega) ⟨rc, RO, HK, HB, rk, rb, ea, el, rfl, hLX, hRX⟩ ⟨bs, ba, SK, OV, BG, tr, tb, nd, tm, nx, bo, bb, rfl, hLY, hRY⟩⟩)))))
    · exact br_f h0 (br_f h2 (br_f h0 (br_f h2 ⟨rfl, I4⟩)))
theorem i_vc_time {k : Nat} {u : SX} {v : SY} (I : i_Rel k u v) (hk : k + 4 ≤ 2048) : wpX_time (fun r => wpY_time (fun r' => r' = r ∧ i_Rel (k + 4) u v) v) u := by
  have I4 := i_up I
  obtain ⟨nc, nb, nw, ca, fr, tt, st, en, ra, de, so, go, sz, li, HI, bz, ro, hc, hk', hb', W, hnw, hX, hY⟩ := I
  obtain ⟨rc, RO, HK, HB, rk, rb, ea, el, rfl, hLX, hRX⟩ := hX
  obtain ⟨bs, ba, SK, OV, BG, tr, tb, nd, tm, nx, bo, bb, rfl, hLY, hRY⟩ := hY
  exact ⟨rfl, I4⟩
theorem i_vc_state {k : Nat} {u : SX} {v : SY} (I : i_Rel k u v) (hk : k + 4 ≤ 2048) (v1 : Int32) : wpX_state (fun r => wpY_state (fun r' => r' = r ∧ i_Rel (k + 4) u v) v v1) u v1 := by
  have I4 := i_up I
  obtain ⟨nc, nb, nw, ca, fr, tt, st, en, ra, de, so, go, sz, li, HI, bz, ro, hc, hk', hb', W, hnw, hX, hY⟩ := I
  obtain ⟨rc, RO, HK, HB, rk, rb, ea, el, rfl, hLX, hRX⟩ := hX
  obtain ⟨bs, ba, SK, OV, BG, tr, tb, nd, tm, nx, bo, bb, rfl, hLY, hRY⟩ := hY
  obtain ⟨r, h1, h2⟩ := cz_state (nc := nc) (nb := nb) (nw := nw) (rc := rc) (bs := bs) (ba := ba) (ca := ca) (fr := fr) (tt := tt) (st := st) (en := en) (ra := ra) (de := de) (bz := bz) (so := so) (go := go) (sz := sz) (hc := hc) (li := li) (RO := RO) (HI := HI) (HK := HK) (HB := HB) (rk := rk) (rb := rb) (ea := ea) (el := el) (SK := SK) (OV := OV) (BG := BG) (tr := tr) (tb := tb) (nd := nd) (tm := tm) (nx := nx) (bo := bo) (bb := bb) W (by omega) hLX hLY (fun b hb => hRX b hb (fun z => z)) (fun b hb => hRY b hb (fun z => z)) v1
  exact h1 _ (h2 _ ⟨rfl, I4⟩)
theorem i_vc_arrival {k : Nat} {u : SX} {v : SY} (I : i_Rel k u v) (hk : k + 4 ≤ 2048) (v1 : Int32) : wpX_arrival (fun r => wpY_arrival (fun r' => r' = r ∧ i_Rel (k + 4) u v) v v1) u v1 := by
  have I4 := i_up I
  obtain ⟨nc, nb, nw, ca, fr, tt, st, en, ra, de, so, go, sz, li, HI, bz, ro, hc, hk', hb', W, hnw, hX, hY⟩ := I
  obtain ⟨rc, RO, HK, HB, rk, rb, ea, el, rfl, hLX, hRX⟩ := hX
  obtain ⟨bs, ba, SK, OV, BG, tr, tb, nd, tm, nx, bo, bb, rfl, hLY, hRY⟩ := hY
  obtain ⟨r, h1, h2⟩ := cz_arrival (nc := nc) (nb := nb) (nw := nw) (rc := rc) (bs := bs) (ba := ba) (ca := ca) (fr := fr) (tt := tt) (st := st) (en := en) (ra := ra) (de := de) (bz := bz) (so := so) (go := go) (sz := sz) (hc := hc) (li := li) (RO := RO) (HI := HI) (HK := HK) (HB := HB) (rk := rk) (rb := rb) (ea := ea) (el := el) (SK := SK) (OV := OV) (BG := BG) (tr := tr) (tb := tb) (nd := nd) (tm := tm) (nx := nx) (bo := bo) (bb := bb) W (by omega) hLX hLY (fun b hb => hRX b hb (fun z => z)) (fun b hb => hRY b hb (fun z => z)) v1
  exact h1 _ (h2 _ ⟨rfl, I4⟩)
theorem i_vc_hops {k : Nat} {u : SX} {v : SY} (I : i_Rel k u v) (hk : k + 4 ≤ 2048) (v1 : Int32) : wpX_hops (fun r => wpY_hops (fun r' => r' = r ∧ i_Rel (k + 4) u v) v v1) u v1 := by
  have I4 := i_up I
  obtain ⟨nc, nb, nw, ca, fr, tt, st, en, ra, de, so, go, sz, li, HI, bz, ro, hc, hk', hb', W, hnw, hX, hY⟩ := I
  obtain ⟨rc, RO, HK, HB, rk, rb, ea, el, rfl, hLX, hRX⟩ := hX
  obtain ⟨bs, ba, SK, OV, BG, tr, tb, nd, tm, nx, bo, bb, rfl, hLY, hRY⟩ := hY
  obtain ⟨r, h1, h2⟩ := cz_hops (nc := nc) (nb := nb) (nw := nw) (rc := rc) (bs := bs) (ba := ba) (ca := ca) (fr := fr) (tt := tt) (st := st) (en := en) (ra := ra) (de := de) (bz := bz) (so := so) (go := go) (sz := sz) (hc := hc) (li := li) (RO := RO) (HI := HI) (HK := HK) (HB := HB) (rk := rk) (rb := rb) (ea := ea) (el := el) (SK := SK) (OV := OV) (BG := BG) (tr := tr) (tb := tb) (nd := nd) (tm := tm) (nx := nx) (bo := bo) (bb := bb) W (by omega) hLX hLY (fun b hb => hRX b hb (fun z => z)) (fun b hb => hRY b hb (fun z => z)) v1
  exact h1 _ (h2 _ ⟨rfl, I4⟩)
theorem i_vc_hop {k : Nat} {u : SX} {v : SY} (I : i_Rel k u v) (hk : k + 4 ≤ 2048) (v1 : Int32) (v2 : Int32) : wpX_hop (fun r => wpY_hop (fun r' => r' = r ∧ i_Rel (k + 4) u v) v v1 v2) u v1 v2 := by
  have I4 := i_up I
  obtain ⟨nc, nb, nw, ca, fr, tt, st, en, ra, de, so, go, sz, li, HI, bz, ro, hc, hk', hb', W, hnw, hX, hY⟩ := I
  obtain ⟨rc, RO, HK, HB, rk, rb, ea, el, rfl, hLX, hRX⟩ := hX
  obtain ⟨bs, ba, SK, OV, BG, tr, tb, nd, tm, nx, bo, bb, rfl, hLY, hRY⟩ := hY
  obtain ⟨r, h1, h2⟩ := cz_hop (nc := nc) (nb := nb) (nw := nw) (rc := rc) (bs := bs) (ba := ba) (ca := ca) (fr := fr) (tt := tt) (st := st) (en := en) (ra := ra) (de := de) (bz := bz) (so := so) (go := go) (sz := sz) (hc := hc) (li := li) (RO := RO) (HI := HI) (HK := HK) (HB := HB) (rk := rk) (rb := rb) (ea := ea) (el := el) (SK := SK) (OV := OV) (BG := BG) (tr := tr) (tb := tb) (nd := nd) (tm := tm) (nx := nx) (bo := bo) (bb := bb) W (by omega) hLX hLY (fun b hb => hRX b hb (fun z => z)) (fun b hb => hRY b hb (fun z => z)) v1 v2
  exact h1 _ (h2 _ ⟨rfl, I4⟩)
theorem i_vc_place {k : Nat} {u : SX} {v : SY} (I : i_Rel k u v) (hk : k + 4 ≤ 2048) (v1 : Int32) : wpX_place (fun r => wpY_place (fun r' => r' = r ∧ i_Rel (k + 4) u v) v v1) u v1 := by
  have I4 := i_up I
  obtain ⟨nc, nb, nw, ca, fr, tt, st, en, ra, de, so, go, sz, li, HI, bz, ro, hc, hk', hb', W, hnw, hX, hY⟩ := I
  obtain ⟨rc, RO, HK, HB, rk, rb, ea, el, rfl, hLX, hRX⟩ := hX
  obtain ⟨bs, ba, SK, OV, BG, tr, tb, nd, tm, nx, bo, bb, rfl, hLY, hRY⟩ := hY
  obtain ⟨r, h1, h2⟩ := cz_place (nc := nc) (nb := nb) (nw := nw) (rc := rc) (bs := bs) (ba := ba) (ca := ca) (fr := fr) (tt := tt) (st := st) (en := en) (ra := ra) (de := de) (bz := bz) (so := so) (go := go) (sz := sz) (hc := hc) (li := li) (RO := RO) (HI := HI) (HK := HK) (HB := HB) (rk := rk) (rb := rb) (ea := ea) (el := el) (SK := SK) (OV := OV) (BG := BG) (tr := tr) (tb := tb) (nd := nd) (tm := tm) (nx := nx) (bo := bo) (bb := bb) W (by omega) hLX hLY (fun b hb => hRX b hb (fun z => z)) (fun b hb => hRY b hb (fun z => z)) v1
  exact h1 _ (h2 _ ⟨rfl, I4⟩)
theorem i_vc_quote {k : Nat} {u : SX} {v : SY} (I : i_Rel k u v) (hk : k + 4 ≤ 2048) (v1 : Int32) (v2 : Int32) : wpX_quote (fun r u' => wpY_quote (fun r' v' => r' = r ∧ i_Rel (k + 4) u' v') v v1 v2) u v1 v2 := by
  have I4 := i_up I
  obtain ⟨nc, nb, nw, ca, fr, tt, st, en, ra, de, so, go, sz, li, HI, bz, ro, hc, hk', hb', W, hnw, hX, hY⟩ := I
  obtain ⟨rc, RO, HK, HB, rk, rb, ea, el, rfl, hLX, hRX⟩ := hX
  obtain ⟨bs, ba, SK, OV, BG, tr, tb, nd, tm, nx, bo, bb, rfl, hLY, hRY⟩ := hY
  obtain ⟨r, h1, h2⟩ := cz_quote (nc := nc) (nb := nb) (nw := nw) (rc := rc) (bs := bs) (ba := ba) (ca := ca) (fr := fr) (tt := tt) (st := st) (en := en) (ra := ra) (de := de) (bz := bz) (so := so) (go := go) (sz := sz) (hc := hc) (li := li) (RO := RO) (HI := HI) (HK := HK) (HB := HB) (rk := rk) (rb := rb) (ea := ea) (el := el) (SK := SK) (OV := OV) (BG := BG) (tr := tr) (tb := tb) (nd := nd) (tm := tm) (nx := nx) (bo := bo) (bb := bb) W (by omega) hLX hLY (fun b hb => hRX b hb (fun z => z)) (fun b hb => hRY b hb (fun z => z)) v1 v2
  exact h1 _ (fun ea el => h2 _ (fun bs ba tr tb nd tm nx bo bb => ⟨rfl, cz_in (nw := nw) (li := li) (HI := HI) W (by omega) ⟨rc, RO, HK, HB, rk, rb, ea, el, rfl, hLX, hRX⟩ ⟨bs, ba, SK, OV, BG, tr, tb, nd, tm, nx, bo, bb, rfl, hLY, hRY⟩⟩))
theorem i_vc_reach {k : Nat} {u : SX} {v : SY} (I : i_Rel k u v) (hk : k + 4 ≤ 2048) (v1 : Int32) (v2 : Int32) (v3 : Int32) : wpX_reach (fun r u' => wpY_reach (fun r' v' => r' = r ∧ i_Rel (k + 4) u' v') v v1 v2 v3) u v1 v2 v3 := by
  have I4 := i_up I
  obtain ⟨nc, nb, nw, ca, fr, tt, st, en, ra, de, so, go, sz, li, HI, bz, ro, hc, hk', hb', W, hnw, hX, hY⟩ := I
  obtain ⟨rc, RO, HK, HB, rk, rb, ea, el, rfl, hLX, hRX⟩ := hX
  obtain ⟨bs, ba, SK, OV, BG, tr, tb, nd, tm, nx, bo, bb, rfl, hLY, hRY⟩ := hY
  obtain ⟨r, h1, h2⟩ := cz_reach (nc := nc) (nb := nb) (nw := nw) (rc := rc) (bs := bs) (ba := ba) (ca := ca) (fr := fr) (tt := tt) (st := st) (en := en) (ra := ra) (de := de) (bz := bz) (so := so) (go := go) (sz := sz) (hc := hc) (li := li) (RO := RO) (HI := HI) (HK := HK) (HB := HB) (rk := rk) (rb := rb) (ea := ea) (el := el) (SK := SK) (OV := OV) (BG := BG) (tr := tr) (tb := tb) (nd := nd) (tm := tm) (nx := nx) (bo := bo) (bb := bb) W (by omega) hLX hLY (fun b hb => hRX b hb (fun z => z)) (fun b hb => hRY b hb (fun z => z)) v1 v2 v3
  exact h1 _ (fun ea el => h2 _ (fun bs ba tr tb nd tm nx bo bb => ⟨rfl, cz_in (nw := nw) (li := li) (HI := HI) W (by omega) ⟨rc, RO, HK, HB, rk, rb, ea, el, rfl, hLX, hRX⟩ ⟨bs, ba, SK, OV, BG, tr, tb, nd, tm, nx, bo, bb, rfl, hLY, hRY⟩⟩))
theorem i_vc_latest {k : Nat} {u : SX} {v : SY} (I : i_Rel k u v) (hk : k + 4 ≤ 2048) (v1 : Int32) (v2 : Int32) (v3 : Int32) : wpX_latest (fun r u' => wpY_latest (fun r' v' => r' = r ∧ i_Rel (k + 4) u' v') v v1 v2 v3) u v1 v2 v3 := by
  have I4 := i_up I
  obtain ⟨nc, nb, nw, ca, fr, tt, st, en, ra, de, so, go, sz, li, HI, bz, ro, hc, hk', hb', W, hnw, hX, hY⟩ := I
  obtain ⟨rc, RO, HK, HB, rk, rb, ea, el, rfl, hLX, hRX⟩ := hX
  obtain ⟨bs, ba, SK, OV, BG, tr, tb, nd, tm, nx, bo, bb, rfl, hLY, hRY⟩ := hY
  obtain ⟨r, h1, h2⟩ := cz_latest (nc := nc) (nb := nb) (nw := nw) (rc := rc) (bs := bs) (ba := ba) (ca := ca) (fr := fr) (tt := tt) (st := st) (en := en) (ra := ra) (de := de) (bz := bz) (so := so) (go := go) (sz := sz) (hc := hc) (li := li) (RO := RO) (HI := HI) (HK := HK) (HB := HB) (rk := rk) (rb := rb) (ea := ea) (el := el) (SK := SK) (OV := OV) (BG := BG) (tr := tr) (tb := tb) (nd := nd) (tm := tm) (nx := nx) (bo := bo) (bb := bb) W (by omega) hLX hLY (fun b hb => hRX b hb (fun z => z)) (fun b hb => hRY b hb (fun z => z)) v1 v2 v3
  exact h1 _ (fun ea el => h2 _ (fun bs ba tr tb nd tm nx bo bb => ⟨rfl, cz_in (nw := nw) (li := li) (HI := HI) W (by omega) ⟨rc, RO, HK, HB, rk, rb, ea, el, rfl, hLX, hRX⟩ ⟨bs, ba, SK, OV, BG, tr, tb, nd, tm, nx, bo, bb, rfl, hLY, hRY⟩⟩))
end
