section
/-! pure rows to paste: stores, nI and lN arithmetic, masks, shifts, narrowing, branches by naturals (pk_le, pk_lt, pk_eq), loops (lp1 .. lp16: the measure of the state; rp1 ..: recursion), negatives. Take what you need -/
theorem pk_us {f : Nat → Int32} {k : Nat} {x : Int32} : upd f k x k = x := if_pos rfl
theorem pk_un {f : Nat → Int32} {k j : Nat} {x : Int32} (h : j ≠ k) : upd f k x j = f j := if_neg h
theorem pk_uLs {f : Nat → Int64} {k : Nat} {x : Int64} : vp_updL f k x k = x := if_pos rfl
theorem pk_uLn {f : Nat → Int64} {k j : Nat} {x : Int64} (h : j ≠ k) : vp_updL f k x j = f j := if_neg h
theorem pk_sub {a b : Nat} (h : b ≤ a) : nI a - nI b = nI (a - b) := by
  obtain ⟨c, rfl⟩ : ∃ c, a = c + b := ⟨a - b, by omega⟩
  rw [← nI_add, Int32.add_sub_cancel, Nat.add_sub_cancel]
theorem pk_m1 (n : Nat) : nI (n + 1) + (-1) = nI n := by
  rw [← nI_1, Int32.add_assoc, show (1 : Int32) + (-1) = 0 from rfl, Int32.add_zero]
theorem pk_mul (a b : Nat) : nI a * nI b = nI (a * b) := (Int32.ofNat_mul a b).symm
theorem pk_div {a d : Nat} (ha : a < 2 ^ 31) (h0 : 0 < d) (hd : d < 2 ^ 31) : nI a / nI d = nI (a / d) := by
  apply Int32.toInt_inj.mp
  rw [lg_idiv_nonneg (by rw [nI_toInt ha]; omega) (by rw [nI_toInt hd]; omega), nI_toInt ha, nI_toInt hd, nI_toInt (Nat.lt_of_le_of_lt (Nat.div_le_self a d) ha)]
  first | rfl | exact (Int.natCast_ediv _ _).symm
theorem pk_rem {a d : Nat} (ha : a < 2 ^ 31) (h0 : 0 < d) (hd : d < 2 ^ 31) : nI a - nI a / nI d * nI d = nI (a % d) := by
  rw [pk_div ha h0 hd, pk_mul, pk_sub (Nat.div_mul_le_self a d)]
  exact congrArg nI (by have := Nat.div_add_mod' a d; omega)
theorem pk_sub_toInt {a b : Nat} (ha : a < 2 ^ 30) (hb : b < 2 ^ 30) : (nI a - nI b).toInt = (a : Int) - b := by
  rw [Int32.toInt_sub, nI_toInt (by omega), nI_toInt (by omega)]
  exact Int.bmod_eq_of_le (by omega) (by omega)
theorem pk_sneg {a b : Nat} (hb : b < 2 ^ 30) (h : a < b) : nI a - nI b < 0 := by
  rw [Int32.lt_iff_toInt_lt, pk_sub_toInt (by omega) hb, show (0 : Int32).toInt = 0 from by decide]
  omega
theorem pk_ix (x : Int32) {n : Nat} (hn : n < 2 ^ 31) : x < 0 ∨ nI n ≤ x ∨ ∃ j : Nat, j < n ∧ x = nI j := by
  by_cases h : x < 0
  · exact Or.inl h
  · obtain ⟨j, hj, rfl⟩ := nI_of h
    by_cases h2 : j < n
    · exact Or.inr (Or.inr ⟨j, h2, rfl⟩)
    · exact Or.inr (Or.inl (nI_le (by omega) hj))
theorem pk_le {x y : Int32} {A B : Prop} (a b : Nat) (f : a ≤ b → A) (g : b < a → B) (hx : x = nI a := by rfl) (hy : y = nI b := by rfl) (ha : a < 2 ^ 31 := by omega) (hb : b < 2 ^ 31 := by omega) : (x ≤ y → A) ∧ (¬ x ≤ y → B) := by
  subst hx hy
  rw [nI_leI ha hb]
  exact ⟨f, fun z => g (by omega)⟩
theorem pk_lt {x y : Int32} {A B : Prop} (a b : Nat) (f : a < b → A) (g : b ≤ a → B) (hx : x = nI a := by rfl) (hy : y = nI b := by rfl) (ha : a < 2 ^ 31 := by omega) (hb : b < 2 ^ 31 := by omega) : (x < y → A) ∧ (¬ x < y → B) := by
  subst hx hy
  rw [nI_ltI ha hb]
  exact ⟨f, fun z => g (by omega)⟩
theorem pk_eq {x y : Int32} {A B : Prop} (a b : Nat) (f : a = b → A) (g : a ≠ b → B) (hx : x = nI a := by rfl) (hy : y = nI b := by rfl) (ha : a < 2 ^ 31 := by omega) (hb : b < 2 ^ 31 := by omega) : (x = y → A) ∧ (¬ x = y → B) := by
  subst hx hy
  rw [nI_eq ha hb]
  exact ⟨f, g⟩
theorem pk_in {x : Int32} (n N : Nat) (h : n < N) (hx : x = nI n := by rfl) (hN : N < 2 ^ 31 := by omega) : vp_in x N := by
  subst hx
  exact vp_in_nI h hN
theorem pk_cl {x : Int32} (n : Nat) (hx : x = nI n := by rfl) (h : n < 2 ^ 31 := by omega) : x.toNatClampNeg = n := by
  subst hx
  exact nI_clamp h
theorem pk_tn {n : Nat} (h : n < 2 ^ 32) : (nI n).toBitVec.toNat = n := Nat.mod_eq_of_lt h
theorem pk_and (x : Int32) {m : Int32} (k : Nat) (hm : m.toBitVec.toNat = 2 ^ k - 1) : x &&& m = nI (x.toBitVec.toNat % 2 ^ k) := by
  apply Int32.toBitVec_inj.mp
  apply BitVec.eq_of_toNat_eq
  rw [Int32.toBitVec_and, BitVec.toNat_and, hm, Nat.and_two_pow_sub_one_eq_mod]
  show _ = (BitVec.ofNat 32 _).toNat
  rw [BitVec.toNat_ofNat]
  exact (Nat.mod_eq_of_lt (Nat.lt_of_le_of_lt (Nat.mod_le _ _) x.toBitVec.isLt)).symm
theorem pk_andN {n : Nat} (h : n < 2 ^ 32) {m : Int32} (k : Nat) (hm : m.toBitVec.toNat = 2 ^ k - 1) : nI n &&& m = nI (n % 2 ^ k) := by
  rw [pk_and _ k hm, pk_tn h]
theorem pk_andE (x : Int32) {m : Int32} (k : Nat) (hm : m.toBitVec.toNat = 2 ^ k - 1) : ∃ j : Nat, j < 2 ^ k ∧ x &&& m = nI j := ⟨_, Nat.mod_lt _ (Nat.two_pow_pos k), pk_and x k hm⟩
theorem pk_andIn (x : Int32) {m : Int32} (k : Nat) (hm : m.toBitVec.toNat = 2 ^ k - 1) (hk : k ≤ 30) : vp_in (x &&& m) (2 ^ k) := by
  obtain ⟨j, hj, e⟩ := pk_andE x k hm
  rw [e]
  exact vp_in_nI hj (Nat.lt_of_le_of_lt (Nat.pow_le_pow_right (by decide) hk) (by decide))
theorem pk_shl (a s : Int32) (k : Nat) (hs : (s.toBitVec.smod 32).toNat = k) : (a <<< s).toBitVec.toNat = a.toBitVec.toNat * 2 ^ k % 2 ^ 32 := by
  show (a.toBitVec <<< (s.toBitVec.smod 32).toNat).toNat = _
  rw [hs, BitVec.toNat_shiftLeft, Nat.shiftLeft_eq]
theorem pk_shlN {n : Nat} (s : Int32) (k : Nat) (hs : (s.toBitVec.smod 32).toNat = k) (h : n * 2 ^ k < 2 ^ 32) : nI n <<< s = nI (n * 2 ^ k) := by
  apply Int32.toBitVec_inj.mp
  apply BitVec.eq_of_toNat_eq
  have hn : n < 2 ^ 32 := Nat.lt_of_le_of_lt (Nat.le_mul_of_pos_right n (Nat.two_pow_pos k)) h
  rw [pk_shl _ _ k hs, pk_tn hn, pk_tn h, Nat.mod_eq_of_lt h]
theorem pk_shr (a s : Int32) (k : Nat) (hs : (s.toBitVec.smod 32).toNat = k) : (a >>> s).toInt = a.toInt >>> k := by
  show (a.toBitVec.sshiftRight (s.toBitVec.smod 32).toNat).toInt = _
  rw [hs, BitVec.toInt_sshiftRight]
  rfl
theorem pk_shrN {n : Nat} (h : n < 2 ^ 31) (s : Int32) (k : Nat) (hs : (s.toBitVec.smod 32).toNat = k) : nI n >>> s = nI (n / 2 ^ k) := by
  apply Int32.toInt_inj.mp
  have h2 : n / 2 ^ k ≤ n := Nat.div_le_self _ _
  rw [pk_shr _ _ k hs, nI_toInt h, nI_toInt (by omega), Int.shiftRight_eq_div_pow]
  rfl
theorem pk_ushr (x s : Int32) (k : Nat) (hs : ((s.toUInt32 &&& Int32.toUInt32 31).toBitVec % 32).toNat = k) : (x.toUInt32 >>> (s.toUInt32 &&& Int32.toUInt32 31)).toInt32.toBitVec.toNat = x.toBitVec.toNat / 2 ^ k := by
  have e : (x.toUInt32 >>> (s.toUInt32 &&& Int32.toUInt32 31)).toInt32.toBitVec = x.toBitVec >>> k := by
    rw [← hs]
    exact UInt32.toBitVec_shiftRight _ _
  rw [e, BitVec.toNat_ushiftRight, Nat.shiftRight_eq_div_pow]
theorem pk_ushrN {n : Nat} (hn : n < 2 ^ 32) (s : Int32) (k : Nat) (hs : ((s.toUInt32 &&& Int32.toUInt32 31).toBitVec % 32).toNat = k) : ((nI n).toUInt32 >>> (s.toUInt32 &&& Int32.toUInt32 31)).toInt32 = nI (n / 2 ^ k) := by
  apply Int32.toBitVec_inj.mp
  apply BitVec.eq_of_toNat_eq
  rw [pk_ushr _ s k hs, pk_tn hn, pk_tn (Nat.lt_of_le_of_lt (Nat.div_le_self _ _) hn)]
theorem pk_nb (z : Int32) : narrow .byte (.int z.toInt8.toInt32) = .int z.toInt8.toInt32 := congrArg Value.int (by simp)
theorem pk_ns (z : Int32) : narrow .short (.int z.toInt16.toInt32) = .int z.toInt16.toInt32 := congrArg Value.int (by simp)
theorem pk_fb (r : Int32) : fits .byte (.int r.toInt8.toInt32) = true := by
  have ⟨a, b⟩ := lg_i2b_range r
  have h1 : (-128 : Int32).toInt = -128 := by decide
  have h2 : (127 : Int32).toInt = 127 := by decide
  simp only [fits, Bool.and_eq_true, decide_eq_true_eq, Int32.le_iff_toInt_le, h1, h2]
  omega
theorem pk_fs (r : Int32) : fits .short (.int r.toInt16.toInt32) = true := by
  have ⟨a, b⟩ := lg_i2s_range r
  have h1 : (-32768 : Int32).toInt = -32768 := by decide
  have h2 : (32767 : Int32).toInt = 32767 := by decide
  simp only [fits, Bool.and_eq_true, decide_eq_true_eq, Int32.le_iff_toInt_le, h1, h2]
  omega
theorem pk_charN {q : Nat} (hq : q < 65536) : narrow .char (.int (nI q)) = .int (nI q) ∧ fits .char (.int (nI q)) = true := by
  constructor
  · have e : (nI q).toUInt32.toUInt16.toUInt32.toInt32 = nI q := by
      apply Int32.toBitVec_inj.mp
      apply BitVec.eq_of_toNat_eq
      show (nI q).toUInt32.toUInt16.toUInt32.toNat = q % 2 ^ 32
      rw [UInt16.toNat_toUInt32, UInt32.toNat_toUInt16, show (nI q).toUInt32.toNat = q % 2 ^ 32 from rfl]
      omega
    exact congrArg Value.int e
  · have a : (0 : Int32) ≤ nI q := nI_pos' (by omega)
    have b : nI q ≤ 65535 := nI_le (b := 65535) (by omega) (by decide)
    show (decide ((0 : Int32) ≤ nI q) && decide (nI q ≤ 65535)) = true
    rw [decide_eq_true a, decide_eq_true b]
    rfl
theorem pk_char (x : Int32) : (x.toUInt32 % 65536).toInt32 = nI (x.toBitVec.toNat % 65536) := by
  apply Int32.toBitVec_inj.mp
  apply BitVec.eq_of_toNat_eq
  rw [pk_tn (by omega)]
  show (x.toUInt32 % 65536).toNat = _
  rw [UInt32.toNat_mod]
  rfl
theorem pk_nc (x : Int32) : narrow .char (.int (x.toUInt32 % 65536).toInt32) = .int (x.toUInt32 % 65536).toInt32 := by
  rw [pk_char]
  exact (pk_charN (Nat.mod_lt _ (by decide))).1
theorem pk_fc (x : Int32) : fits .char (.int (x.toUInt32 % 65536).toInt32) = true := by
  rw [pk_char]
  exact (pk_charN (Nat.mod_lt _ (by decide))).2
theorem pk_vb (z : Int32) : vp_nar .byte z.toInt8.toInt32 = z.toInt8.toInt32 := by rw [vp_nar_byte]; simp
theorem pk_vs (z : Int32) : vp_nar .short z.toInt16.toInt32 = z.toInt16.toInt32 := by rw [vp_nar_short]; simp
theorem pk_vc (z : Int32) : vp_nar .char (z.toUInt32 % 65536).toInt32 = (z.toUInt32 % 65536).toInt32 := Value.int.inj (pk_nc z)
theorem pk_lT {n : Nat} (h : n < 2 ^ 63) : (lN n).toInt = (n : Int) := lg_ofNat_toInt h
theorem pk_lLT {a b : Nat} (ha : a < 2 ^ 63) (hb : b < 2 ^ 63) : lN a < lN b ↔ a < b := by
  rw [Int64.lt_iff_toInt_lt, pk_lT ha, pk_lT hb]; omega
theorem pk_lLE {a b : Nat} (ha : a < 2 ^ 63) (hb : b < 2 ^ 63) : lN a ≤ lN b ↔ a ≤ b := by
  rw [Int64.le_iff_toInt_le, pk_lT ha, pk_lT hb]; omega
theorem pk_lEQ {a b : Nat} (ha : a < 2 ^ 63) (hb : b < 2 ^ 63) : lN a = lN b ↔ a = b := by
  rw [← Int64.toInt_inj, pk_lT ha, pk_lT hb]; omega
theorem pk_lOf {x : Int64} (h : ¬ x < 0) : ∃ k : Nat, k < 2 ^ 63 ∧ x = lN k := by
  rw [Int64.lt_iff_toInt_lt] at h
  have h0 : (0 : Int64).toInt = 0 := by decide
  have hx := Int64.toInt_lt x
  refine ⟨x.toInt.toNat, by omega, Int64.toInt_inj.mp ?_⟩
  rw [pk_lT (by omega)]
  omega
theorem pk_lDiv {a b : Nat} (ha : a < 2 ^ 63) (h0 : 0 < b) (hb : b < 2 ^ 63) : lN a / lN b = lN (a / b) := by
  apply Int64.toInt_inj.mp
  rw [lg_ldiv_nonneg (by rw [pk_lT ha]; omega) (by rw [pk_lT hb]; omega), pk_lT ha, pk_lT hb, pk_lT (Nat.lt_of_le_of_lt (Nat.div_le_self a b) ha)]
  rfl
theorem pk_lRem {a b : Nat} (ha : a < 2 ^ 63) (h0 : 0 < b) (hb : b < 2 ^ 63) : lN a - lN a / lN b * lN b = lN (a % b) := by
  rw [pk_lDiv ha h0 hb, lN_mul, lN_sub (Nat.div_mul_le_self a b)]
  exact congrArg lN (by have := Nat.div_add_mod' a b; omega)
theorem pk_loop {σ : Type} (W : Nat → Nat → σ → Prop) (I : Nat → σ → Prop) (e i0 : Nat) (s : σ) (hi : i0 ≤ e) (h0 : I i0 s) (hx : ∀ n s, I e s → W (n + 1) e s)
    (hs : ∀ n i s, i < e → I i s → (∀ s', I (i + 1) s' → W n (i + 1) s') → W (n + 1) i s) : ∃ n, W n i0 s :=
  ⟨e + 1, loop_i W I e hx hs (e + 1) i0 s hi (by omega) h0⟩
theorem pk_loopD {σ : Type} (W : Nat → Nat → σ → Prop) (I : Nat → σ → Prop) (hx : ∀ n s, I 0 s → W (n + 1) 0 s)
    (hs : ∀ n i s, I (i + 1) s → (∀ s', I i s' → W n i s') → W (n + 1) (i + 1) s) : ∀ (e : Nat) (s : σ), I e s → W (e + 1) e s := by
  intro e
  induction e with
  | zero => exact fun s h => hx 0 s h
  | succ e ih => exact fun s h => hs (e + 1) e s h (fun s' h' => ih s' h')
theorem lp1 {A1 : Type} (W : Nat → A1 → Prop) (I : A1 → Prop) (μ : A1 → Nat) (hs : ∀ (n : Nat) (a1 : A1), I a1 → (∀ (b1 : A1), I b1 → μ b1 < μ a1 → W n b1) → W (n + 1) a1) (a1 : A1) (h : I a1) : ∃ n, W n a1 :=
  loop_m (σ := A1) (fun n s => W n s) (fun s => I s) (fun s => μ s) (fun n s hI hk => hs n s hI (fun b1 h9 hm => hk b1 h9 hm)) a1 h
theorem lp2 {A1 A2 : Type} (W : Nat → A1 → A2 → Prop) (I : A1 → A2 → Prop) (μ : A1 → A2 → Nat) (hs : ∀ (n : Nat) (a1 : A1) (a2 : A2), I a1 a2 → (∀ (b1 : A1) (b2 : A2), I b1 b2 → μ b1 b2 < μ a1 a2 → W n b1 b2) → W (n + 1) a1 a2) (a1 : A1) (a2 : A2) (h : I a1 a2) : ∃ n, W n a1 a2 :=
  loop_m (σ := A1 × A2) (fun n s => W n s.1 s.2) (fun s => I s.1 s.2) (fun s => μ s.1 s.2) (fun n s hI hk => hs n s.1 s.2 hI (fun b1 b2 h9 hm => hk (b1, b2) h9 hm)) (a1, a2) h
theorem lp3 {A1 A2 A3 : Type} (W : Nat → A1 → A2 → A3 → Prop) (I : A1 → A2 → A3 → Prop) (μ : A1 → A2 → A3 → Nat) (hs : ∀ (n : Nat) (a1 : A1) (a2 : A2) (a3 : A3), I a1 a2 a3 → (∀ (b1 : A1) (b2 : A2) (b3 : A3), I b1 b2 b3 → μ b1 b2 b3 < μ a1 a2 a3 → W n b1 b2 b3) → W (n + 1) a1 a2 a3) (a1 : A1) (a2 : A2) (a3 : A3) (h : I a1 a2 a3) : ∃ n, W n a1 a2 a3 :=
  loop_m (σ := A1 × A2 × A3) (fun n s => W n s.1 s.2.1 s.2.2) (fun s => I s.1 s.2.1 s.2.2) (fun s => μ s.1 s.2.1 s.2.2) (fun n s hI hk => hs n s.1 s.2.1 s.2.2 hI (fun b1 b2 b3 h9 hm => hk (b1, b2, b3) h9 hm)) (a1, a2, a3) h
theorem lp4 {A1 A2 A3 A4 : Type} (W : Nat → A1 → A2 → A3 → A4 → Prop) (I : A1 → A2 → A3 → A4 → Prop) (μ : A1 → A2 → A3 → A4 → Nat) (hs : ∀ (n : Nat) (a1 : A1) (a2 : A2) (a3 : A3) (a4 : A4), I a1 a2 a3 a4 → (∀ (b1 : A1) (b2 : A2) (b3 : A3) (b4 : A4), I b1 b2 b3 b4 → μ b1 b2 b3 b4 < μ a1 a2 a3 a4 → W n b1 b2 b3 b4) → W (n + 1) a1 a2 a3 a4) (a1 : A1) (a2 : A2) (a3 : A3) (a4 : A4) (h : I a1 a2 a3 a4) : ∃ n, W n a1 a2 a3 a4 :=
  loop_m (σ := A1 × A2 × A3 × A4) (fun n s => W n s.1 s.2.1 s.2.2.1 s.2.2.2) (fun s => I s.1 s.2.1 s.2.2.1 s.2.2.2) (fun s => μ s.1 s.2.1 s.2.2.1 s.2.2.2) (fun n s hI hk => hs n s.1 s.2.1 s.2.2.1 s.2.2.2 hI (fun b1 b2 b3 b4 h9 hm => hk (b1, b2, b3, b4) h9 hm)) (a1, a2, a3, a4) h
theorem lp5 {A1 A2 A3 A4 A5 : Type} (W : Nat → A1 → A2 → A3 → A4 → A5 → Prop) (I : A1 → A2 → A3 → A4 → A5 → Prop) (μ : A1 → A2 → A3 → A4 → A5 → Nat) (hs : ∀ (n : Nat) (a1 : A1) (a2 : A2) (a3 : A3) (a4 : A4) (a5 : A5), I a1 a2 a3 a4 a5 → (∀ (b1 : A1) (b2 : A2) (b3 : A3) (b4 : A4) (b5 : A5), I b1 b2 b3 b4 b5 → μ b1 b2 b3 b4 b5 < μ a1 a2 a3 a4 a5 → W n b1 b2 b3 b4 b5) → W (n + 1) a1 a2 a3 a4 a5) (a1 : A1) (a2 : A2) (a3 : A3) (a4 : A4) (a5 : A5) (h : I a1 a2 a3 a4 a5) : ∃ n, W n a1 a2 a3 a4 a5 :=
  loop_m (σ := A1 × A2 × A3 × A4 × A5) (fun n s => W n s.1 s.2.1 s.2.2.1 s.2.2.2.1 s.2.2.2.2) (fun s => I s.1 s.2.1 s.2.2.1 s.2.2.2.1 s.2.2.2.2) (fun s => μ s.1 s.2.1 s.2.2.1 s.2.2.2.1 s.2.2.2.2) (fun n s hI hk => hs n s.1 s.2.1 s.2.2.1 s.2.2.2.1 s.2.2.2.2 hI (fun b1 b2 b3 b4 b5 h9 hm => hk (b1, b2, b3, b4, b5) h9 hm)) (a1, a2, a3, a4, a5) h
theorem lp6 {A1 A2 A3 A4 A5 A6 : Type} (W : Nat → A1 → A2 → A3 → A4 → A5 → A6 → Prop) (I : A1 → A2 → A3 → A4 → A5 → A6 → Prop) (μ : A1 → A2 → A3 → A4 → A5 → A6 → Nat) (hs : ∀ (n : Nat) (a1 : A1) (a2 : A2) (a3 : A3) (a4 : A4) (a5 : A5) (a6 : A6), I a1 a2 a3 a4 a5 a6 → (∀ (b1 : A1) (b2 : A2) (b3 : A3) (b4 : A4) (b5 : A5) (b6 : A6), I b1 b2 b3 b4 b5 b6 → μ b1 b2 b3 b4 b5 b6 < μ a1 a2 a3 a4 a5 a6 → W n b1 b2 b3 b4 b5 b6) → W (n + 1) a1 a2 a3 a4 a5 a6) (a1 : A1) (a2 : A2) (a3 : A3) (a4 : A4) (a5 : A5) (a6 : A6) (h : I a1 a2 a3 a4 a5 a6) : ∃ n, W n a1 a2 a3 a4 a5 a6 :=
  loop_m (σ := A1 × A2 × A3 × A4 × A5 × A6) (fun n s => W n s.1 s.2.1 s.2.2.1 s.2.2.2.1 s.2.2.2.2.1 s.2.2.2.2.2) (fun s => I s.1 s.2.1 s.2.2.1 s.2.2.2.1 s.2.2.2.2.1 s.2.2.2.2.2) (fun s => μ s.1 s.2.1 s.2.2.1 s.2.2.2.1 s.2.2.2.2.1 s.2.2.2.2.2) (fun n s hI hk => hs n s.1 s.2.1 s.2.2.1 s.2.2.2.1 s.2.2.2.2.1 s.2.2.2.2.2 hI (fun b1 b2 b3 b4 b5 b6 h9 hm => hk (b1, b2, b3, b4, b5, b6) h9 hm)) (a1, a2, a3, a4, a5, a6) h
theorem lp7 {A1 A2 A3 A4 A5 A6 A7 : Type} (W : Nat → A1 → A2 → A3 → A4 → A5 → A6 → A7 → Prop) (I : A1 → A2 → A3 → A4 → A5 → A6 → A7 → Prop) (μ : A1 → A2 → A3 → A4 → A5 → A6 → A7 → Nat) (hs : ∀ (n : Nat) (a1 : A1) (a2 : A2) (a3 : A3) (a4 : A4) (a5 : A5) (a6 : A6) (a7 : A7), I a1 a2 a3 a4 a5 a6 a7 → (∀ (b1 : A1) (b2 : A2) (b3 : A3) (b4 : A4) (b5 : A5) (b6 : A6) (b7 : A7), I b1 b2 b3 b4 b5 b6 b7 → μ b1 b2 b3 b4 b5 b6 b7 < μ a1 a2 a3 a4 a5 a6 a7 → W n b1 b2 b3 b4 b5 b6 b7) → W (n + 1) a1 a2 a3 a4 a5 a6 a7) (a1 : A1) (a2 : A2) (a3 : A3) (a4 : A4) (a5 : A5) (a6 : A6) (a7 : A7) (h : I a1 a2 a3 a4 a5 a6 a7) : ∃ n, W n a1 a2 a3 a4 a5 a6 a7 :=
  loop_m (σ := A1 × A2 × A3 × A4 × A5 × A6 × A7) (fun n s => W n s.1 s.2.1 s.2.2.1 s.2.2.2.1 s.2.2.2.2.1 s.2.2.2.2.2.1 s.2.2.2.2.2.2) (fun s => I s.1 s.2.1 s.2.2.1 s.2.2.2.1 s.2.2.2.2.1 s.2.2.2.2.2.1 s.2.2.2.2.2.2) (fun s => μ s.1 s.2.1 s.2.2.1 s.2.2.2.1 s.2.2.2.2.1 s.2.2.2.2.2.1 s.2.2.2.2.2.2) (fun n s hI hk => hs n s.1 s.2.1 s.2.2.1 s.2.2.2.1 s.2.2.2.2.1 s.2.2.2.2.2.1 s.2.2.2.2.2.2 hI (fun b1 b2 b3 b4 b5 b6 b7 h9 hm => hk (b1, b2, b3, b4, b5, b6, b7) h9 hm)) (a1, a2, a3, a4, a5, a6, a7) h
theorem lp8 {A1 A2 A3 A4 A5 A6 A7 A8 : Type} (W : Nat → A1 → A2 → A3 → A4 → A5 → A6 → A7 → A8 → Prop) (I : A1 → A2 → A3 → A4 → A5 → A6 → A7 → A8 → Prop) (μ : A1 → A2 → A3 → A4 → A5 → A6 → A7 → A8 → Nat) (hs : ∀ (n : Nat) (a1 : A1) (a2 : A2) (a3 : A3) (a4 : A4) (a5 : A5) (a6 : A6) (a7 : A7) (a8 : A8), I a1 a2 a3 a4 a5 a6 a7 a8 → (∀ (b1 : A1) (b2 : A2) (b3 : A3) (b4 : A4) (b5 : A5) (b6 : A6) (b7 : A7) (b8 : A8), I b1 b2 b3 b4 b5 b6 b7 b8 → μ b1 b2 b3 b4 b5 b6 b7 b8 < μ a1 a2 a3 a4 a5 a6 a7 a8 → W n b1 b2 b3 b4 b5 b6 b7 b8) → W (n + 1) a1 a2 a3 a4 a5 a6 a7 a8) (a1 : A1) (a2 : A2) (a3 : A3) (a4 : A4) (a5 : A5) (a6 : A6) (a7 : A7) (a8 : A8) (h : I a1 a2 a3 a4 a5 a6 a7 a8) : ∃ n, W n a1 a2 a3 a4 a5 a6 a7 a8 :=
  loop_m (σ := A1 × A2 × A3 × A4 × A5 × A6 × A7 × A8) (fun n s => W n s.1 s.2.1 s.2.2.1 s.2.2.2.1 s.2.2.2.2.1 s.2.2.2.2.2.1 s.2.2.2.2.2.2.1 s.2.2.2.2.2.2.2) (fun s => I s.1 s.2.1 s.2.2.1 s.2.2.2.1 s.2.2.2.2.1 s.2.2.2.2.2.1 s.2.2.2.2.2.2.1 s.2.2.2.2.2.2.2) (fun s => μ s.1 s.2.1 s.2.2.1 s.2.2.2.1 s.2.2.2.2.1 s.2.2.2.2.2.1 s.2.2.2.2.2.2.1 s.2.2.2.2.2.2.2) (fun n s hI hk => hs n s.1 s.2.1 s.2.2.1 s.2.2.2.1 s.2.2.2.2.1 s.2.2.2.2.2.1 s.2.2.2.2.2.2.1 s.2.2.2.2.2.2.2 hI (fun b1 b2 b3 b4 b5 b6 b7 b8 h9 hm => hk (b1, b2, b3, b4, b5, b6, b7, b8) h9 hm)) (a1, a2, a3, a4, a5, a6, a7, a8) h
theorem lp9 {A1 A2 A3 A4 A5 A6 A7 A8 A9 : Type} (W : Nat → A1 → A2 → A3 → A4 → A5 → A6 → A7 → A8 → A9 → Prop) (I : A1 → A2 → A3 → A4 → A5 → A6 → A7 → A8 → A9 → Prop) (μ : A1 → A2 → A3 → A4 → A5 → A6 → A7 → A8 → A9 → Nat) (hs : ∀ (n : Nat) (a1 : A1) (a2 : A2) (a3 : A3) (a4 : A4) (a5 : A5) (a6 : A6) (a7 : A7) (a8 : A8) (a9 : A9), I a1 a2 a3 a4 a5 a6 a7 a8 a9 → (∀ (b1 : A1) (b2 : A2) (b3 : A3) (b4 : A4) (b5 : A5) (b6 : A6) (b7 : A7) (b8 : A8) (b9 : A9), I b1 b2 b3 b4 b5 b6 b7 b8 b9 → μ b1 b2 b3 b4 b5 b6 b7 b8 b9 < μ a1 a2 a3 a4 a5 a6 a7 a8 a9 → W n b1 b2 b3 b4 b5 b6 b7 b8 b9) → W (n + 1) a1 a2 a3 a4 a5 a6 a7 a8 a9) (a1 : A1) (a2 : A2) (a3 : A3) (a4 : A4) (a5 : A5) (a6 : A6) (a7 : A7) (a8 : A8) (a9 : A9) (h : I a1 a2 a3 a4 a5 a6 a7 a8 a9) : ∃ n, W n a1 a2 a3 a4 a5 a6 a7 a8 a9 :=
  loop_m (σ := A1 × A2 × A3 × A4 × A5 × A6 × A7 × A8 × A9) (fun n s => W n s.1 s.2.1 s.2.2.1 s.2.2.2.1 s.2.2.2.2.1 s.2.2.2.2.2.1 s.2.2.2.2.2.2.1 s.2.2.2.2.2.2.2.1 s.2.2.2.2.2.2.2.2) (fun s => I s.1 s.2.1 s.2.2.1 s.2.2.2.1 s.2.2.2.2.1 s.2.2.2.2.2.1 s.2.2.2.2.2.2.1 s.2.2.2.2.2.2.2.1 s.2.2.2.2.2.2.2.2) (fun s => μ s.1 s.2.1 s.2.2.1 s.2.2.2.1 s.2.2.2.2.1 s.2.2.2.2.2.1 s.2.2.2.2.2.2.1 s.2.2.2.2.2.2.2.1 s.2.2.2.2.2.2.2.2) (fun n s hI hk => hs n s.1 s.2.1 s.2.2.1 s.2.2.2.1 s.2.2.2.2.1 s.2.2.2.2.2.1 s.2.2.2.2.2.2.1 s.2.2.2.2.2.2.2.1 s.2.2.2.2.2.2.2.2 hI (fun b1 b2 b3 b4 b5 b6 b7 b8 b9 h9 hm => hk (b1, b2, b3, b4, b5, b6, b7, b8, b9) h9 hm)) (a1, a2, a3, a4, a5, a6, a7, a8, a9) h
theorem lp10 {A1 A2 A3 A4 A5 A6 A7 A8 A9 A10 : Type} (W : Nat → A1 → A2 → A3 → A4 → A5 → A6 → A7 → A8 → A9 → A10 → Prop) (I : A1 → A2 → A3 → A4 → A5 → A6 → A7 → A8 → A9 → A10 → Prop) (μ : A1 → A2 → A3 → A4 → A5 → A6 → A7 → A8 → A9 → A10 → Nat) (hs : ∀ (n : Nat) (a1 : A1) (a2 : A2) (a3 : A3) (a4 : A4) (a5 : A5) (a6 : A6) (a7 : A7) (a8 : A8) (a9 : A9) (a10 : A10), I a1 a2 a3 a4 a5 a6 a7 a8 a9 a10 → (∀ (b1 : A1) (b2 : A2) (b3 : A3) (b4 : A4) (b5 : A5) (b6 : A6) (b7 : A7) (b8 : A8) (b9 : A9) (b10 : A10), I b1 b2 b3 b4 b5 b6 b7 b8 b9 b10 → μ b1 b2 b3 b4 b5 b6 b7 b8 b9 b10 < μ a1 a2 a3 a4 a5 a6 a7 a8 a9 a10 → W n b1 b2 b3 b4 b5 b6 b7 b8 b9 b10) → W (n + 1) a1 a2 a3 a4 a5 a6 a7 a8 a9 a10) (a1 : A1) (a2 : A2) (a3 : A3) (a4 : A4) (a5 : A5) (a6 : A6) (a7 : A7) (a8 : A8) (a9 : A9) (a10 : A10) (h : I a1 a2 a3 a4 a5 a6 a7 a8 a9 a10) : ∃ n, W n a1 a2 a3 a4 a5 a6 a7 a8 a9 a10 :=
  loop_m (σ := A1 × A2 × A3 × A4 × A5 × A6 × A7 × A8 × A9 × A10) (fun n s => W n s.1 s.2.1 s.2.2.1 s.2.2.2.1 s.2.2.2.2.1 s.2.2.2.2.2.1 s.2.2.2.2.2.2.1 s.2.2.2.2.2.2.2.1 s.2.2.2.2.2.2.2.2.1 s.2.2.2.2.2.2.2.2.2) (fun s => I s.1 s.2.1 s.2.2.1 s.2.2.2.1 s.2.2.2.2.1 s.2.2.2.2.2.1 s.2.2.2.2.2.2.1 s.2.2.2.2.2.2.2.1 s.2.2.2.2.2.2.2.2.1 s.2.2.2.2.2.2.2.2.2) (fun s => μ s.1 s.2.1 s.2.2.1 s.2.2.2.1 s.2.2.2.2.1 s.2.2.2.2.2.1 s.2.2.2.2.2.2.1 s.2.2.2.2.2.2.2.1 s.2.2.2.2.2.2.2.2.1 s.2.2.2.2.2.2.2.2.2) (fun n s hI hk => hs n s.1 s.2.1 s.2.2.1 s.2.2.2.1 s.2.2.2.2.1 s.2.2.2.2.2.1 s.2.2.2.2.2.2.1 s.2.2.2.2.2.2.2.1 s.2.2.2.2.2.2.2.2.1 s.2.2.2.2.2.2.2.2.2 hI (fun b1 b2 b3 b4 b5 b6 b7 b8 b9 b10 h9 hm => hk (b1, b2, b3, b4, b5, b6, b7, b8, b9, b10) h9 hm)) (a1, a2, a3, a4, a5, a6, a7, a8, a9, a10) h
theorem lp11 {A1 A2 A3 A4 A5 A6 A7 A8 A9 A10 A11 : Type} (W : Nat → A1 → A2 → A3 → A4 → A5 → A6 → A7 → A8 → A9 → A10 → A11 → Prop) (I : A1 → A2 → A3 → A4 → A5 → A6 → A7 → A8 → A9 → A10 → A11 → Prop) (μ : A1 → A2 → A3 → A4 → A5 → A6 → A7 → A8 → A9 → A10 → A11 → Nat) (hs : ∀ (n : Nat) (a1 : A1) (a2 : A2) (a3 : A3) (a4 : A4) (a5 : A5) (a6 : A6) (a7 : A7) (a8 : A8) (a9 : A9) (a10 : A10) (a11 : A11), I a1 a2 a3 a4 a5 a6 a7 a8 a9 a10 a11 → (∀ (b1 : A1) (b2 : A2) (b3 : A3) (b4 : A4) (b5 : A5) (b6 : A6) (b7 : A7) (b8 : A8) (b9 : A9) (b10 : A10) (b11 : A11), I b1 b2 b3 b4 b5 b6 b7 b8 b9 b10 b11 → μ b1 b2 b3 b4 b5 b6 b7 b8 b9 b10 b11 < μ a1 a2 a3 a4 a5 a6 a7 a8 a9 a10 a11 → W n b1 b2 b3 b4 b5 b6 b7 b8 b9 b10 b11) → W (n + 1) a1 a2 a3 a4 a5 a6 a7 a8 a9 a10 a11) (a1 : A1) (a2 : A2) (a3 : A3) (a4 : A4) (a5 : A5) (a6 : A6) (a7 : A7) (a8 : A8) (a9 : A9) (a10 : A10) (a11 : A11) (h : I a1 a2 a3 a4 a5 a6 a7 a8 a9 a10 a11) : ∃ n, W n a1 a2 a3 a4 a5 a6 a7 a8 a9 a10 a11 :=
  loop_m (σ := A1 × A2 × A3 × A4 × A5 × A6 × A7 × A8 × A9 × A10 × A11) (fun n s => W n s.1 s.2.1 s.2.2.1 s.2.2.2.1 s.2.2.2.2.1 s.2.2.2.2.2.1 s.2.2.2.2.2.2.1 s.2.2.2.2.2.2.2.1 s.2.2.2.2.2.2.2.2.1 s.2.2.2.2.2.2.2.2.2.1 s.2.2.2.2.2.2.2.2.2.2) (fun s => I s.1 s.2.1 s.2.2.1 s.2.2.2.1 s.2.2.2.2.1 s.2.2.2.2.2.1 s.2.2.2.2.2.2.1 s.2.2.2.2.2.2.2.1 s.2.2.2.2.2.2.2.2.1 s.2.2.2.2.2.2.2.2.2.1 s.2.2.2.2.2.2.2.2.2.2) (fun s => μ s.1 s.2.1 s.2.2.1 s.2.2.2.1 s.2.2.2.2.1 s.2.2.2.2.2.1 s.2.2.2.2.2.2.1 s.2.2.2.2.2.2.2.1 s.2.2.2.2.2.2.2.2.1 s.2.2.2.2.2.2.2.2.2.1 s.2.2.2.2.2.2.2.2.2.2) (fun n s hI hk => hs n s.1 s.2.1 s.2.2.1 s.2.2.2.1 s.2.2.2.2.1 s.2.2.2.2.2.1 s.2.2.2.2.2.2.1 s.2.2.2.2.2.2.2.1 s.2.2.2.2.2.2.2.2.1 s.2.2.2.2.2.2.2.2.2.1 s.2.2.2.2.2.2.2.2.2.2 hI (fun b1 b2 b3 b4 b5 b6 b7 b8 b9 b10 b11 h9 hm => hk (b1, b2, b3, b4, b5, b6, b7, b8, b9, b10, b11) h9 hm)) (a1, a2, a3, a4, a5, a6, a7, a8, a9, a10, a11) h
theorem lp12 {A1 A2 A3 A4 A5 A6 A7 A8 A9 A10 A11 A12 : Type} (W : Nat → A1 → A2 → A3 → A4 → A5 → A6 → A7 → A8 → A9 → A10 → A11 → A12 → Prop) (I : A1 → A2 → A3 → A4 → A5 → A6 → A7 → A8 → A9 → A10 → A11 → A12 → Prop) (μ : A1 → A2 → A3 → A4 → A5 → A6 → A7 → A8 → A9 → A10 → A11 → A12 → Nat) (hs : ∀ (n : Nat) (a1 : A1) (a2 : A2) (a3 : A3) (a4 : A4) (a5 : A5) (a6 : A6) (a7 : A7) (a8 : A8) (a9 : A9) (a10 : A10) (a11 : A11) (a12 : A12), I a1 a2 a3 a4 a5 a6 a7 a8 a9 a10 a11 a12 → (∀ (b1 : A1) (b2 : A2) (b3 : A3) (b4 : A4) (b5 : A5) (b6 : A6) (b7 : A7) (b8 : A8) (b9 : A9) (b10 : A10) (b11 : A11) (b12 : A12), I b1 b2 b3 b4 b5 b6 b7 b8 b9 b10 b11 b12 → μ b1 b2 b3 b4 b5 b6 b7 b8 b9 b10 b11 b12 < μ a1 a2 a3 a4 a5 a6 a7 a8 a9 a10 a11 a12 → W n b1 b2 b3 b4 b5 b6 b7 b8 b9 b10 b11 b12) → W (n + 1) a1 a2 a3 a4 a5 a6 a7 a8 a9 a10 a11 a12) (a1 : A1) (a2 : A2) (a3 : A3) (a4 : A4) (a5 : A5) (a6 : A6) (a7 : A7) (a8 : A8) (a9 : A9) (a10 : A10) (a11 : A11) (a12 : A12) (h : I a1 a2 a3 a4 a5 a6 a7 a8 a9 a10 a11 a12) : ∃ n, W n a1 a2 a3 a4 a5 a6 a7 a8 a9 a10 a11 a12 :=
  loop_m (σ := A1 × A2 × A3 × A4 × A5 × A6 × A7 × A8 × A9 × A10 × A11 × A12) (fun n s => W n s.1 s.2.1 s.2.2.1 s.2.2.2.1 s.2.2.2.2.1 s.2.2.2.2.2.1 s.2.2.2.2.2.2.1 s.2.2.2.2.2.2.2.1 s.2.2.2.2.2.2.2.2.1 s.2.2.2.2.2.2.2.2.2.1 s.2.2.2.2.2.2.2.2.2.2.1 s.2.2.2.2.2.2.2.2.2.2.2) (fun s => I s.1 s.2.1 s.2.2.1 s.2.2.2.1 s.2.2.2.2.1 s.2.2.2.2.2.1 s.2.2.2.2.2.2.1 s.2.2.2.2.2.2.2.1 s.2.2.2.2.2.2.2.2.1 s.2.2.2.2.2.2.2.2.2.1 s.2.2.2.2.2.2.2.2.2.2.1 s.2.2.2.2.2.2.2.2.2.2.2) (fun s => μ s.1 s.2.1 s.2.2.1 s.2.2.2.1 s.2.2.2.2.1 s.2.2.2.2.2.1 s.2.2.2.2.2.2.1 s.2.2.2.2.2.2.2.1 s.2.2.2.2.2.2.2.2.1 s.2.2.2.2.2.2.2.2.2.1 s.2.2.2.2.2.2.2.2.2.2.1 s.2.2.2.2.2.2.2.2.2.2.2) (fun n s hI hk => hs n s.1 s.2.1 s.2.2.1 s.2.2.2.1 s.2.2.2.2.1 s.2.2.2.2.2.1 s.2.2.2.2.2.2.1 s.2.2.2.2.2.2.2.1 s.2.2.2.2.2.2.2.2.1 s.2.2.2.2.2.2.2.2.2.1 s.2.2.2.2.2.2.2.2.2.2.1 s.2.2.2.2.2.2.2.2.2.2.2 hI (fun b1 b2 b3 b4 b5 b6 b7 b8 b9 b10 b11 b12 h9 hm => hk (b1, b2, b3, b4, b5, b6, b7, b8, b9, b10, b11, b12) h9 hm)) (a1, a2, a3, a4, a5, a6, a7, a8, a9, a10, a11, a12) h
theorem lp13 {A1 A2 A3 A4 A5 A6 A7 A8 A9 A10 A11 A12 A13 : Type} (W : Nat → A1 → A2 → A3 → A4 → A5 → A6 → A7 → A8 → A9 → A10 → A11 → A12 → A13 → Prop) (I : A1 → A2 → A3 → A4 → A5 → A6 → A7 → A8 → A9 → A10 → A11 → A12 → A13 → Prop) (μ : A1 → A2 → A3 → A4 → A5 → A6 → A7 → A8 → A9 → A10 → A11 → A12 → A13 → Nat) (hs : ∀ (n : Nat) (a1 : A1) (a2 : A2) (a3 : A3) (a4 : A4) (a5 : A5) (a6 : A6) (a7 : A7) (a8 : A8) (a9 : A9) (a10 : A10) (a11 : A11) (a12 : A12) (a13 : A13), I a1 a2 a3 a4 a5 a6 a7 a8 a9 a10 a11 a12 a13 → (∀ (b1 : A1) (b2 : A2) (b3 : A3) (b4 : A4) (b5 : A5) (b6 : A6) (b7 : A7) (b8 : A8) (b9 : A9) (b10 : A10) (b11 : A11) (b12 : A12) (b13 : A13), I b1 b2 b3 b4 b5 b6 b7 b8 b9 b10 b11 b12 b13 → μ b1 b2 b3 b4 b5 b6 b7 b8 b9 b10 b11 b12 b13 < μ a1 a2 a3 a4 a5 a6 a7 a8 a9 a10 a11 a12 a13 → W n b1 b2 b3 b4 b5 b6 b7 b8 b9 b10 b11 b12 b13) → W (n + 1) a1 a2 a3 a4 a5 a6 a7 a8 a9 a10 a11 a12 a13) (a1 : A1) (a2 : A2) (a3 : A3) (a4 : A4) (a5 : A5) (a6 : A6) (a7 : A7) (a8 : A8) (a9 : A9) (a10 : A10) (a11 : A11) (a12 : A12) (a13 : A13) (h : I a1 a2 a3 a4 a5 a6 a7 a8 a9 a10 a11 a12 a13) : ∃ n, W n a1 a2 a3 a4 a5 a6 a7 a8 a9 a10 a11 a12 a13 :=
  loop_m (σ := A1 × A2 × A3 × A4 × A5 × A6 × A7 × A8 × A9 × A10 × A11 × A12 × A13) (fun n s => W n s.1 s.2.1 s.2.2.1 s.2.2.2.1 s.2.2.2.2.1 s.2.2.2.2.2.1 s.2.2.2.2.2.2.1 s.2.2.2.2.2.2.2.1 s.2.2.2.2.2.2.2.2.1 s.2.2.2.2.2.2.2.2.2.1 s.2.2.2.2.2.2.2.2.2.2.1 s.2.2.2.2.2.2.2.2.2.2.2.1 s.2.2.2.2.2.2.2.2.2.2.2.2) (fun s => I s.1 s.2.1 s.2.2.1 s.2.2.2.1 s.2.2.2.2.1 s.2.2.2.2.2.1 s.2.2.2.2.2.2.1 s.2.2.2.2.2.2.2.1 s.2.2.2.2.2.2.2.2.1 s.2.2.2.2.2.2.2.2.2.1 s.2.2.2.2.2.2.2.2.2.2.1 s.2.2.2.2.2.2.2.2.2.2.2.1 s.2.2.2.2.2.2.2.2.2.2.2.2) (fun s => μ s.1 s.2.1 s.2.2.1 s.2.2.2.1 s.2.2.2.2.1 s.2.2.2.2.2.1 s.2.2.2.2.2.2.1 s.2.2.2.2.2.2.2.1 s.2.2.2.2.2.2.2.2.1 s.2.2.2.2.2.2.2.2.2.1 s.2.2.2.2.2.2.2.2.2.2.1 s.2.2.2.2.2.2.2.2.2.2.2.1 s.2.2.2.2.2.2.2.2.2.2.2.2) (fun n s hI hk => hs n s.1 s.2.1 s.2.2.1 s.2.2.2.1 s.2.2.2.2.1 s.2.2.2.2.2.1 s.2.2.2.2.2.2.1 s.2.2.2.2.2.2.2.1 s.2.2.2.2.2.2.2.2.1 s.2.2.2.2.2.2.2.2.2.1 s.2.2.2.2.2.2.2.2.2.2.1 s.2.2.2.2.2.2.2.2.2.2.2.1 s.2.2.2.2.2.2.2.2.2.2.2.2 hI (fun b1 b2 b3 b4 b5 b6 b7 b8 b9 b10 b11 b12 b13 h9 hm => hk (b1, b2, b3, b4, b5, b6, b7, b8, b9, b10, b11, b12, b13) h9 hm)) (a1, a2, a3, a4, a5, a6, a7, a8, a9, a10, a11, a12, a13) h
theorem lp14 {A1 A2 A3 A4 A5 A6 A7 A8 A9 A10 A11 A12 A13 A14 : Type} (W : Nat → A1 → A2 → A3 → A4 → A5 → A6 → A7 → A8 → A9 → A10 → A11 → A12 → A13 → A14 → Prop) (I : A1 → A2 → A3 → A4 → A5 → A6 → A7 → A8 → A9 → A10 → A11 → A12 → A13 → A14 → Prop) (μ : A1 → A2 → A3 → A4 → A5 → A6 → A7 → A8 → A9 → A10 → A11 → A12 → A13 → A14 → Nat) (hs : ∀ (n : Nat) (a1 : A1) (a2 : A2) (a3 : A3) (a4 : A4) (a5 : A5) (a6 : A6) (a7 : A7) (a8 : A8) (a9 : A9) (a10 : A10) (a11 : A11) (a12 : A12) (a13 : A13) (a14 : A14), I a1 a2 a3 a4 a5 a6 a7 a8 a9 a10 a11 a12 a13 a14 → (∀ (b1 : A1) (b2 : A2) (b3 : A3) (b4 : A4) (b5 : A5) (b6 : A6) (b7 : A7) (b8 : A8) (b9 : A9) (b10 : A10) (b11 : A11) (b12 : A12) (b13 : A13) (b14 : A14), I b1 b2 b3 b4 b5 b6 b7 b8 b9 b10 b11 b12 b13 b14 → μ b1 b2 b3 b4 b5 b6 b7 b8 b9 b10 b11 b12 b13 b14 < μ a1 a2 a3 a4 a5 a6 a7 a8 a9 a10 a11 a12 a13 a14 → W n b1 b2 b3 b4 b5 b6 b7 b8 b9 b10 b11 b12 b13 b14) → W (n + 1) a1 a2 a3 a4 a5 a6 a7 a8 a9 a10 a11 a12 a13 a14) (a1 : A1) (a2 : A2) (a3 : A3) (a4 : A4) (a5 : A5) (a6 : A6) (a7 : A7) (a8 : A8) (a9 : A9) (a10 : A10) (a11 : A11) (a12 : A12) (a13 : A13) (a14 : A14) (h : I a1 a2 a3 a4 a5 a6 a7 a8 a9 a10 a11 a12 a13 a14) : ∃ n, W n a1 a2 a3 a4 a5 a6 a7 a8 a9 a10 a11 a12 a13 a14 :=
  loop_m (σ := A1 × A2 × A3 × A4 × A5 × A6 × A7 × A8 × A9 × A10 × A11 × A12 × A13 × A14) (fun n s => W n s.1 s.2.1 s.2.2.1 s.2.2.2.1 s.2.2.2.2.1 s.2.2.2.2.2.1 s.2.2.2.2.2.2.1 s.2.2.2.2.2.2.2.1 s.2.2.2.2.2.2.2.2.1 s.2.2.2.2.2.2.2.2.2.1 s.2.2.2.2.2.2.2.2.2.2.1 s.2.2.2.2.2.2.2.2.2.2.2.1 s.2.2.2.2.2.2.2.2.2.2.2.2.1 s.2.2.2.2.2.2.2.2.2.2.2.2.2) (fun s => I s.1 s.2.1 s.2.2.1 s.2.2.2.1 s.2.2.2.2.1 s.2.2.2.2.2.1 s.2.2.2.2.2.2.1 s.2.2.2.2.2.2.2.1 s.2.2.2.2.2.2.2.2.1 s.2.2.2.2.2.2.2.2.2.1 s.2.2.2.2.2.2.2.2.2.2.1 s.2.2.2.2.2.2.2.2.2.2.2.1 s.2.2.2.2.2.2.2.2.2.2.2.2.1 s.2.2.2.2.2.2.2.2.2.2.2.2.2) (fun s => μ s.1 s.2.1 s.2.2.1 s.2.2.2.1 s.2.2.2.2.1 s.2.2.2.2.2.1 s.2.2.2.2.2.2.1 s.2.2.2.2.2.2.2.1 s.2.2.2.2.2.2.2.2.1 s.2.2.2.2.2.2.2.2.2.1 s.2.2.2.2.2.2.2.2.2.2.1 s.2.2.2.2.2.2.2.2.2.2.2.1 s.2.2.2.2.2.2.2.2.2.2.2.2.1 s.2.2.2.2.2.2.2.2.2.2.2.2.2) (fun n s hI hk => hs n s.1 s.2.1 s.2.2.1 s.2.2.2.1 s.2.2.2.2.1 s.2.2.2.2.2.1 s.2.2.2.2.2.2.1 s.2.2.2.2.2.2.2.1 s.2.2.2.2.2.2.2.2.1 s.2.2.2.2.2.2.2.2.2.1 s.2.2.2.2.2.2.2.2.2.2.1 s.2.2.2.2.2.2.2.2.2.2.2.1 s.2.2.2.2.2.2.2.2.2.2.2.2.1 s.2.2.2.2.2.2.2.2.2.2.2.2.2 hI (fun b1 b2 b3 b4 b5 b6 b7 b8 b9 b10 b11 b12 b13 b14 h9 hm => hk (b1, b2, b3, b4, b5, b6, b7, b8, b9, b10, b11, b12, b13, b14) h9 hm)) (a1, a2, a3, a4, a5, a6, a7, a8, a9, a10, a11, a12, a13, a14) h
theorem lp15 {A1 A2 A3 A4 A5 A6 A7 A8 A9 A10 A11 A12 A13 A14 A15 : Type} (W : Nat → A1 → A2 → A3 → A4 → A5 → A6 → A7 → A8 → A9 → A10 → A11 → A12 → A13 → A14 → A15 → Prop) (I : A1 → A2 → A3 → A4 → A5 → A6 → A7 → A8 → A9 → A10 → A11 → A12 → A13 → A14 → A15 → Prop) (μ : A1 → A2 → A3 → A4 → A5 → A6 → A7 → A8 → A9 → A10 → A11 → A12 → A13 → A14 → A15 → Nat) (hs : ∀ (n : Nat) (a1 : A1) (a2 : A2) (a3 : A3) (a4 : A4) (a5 : A5) (a6 : A6) (a7 : A7) (a8 : A8) (a9 : A9) (a10 : A10) (a11 : A11) (a12 : A12) (a13 : A13) (a14 : A14) (a15 : A15), I a1 a2 a3 a4 a5 a6 a7 a8 a9 a10 a11 a12 a13 a14 a15 → (∀ (b1 : A1) (b2 : A2) (b3 : A3) (b4 : A4) (b5 : A5) (b6 : A6) (b7 : A7) (b8 : A8) (b9 : A9) (b10 : A10) (b11 : A11) (b12 : A12) (b13 : A13) (b14 : A14) (b15 : A15), I b1 b2 b3 b4 b5 b6 b7 b8 b9 b10 b11 b12 b13 b14 b15 → μ b1 b2 b3 b4 b5 b6 b7 b8 b9 b10 b11 b12 b13 b14 b15 < μ a1 a2 a3 a4 a5 a6 a7 a8 a9 a10 a11 a12 a13 a14 a15 → W n b1 b2 b3 b4 b5 b6 b7 b8 b9 b10 b11 b12 b13 b14 b15) → W (n + 1) a1 a2 a3 a4 a5 a6 a7 a8 a9 a10 a11 a12 a13 a14 a15) (a1 : A1) (a2 : A2) (a3 : A3) (a4 : A4) (a5 : A5) (a6 : A6) (a7 : A7) (a8 : A8) (a9 : A9) (a10 : A10) (a11 : A11) (a12 : A12) (a13 : A13) (a14 : A14) (a15 : A15) (h : I a1 a2 a3 a4 a5 a6 a7 a8 a9 a10 a11 a12 a13 a14 a15) : ∃ n, W n a1 a2 a3 a4 a5 a6 a7 a8 a9 a10 a11 a12 a13 a14 a15 :=
  loop_m (σ := A1 × A2 × A3 × A4 × A5 × A6 × A7 × A8 × A9 × A10 × A11 × A12 × A13 × A14 × A15) (fun n s => W n s.1 s.2.1 s.2.2.1 s.2.2.2.1 s.2.2.2.2.1 s.2.2.2.2.2.1 s.2.2.2.2.2.2.1 s.2.2.2.2.2.2.2.1 s.2.2.2.2.2.2.2.2.1 s.2.2.2.2.2.2.2.2.2.1 s.2.2.2.2.2.2.2.2.2.2.1 s.2.2.2.2.2.2.2.2.2.2.2.1 s.2.2.2.2.2.2.2.2.2.2.2.2.1 s.2.2.2.2.2.2.2.2.2.2.2.2.2.1 s.2.2.2.2.2.2.2.2.2.2.2.2.2.2) (fun s => I s.1 s.2.1 s.2.2.1 s.2.2.2.1 s.2.2.2.2.1 s.2.2.2.2.2.1 s.2.2.2.2.2.2.1 s.2.2.2.2.2.2.2.1 s.2.2.2.2.2.2.2.2.1 s.2.2.2.2.2.2.2.2.2.1 s.2.2.2.2.2.2.2.2.2.2.1 s.2.2.2.2.2.2.2.2.2.2.2.1 s.2.2.2.2.2.2.2.2.2.2.2.2.1 s.2.2.2.2.2.2.2.2.2.2.2.2.2.1 s.2.2.2.2.2.2.2.2.2.2.2.2.2.2) (fun s => μ s.1 s.2.1 s.2.2.1 s.2.2.2.1 s.2.2.2.2.1 s.2.2.2.2.2.1 s.2.2.2.2.2.2.1 s.2.2.2.2.2.2.2.1 s.2.2.2.2.2.2.2.2.1 s.2.2.2.2.2.2.2.2.2.1 s.2.2.2.2.2.2.2.2.2.2.1 s.2.2.2.2.2.2.2.2.2.2.2.1 s.2.2.2.2.2.2.2.2.2.2.2.2.1 s.2.2.2.2.2.2.2.2.2.2.2.2.2.1 s.2.2.2.2.2.2.2.2.2.2.2.2.2.2) (fun n s hI hk => hs n s.1 s.2.1 s.2.2.1 s.2.2.2.1 s.2.2.2.2.1 s.2.2.2.2.2.1 s.2.2.2.2.2.2.1 s.2.2.2.2.2.2.2.1 s.2.2.2.2.2.2.2.2.1 s.2.2.2.2.2.2.2.2.2.1 s.2.2.2.2.2.2.2.2.2.2.1 s.2.2.2.2.2.2.2.2.2.2.2.1 s.2.2.2.2.2.2.2.2.2.2.2.2.1 s.2.2.2.2.2.2.2.2.2.2.2.2.2.1 s.2.2.2.2.2.2.2.2.2.2.2.2.2.2 hI (fun b1 b2 b3 b4 b5 b6 b7 b8 b9 b10 b11 b12 b13 b14 b15 h9 hm => hk (b1, b2, b3, b4, b5, b6, b7, b8, b9, b10, b11, b12, b13, b14, b15) h9 hm)) (a1, a2, a3, a4, a5, a6, a7, a8, a9, a10, a11, a12, a13, a14, a15) h
theorem lp16 {A1 A2 A3 A4 A5 A6 A7 A8 A9 A10 A11 A12 A13 A14 A15 A16 : Type} (W : Nat → A1 → A2 → A3 → A4 → A5 → A6 → A7 → A8 → A9 → A10 → A11 → A12 → A13 → A14 → A15 → A16 → Prop) (I : A1 → A2 → A3 → A4 → A5 → A6 → A7 → A8 → A9 → A10 → A11 → A12 → A13 → A14 → A15 → A16 → Prop) (μ : A1 → A2 → A3 → A4 → A5 → A6 → A7 → A8 → A9 → A10 → A11 → A12 → A13 → A14 → A15 → A16 → Nat) (hs : ∀ (n : Nat) (a1 : A1) (a2 : A2) (a3 : A3) (a4 : A4) (a5 : A5) (a6 : A6) (a7 : A7) (a8 : A8) (a9 : A9) (a10 : A10) (a11 : A11) (a12 : A12) (a13 : A13) (a14 : A14) (a15 : A15) (a16 : A16), I a1 a2 a3 a4 a5 a6 a7 a8 a9 a10 a11 a12 a13 a14 a15 a16 → (∀ (b1 : A1) (b2 : A2) (b3 : A3) (b4 : A4) (b5 : A5) (b6 : A6) (b7 : A7) (b8 : A8) (b9 : A9) (b10 : A10) (b11 : A11) (b12 : A12) (b13 : A13) (b14 : A14) (b15 : A15) (b16 : A16), I b1 b2 b3 b4 b5 b6 b7 b8 b9 b10 b11 b12 b13 b14 b15 b16 → μ b1 b2 b3 b4 b5 b6 b7 b8 b9 b10 b11 b12 b13 b14 b15 b16 < μ a1 a2 a3 a4 a5 a6 a7 a8 a9 a10 a11 a12 a13 a14 a15 a16 → W n b1 b2 b3 b4 b5 b6 b7 b8 b9 b10 b11 b12 b13 b14 b15 b16) → W (n + 1) a1 a2 a3 a4 a5 a6 a7 a8 a9 a10 a11 a12 a13 a14 a15 a16) (a1 : A1) (a2 : A2) (a3 : A3) (a4 : A4) (a5 : A5) (a6 : A6) (a7 : A7) (a8 : A8) (a9 : A9) (a10 : A10) (a11 : A11) (a12 : A12) (a13 : A13) (a14 : A14) (a15 : A15) (a16 : A16) (h : I a1 a2 a3 a4 a5 a6 a7 a8 a9 a10 a11 a12 a13 a14 a15 a16) : ∃ n, W n a1 a2 a3 a4 a5 a6 a7 a8 a9 a10 a11 a12 a13 a14 a15 a16 :=
  loop_m (σ := A1 × A2 × A3 × A4 × A5 × A6 × A7 × A8 × A9 × A10 × A11 × A12 × A13 × A14 × A15 × A16) (fun n s => W n s.1 s.2.1 s.2.2.1 s.2.2.2.1 s.2.2.2.2.1 s.2.2.2.2.2.1 s.2.2.2.2.2.2.1 s.2.2.2.2.2.2.2.1 s.2.2.2.2.2.2.2.2.1 s.2.2.2.2.2.2.2.2.2.1 s.2.2.2.2.2.2.2.2.2.2.1 s.2.2.2.2.2.2.2.2.2.2.2.1 s.2.2.2.2.2.2.2.2.2.2.2.2.1 s.2.2.2.2.2.2.2.2.2.2.2.2.2.1 s.2.2.2.2.2.2.2.2.2.2.2.2.2.2.1 s.2.2.2.2.2.2.2.2.2.2.2.2.2.2.2) (fun s => I s.1 s.2.1 s.2.2.1 s.2.2.2.1 s.2.2.2.2.1 s.2.2.2.2.2.1 s.2.2.2.2.2.2.1 s.2.2.2.2.2.2.2.1 s.2.2.2.2.2.2.2.2.1 s.2.2.2.2.2.2.2.2.2.1 s.2.2.2.2.2.2.2.2.2.2.1 s.2.2.2.2.2.2.2.2.2.2.2.1 s.2.2.2.2.2.2.2.2.2.2.2.2.1 s.2.2.2.2.2.2.2.2.2.2.2.2.2.1 s.2.2.2.2.2.2.2.2.2.2.2.2.2.2.1 s.2.2.2.2.2.2.2.2.2.2.2.2.2.2.2) (fun s => μ s.1 s.2.1 s.2.2.1 s.2.2.2.1 s.2.2.2.2.1 s.2.2.2.2.2.1 s.2.2.2.2.2.2.1 s.2.2.2.2.2.2.2.1 s.2.2.2.2.2.2.2.2.1 s.2.2.2.2.2.2.2.2.2.1 s.2.2.2.2.2.2.2.2.2.2.1 s.2.2.2.2.2.2.2.2.2.2.2.1 s.2.2.2.2.2.2.2.2.2.2.2.2.1 s.2.2.2.2.2.2.2.2.2.2.2.2.2.1 s.2.2.2.2.2.2.2.2.2.2.2.2.2.2.1 s.2.2.2.2.2.2.2.2.2.2.2.2.2.2.2) (fun n s hI hk => hs n s.1 s.2.1 s.2.2.1 s.2.2.2.1 s.2.2.2.2.1 s.2.2.2.2.2.1 s.2.2.2.2.2.2.1 s.2.2.2.2.2.2.2.1 s.2.2.2.2.2.2.2.2.1 s.2.2.2.2.2.2.2.2.2.1 s.2.2.2.2.2.2.2.2.2.2.1 s.2.2.2.2.2.2.2.2.2.2.2.1 s.2.2.2.2.2.2.2.2.2.2.2.2.1 s.2.2.2.2.2.2.2.2.2.2.2.2.2.1 s.2.2.2.2.2.2.2.2.2.2.2.2.2.2.1 s.2.2.2.2.2.2.2.2.2.2.2.2.2.2.2 hI (fun b1 b2 b3 b4 b5 b6 b7 b8 b9 b10 b11 b12 b13 b14 b15 b16 h9 hm => hk (b1, b2, b3, b4, b5, b6, b7, b8, b9, b10, b11, b12, b13, b14, b15, b16) h9 hm)) (a1, a2, a3, a4, a5, a6, a7, a8, a9, a10, a11, a12, a13, a14, a15, a16) h
theorem pk_least (P : Nat → Prop) (h : ∃ k, P k) : ∃ k, P k ∧ ∀ j, j < k → ¬ P j := by
  obtain ⟨k, hk⟩ := h
  induction k using Nat.strongRecOn with
  | ind k ih =>
    by_cases e : ∃ j, j < k ∧ P j
    · obtain ⟨j, hj, pj⟩ := e
      exact ih j hj pj
    · exact ⟨k, hk, fun j hj pj => e ⟨j, hj, pj⟩⟩
theorem rp1 {ρ A1 : Type} (W : Nat → (ρ → Prop) → A1 → Prop) (ok : A1 → Prop) (μ : A1 → Nat) (val : A1 → ρ)
    (hs : ∀ (d : Nat) (post : ρ → Prop) (a1 : A1), ok a1 → post (val a1) → (∀ (post' : ρ → Prop) (b1 : A1), ok b1 → μ b1 < μ a1 → post' (val b1) → W d post' b1) → W (d + 1) post a1) :
    ∀ (d : Nat) (post : ρ → Prop) (a1 : A1), ok a1 → μ a1 < d → post (val a1) → W d post a1 := by
  intro d
  induction d with
  | zero => intro post a1 _ h; omega
  | succ d ih =>
    intro post a1 ho hm hp
    exact hs d post a1 ho hp (fun post' b1 ho' hm' hp' => ih post' b1 ho' (by omega) hp')
theorem rp2 {ρ A1 A2 : Type} (W : Nat → (ρ → Prop) → A1 → A2 → Prop) (ok : A1 → A2 → Prop) (μ : A1 → A2 → Nat) (val : A1 → A2 → ρ)
    (hs : ∀ (d : Nat) (post : ρ → Prop) (a1 : A1) (a2 : A2), ok a1 a2 → post (val a1 a2) → (∀ (post' : ρ → Prop) (b1 : A1) (b2 : A2), ok b1 b2 → μ b1 b2 < μ a1 a2 → post' (val b1 b2) → W d post' b1 b2) → W (d + 1) post a1 a2) :
    ∀ (d : Nat) (post : ρ → Prop) (a1 : A1) (a2 : A2), ok a1 a2 → μ a1 a2 < d → post (val a1 a2) → W d post a1 a2 := by
  intro d
  induction d with
  | zero => intro post a1 a2 _ h; omega
  | succ d ih =>
    intro post a1 a2 ho hm hp
    exact hs d post a1 a2 ho hp (fun post' b1 b2 ho' hm' hp' => ih post' b1 b2 ho' (by omega) hp')
theorem rp3 {ρ A1 A2 A3 : Type} (W : Nat → (ρ → Prop) → A1 → A2 → A3 → Prop) (ok : A1 → A2 → A3 → Prop) (μ : A1 → A2 → A3 → Nat) (val : A1 → A2 → A3 → ρ)
    (hs : ∀ (d : Nat) (post : ρ → Prop) (a1 : A1) (a2 : A2) (a3 : A3), ok a1 a2 a3 → post (val a1 a2 a3) → (∀ (post' : ρ → Prop) (b1 : A1) (b2 : A2) (b3 : A3), ok b1 b2 b3 → μ b1 b2 b3 < μ a1 a2 a3 → post' (val b1 b2 b3) → W d post' b1 b2 b3) → W (d + 1) post a1 a2 a3) :
    ∀ (d : Nat) (post : ρ → Prop) (a1 : A1) (a2 : A2) (a3 : A3), ok a1 a2 a3 → μ a1 a2 a3 < d → post (val a1 a2 a3) → W d post a1 a2 a3 := by
  intro d
  induction d with
  | zero => intro post a1 a2 a3 _ h; omega
  | succ d ih =>
    intro post a1 a2 a3 ho hm hp
    exact hs d post a1 a2 a3 ho hp (fun post' b1 b2 b3 ho' hm' hp' => ih post' b1 b2 b3 ho' (by omega) hp')
theorem rp4 {ρ A1 A2 A3 A4 : Type} (W : Nat → (ρ → Prop) → A1 → A2 → A3 → A4 → Prop) (ok : A1 → A2 → A3 → A4 → Prop) (μ : A1 → A2 → A3 → A4 → Nat) (val : A1 → A2 → A3 → A4 → ρ)
    (hs : ∀ (d : Nat) (post : ρ → Prop) (a1 : A1) (a2 : A2) (a3 : A3) (a4 : A4), ok a1 a2 a3 a4 → post (val a1 a2 a3 a4) → (∀ (post' : ρ → Prop) (b1 : A1) (b2 : A2) (b3 : A3) (b4 : A4), ok b1 b2 b3 b4 → μ b1 b2 b3 b4 < μ a1 a2 a3 a4 → post' (val b1 b2 b3 b4) → W d post' b1 b2 b3 b4) → W (d + 1) post a1 a2 a3 a4) :
    ∀ (d : Nat) (post : ρ → Prop) (a1 : A1) (a2 : A2) (a3 : A3) (a4 : A4), ok a1 a2 a3 a4 → μ a1 a2 a3 a4 < d → post (val a1 a2 a3 a4) → W d post a1 a2 a3 a4 := by
  intro d
  induction d with
  | zero => intro post a1 a2 a3 a4 _ h; omega
  | succ d ih =>
    intro post a1 a2 a3 a4 ho hm hp
    exact hs d post a1 a2 a3 a4 ho hp (fun post' b1 b2 b3 b4 ho' hm' hp' => ih post' b1 b2 b3 b4 ho' (by omega) hp')
theorem rp5 {ρ A1 A2 A3 A4 A5 : Type} (W : Nat → (ρ → Prop) → A1 → A2 → A3 → A4 → A5 → Prop) (ok : A1 → A2 → A3 → A4 → A5 → Prop) (μ : A1 → A2 → A3 → A4 → A5 → Nat) (val : A1 → A2 → A3 → A4 → A5 → ρ)
    (hs : ∀ (d : Nat) (post : ρ → Prop) (a1 : A1) (a2 : A2) (a3 : A3) (a4 : A4) (a5 : A5), ok a1 a2 a3 a4 a5 → post (val a1 a2 a3 a4 a5) → (∀ (post' : ρ → Prop) (b1 : A1) (b2 : A2) (b3 : A3) (b4 : A4) (b5 : A5), ok b1 b2 b3 b4 b5 → μ b1 b2 b3 b4 b5 < μ a1 a2 a3 a4 a5 → post' (val b1 b2 b3 b4 b5) → W d post' b1 b2 b3 b4 b5) → W (d + 1) post a1 a2 a3 a4 a5) :
    ∀ (d : Nat) (post : ρ → Prop) (a1 : A1) (a2 : A2) (a3 : A3) (a4 : A4) (a5 : A5), ok a1 a2 a3 a4 a5 → μ a1 a2 a3 a4 a5 < d → post (val a1 a2 a3 a4 a5) → W d post a1 a2 a3 a4 a5 := by
  intro d
  induction d with
  | zero => intro post a1 a2 a3 a4 a5 _ h; omega
  | succ d ih =>
    intro post a1 a2 a3 a4 a5 ho hm hp
    exact hs d post a1 a2 a3 a4 a5 ho hp (fun post' b1 b2 b3 b4 b5 ho' hm' hp' => ih post' b1 b2 b3 b4 b5 ho' (by omega) hp')
theorem rp6 {ρ A1 A2 A3 A4 A5 A6 : Type} (W : Nat → (ρ → Prop) → A1 → A2 → A3 → A4 → A5 → A6 → Prop) (ok : A1 → A2 → A3 → A4 → A5 → A6 → Prop) (μ : A1 → A2 → A3 → A4 → A5 → A6 → Nat) (val : A1 → A2 → A3 → A4 → A5 → A6 → ρ)
    (hs : ∀ (d : Nat) (post : ρ → Prop) (a1 : A1) (a2 : A2) (a3 : A3) (a4 : A4) (a5 : A5) (a6 : A6), ok a1 a2 a3 a4 a5 a6 → post (val a1 a2 a3 a4 a5 a6) → (∀ (post' : ρ → Prop) (b1 : A1) (b2 : A2) (b3 : A3) (b4 : A4) (b5 : A5) (b6 : A6), ok b1 b2 b3 b4 b5 b6 → μ b1 b2 b3 b4 b5 b6 < μ a1 a2 a3 a4 a5 a6 → post' (val b1 b2 b3 b4 b5 b6) → W d post' b1 b2 b3 b4 b5 b6) → W (d + 1) post a1 a2 a3 a4 a5 a6) :
    ∀ (d : Nat) (post : ρ → Prop) (a1 : A1) (a2 : A2) (a3 : A3) (a4 : A4) (a5 : A5) (a6 : A6), ok a1 a2 a3 a4 a5 a6 → μ a1 a2 a3 a4 a5 a6 < d → post (val a1 a2 a3 a4 a5 a6) → W d post a1 a2 a3 a4 a5 a6 := by
  intro d
  induction d with
  | zero => intro post a1 a2 a3 a4 a5 a6 _ h; omega
  | succ d ih =>
    intro post a1 a2 a3 a4 a5 a6 ho hm hp
    exact hs d post a1 a2 a3 a4 a5 a6 ho hp (fun post' b1 b2 b3 b4 b5 b6 ho' hm' hp' => ih post' b1 b2 b3 b4 b5 b6 ho' (by omega) hp')
theorem rec_p {σ ρ : Type} (W : Nat → (ρ → Prop) → σ → Prop) (ok : σ → Prop) (μ : σ → Nat) (val : σ → ρ)
    (hs : ∀ d s post, ok s → post (val s) → (∀ s' post', ok s' → μ s' < μ s → post' (val s') → W d post' s') → W (d + 1) post s) :
    ∀ d s post, ok s → μ s < d → post (val s) → W d post s := by
  intro d
  induction d with
  | zero => intro s post _ h; omega
  | succ d ih =>
    intro s post ho hm hp
    exact hs d s post ho hp (fun s' post' ho' hm' hp' => ih s' post' ho' (by omega) hp')
theorem rec_q {σ ρ : Type} (W : Nat → (ρ → Prop) → σ → Prop) (ok : σ → Prop) (μ : σ → Nat) (Q : σ → ρ → Prop)
    (hs : ∀ d s post, ok s → (∀ r, Q s r → post r) → (∀ s' post', ok s' → μ s' < μ s → (∀ r, Q s' r → post' r) → W d post' s') → W (d + 1) post s) :
    ∀ d s post, ok s → μ s < d → (∀ r, Q s r → post r) → W d post s := by
  intro d
  induction d with
  | zero => intro s post _ h; omega
  | succ d ih =>
    intro s post ho hm hp
    exact hs d s post ho hp (fun s' post' ho' hm' hp' => ih s' post' ho' (by omega) hp')
def bx_sum (f : Nat → Int32) : Nat → Int32
  | 0 => 0
  | n + 1 => bx_sum f n + f n
theorem ek_u {A : Prop} {B : Nat → Prop} {k N : Nat} (hk : k < N) (h : B k) : (some k = none → A) ∧ (∀ y : Nat, some k = some y → (y < N ∧ B y)) :=
  ⟨fun z => absurd z (Option.some_ne_none k), fun _ e => (by cases e; exact ⟨hk, h⟩)⟩
theorem ek_nu {A : Prop} {B : Nat → Prop} (h : A) : ((none : Option Nat) = none → A) ∧ (∀ y : Nat, (none : Option Nat) = some y → B y) :=
  ⟨fun _ => h, fun _ e => (by cases e)⟩
theorem ek_if {c d A B : Prop} (e : c ↔ d) (f : d → A) (g : ¬ d → B) : (c → A) ∧ (¬ c → B) :=
  ⟨fun z => f (e.mp z), fun z => g (fun y => z (e.mpr y))⟩
theorem ek_v {α : Sort _} {P : α → Prop} {a b : α} (e : a = b) (h : P b) : P a := e ▸ h
theorem co_some {x : Option Nat} {A : Prop} {B : Nat → Prop} (i : Nat) (h : B i) (hx : x = some i := by rfl) : (x = none → A) ∧ (∀ y : Nat, x = some y → B y) := by
  subst hx
  exact ⟨fun e => (nomatch e), fun y e => Option.some.inj e ▸ h⟩
theorem co_none {x : Option Nat} {A : Prop} {B : Nat → Prop} (h : A) (hx : x = none := by rfl) : (x = none → A) ∧ (∀ y : Nat, x = some y → B y) := by
  subst hx
  exact ⟨fun _ => h, fun y e => (nomatch e)⟩
theorem co_any {x : Option Nat} {A : Prop} {B : Nat → Prop} (hn : x = none → A) (hs : ∀ i : Nat, x = some i → B i) : (x = none → A) ∧ (∀ y : Nat, x = some y → B y) := ⟨hn, hs⟩
theorem co_2 {P : Nat → Prop} (h0 : P 0) (h1 : P 1) {i : Nat} (hi : i < 2) : P i :=
  match i, hi with
  | 0, _ => h0
  | 1, _ => h1
theorem co_3 {P : Nat → Prop} (h0 : P 0) (h1 : P 1) (h2 : P 2) {i : Nat} (hi : i < 3) : P i :=
  match i, hi with
  | 0, _ => h0
  | 1, _ => h1
  | 2, _ => h2
theorem co_4 {P : Nat → Prop} (h0 : P 0) (h1 : P 1) (h2 : P 2) (h3 : P 3) {i : Nat} (hi : i < 4) : P i :=
  match i, hi with
  | 0, _ => h0
  | 1, _ => h1
  | 2, _ => h2
  | 3, _ => h3
theorem co_dec {N : Nat} {P : Nat → Prop} [DecidablePred P] (h : (List.range N).all (fun i => decide (P i)) = true) {i : Nat} (hi : i < N) : P i := by
  have := List.all_eq_true.mp h i (List.mem_range.mpr hi)
  exact of_decide_eq_true this
theorem co_tab {α : Type} {l : List α} {d : α} {P : α → Prop} (h : ∀ a, a ∈ l → P a) {i : Nat} (hi : i < l.length) : P (l.getD i d) := by
  rw [List.getD_eq_getElem?_getD, List.getElem?_eq_getElem hi]
  exact h _ (List.getElem_mem hi)
theorem pk_mu {x : Int32} {L : Nat} (h0 : ¬ x < 0) (h : ¬ nI L ≤ x) (hL : L < 2 ^ 31) : ∃ j : Nat, j < L ∧ x = nI j ∧ x + 1 = nI (j + 1) ∧ x.toNatClampNeg = j ∧ L - (x + 1).toNatClampNeg < L - x.toNatClampNeg := by
  obtain ⟨j, hj, rfl⟩ := nI_of h0
  have hl : j < L := Nat.not_le.mp fun q => h (nI_le q hj)
  refine ⟨j, hl, rfl, nI_1 j, nI_clamp hj, ?_⟩
  rw [nI_1, nI_clamp (by omega), nI_clamp hj]
  omega
theorem op_s {α : Type} {r : Option α} {A : Prop} {B : α → Prop} {y : α} (h : r = some y) (b : B y) : (r = none → A) ∧ ∀ z, r = some z → B z :=
  ⟨fun e => (by rw [h] at e; cases e), fun z e => (by rw [h] at e; cases e; exact b)⟩
def l_holds {α : Type} (a : Nat → Option Nat) (LP : List Nat) (p : Nat → α) (c : Nat) (b : Nat → α) : Prop :=
  ∀ j, j < c → ∃ y, a j = some y ∧ y ∈ LP ∧ p y = b j
theorem l_holds_0 {α : Type} {a : Nat → Option Nat} {LP : List Nat} {p b : Nat → α} : l_holds a LP p 0 b := fun j h => absurd h (Nat.not_lt_zero j)
theorem l_in_new (LP : List Nat) (q : Nat) : q ∈ LP ++ [q] := List.mem_append.mpr (Or.inr (List.mem_singleton.mpr rfl))
def l_sum (b : Nat → Int32) : Nat → Int32
  | 0 => 0
  | k + 1 => l_sum b k + b k
theorem sb_shr0 (x : Int32) : x >>> ((0 : Int32) &&& 31) = x := by
  rw [show ((0 : Int32) &&& 31) = 0 by decide]
  simp
theorem sb_shl0 (x : Int32) : x <<< ((0 : Int32) &&& 31) = x := by
  rw [show ((0 : Int32) &&& 31) = 0 by decide]
  simp
theorem sb_cl0 : (0 : Int32).toNatClampNeg = 0 := by decide
theorem sb_m1 {p : Nat} (h : 0 < p) : nI p + (-1) = nI (p - 1) := by
  obtain ⟨q, rfl⟩ : ∃ q, p = q + 1 := ⟨p - 1, by omega⟩
  exact pk_m1 q
def sb_b (c : Nat) : Int32 := (nI c).toInt8.toInt32
theorem sb_byte : ∀ c, c < 256 → sb_b c &&& 255 = nI c ∧ ((nI c).toUInt32 % 65536).toInt32 = nI c ∧ nI c ≤ 255 := by decide +kernel
def sb_Fit (a : Nat → Int32) : Prop := ∀ j, fits .byte (.int (a j)) = true
def sb_Lat (t : Nat → Nat) (n : Nat) (a : Nat → Int32) : Prop := ∀ j, j < n → t j < 256 ∧ a j = sb_b (t j)
theorem sb_fitB (c : Nat) : fits .byte (.int (sb_b c)) = true := pk_fb _
theorem sb_fit0 : sb_Fit (fun _ => 0) := fun _ => by
  show fits .byte (.int 0) = true
  decide
theorem sb_fitU {a : Nat → Int32} {k : Nat} {x : Int32} (h : sb_Fit a) (hx : fits .byte (.int x) = true) : sb_Fit (upd a k x) := by
  intro j
  by_cases e : j = k
  · subst e
    rw [pk_us]
    exact hx
  · rw [pk_un e]
    exact h j
def sb_cat (t : Nat → Nat) (n : Nat) (s : Nat → Nat) : Nat → Nat := fun j => if j < n then t j else s (j - n)
theorem sb_cat_lo {t s : Nat → Nat} {n j : Nat} (h : j < n) : sb_cat t n s j = t j := if_pos h
theorem sb_cat_hi {t s : Nat → Nat} {n j : Nat} : sb_cat t n s (n + j) = s j := by
  show (if n + j < n then t (n + j) else s (n + j - n)) = s j
  rw [if_neg (by omega), Nat.add_sub_cancel_left]
theorem sb_latPut {t s : Nat → Nat} {n w : Nat} {a a' : Nat → Int32} (h : sb_Lat t n a) (hk : ∀ j, j < n → a' j = a j) (hs : ∀ i, i < w → s i < 256 ∧ a' (n + i) = sb_b (s i)) : sb_Lat (sb_cat t n s) (n + w) a' := by
  intro j hj
  by_cases e : j < n
  · rw [sb_cat_lo e, hk j e]
    exact h j e
  · obtain ⟨i, rfl⟩ : ∃ i, j = n + i := ⟨j - n, by omega⟩
    rw [sb_cat_hi]
    exact hs i (by omega)
theorem sb_latKeep {t : Nat → Nat} {n : Nat} {a a' : Nat → Int32} (h : sb_Lat t n a) (hk : ∀ j, j < n → a' j = a j) : sb_Lat t n a' := fun j hj => by
  rw [hk j hj]
  exact h j hj
def sb_cap (q m : Nat) : Nat := if q ≤ m then m else if 2 * m + 2 < q then q else 2 * m + 2
def sb_Room (q m mc ms : Nat) : Prop := q ≤ m ∨ (1 ≤ mc ∧ sb_cap q m ≤ ms ∧ sb_cap q m ≤ 65536)
theorem sb_cap_ge (q m : Nat) : q ≤ sb_cap q m := by
  unfold sb_cap
  split
  · omega
  · split <;> omega
theorem sb_cap_gem (q m : Nat) : m ≤ sb_cap q m := by
  unfold sb_cap
  split
  · omega
  · split <;> omega
theorem sb_cap_le {q m mc ms : Nat} (hm : m ≤ 65536) (hr : sb_Room q m mc ms) : sb_cap q m ≤ 65536 := by
  rcases hr with h | h
  · rw [sb_cap, if_pos h]
    exact hm
  · exact h.2.2
theorem sb_at {P : Int32 → Prop} {x y : Int32} (e : x = y) (h : P y) : P x := e ▸ h
def sb_dg (w : Nat) : Nat := if w < 10 then 1 else if w < 100 then 2 else if w < 1000 then 3 else if w < 10000 then 4 else if w < 100000 then 5 else if w < 1000000 then 6 else if w < 10000000 then 7 else if w < 100000000 then 8 else if w < 1000000000 then 9 else 10
def sb_dec (v : Nat) : Nat → Nat := fun i => 48 + v / 10 ^ (sb_dg v - 1 - i) % 10
theorem sb_dg_in (w : Nat) : 1 ≤ sb_dg w ∧ sb_dg w ≤ 10 := by
  unfold sb_dg
  constructor <;> (repeat' split) <;> omega
theorem sb_dg100 {w : Nat} (h : 100 ≤ w) (hw : w < 2 ^ 31) : sb_dg w = sb_dg (w / 100) + 2 := by
  rw [sb_dg, sb_dg, if_neg (show ¬ w < 10 by omega), if_neg (show ¬ w < 100 by omega)]
  by_cases h3 : w < 1000
  · rw [if_pos h3, if_pos (show w / 100 < 10 by omega)]
  rw [if_neg h3, if_neg (show ¬ w / 100 < 10 by omega)]
  by_cases h4 : w < 10000
  · rw [if_pos h4, if_pos (show w / 100 < 100 by omega)]
  rw [if_neg h4, if_neg (show ¬ w / 100 < 100 by omega)]
  by_cases h5 : w < 100000
  · rw [if_pos h5, if_pos (show w / 100 < 1000 by omega)]
  rw [if_neg h5, if_neg (show ¬ w / 100 < 1000 by omega)]
  by_cases h6 : w < 1000000
  · rw [if_pos h6, if_pos (show w / 100 < 10000 by omega)]
  rw [if_neg h6, if_neg (show ¬ w / 100 < 10000 by omega)]
  by_cases h7 : w < 10000000
  · rw [if_pos h7, if_pos (show w / 100 < 100000 by omega)]
  rw [if_neg h7, if_neg (show ¬ w / 100 < 100000 by omega)]
  by_cases h8 : w < 100000000
  · rw [if_pos h8, if_pos (show w / 100 < 1000000 by omega)]
  rw [if_neg h8, if_neg (show ¬ w / 100 < 1000000 by omega)]
  by_cases h9 : w < 1000000000
  · rw [if_pos h9, if_pos (show w / 100 < 10000000 by omega)]
  rw [if_neg h9, if_neg (show ¬ w / 100 < 10000000 by omega)]
  rw [if_pos (show w / 100 < 100000000 by omega)]
theorem sb_negT {w : Nat} (h : w < 2 ^ 31) : (-nI w).toInt = -(w : Int) := by
  rw [Int32.toInt_neg, nI_toInt h]
  exact Int.bmod_eq_of_le (by omega) (by omega)
theorem sb_nle {a b : Nat} (ha : a < 2 ^ 31) (hb : b < 2 ^ 31) : -nI a ≤ -nI b ↔ b ≤ a := by
  rw [Int32.le_iff_toInt_le, sb_negT ha, sb_negT hb]
  omega
theorem sb_nlt {a b : Nat} (ha : a < 2 ^ 31) (hb : b < 2 ^ 31) : -nI a < -nI b ↔ b < a := by
  rw [Int32.lt_iff_toInt_lt, sb_negT ha, sb_negT hb]
  omega
theorem sb_cmp {A B : Prop} {x : Int32} (v c : Nat) (f : c ≤ v → A) (g : v < c → B) (hv : v < 2 ^ 31) (hx : x = -nI c := by rfl) (hc : c < 2 ^ 31 := by omega) : (-nI v ≤ x → A) ∧ (¬ -nI v ≤ x → B) := by
  subst hx
  rw [sb_nle hv hc]
  exact ⟨f, fun z => g (by omega)⟩
theorem sb_ndiv {w : Nat} (hw : w < 2 ^ 31) : (-nI w) / 100 = -nI (w / 100) := by
  apply Int32.toInt_inj.mp
  have h100 : (100 : Int32).toInt = 100 := by decide
  rw [Int32.toInt_div, sb_negT hw, h100, sb_negT (by omega), Int.neg_tdiv, Int.tdiv_eq_ediv_of_nonneg (by omega), Int.bmod_eq_of_le (by omega) (by omega)]
  omega
theorem sb_nrem {w : Nat} (hw : w < 2 ^ 31) : (-nI (w / 100)) * 100 - (-nI w) = nI (w % 100) := by
  have h := pk_rem (a := w) (d := 100) hw (by decide) (by decide)
  rw [pk_div hw (by decide) (by decide)] at h
  rw [← h]
  show (-nI (w / 100)) * nI 100 - (-nI w) = nI w - nI (w / 100) * nI 100
  rw [Int32.neg_mul, Int32.sub_neg, Int32.add_comm, ← Int32.sub_eq_add_neg]
end
section
/-! sums and counts over naturals, folds -/
def zs_s (f : Nat → Nat) : Nat → Nat
  | 0 => 0
  | k + 1 => zs_s f k + f k
theorem zs_congr {f g : Nat → Nat} : ∀ n, (∀ i, i < n → f i = g i) → zs_s f n = zs_s g n
  | 0, _ => rfl
  | n + 1, h => by
    show zs_s f n + f n = zs_s g n + g n
    rw [zs_congr n (fun i hi => h i (by omega)), h n (by omega)]
theorem zs_le {f g : Nat → Nat} : ∀ n, (∀ i, i < n → f i ≤ g i) → zs_s f n ≤ zs_s g n
  | 0, _ => Nat.le_refl _
  | n + 1, h => by
    have h1 := zs_le n (fun i hi => h i (by omega))
    have h2 := h n (by omega)
    show zs_s f n + f n ≤ zs_s g n + g n
    omega
theorem zs_add (f g : Nat → Nat) : ∀ n, zs_s (fun i => f i + g i) n = zs_s f n + zs_s g n
  | 0 => rfl
  | n + 1 => by
    have h := zs_add f g n
    show zs_s (fun i => f i + g i) n + (f n + g n) = (zs_s f n + f n) + (zs_s g n + g n)
    omega
theorem zs_mul (c : Nat) (f : Nat → Nat) : ∀ n, zs_s (fun i => c * f i) n = c * zs_s f n
  | 0 => rfl
  | n + 1 => by
    have h := zs_mul c f n
    show zs_s (fun i => c * f i) n + c * f n = c * (zs_s f n + f n)
    rw [h, Nat.mul_add]
theorem zs_zero {f : Nat → Nat} (n : Nat) (h : ∀ i, i < n → f i = 0) : zs_s f n = 0 := by
  induction n with
  | zero => rfl
  | succ n ih =>
    show zs_s f n + f n = 0
    rw [ih (fun i hi => h i (by omega)), h n (by omega)]
theorem zs_one {f g : Nat → Nat} {k : Nat} : ∀ {n : Nat}, k < n → (∀ i, i < n → i ≠ k → f i = g i) → zs_s g n + f k = zs_s f n + g k
  | 0, hk, _ => absurd hk (by omega)
  | n + 1, hk, h => by
    show zs_s g n + g n + f k = zs_s f n + f n + g k
    by_cases e : k = n
    · subst e
      rw [zs_congr k (fun i hi => h i (by omega) (by omega))]
      omega
    · have h1 := zs_one (n := n) (by omega) (fun i hi => h i (by omega))
      have h2 := h n (by omega) (by omega)
      omega
theorem zs_swap (f : Nat → Nat → Nat) (m : Nat) : ∀ n, zs_s (fun i => zs_s (fun j => f i j) m) n = zs_s (fun j => zs_s (fun i => f i j) n) m
  | 0 => (zs_zero m (fun _ _ => rfl)).symm
  | n + 1 => by
    have h := zs_swap f m n
    show zs_s (fun i => zs_s (fun j => f i j) m) n + zs_s (fun j => f n j) m = zs_s (fun j => zs_s (fun i => f i j) n + f n j) m
    rw [zs_add, h]
/-- a longer sum whose further terms are 0 -/
theorem zs_ext {f : Nat → Nat} {n : Nat} : ∀ m, n ≤ m → (∀ i, n ≤ i → i < m → f i = 0) → zs_s f m = zs_s f n
  | 0, h, _ => by
    have : n = 0 := by omega
    subst this; rfl
  | m + 1, h, h0 => by
    by_cases e : n = m + 1
    · subst e; rfl
    · show zs_s f m + f m = zs_s f n
      rw [zs_ext m (by omega) (fun i h1 h2 => h0 i h1 (by omega)), h0 m (by omega) (by omega)]
      omega
/-- a flat sum of a * b terms as a sum of sums -/
theorem zs_flat (f : Nat → Nat) (b : Nat) : ∀ a, zs_s f (a * b) = zs_s (fun i => zs_s (fun j => f (i * b + j)) b) a
  | 0 => by rw [Nat.zero_mul]; rfl
  | a + 1 => by
    have h := zs_flat f b a
    show zs_s f ((a + 1) * b) = zs_s (fun i => zs_s (fun j => f (i * b + j)) b) a + zs_s (fun j => f (a * b + j)) b
    rw [← h, Nat.add_mul, Nat.one_mul]
    have : ∀ c, zs_s f (a * b + c) = zs_s f (a * b) + zs_s (fun j => f (a * b + j)) c := by
      intro c
      induction c with
      | zero => rfl
      | succ c ih =>
        show zs_s f (a * b + c) + f (a * b + c) = zs_s f (a * b) + (zs_s (fun j => f (a * b + j)) c + f (a * b + c))
        omega
    exact this b
theorem zs_split (f : Nat → Nat) (a : Nat) : ∀ c, zs_s f (a + c) = zs_s f a + zs_s (fun j => f (a + j)) c
  | 0 => rfl
  | c + 1 => by
    have h := zs_split f a c
    show zs_s f (a + c) + f (a + c) = zs_s f a + (zs_s (fun j => f (a + j)) c + f (a + c))
    omega
/-- how many i below n have f i -/
def zc_n (f : Nat → Bool) (n : Nat) : Nat := zs_s (fun i => if f i = true then 1 else 0) n
theorem zc_succ (f : Nat → Bool) (n : Nat) : zc_n f (n + 1) = zc_n f n + (if f n = true then 1 else 0) := rfl
theorem zc_t {f : Nat → Bool} {n : Nat} (h : f n = true) : zc_n f (n + 1) = zc_n f n + 1 := by rw [zc_succ, if_pos h]
theorem zc_f {f : Nat → Bool} {n : Nat} (h : f n = false) : zc_n f (n + 1) = zc_n f n := by rw [zc_succ, h]; rfl
theorem zc_congr {f g : Nat → Bool} (n : Nat) (h : ∀ i, i < n → f i = g i) : zc_n f n = zc_n g n :=
  zs_congr n (fun i hi => by rw [h i hi])
theorem zc_up {f g : Nat → Bool} {k n : Nat} (hk : k < n) (hf : f k = false) (hg : g k = true) (h : ∀ i, i < n → i ≠ k → f i = g i) : zc_n g n = zc_n f n + 1 := by
  have e := zs_one (f := fun i => if f i = true then 1 else 0) (g := fun i => if g i = true then 1 else 0) hk (fun i hi hn => by show (if f i = true then 1 else 0) = (if g i = true then 1 else 0); rw [h i hi hn])
  skip
  rw [hf, hg, if_pos rfl, if_neg (by decide)] at e
  exact e
theorem zc_mono {f g : Nat → Bool} (n : Nat) (h : ∀ i, i < n → f i = true → g i = true) : zc_n f n ≤ zc_n g n :=
  zs_le n (fun i hi => by
    by_cases e : f i = true
    · rw [if_pos e, if_pos (h i hi e)]; exact Nat.le_refl _
    · rw [if_neg e]; exact Nat.zero_le _)
theorem zc_0 {f : Nat → Bool} (n : Nat) (h : ∀ i, i < n → f i = false) : zc_n f n = 0 :=
  zs_zero n (fun i hi => by rw [h i hi]; rfl)
theorem zc_len (f : Nat → Bool) (n : Nat) : zc_n f n ≤ n := by
  induction n with
  | zero => exact Nat.le_refl _
  | succ n ih => rw [zc_succ]; split <;> omega
theorem zc_lt {f g : Nat → Bool} {k n : Nat} (hk : k < n) (hf : f k = false) (hg : g k = true) (h : ∀ i, i < n → f i = true → g i = true) : zc_n f n < zc_n g n := by
  have e := zc_up (f := f) (g := fun i => if i = k then true else f i) hk hf (if_pos rfl) (fun i _ hn => (if_neg hn).symm)
  have m := zc_mono (f := fun i => if i = k then true else f i) (g := g) n (fun i hi z => by
    by_cases e : i = k
    · rw [e]; exact hg
    · rw [if_neg e] at z; exact h i hi z)
  omega
theorem zc_all {f g : Nat → Bool} {n : Nat} (h : ∀ i, i < n → f i = true → g i = true) (e : zc_n f n = zc_n g n) : ∀ i, i < n → g i = true → f i = true := by
  intro i hi hg
  cases hf : f i with
  | true => rfl
  | false => have := zc_lt hi hf hg h; omega
theorem zc_pos {f : Nat → Bool} {k n : Nat} (hk : k < n) (h : f k = true) : 0 < zc_n f n := by
  have e := zc_lt (f := fun _ => false) hk rfl h (fun _ _ z => absurd z (by decide))
  omega
theorem zc_ex {f g : Nat → Bool} {n : Nat} (h : zc_n f n < zc_n g n) : ∃ i, i < n ∧ g i = true ∧ f i = false := by
  refine Classical.byContradiction fun z => ?_
  have m := zc_mono (f := g) (g := f) n (fun i hi hg => by
    cases hf : f i with
    | true => rfl
    | false => exact absurd ⟨i, hi, hg, hf⟩ z)
  omega
/-- n different numbers below N: at most N of them -/
theorem zc_nodup : ∀ (N : Nat) (l : List Nat), l.Nodup → (∀ x, x ∈ l → x < N) → l.length ≤ N
  | 0, l, _, h => by
    cases l with
    | nil => exact Nat.le_refl _
    | cons a l => exact absurd (h a (List.mem_cons_self ..)) (by omega)
  | N + 1, l, hn, h => by
    have hd : (l.erase N).Nodup := hn.erase N
    have hb : ∀ x, x ∈ l.erase N → x < N := by
      intro x hx
      have h1 := h x (List.mem_of_mem_erase hx)
      have h2 : x ≠ N := ((List.Nodup.mem_erase_iff hn).mp hx).1
      omega
    have e := zc_nodup N _ hd hb
    by_cases m : N ∈ l
    · have := List.length_erase_of_mem m; omega
    · rw [List.erase_of_not_mem m] at e; omega
/-! the fold of a round's states by kind -/
def zf_op (kd a b : Int32) : Int32 := if kd = 0 then (if b ≤ a then a else b) else if kd = 1 ∨ kd = 4 then (if a ≤ b then a else b) else if kd = 3 then a ^^^ b else a + b
def zf_in (kd : Int32) : Int32 := if kd = 0 then -2147483648 else if kd = 1 ∨ kd = 4 then 2147483647 else 0
def zf_f (kd : Int32) (S : Nat → Bool) (h : Nat → Int32) : Nat → Int32
  | 0 => zf_in kd
  | k + 1 => if S k = true then zf_op kd (zf_f kd S h k) (h k) else zf_f kd S h k
theorem zf_rc (kd a b c : Int32) : zf_op kd (zf_op kd a b) c = zf_op kd (zf_op kd a c) b := by
  unfold zf_op
  by_cases h0 : kd = 0
  · simp only [if_pos h0]
    apply Int32.toInt_inj.mp
    simp only [Int32.le_iff_toInt_le]
    repeat' split
    all_goals omega
  · simp only [if_neg h0]
    by_cases h1 : kd = 1 ∨ kd = 4
    · simp only [if_pos h1]
      apply Int32.toInt_inj.mp
      simp only [Int32.le_iff_toInt_le]
      repeat' split
      all_goals omega
    · simp only [if_neg h1]
      by_cases h3 : kd = 3
      · simp only [if_pos h3]
        rw [Int32.xor_assoc, Int32.xor_comm b c, ← Int32.xor_assoc]
      · simp only [if_neg h3]
        rw [Int32.add_assoc, Int32.add_comm b c, ← Int32.add_assoc]
theorem zf_congr {kd : Int32} {S S' : Nat → Bool} {h h' : Nat → Int32} : ∀ n, (∀ i, i < n → S i = S' i) → (∀ i, i < n → S i = true → h i = h' i) → zf_f kd S h n = zf_f kd S' h' n
  | 0, _, _ => rfl
  | n + 1, e, e' => by
    have ih := zf_congr (kd := kd) n (fun i hi => e i (by omega)) (fun i hi => e' i (by omega))
    show (if S n = true then zf_op kd (zf_f kd S h n) (h n) else zf_f kd S h n) = (if S' n = true then zf_op kd (zf_f kd S' h' n) (h' n) else zf_f kd S' h' n)
    rw [ih, ← e n (by omega)]
    by_cases z : S n = true
    · rw [if_pos z, if_pos z, e' n (by omega) z]
    · rw [if_neg z, if_neg z]
theorem zf_up {kd : Int32} {S S' : Nat → Bool} {h : Nat → Int32} {k : Nat} : ∀ {n : Nat}, k < n → S k = false → S' k = true → (∀ i, i < n → i ≠ k → S i = S' i) → zf_f kd S' h n = zf_op kd (zf_f kd S h n) (h k)
  | 0, hk, _, _, _ => absurd hk (by omega)
  | n + 1, hk, hf, hg, e => by
    show (if S' n = true then zf_op kd (zf_f kd S' h n) (h n) else zf_f kd S' h n) = zf_op kd (if S n = true then zf_op kd (zf_f kd S h n) (h n) else zf_f kd S h n) (h k)
    by_cases z : k = n
    · subst z
      rw [if_pos hg, if_neg (by rw [hf]; decide), zf_congr (S := S') (S' := S) k (fun i hi => (e i (by omega) (by omega)).symm) (fun _ _ _ => rfl)]
    · have ih := zf_up (kd := kd) (h := h) (n := n) (by omega) hf hg (fun i hi => e i (by omega))
      rw [ih, ← e n (by omega) (by omega)]
      by_cases y : S n = true
      · rw [if_pos y, if_pos y, zf_rc]
      · rw [if_neg y, if_neg y]
theorem zf_none {kd : Int32} {S : Nat → Bool} {h : Nat → Int32} : ∀ n, (∀ i, i < n → S i = false) → zf_f kd S h n = zf_in kd
  | 0, _ => rfl
  | n + 1, e => by
    show (if S n = true then zf_op kd (zf_f kd S h n) (h n) else zf_f kd S h n) = zf_in kd
    rw [e n (by omega), if_neg (by decide), zf_none n (fun i hi => e i (by omega))]
/-- a node's next state out of its own and the fold -/
def zf_md (kd own all : Int32) (has : Bool) : Int32 :=
  if kd = 2 then own + all else if kd = 3 then own ^^^ all else if kd = 5 then 3 * own - all else
  if has = false then own else if kd = 0 then (if all ≤ own then own else all) else
  if kd = 4 then (if own ≤ all + 1 then own else all + 1) else (if own ≤ all then own else all)
/-- the states: after round r of node v -/
def zf_H (n : Nat) (kd : Int32) (J : Nat → Nat → Bool) (st : Nat → Int32) : Nat → Nat → Int32
  | 0 => st
  | r + 1 => fun v => zf_md kd (zf_H n kd J st r v) (zf_f kd (J v) (zf_H n kd J st r) n) (decide (zc_n (J v) n ≠ 0))
end
section
/-! parts of a graph: being connected, the least node, labels that sink, parents that grow -/
def zk_c (J : Nat → Nat → Bool) (u v : Nat) : Prop := ∀ S : Nat → Prop, (∀ a b, J a b = true → S a → S b) → S u → S v
theorem zk_refl {J : Nat → Nat → Bool} (u : Nat) : zk_c J u u := fun _ _ h => h
theorem zk_trans {J : Nat → Nat → Bool} {u v w : Nat} (h : zk_c J u v) (g : zk_c J v w) : zk_c J u w := fun S c s => g S c (h S c s)
theorem zk_step {J : Nat → Nat → Bool} {u v : Nat} (h : J u v = true) : zk_c J u v := fun _ c s => c u v h s
theorem zk_sym {J : Nat → Nat → Bool} (sy : ∀ a b, J a b = true → J b a = true) {u v : Nat} (h : zk_c J u v) : zk_c J v u :=
  h (fun x => zk_c J x u) (fun a b j c => zk_trans (zk_step (sy a b j)) c) (zk_refl u)
/-- the least node of the part of v -/
noncomputable def zk_m (J : Nat → Nat → Bool) (v : Nat) : Nat := Classical.choose (pk_least (fun w => zk_c J w v) ⟨v, zk_refl v⟩)
theorem zk_mc (J : Nat → Nat → Bool) (v : Nat) : zk_c J (zk_m J v) v := (Classical.choose_spec (pk_least (fun w => zk_c J w v) ⟨v, zk_refl v⟩)).1
theorem zk_ml {J : Nat → Nat → Bool} {v w : Nat} (h : zk_c J w v) : zk_m J v ≤ w := by
  refine Classical.byContradiction fun z => ?_
  exact (Classical.choose_spec (pk_least (fun w => zk_c J w v) ⟨v, zk_refl v⟩)).2 w (Nat.lt_of_not_le z) h
theorem zk_mle (J : Nat → Nat → Bool) (v : Nat) : zk_m J v ≤ v := zk_ml (zk_refl v)
theorem zk_meq {J : Nat → Nat → Bool} (sy : ∀ a b, J a b = true → J b a = true) {u v : Nat} (h : zk_c J u v) : zk_m J u = zk_m J v :=
  Nat.le_antisymm (zk_ml (zk_trans (zk_mc J v) (zk_sym sy h))) (zk_ml (zk_trans (zk_mc J u) h))
theorem zk_mj {J : Nat → Nat → Bool} (sy : ∀ a b, J a b = true → J b a = true) {u v : Nat} (h : J u v = true) : zk_m J u = zk_m J v := zk_meq sy (zk_step h)
theorem zk_mm {J : Nat → Nat → Bool} (sy : ∀ a b, J a b = true → J b a = true) (v : Nat) : zk_m J (zk_m J v) = zk_m J v := zk_meq sy (zk_mc J v)
/-- a function on naturals, changed at one place -/
def zu_p (f : Nat → Nat) (k x : Nat) : Nat → Nat := fun j => if j = k then x else f j
theorem zu_s {f : Nat → Nat} {k x : Nat} : zu_p f k x k = x := if_pos rfl
theorem zu_n {f : Nat → Nat} {k x j : Nat} (h : j ≠ k) : zu_p f k x j = f j := if_neg h
theorem zu_I {f : Nat → Nat} {a : Nat → Int32} {N : Nat} (h : ∀ i, i < N → a i = nI (f i)) (k x : Nat) : ∀ i, i < N → upd a k (nI x) i = nI (zu_p f k x i) := by
  intro i hi
  by_cases e : i = k
  · subst e; rw [pk_us, zu_s]
  · rw [pk_un e, zu_n e]; exact h i hi
/-- labels: connected to their node, not above it -/
def zk_L (n : Nat) (J : Nat → Nat → Bool) (lb : Nat → Nat) : Prop := ∀ v, v < n → zk_c J (lb v) v ∧ lb v ≤ v
def zk_s (J : Nat → Nat → Bool) (lb : Nat → Nat) (u v : Nat) : Nat → Nat := if J u v = true ∧ lb u < lb v then zu_p lb v (lb u) else lb
theorem zk_low {n : Nat} {J : Nat → Nat → Bool} {lb : Nat → Nat} (L : zk_L n J lb) {v : Nat} (hv : v < n) : zk_m J v ≤ lb v := zk_ml (L v hv).1
theorem zk_edge {n : Nat} {J : Nat → Nat → Bool} (sy : ∀ a b, J a b = true → J b a = true) {lb : Nat → Nat} (L : zk_L n J lb) {v : Nat} (hv : v < n) (hw : lb v ≠ zk_m J v) : ∃ a b, J a b = true ∧ lb a = zk_m J a ∧ lb b ≠ zk_m J b := by
  refine Classical.byContradiction fun z => hw ?_
  refine zk_mc J v (fun x => lb x = zk_m J x) (fun a b j h => ?_) ?_
  · refine Classical.byContradiction fun y => z ⟨a, b, j, h, y⟩
  · have h1 : zk_m J v < n := Nat.lt_of_le_of_lt (zk_mle J v) hv
    have h2 := zk_low L h1
    have h3 := (L _ h1).2
    have h4 := zk_mm sy v
    show lb (zk_m J v) = zk_m J (zk_m J v)
    omega
def zk_I (n : Nat) (J : Nat → Nat → Bool) (l0 : Nat → Nat) (Pr : Nat → Nat → Prop) (lb : Nat → Nat) : Prop :=
  zk_L n J lb ∧ (∀ x, x < n → lb x ≤ l0 x) ∧ ∀ a b, Pr a b → J a b = true → l0 a = zk_m J a → lb b = zk_m J b
theorem zk_I0 {n : Nat} {J : Nat → Nat → Bool} {lb : Nat → Nat} (L : zk_L n J lb) {Pr : Nat → Nat → Prop} (h : ∀ a b, a < n → b < n → ¬ Pr a b) (hJ : ∀ a b, J a b = true → a < n ∧ b < n) : zk_I n J lb Pr lb :=
  ⟨L, fun _ _ => Nat.le_refl _, fun a b p j _ => absurd p (h a b (hJ a b j).1 (hJ a b j).2)⟩
theorem zk_I1 {n : Nat} {J : Nat → Nat → Bool} (sy : ∀ a b, J a b = true → J b a = true) (hJ : ∀ a b, J a b = true → a < n ∧ b < n) {l0 lb : Nat → Nat} {Pr Pr' : Nat → Nat → Prop} (I : zk_I n J l0 Pr lb) {u v : Nat} (hu : u < n) (hv : v < n) (hP : ∀ a b, Pr' a b → Pr a b ∨ (a = u ∧ b = v)) : zk_I n J l0 Pr' (zk_s J lb u v) := by
  obtain ⟨L, hle, hr⟩ := I
  unfold zk_s
  by_cases c : J u v = true ∧ lb u < lb v
  · rw [if_pos c]
    have hc : zk_c J (lb u) v := zk_trans (L u hu).1 (zk_step c.1)
    have hm : zk_m J v ≤ lb u := zk_ml hc
    refine ⟨fun x hx => ?_, fun x hx => ?_, fun a b p j h => ?_⟩
    · by_cases e : x = v
      · subst e; rw [zu_s]; exact ⟨hc, by have := (L x hv).2; omega⟩
      · rw [zu_n e]; exact L x hx
    · by_cases e : x = v
      · subst e; rw [zu_s]; have := hle x hx; omega
      · rw [zu_n e]; exact hle x hx
    · have key : b = v → zu_p lb v (lb u) b = zk_m J b := by
        intro e
        subst e
        rw [zu_s]
        rcases hP a b p with q | ⟨q, _⟩
        · have := hr a b q j h; omega
        · subst q
          have h1 := hle a hu
          have h2 := zk_low L hu
          have h3 := zk_mj sy j
          omega
      by_cases e : b = v
      · exact key e
      · rw [zu_n e]
        rcases hP a b p with q | ⟨_, q⟩
        · exact hr a b q j h
        · exact absurd q e
  · rw [if_neg c]
    refine ⟨L, hle, fun a b p j h => ?_⟩
    rcases hP a b p with q | ⟨q, q'⟩
    · exact hr a b q j h
    · subst q q'
      have h0 : ¬ lb a < lb b := fun z => c ⟨j, z⟩
      have h1 := hle a hu
      have h2 := zk_low L hu
      have h3 := zk_mj sy j
      have h4 := zk_low L hv
      omega
/-- wrong labels -/
noncomputable def zk_w (J : Nat → Nat → Bool) (lb : Nat → Nat) (v : Nat) : Bool := decide (lb v ≠ zk_m J v)
theorem zk_turn {n : Nat} {J : Nat → Nat → Bool} (sy : ∀ a b, J a b = true → J b a = true) (hJ : ∀ a b, J a b = true → a < n ∧ b < n) {l0 lb : Nat → Nat} {Pr : Nat → Nat → Prop} (L0 : zk_L n J l0) (hP : ∀ a b, a < n → b < n → Pr a b) (I : zk_I n J l0 Pr lb) :
    zc_n (zk_w J lb) n = 0 ∨ zc_n (zk_w J lb) n < zc_n (zk_w J l0) n := by
  obtain ⟨L, hle, hr⟩ := I
  have hm : ∀ i, i < n → zk_w J lb i = true → zk_w J l0 i = true := by
    intro i hi h
    have h1 := of_decide_eq_true h
    refine decide_eq_true fun z => h1 ?_
    have h2 := hle i hi
    have h3 := zk_low L hi
    omega
  by_cases e : ∃ v, v < n ∧ l0 v ≠ zk_m J v
  · obtain ⟨v, hv, hw⟩ := e
    obtain ⟨a, b, j, ha, hb⟩ := zk_edge sy L0 hv hw
    have h := hr a b (hP a b (hJ a b j).1 (hJ a b j).2) j ha
    exact Or.inr (zc_lt (hJ a b j).2 (decide_eq_false (fun z => z h)) (decide_eq_true hb) hm)
  · refine Or.inl (zc_0 n fun i hi => ?_)
    cases hz : zk_w J lb i with
    | false => rfl
    | true => exact absurd ⟨i, hi, of_decide_eq_true (hm i hi hz)⟩ e
theorem zk_right {n : Nat} {J : Nat → Nat → Bool} {lb : Nat → Nat} (h : zc_n (zk_w J lb) n = 0) : ∀ v, v < n → lb v = zk_m J v := by
  intro v hv
  refine Classical.byContradiction fun z => ?_
  have := zc_pos (f := zk_w J lb) hv (decide_eq_true z)
  omega
/-! parents -/
def zk_R (J : Nat → Nat → Bool) (n : Nat) (pr : Nat → Nat) (v : Nat) : Prop := zk_m J v = v ∨ pr v < n
def zk_T (n : Nat) (J : Nat → Nat → Bool) (pr : Nat → Nat) : Prop :=
  (∀ v, v < n → pr v = 8 ∨ (pr v < n ∧ J (pr v) v = true ∧ zk_m J v ≠ v ∧ zk_R J n pr (pr v))) ∧ ∃ rk : Nat → Nat, ∀ v, v < n → pr v < n → rk (pr v) < rk v
def zk_K (n : Nat) (J : Nat → Nat → Bool) (p0 : Nat → Nat) (Pr : Nat → Nat → Prop) (pr : Nat → Nat) : Prop :=
  zk_T n J pr ∧ (∀ x, x < n → zk_R J n p0 x → zk_R J n pr x) ∧ ∀ a b, Pr a b → J a b = true → zk_R J n p0 a → zk_R J n pr b
theorem zk_K0 {n : Nat} {J : Nat → Nat → Bool} {pr : Nat → Nat} (L : zk_T n J pr) {Pr : Nat → Nat → Prop} (h : ∀ a b, a < n → b < n → ¬ Pr a b) (hJ : ∀ a b, J a b = true → a < n ∧ b < n) : zk_K n J pr Pr pr :=
  ⟨L, fun _ _ h => h, fun a b p j _ => absurd p (h a b (hJ a b j).1 (hJ a b j).2)⟩
/-- the step that gives v the parent u -/
theorem zk_K1 {n : Nat} {J : Nat → Nat → Bool} (hn : n ≤ 8) {p0 pr : Nat → Nat} {Pr Pr' : Nat → Nat → Prop} (I : zk_K n J p0 Pr pr) {u v : Nat} (hu : u < n) (hv : v < n) (hP : ∀ a b, Pr' a b → Pr a b ∨ (a = u ∧ b = v))
    (j : J u v = true) (ru : zk_R J n pr u) (mv : zk_m J v ≠ v) (pv : pr v = 8) : zk_K n J p0 Pr' (zu_p pr v u) := by
  obtain ⟨⟨T, rk, hrk⟩, hm, hr⟩ := I
  have nr : ¬ zk_R J n pr v := fun z => by rcases z with z | z; exact mv z; omega
  have huv : u ≠ v := fun e => nr (e ▸ ru)
  have np : ∀ x, x < n → pr x ≠ v := by
    intro x hx e
    rcases T x hx with h | ⟨_, _, _, h⟩
    · omega
    · rw [e] at h; exact nr h
  have mo : ∀ x, zk_R J n pr x → zk_R J n (zu_p pr v u) x := by
    intro x h
    by_cases e : x = v
    · subst e; exact Or.inr (by rw [zu_s]; exact hu)
    · rcases h with h | h
      · exact Or.inl h
      · exact Or.inr (by rw [zu_n e]; exact h)
  have rv : zk_R J n (zu_p pr v u) v := Or.inr (by rw [zu_s]; exact hu)
  refine ⟨⟨fun x hx => ?_, zu_p rk v (rk u + 1), fun x hx hp => ?_⟩, fun x hx h => mo x (hm x hx h), fun a b p j' h => ?_⟩
  · by_cases e : x = v
    · subst e; rw [zu_s]; exact Or.inr ⟨hu, j, mv, mo u ru⟩
    · rw [zu_n e]
      rcases T x hx with h | ⟨h1, h2, h3, h4⟩
      · exact Or.inl h
      · exact Or.inr ⟨h1, h2, h3, mo _ h4⟩
  · by_cases e : x = v
    · subst e
      rw [zu_s, zu_s, zu_n huv]; omega
    · rw [zu_n e] at hp ⊢
      rw [zu_n (np x hx), zu_n e]
      exact hrk x hx hp
  · rcases hP a b p with q | ⟨_, q⟩
    · exact mo b (hr a b q j' h)
    · subst q; exact rv
/-- a step that changes nothing: v is rooted already, or u isn't, or there is no edge -/
theorem zk_K2 {n : Nat} {J : Nat → Nat → Bool} {p0 pr : Nat → Nat} {Pr Pr' : Nat → Nat → Prop} (I : zk_K n J p0 Pr pr) {u v : Nat} (hu : u < n) (hP : ∀ a b, Pr' a b → Pr a b ∨ (a = u ∧ b = v))
    (h : J u v = false ∨ ¬ zk_R J n pr u ∨ zk_R J n pr v) : zk_K n J p0 Pr' pr := by
  obtain ⟨T, hm, hr⟩ := I
  refine ⟨T, hm, fun a b p j' g => ?_⟩
  rcases hP a b p with q | ⟨q, q'⟩
  · exact hr a b q j' g
  · subst q q'
    rcases h with h | h | h
    · rw [j'] at h; exact absurd h (by decide)
    · exact absurd (hm a hu g) h
    · exact h
noncomputable def zk_u (J : Nat → Nat → Bool) (n : Nat) (pr : Nat → Nat) (v : Nat) : Bool := decide (¬ (zk_m J v = v ∨ pr v < n))
theorem zk_Kturn {n : Nat} {J : Nat → Nat → Bool} (sy : ∀ a b, J a b = true → J b a = true) (hJ : ∀ a b, J a b = true → a < n ∧ b < n) {p0 pr : Nat → Nat} {Pr : Nat → Nat → Prop} (hP : ∀ a b, a < n → b < n → Pr a b) (I : zk_K n J p0 Pr pr) :
    zc_n (zk_u J n pr) n = 0 ∨ zc_n (zk_u J n pr) n < zc_n (zk_u J n p0) n := by
  obtain ⟨T, hmo, hr⟩ := I
  have hm : ∀ i, i < n → zk_u J n pr i = true → zk_u J n p0 i = true := by
    intro i hi h
    have h1 := of_decide_eq_true h
    exact decide_eq_true fun z => h1 (hmo i hi z)
  by_cases e : ∃ v, v < n ∧ ¬ zk_R J n p0 v
  · obtain ⟨v, hv, hw⟩ := e
    have : ∃ a b, J a b = true ∧ zk_R J n p0 a ∧ ¬ zk_R J n p0 b := by
      refine Classical.byContradiction fun z => hw ?_
      refine zk_mc J v (fun x => zk_R J n p0 x) (fun a b j h => ?_) (Or.inl (zk_mm sy v))
      exact Classical.byContradiction fun y => z ⟨a, b, j, h, y⟩
    obtain ⟨a, b, j, ha, hb⟩ := this
    have h := hr a b (hP a b (hJ a b j).1 (hJ a b j).2) j ha
    exact Or.inr (zc_lt (hJ a b j).2 (decide_eq_false (fun z => z h)) (decide_eq_true hb) hm)
  · refine Or.inl (zc_0 n fun i hi => ?_)
    cases hz : zk_u J n pr i with
    | false => rfl
    | true => exact absurd ⟨i, hi, (of_decide_eq_true (hm i hi hz) : ¬ (zk_m J i = i ∨ p0 i < n))⟩ e
theorem zk_rooted {n : Nat} {J : Nat → Nat → Bool} {pr : Nat → Nat} (h : zc_n (zk_u J n pr) n = 0) : ∀ v, v < n → zk_R J n pr v := by
  intro v hv
  refine Classical.byContradiction fun z => ?_
  have := zc_pos (f := zk_u J n pr) hv (decide_eq_true z)
  omega
/-- what a whole spanning forest gives -/
def zk_F (n : Nat) (J : Nat → Nat → Bool) (pr : Nat → Nat) : Prop :=
  (∀ v, v < n → (pr v = 8 ∧ zk_m J v = v) ∨ (pr v < n ∧ J (pr v) v = true ∧ zk_m J v ≠ v)) ∧ ∃ rk : Nat → Nat, ∀ v, v < n → pr v < n → rk (pr v) < rk v
theorem zk_forest {n : Nat} {J : Nat → Nat → Bool} {pr : Nat → Nat} (hn : n ≤ 8) (T : zk_T n J pr) (h : ∀ v, v < n → zk_R J n pr v) : zk_F n J pr := by
  refine ⟨fun v hv => ?_, T.2⟩
  rcases T.1 v hv with e | ⟨h1, h2, h3, _⟩
  · rcases h v hv with g | g
    · exact Or.inl ⟨e, g⟩
    · omega
  · exact Or.inr ⟨h1, h2, h3⟩
end
section
/-! the rounds as a system of phases and messages. ph v = 3 * round + (0, 1 safe, 2 reported); M sort from to round: 0 not sent, 1 on its way, 2 delivered -/
abbrev zg_M := Nat → Nat → Nat → Nat → Nat
def zg_U (M : zg_M) (s u v r c : Nat) : zg_M := fun s' u' v' r' => if s' = s ∧ u' = u ∧ v' = v ∧ r' = r then c else M s' u' v' r'
def zg_V (M : zg_M) (s u : Nat) (F : Nat → Bool) (r : Nat) : zg_M := fun s' u' v' r' => if s' = s ∧ u' = u ∧ r' = r ∧ F v' = true then 1 else M s' u' v' r'
theorem zg_V0 {M : zg_M} {s u r : Nat} {F : Nat → Bool} (h : ∀ v, F v = false) : zg_V M s u F r = M := by
  funext s' u' v' r'
  unfold zg_V
  rw [if_neg]
  intro z
  rw [h] at z
  exact absurd z.2.2.2 (by decide)
def zg_E (n : Nat) (J : Nat → Nat → Bool) (pr : Nat → Nat) : Prop :=
  n ≤ 8 ∧ (∀ a b, J a b = true → J b a = true) ∧ (∀ a, J a a = false) ∧ (∀ a b, J a b = true → a < n ∧ b < n) ∧ zk_F n J pr
def zg_G (n : Nat) (al : Bool) (J : Nat → Nat → Bool) (pr ph : Nat → Nat) (M : zg_M) : Prop :=
  (∀ u v r, M 0 u v r ≠ 0 ↔ (J u v = true ∧ r < 10 ∧ 3 * r ≤ ph u)) ∧
  (∀ u v r, M 1 v u r ≠ 0 ↔ M 0 u v r = 2) ∧
  (∀ u v r, M 2 u v r ≠ 0 ↔ (al = true ∧ J u v = true ∧ r < 10 ∧ 3 * r + 1 ≤ ph u)) ∧
  (∀ u v r, M 3 u v r ≠ 0 ↔ (al = false ∧ u < n ∧ v < n ∧ pr u = v ∧ r < 10 ∧ 3 * r + 2 ≤ ph u)) ∧
  (∀ u v r, M 4 v u r ≠ 0 ↔ (al = false ∧ u < n ∧ v < n ∧ pr u = v ∧ r < 10 ∧ 3 * r + 3 ≤ ph v)) ∧
  (∀ s u v r, M s u v r ≤ 2 ∧ (5 ≤ s → M s u v r = 0)) ∧
  (∀ u, u < n → ph u ≤ 30) ∧
  (∀ u v r, J u v = true → r < 10 → 3 * r + 1 ≤ ph u → M 1 v u r = 2) ∧
  (al = true → ∀ u v r, J u v = true → r < 10 → 3 * r + 3 ≤ ph v → M 2 u v r = 2) ∧
  (al = false → ∀ u v r, u < n → v < n → pr u = v → r < 10 → 3 * r + 2 ≤ ph v → M 3 u v r = 2) ∧
  (al = false → ∀ u v r, u < n → v < n → pr u = v → r < 10 → 3 * r + 3 ≤ ph u → M 4 v u r = 2)
/-- node x waits for something that isn't there yet -/
def zg_O (n : Nat) (al : Bool) (J : Nat → Nat → Bool) (pr ph : Nat → Nat) (M : zg_M) (x : Nat) : Prop :=
  (∀ r, r < 10 → ph x = 3 * r → ∃ v, J x v = true ∧ M 1 v x r ≠ 2) ∧
  (∀ r, r < 10 → ph x = 3 * r + 1 → al = true → ∃ u, J u x = true ∧ M 2 u x r ≠ 2) ∧
  (∀ r, r < 10 → ph x = 3 * r + 1 → al = false → ∃ u, u < n ∧ pr u = x ∧ M 3 u x r ≠ 2) ∧
  (∀ r, r < 10 → ph x = 3 * r + 2 → al = false ∧ pr x < n ∧ M 4 (pr x) x r ≠ 2)
section
variable {n : Nat} {al : Bool} {J : Nat → Nat → Bool} {pr ph : Nat → Nat} {M : zg_M}
theorem zg_upw (E : zg_E n J pr) (G : zg_G n al J pr ph M) (hal : al = false) {r : Nat} (hr : r < 10) : ∀ k u, u < n → (∀ rk : Nat → Nat, (∀ v, v < n → pr v < n → rk (pr v) < rk v) → rk u < k → 3 * r + 3 ≤ ph u → 3 * r + 3 ≤ ph (zk_m J u)) := by
  obtain ⟨_, sy, _, hJ, F, _⟩ := E
  obtain ⟨_, _, _, _, g5, _, _, _, _, _, g11⟩ := G
  intro k
  induction k with
  | zero => intro u hu rk _ h; omega
  | succ k ih =>
    intro u hu rk hrk hk h
    rcases F u hu with ⟨_, e⟩ | ⟨hp, j, _⟩
    · rw [e]; exact h
    · have h1 := g11 hal u (pr u) r hu hp rfl hr h
      have h2 := ((g5 u (pr u) r).mp (by omega)).2.2.2.2.2
      have h3 := ih (pr u) hp rk hrk (by have := hrk u hu hp; omega) h2
      rw [zk_mj sy j] at h3
      exact h3
theorem zg_dnw (E : zg_E n J pr) (G : zg_G n al J pr ph M) (hal : al = false) {r : Nat} (hr : r < 10) : ∀ k u, u < n → (∀ rk : Nat → Nat, (∀ v, v < n → pr v < n → rk (pr v) < rk v) → rk u < k → 3 * r + 2 ≤ ph (zk_m J u) → 3 * r + 2 ≤ ph u) := by
  obtain ⟨_, sy, _, hJ, F, _⟩ := E
  obtain ⟨_, _, _, g4, _, _, _, _, _, g10, _⟩ := G
  intro k
  induction k with
  | zero => intro u hu rk _ h; omega
  | succ k ih =>
    intro u hu rk hrk hk h
    rcases F u hu with ⟨_, e⟩ | ⟨hp, j, _⟩
    · rw [e] at h; exact h
    · have h3 := ih (pr u) hp rk hrk (by have := hrk u hu hp; omega) (by rw [zk_mj sy j]; exact h)
      have h1 := g10 hal u (pr u) r hu hp rfl hr h3
      exact ((g4 u (pr u) r).mp (by omega)).2.2.2.2.2
/-- a neighbour of one that has passed round r is safe in round r -/
theorem zg_N (E : zg_E n J pr) (G : zg_G n al J pr ph M) {u v r : Nat} (j : J u v = true) (hr : r < 10) (h : 3 * r + 3 ≤ ph u) : 3 * r + 1 ≤ ph v := by
  cases hal : al with
  | true =>
    obtain ⟨_, sy, _, hJ, _⟩ := E
    obtain ⟨_, _, g3, _, _, _, _, _, g9, _⟩ := G
    have h1 := g9 hal v u r (sy _ _ j) hr h
    exact ((g3 v u r).mp (by omega)).2.2.2
  | false =>
    have E' := E
    obtain ⟨_, sy, _, hJ, F, rk, hrk⟩ := E'
    have h1 := zg_upw E G hal hr _ u (hJ _ _ j).1 rk hrk (Nat.lt_succ_self _) h
    have h2 := zg_dnw E G hal hr _ v (hJ _ _ j).2 rk hrk (Nat.lt_succ_self _) (by rw [← zk_mj sy j]; omega)
    omega
/-- messages on their way have different codes -/
def zg_code (s u v r : Nat) : Nat := (if s = 0 then 0 else if s = 1 then 64 else if s = 2 then 128 + 64 * (r % 2) else if s = 3 then 128 else 192) + (8 * u + v)
def zg_C (M : zg_M) : Prop := ∀ s u v r s' u' v' r', M s u v r = 1 → M s' u' v' r' = 1 → zg_code s u v r = zg_code s' u' v' r' → s = s' ∧ u = u' ∧ v = v' ∧ r = r'
theorem zg_Cm {M' : zg_M} (C : zg_C M') (h : ∀ s u v r, M s u v r = 1 → M' s u v r = 1) : zg_C M :=
  fun s u v r s' u' v' r' a b e => C s u v r s' u' v' r' (h _ _ _ _ a) (h _ _ _ _ b) e
/-- the range of a message that was sent -/
theorem zg_rng (E : zg_E n J pr) (G : zg_G n al J pr ph M) {s u v r : Nat} (h : M s u v r ≠ 0) : s < 5 ∧ u < n ∧ v < n ∧ r < 10 := by
  obtain ⟨h8, sy, _, hJ, _⟩ := E
  obtain ⟨g1, g2, g3, g4, g5, g6, _⟩ := G
  by_cases h5 : 5 ≤ s
  · exact absurd ((g6 s u v r).2 h5) h
  have hs : s = 0 ∨ s = 1 ∨ s = 2 ∨ s = 3 ∨ s = 4 := by omega
  rcases hs with rfl | rfl | rfl | rfl | rfl
  · have := (g1 u v r).mp h; have := hJ _ _ this.1; omega
  · have h2 := (g2 v u r).mp h
    have := (g1 v u r).mp (by omega); have := hJ _ _ this.1; omega
  · have := (g3 u v r).mp h; have := hJ _ _ this.2.1; omega
  · have := (g4 u v r).mp h; omega
  · have := (g5 v u r).mp h; omega
theorem zg_cap (E : zg_E n J pr) (G : zg_G n al J pr ph M) : zg_C M := by
  have N := fun u v r j hr h => zg_N E G (u := u) (v := v) (r := r) j hr h
  intro s u v r s' u' v' r' a b e
  have ra := zg_rng E G (s := s) (u := u) (v := v) (r := r) (by omega)
  have rb := zg_rng E G (s := s') (u := u') (v := v') (r := r') (by omega)
  have h8 : n ≤ 8 := E.1
  obtain ⟨g1, g2, g3, g4, g5, g6, g7, g8, g9, g10, g11⟩ := G
  have hs : s = 0 ∨ s = 1 ∨ s = 2 ∨ s = 3 ∨ s = 4 := by omega
  have hs' : s' = 0 ∨ s' = 1 ∨ s' = 2 ∨ s' = 3 ∨ s' = 4 := by omega
  have al2 : ∀ u v r, M 2 u v r = 1 → al = true := fun u v r h => ((g3 u v r).mp (by omega)).1
  have al3 : ∀ u v r, M 3 u v r = 1 → al = false := fun u v r h => ((g4 u v r).mp (by omega)).1
  have al4 : ∀ u v r, M 4 u v r = 1 → al = false := fun u v r h => ((g5 v u r).mp (by omega)).1
  have k0 : ∀ u v r, M 0 u v r = 1 → ph u = 3 * r := by
    intro u v r h
    have h1 := (g1 u v r).mp (by omega)
    have h2 : ¬ M 1 v u r ≠ 0 := fun z => by have := (g2 u v r).mp z; omega
    have h3 : ¬ 3 * r + 1 ≤ ph u := fun z => by have := g8 u v r h1.1 h1.2.1 z; omega
    omega
  have k1 : ∀ u v r, M 1 u v r = 1 → ph v = 3 * r := by
    intro u v r h
    have h0 := (g2 v u r).mp (by omega)
    have h1 := (g1 v u r).mp (by omega)
    have h3 : ¬ 3 * r + 1 ≤ ph v := fun z => by have := g8 v u r h1.1 h1.2.1 z; omega
    omega
  have k2 : ∀ u v r, M 2 u v r = 1 → r < 10 ∧ J u v = true ∧ 3 * r + 1 ≤ ph u ∧ ph v < 3 * r + 3 := by
    intro u v r h
    have h1 := (g3 u v r).mp (by omega)
    have h3 : ¬ 3 * r + 3 ≤ ph v := fun z => by have := g9 h1.1 u v r h1.2.1 h1.2.2.1 z; omega
    exact ⟨h1.2.2.1, h1.2.1, h1.2.2.2, by omega⟩
  have k2' : ∀ u v r r', M 2 u v r = 1 → M 2 u v r' = 1 → r < r' + 2 := by
    intro u v r r' h h'
    obtain ⟨a1, a2, a3, a4⟩ := k2 u v r h
    obtain ⟨b1, b2, b3, b4⟩ := k2 u v r' h'
    refine Classical.byContradiction fun z => ?_
    have := N u v (r - 1) a2 (by omega) (by omega)
    omega
  have k4 : ∀ u v r, M 4 v u r = 1 → ph u = 3 * r + 2 := by
    intro u v r h
    obtain ⟨c1, c2, c3, c4, c5, c6⟩ := (g5 u v r).mp (by omega)
    have h1 := g10 c1 u v r c2 c3 c4 c5 (by omega)
    have h2 := ((g4 u v r).mp (by omega)).2.2.2.2.2
    have h3 : ¬ 3 * r + 3 ≤ ph u := fun z => by have := g11 c1 u v r c2 c3 c4 c5 z; omega
    omega
  have k3 : ∀ u v r, M 3 u v r = 1 → ph u = 3 * r + 2 := by
    intro u v r h
    obtain ⟨c1, c2, c3, c4, c5, c6⟩ := (g4 u v r).mp (by omega)
    refine Classical.byContradiction fun z => ?_
    have h1 := g11 c1 u v r c2 c3 c4 c5 (by omega)
    have h2 := ((g5 u v r).mp (by omega)).2.2.2.2.2
    have h3 := g10 c1 u v r c2 c3 c4 c5 (by omega)
    omega
  have z0 : ∀ u v r, zg_code 0 u v r = 0 + (8 * u + v) := fun _ _ _ => rfl
  have z1 : ∀ u v r, zg_code 1 u v r = 64 + (8 * u + v) := fun _ _ _ => rfl
  have z2 : ∀ u v r, zg_code 2 u v r = 128 + 64 * (r % 2) + (8 * u + v) := fun _ _ _ => rfl
  have z3 : ∀ u v r, zg_code 3 u v r = 128 + (8 * u + v) := fun _ _ _ => rfl
  have z4 : ∀ u v r, zg_code 4 u v r = 192 + (8 * u + v) := fun _ _ _ => rfl
  clear g1 g2 g3 g4 g5 g6 g7 g8 g9 g10 g11 N
  rcases hs with rfl | rfl | rfl | rfl | rfl
  · rcases hs' with rfl | rfl | rfl | rfl | rfl <;> simp only [z0, z1, z2, z3, z4] at e
    · have e1 : u = u' := by omega
      have e2 : v = v' := by omega
      subst e1 e2
      have h1 := k0 _ _ _ a; have h2 := k0 _ _ _ b
      exact ⟨rfl, rfl, rfl, by omega⟩
    all_goals omega
  · rcases hs' with rfl | rfl | rfl | rfl | rfl <;> simp only [z0, z1, z2, z3, z4] at e
    · omega
    · have e1 : u = u' := by omega
      have e2 : v = v' := by omega
      subst e1 e2
      have h1 := k1 _ _ _ a; have h2 := k1 _ _ _ b
      exact ⟨rfl, rfl, rfl, by omega⟩
    all_goals omega
  · rcases hs' with rfl | rfl | rfl | rfl | rfl <;> simp only [z0, z1, z2, z3, z4] at e
    · omega
    · omega
    · have e1 : u = u' := by omega
      have e2 : v = v' := by omega
      subst e1 e2
      have h1 := k2' _ _ _ _ a b; have h2 := k2' _ _ _ _ b a
      exact ⟨rfl, rfl, rfl, by omega⟩
    · exact absurd ((al2 _ _ _ a).symm.trans (al3 _ _ _ b)) (by decide)
    · exact absurd ((al2 _ _ _ a).symm.trans (al4 _ _ _ b)) (by decide)
  · rcases hs' with rfl | rfl | rfl | rfl | rfl <;> simp only [z0, z1, z2, z3, z4] at e
    · omega
    · omega
    · exact absurd ((al2 _ _ _ b).symm.trans (al3 _ _ _ a)) (by decide)
    · have e1 : u = u' := by omega
      have e2 : v = v' := by omega
      subst e1 e2
      have h1 := k3 _ _ _ a; have h2 := k3 _ _ _ b
      exact ⟨rfl, rfl, rfl, by omega⟩
    · omega
  · rcases hs' with rfl | rfl | rfl | rfl | rfl <;> simp only [z0, z1, z2, z3, z4] at e
    · omega
    · omega
    · exact absurd ((al2 _ _ _ b).symm.trans (al4 _ _ _ a)) (by decide)
    · omega
    · have e1 : u = u' := by omega
      have e2 : v = v' := by omega
      subst e1 e2
      have h1 := k4 _ _ _ a; have h2 := k4 _ _ _ b
      exact ⟨rfl, rfl, rfl, by omega⟩
end
end
section
/-! each step keeps the system -/
section
variable {n : Nat} {al : Bool} {J : Nat → Nat → Bool} {pr ph : Nat → Nat} {M : zg_M}
theorem zg_gS (G : zg_G n al J pr ph M) {u v r : Nat} (h : M 0 u v r = 1) : zg_G n al J pr ph (zg_U (zg_U M 0 u v r 2) 1 v u r 1) := by
  obtain ⟨g1, g2, g3, g4, g5, g6, g7, g8, g9, g10, g11⟩ := G
  have z : M 1 v u r = 0 := by
    refine Classical.byContradiction fun y => ?_
    have := (g2 u v r).mp y
    omega
  refine ⟨fun u' v' r' => ?_, fun u' v' r' => ?_, fun u' v' r' => ?_, fun u' v' r' => ?_, fun u' v' r' => ?_, fun s' u' v' r' => ?_, g7, fun u' v' r' => ?_, fun ha u' v' r' => ?_, fun ha u' v' r' => ?_, fun ha u' v' r' => ?_⟩
  · have := g1 u' v' r'; clear g1 g2 g3 g4 g5 g6 g7 g8 g9 g10 g11; unfold zg_U; grind
  · have := g2 u' v' r'; clear g1 g2 g3 g4 g5 g6 g7 g8 g9 g10 g11; unfold zg_U; grind
  · have := g3 u' v' r'; clear g1 g2 g3 g4 g5 g6 g7 g8 g9 g10 g11; unfold zg_U; grind
  · have := g4 u' v' r'; clear g1 g2 g3 g4 g5 g6 g7 g8 g9 g10 g11; unfold zg_U; grind
  · have := g5 u' v' r'; clear g1 g2 g3 g4 g5 g6 g7 g8 g9 g10 g11; unfold zg_U; grind
  · have := g6 s' u' v' r'; clear g1 g2 g3 g4 g5 g6 g7 g8 g9 g10 g11; unfold zg_U; grind
  · have := g8 u' v' r'; clear g1 g2 g3 g4 g5 g6 g7 g8 g9 g10 g11; unfold zg_U; grind
  · have := g9 ha u' v' r'; clear g1 g2 g3 g4 g5 g6 g7 g8 g9 g10 g11; unfold zg_U; grind
  · have := g10 ha u' v' r'; clear g1 g2 g3 g4 g5 g6 g7 g8 g9 g10 g11; unfold zg_U; grind
  · have := g11 ha u' v' r'; clear g1 g2 g3 g4 g5 g6 g7 g8 g9 g10 g11; unfold zg_U; grind
theorem zg_gD (G : zg_G n al J pr ph M) {s u v r : Nat} (hs : s ≠ 0) (h : M s u v r = 1) : zg_G n al J pr ph (zg_U M s u v r 2) := by
  obtain ⟨g1, g2, g3, g4, g5, g6, g7, g8, g9, g10, g11⟩ := G
  refine ⟨fun u' v' r' => ?_, fun u' v' r' => ?_, fun u' v' r' => ?_, fun u' v' r' => ?_, fun u' v' r' => ?_, fun s' u' v' r' => ?_, g7, fun u' v' r' => ?_, fun ha u' v' r' => ?_, fun ha u' v' r' => ?_, fun ha u' v' r' => ?_⟩
  · have := g1 u' v' r'; clear g1 g2 g3 g4 g5 g6 g7 g8 g9 g10 g11; unfold zg_U; grind
  · have := g2 u' v' r'; clear g1 g2 g3 g4 g5 g6 g7 g8 g9 g10 g11; unfold zg_U; grind
  · have := g3 u' v' r'; clear g1 g2 g3 g4 g5 g6 g7 g8 g9 g10 g11; unfold zg_U; grind
  · have := g4 u' v' r'; clear g1 g2 g3 g4 g5 g6 g7 g8 g9 g10 g11; unfold zg_U; grind
  · have := g5 u' v' r'; clear g1 g2 g3 g4 g5 g6 g7 g8 g9 g10 g11; unfold zg_U; grind
  · have := g6 s' u' v' r'; clear g1 g2 g3 g4 g5 g6 g7 g8 g9 g10 g11; unfold zg_U; grind
  · have := g8 u' v' r'; clear g1 g2 g3 g4 g5 g6 g7 g8 g9 g10 g11; unfold zg_U; grind
  · have := g9 ha u' v' r'; clear g1 g2 g3 g4 g5 g6 g7 g8 g9 g10 g11; unfold zg_U; grind
  · have := g10 ha u' v' r'; clear g1 g2 g3 g4 g5 g6 g7 g8 g9 g10 g11; unfold zg_U; grind
  · have := g11 ha u' v' r'; clear g1 g2 g3 g4 g5 g6 g7 g8 g9 g10 g11; unfold zg_U; grind
/-- v becomes safe, method 0 -/
theorem zg_gB0 (E : zg_E n J pr) (G : zg_G n al J pr ph M) (hal : al = true) {v r : Nat} (hv : v < n) (hr : r < 10) (hp : ph v = 3 * r) (ha : ∀ w, J v w = true → M 1 w v r = 2) : zg_G n al J pr (zu_p ph v (3 * r + 1)) (zg_V M 2 v (J v) r) := by
  obtain ⟨g1, g2, g3, g4, g5, g6, g7, g8, g9, g10, g11⟩ := G
  have hf : al ≠ false := by rw [hal]; decide
  refine ⟨fun u' v' r' => ?_, fun u' v' r' => ?_, fun u' v' r' => ?_, fun u' v' r' => ?_, fun u' v' r' => ?_, fun s' u' v' r' => ?_, fun u' => ?_, fun u' v' r' => ?_, fun ha u' v' r' => ?_, fun ha => absurd ha hf, fun ha => absurd ha hf⟩
  · have := g1 u' v' r'; clear g1 g2 g3 g4 g5 g6 g7 g8 g9 g10 g11; unfold zg_V zu_p; grind
  · have := g2 u' v' r'; clear g1 g2 g3 g4 g5 g6 g7 g8 g9 g10 g11; unfold zg_V; grind
  · have := g3 u' v' r'; clear g1 g2 g3 g4 g5 g6 g7 g8 g9 g10 g11; unfold zg_V zu_p; grind
  · have := g4 u' v' r'; clear g1 g2 g3 g4 g5 g6 g7 g8 g9 g10 g11; unfold zg_V zu_p; grind
  · have := g5 u' v' r'; clear g1 g2 g3 g4 g5 g6 g7 g8 g9 g10 g11; unfold zg_V zu_p; grind
  · have := g6 s' u' v' r'; clear g1 g2 g3 g4 g5 g6 g7 g8 g9 g10 g11; unfold zg_V; grind
  · have := g7 u'; clear g1 g2 g3 g4 g5 g6 g7 g8 g9 g10 g11; unfold zu_p; grind
  · have := g8 u' v' r'; clear g1 g2 g3 g4 g5 g6 g7 g8 g9 g10 g11; unfold zg_V zu_p; grind
  · have := g9 ha u' v' r'; have := g3 u' v' r'; clear g1 g2 g3 g4 g5 g6 g7 g8 g9 g10 g11; unfold zg_V zu_p; grind
/-- v becomes safe, method 1 -/
theorem zg_gB1 (G : zg_G n al J pr ph M) (hal : al = false) {v r : Nat} (hv : v < n) (hr : r < 10) (hp : ph v = 3 * r) (ha : ∀ w, J v w = true → M 1 w v r = 2) : zg_G n al J pr (zu_p ph v (3 * r + 1)) M := by
  obtain ⟨g1, g2, g3, g4, g5, g6, g7, g8, g9, g10, g11⟩ := G
  refine ⟨fun u' v' r' => ?_, g2, fun u' v' r' => ?_, fun u' v' r' => ?_, fun u' v' r' => ?_, g6, fun u' => ?_, fun u' v' r' => ?_, fun hb u' v' r' => ?_, fun hb u' v' r' => ?_, fun hb u' v' r' => ?_⟩
  · have := g1 u' v' r'; clear g1 g2 g3 g4 g5 g6 g7 g8 g9 g10 g11; unfold zu_p; grind
  · have := g3 u' v' r'; clear g1 g2 g3 g4 g5 g6 g7 g8 g9 g10 g11; unfold zu_p; grind
  · have := g4 u' v' r'; clear g1 g2 g3 g4 g5 g6 g7 g8 g9 g10 g11; unfold zu_p; grind
  · have := g5 u' v' r'; clear g1 g2 g3 g4 g5 g6 g7 g8 g9 g10 g11; unfold zu_p; grind
  · have := g7 u'; clear g1 g2 g3 g4 g5 g6 g7 g8 g9 g10 g11; unfold zu_p; grind
  · have := g8 u' v' r'; have := ha v'; clear g1 g2 g3 g4 g5 g6 g7 g8 g9 g10 g11 ha; unfold zu_p; grind
  · have := g9 hb u' v' r'; clear g1 g2 g3 g4 g5 g6 g7 g8 g9 g10 g11 ha; unfold zu_p; grind
  · have := g10 hb u' v' r'; clear g1 g2 g3 g4 g5 g6 g7 g8 g9 g10 g11 ha; unfold zu_p; grind
  · have := g11 hb u' v' r'; clear g1 g2 g3 g4 g5 g6 g7 g8 g9 g10 g11 ha; unfold zu_p; grind
/-- v reports -/
theorem zg_gR (G : zg_G n al J pr ph M) (hal : al = false) {v r : Nat} (hv : v < n) (hr : r < 10) (hp : ph v = 3 * r + 1) (hu : ∀ u, u < n → pr u = v → M 3 u v r = 2) (hpr : pr v < n) : zg_G n al J pr (zu_p ph v (3 * r + 2)) (zg_U M 3 v (pr v) r 1) := by
  obtain ⟨g1, g2, g3, g4, g5, g6, g7, g8, g9, g10, g11⟩ := G
  refine ⟨fun u' v' r' => ?_, fun u' v' r' => ?_, fun u' v' r' => ?_, fun u' v' r' => ?_, fun u' v' r' => ?_, fun s' u' v' r' => ?_, fun u' => ?_, fun u' v' r' => ?_, fun ha u' v' r' => ?_, fun ha u' v' r' => ?_, fun ha u' v' r' => ?_⟩
  · have := g1 u' v' r'; clear g1 g2 g3 g4 g5 g6 g7 g8 g9 g10 g11; unfold zg_U zu_p; grind
  · have := g2 u' v' r'; clear g1 g2 g3 g4 g5 g6 g7 g8 g9 g10 g11; unfold zg_U; grind
  · have := g3 u' v' r'; clear g1 g2 g3 g4 g5 g6 g7 g8 g9 g10 g11; unfold zg_U zu_p; grind
  · have := g4 u' v' r'; clear g1 g2 g3 g4 g5 g6 g7 g8 g9 g10 g11; unfold zg_U zu_p; grind
  · have := g5 u' v' r'; clear g1 g2 g3 g4 g5 g6 g7 g8 g9 g10 g11; unfold zg_U zu_p; grind
  · have := g6 s' u' v' r'; clear g1 g2 g3 g4 g5 g6 g7 g8 g9 g10 g11; unfold zg_U; grind
  · have := g7 u'; clear g1 g2 g3 g4 g5 g6 g7 g8 g9 g10 g11; unfold zu_p; grind
  · have := g8 u' v' r'; clear g1 g2 g3 g4 g5 g6 g7 g8 g9 g10 g11; unfold zg_U zu_p; grind
  · have := g9 ha u' v' r'; clear g1 g2 g3 g4 g5 g6 g7 g8 g9 g10 g11; unfold zg_U zu_p; grind
  · have := g10 ha u' v' r'; have := g4 u' v' r'; have := hu u'; clear hu g1 g2 g3 g4 g5 g6 g7 g8 g9 g10 g11; unfold zg_U zu_p; grind
  · have := g11 ha u' v' r'; clear g1 g2 g3 g4 g5 g6 g7 g8 g9 g10 g11; unfold zg_U zu_p; grind
/-- a root reports to itself -/
theorem zg_gR0 (G : zg_G n al J pr ph M) (hal : al = false) {v r : Nat} (hv : v < n) (hr : r < 10) (hp : ph v = 3 * r + 1) (hu : ∀ u, u < n → pr u = v → M 3 u v r = 2) (hpr : ¬ pr v < n) : zg_G n al J pr (zu_p ph v (3 * r + 2)) M := by
  obtain ⟨g1, g2, g3, g4, g5, g6, g7, g8, g9, g10, g11⟩ := G
  refine ⟨fun u' v' r' => ?_, g2, fun u' v' r' => ?_, fun u' v' r' => ?_, fun u' v' r' => ?_, g6, fun u' => ?_, fun u' v' r' => ?_, fun ha u' v' r' => ?_, fun ha u' v' r' => ?_, fun ha u' v' r' => ?_⟩
  · have := g1 u' v' r'; clear g1 g2 g3 g4 g5 g6 g7 g8 g9 g10 g11; unfold zu_p; grind
  · have := g3 u' v' r'; clear g1 g2 g3 g4 g5 g6 g7 g8 g9 g10 g11; unfold zu_p; grind
  · have := g4 u' v' r'; clear g1 g2 g3 g4 g5 g6 g7 g8 g9 g10 g11; unfold zu_p; grind
  · have := g5 u' v' r'; clear g1 g2 g3 g4 g5 g6 g7 g8 g9 g10 g11; unfold zu_p; grind
  · have := g7 u'; clear g1 g2 g3 g4 g5 g6 g7 g8 g9 g10 g11; unfold zu_p; grind
  · have := g8 u' v' r'; clear g1 g2 g3 g4 g5 g6 g7 g8 g9 g10 g11; unfold zu_p; grind
  · have := g9 ha u' v' r'; clear g1 g2 g3 g4 g5 g6 g7 g8 g9 g10 g11; unfold zu_p; grind
  · have := g10 ha u' v' r'; have := hu u'; clear hu g1 g2 g3 g4 g5 g6 g7 g8 g9 g10 g11; unfold zu_p; grind
  · have := g11 ha u' v' r'; clear g1 g2 g3 g4 g5 g6 g7 g8 g9 g10 g11; unfold zu_p; grind
/-- the messages of one that goes on from round r -/
def zg_go (n : Nat) (al : Bool) (J : Nat → Nat → Bool) (pr : Nat → Nat) (M : zg_M) (v r : Nat) : zg_M :=
  zg_V (zg_V M 4 v (fun u => !al && decide (u < n ∧ pr u = v)) r) 0 v (fun u => decide (r + 1 < 10) && J v u) (r + 1)
theorem zg_gG (E : zg_E n J pr) (G : zg_G n al J pr ph M) {v r : Nat} (hv : v < n) (hr : r < 10)
    (hp : (al = true ∧ ph v = 3 * r + 1 ∧ ∀ u, J u v = true → M 2 u v r = 2) ∨ (al = false ∧ ph v = 3 * r + 2 ∧ (pr v < n → M 4 (pr v) v r = 2))) : zg_G n al J pr (zu_p ph v (3 * r + 3)) (zg_go n al J pr M v r) := by
  obtain ⟨_, sy, ir, hJ, _⟩ := E
  obtain ⟨g1, g2, g3, g4, g5, g6, g7, g8, g9, g10, g11⟩ := G
  have hph : ph v = 3 * r + 1 ∨ ph v = 3 * r + 2 := by rcases hp with h | h; exact Or.inl h.2.1; exact Or.inr h.2.1
  have n0 : ∀ u, M 0 v u (r + 1) = 0 := fun u => Classical.byContradiction fun z => by have := (g1 v u (r + 1)).mp z; omega
  refine ⟨fun u' v' r' => ?_, fun u' v' r' => ?_, fun u' v' r' => ?_, fun u' v' r' => ?_, fun u' v' r' => ?_, fun s' u' v' r' => ?_, fun u' => ?_, fun u' v' r' => ?_, fun ha u' v' r' => ?_, fun ha u' v' r' => ?_, fun ha u' v' r' => ?_⟩
  · have := g1 u' v' r'; clear g1 g2 g3 g4 g5 g6 g7 g8 g9 g10 g11 hp sy ir hJ; unfold zg_go zg_V zu_p; grind
  · have := g2 u' v' r'; have := n0 v'; clear n0 g1 g2 g3 g4 g5 g6 g7 g8 g9 g10 g11 hp sy ir hJ; unfold zg_go zg_V; grind
  · have := g3 u' v' r'; clear g1 g2 g3 g4 g5 g6 g7 g8 g9 g10 g11 hp sy ir hJ; unfold zg_go zg_V zu_p; grind
  · have := g4 u' v' r'
    have h2 : al = false → ph v = 3 * r + 2 := by
      intro ha
      rcases hp with h | h
      · rw [ha] at h; exact absurd h.1 (by decide)
      · exact h.2.1
    clear g1 g2 g3 g4 g5 g6 g7 g8 g9 g10 g11 hp sy ir hJ; unfold zg_go zg_V zu_p; grind
  · have := g5 u' v' r'; clear g1 g2 g3 g4 g5 g6 g7 g8 g9 g10 g11 hp sy ir hJ; unfold zg_go zg_V zu_p; grind
  · have := g6 s' u' v' r'; clear g1 g2 g3 g4 g5 g6 g7 g8 g9 g10 g11 hp sy ir hJ; unfold zg_go zg_V; grind
  · have := g7 u'; clear g1 g2 g3 g4 g5 g6 g7 g8 g9 g10 g11; unfold zu_p; grind
  · have := g8 u' v' r'; clear g1 g2 g3 g4 g5 g6 g7 g8 g9 g10 g11 hp sy ir hJ; unfold zg_go zg_V zu_p; grind
  · have := g9 ha u' v' r'
    have h2 : u' = u' → J u' v = true → M 2 u' v r = 2 := fun _ => by
      rcases hp with h | h
      · exact h.2.2 u'
      · rw [ha] at h; exact absurd h.1 (by decide)
    clear g1 g2 g3 g4 g5 g6 g7 g8 g9 g10 g11 hp sy ir hJ; unfold zg_go zg_V zu_p; grind
  · have := g10 ha u' v' r'
    have h2 : ph v = 3 * r + 2 := by
      rcases hp with h | h
      · rw [ha] at h; exact absurd h.1 (by decide)
      · exact h.2.1
    clear g1 g2 g3 g4 g5 g6 g7 g8 g9 g10 g11 hp sy ir hJ; unfold zg_go zg_V zu_p; grind
  · have := g11 ha u' v' r'; have := g5 u' v' r'
    have h2 : ph v = 3 * r + 2 ∧ (pr v < n → M 4 (pr v) v r = 2) := by
      rcases hp with h | h
      · rw [ha] at h; exact absurd h.1 (by decide)
      · exact h.2
    clear g1 g2 g3 g4 g5 g6 g7 g8 g9 g10 g11 hp sy ir hJ; unfold zg_go zg_V zu_p; grind
end
end
section
/-! the pool: five arrays hold, in any order, each message that is on its way once; the counts of control messages; how many were delivered -/
noncomputable def zp_ct (M : zg_M) (r c : Nat) : Bool := decide (M (1 + c / 64) (c / 8 % 8) (c % 8) r ≠ 0)
noncomputable def zp_dl (M : zg_M) (c : Nat) : Bool := decide (M (c / 640) (c / 80 % 8) (c / 10 % 8) (c % 10) = 2)
def zp_P (H : Nat → Nat → Int32) (M : zg_M) (T : Nat) (w : Int32) (ct so fr tt pu lo : Nat → Int32) : Prop :=
  ∃ L : List (Nat × Nat × Nat × Nat), L.Nodup ∧ (∀ s u v r, (s, u, v, r) ∈ L ↔ M s u v r = 1) ∧ w = nI L.length ∧
  (∀ i m, L[i]? = some m → so i = nI m.1 ∧ fr i = nI m.2.1 ∧ tt i = nI m.2.2.1 ∧ pu i = nI m.2.2.2 ∧ (m.1 = 0 → lo i = H m.2.2.2 m.2.1)) ∧
  (∀ s u v r, M s u v r ≠ 0 → s < 5 ∧ u < 8 ∧ v < 8 ∧ r < 10) ∧
  (∀ r, r < 10 → ct (r + 1) = nI (zc_n (zp_ct M r) 256)) ∧
  zc_n (zp_dl M) 3200 = T
theorem zp_len {M : zg_M} {L : List (Nat × Nat × Nat × Nat)} (hd : L.Nodup) (hm : ∀ s u v r, (s, u, v, r) ∈ L ↔ M s u v r = 1) (hr : ∀ s u v r, M s u v r ≠ 0 → s < 5 ∧ u < 8 ∧ v < 8 ∧ r < 10) (C : zg_C M) : L.length ≤ 256 := by
  have h1 : (L.map (fun m => zg_code m.1 m.2.1 m.2.2.1 m.2.2.2)).Nodup := by
    show List.Pairwise _ _
    rw [List.pairwise_map]
    refine List.Pairwise.imp_of_mem (R := fun a b => a ≠ b) ?_ hd
    intro a b ha hb hne e
    obtain ⟨s, u, v, r⟩ := a
    obtain ⟨s', u', v', r'⟩ := b
    obtain ⟨e1, e2, e3, e4⟩ := C s u v r s' u' v' r' ((hm _ _ _ _).mp ha) ((hm _ _ _ _).mp hb) e
    exact hne (by rw [e1, e2, e3, e4])
  have h2 := zc_nodup 256 _ h1 (fun x hx => by
    obtain ⟨⟨s, u, v, r⟩, hq, rfl⟩ := List.mem_map.mp hx
    have hq' := (hm _ _ _ _).mp hq
    have := hr s u v r (by omega)
    show zg_code s u v r < 256
    unfold zg_code
    repeat' split
    all_goals omega)
  rw [List.length_map] at h2
  exact h2
theorem zp_perm {α : Type} {m : α} (x : α) : ∀ (D : List α) (k : Nat), D[k]? = some m → (D ++ [x]).Perm (m :: D.set k x)
  | [], k, h => by simp at h
  | a :: D, 0, h => by
    have e : a = m := by simpa using h
    subst e
    exact List.Perm.cons a (List.perm_append_singleton x D)
  | a :: D, k + 1, h => by
    have ih := zp_perm x D k (by simpa using h)
    exact (List.Perm.cons a ih).trans (List.Perm.swap _ _ _)
theorem zp_dec {s u v r i : Nat} (e1 : 1 + i / 64 = s) (e2 : i / 8 % 8 = u) (e3 : i % 8 = v) : i = 64 * (s - 1) + 8 * u + v := by omega
theorem zp_dec2 {s u v r i : Nat} (e1 : i / 640 = s) (e2 : i / 80 % 8 = u) (e3 : i / 10 % 8 = v) (e4 : i % 10 = r) : i = 640 * s + 80 * u + 10 * v + r := by omega
section
variable {H : Nat → Nat → Int32} {M : zg_M} {T : Nat} {w : Int32} {ct so fr tt pu lo : Nat → Int32}
theorem zp_lenw (P : zp_P H M T w ct so fr tt pu lo) (C : zg_C M) : ∃ l, l ≤ 256 ∧ w = nI l := by
  obtain ⟨L, hd, hm, hw, _, hr, _⟩ := P
  exact ⟨_, zp_len hd hm hr C, hw⟩
theorem zp_T (P : zp_P H M T w ct so fr tt pu lo) : T ≤ 3200 := by
  obtain ⟨L, _, _, _, _, _, _, h⟩ := P
  rw [← h]; exact zc_len _ _
theorem zp_end (P : zp_P H M T (nI 0) ct so fr tt pu lo) (C : zg_C M) : ∀ s u v r, M s u v r ≠ 1 := by
  obtain ⟨L, hd, hm, hw, _, hr, _⟩ := P
  have h1 := zp_len hd hm hr C
  have h2 : 0 = L.length := (nI_eq (by omega) (by omega)).mp hw
  intro s u v r z
  have h3 := (hm s u v r).mpr z
  have h4 := List.length_pos_of_mem h3
  omega
/-- a message more -/
theorem zp_add (P : zp_P H M T w ct so fr tt pu lo) {l s u v r : Nat} {x : Int32} {ct' : Nat → Int32} (hl : w = nI l) (hl2 : l ≤ 256) (C : zg_C M) (h0 : M s u v r = 0) (hs : s < 5) (hu : u < 8) (hv : v < 8) (hr : r < 10) (hx : s = 0 → x = H r u)
    (hct : ∀ j, ct' j = if s ≠ 0 ∧ j = r + 1 then ct j + 1 else ct j) :
    zp_P H (zg_U M s u v r 1) T (w + 1) ct' (upd so l (nI s)) (upd fr l (nI u)) (upd tt l (nI v)) (upd pu l (nI r)) (upd lo l x) := by
  obtain ⟨L, hd, hm, hw, ha, hrg, hc, hT⟩ := P
  have hlen := zp_len hd hm hrg C
  have el : l = L.length := (nI_eq (by omega) (by omega)).mp (hl.symm.trans hw)
  have nin : (s, u, v, r) ∉ L := fun z => by have := (hm s u v r).mp z; omega
  have U1 : ∀ s' u' v' r', zg_U M s u v r 1 s' u' v' r' = if s' = s ∧ u' = u ∧ v' = v ∧ r' = r then 1 else M s' u' v' r' := fun _ _ _ _ => rfl
  refine ⟨L ++ [(s, u, v, r)], ?_, ?_, ?_, ?_, ?_, ?_, ?_⟩
  · refine List.nodup_append.mpr ⟨hd, by simp, ?_⟩
    intro a ha' b hb e
    have hb' : b = (s, u, v, r) := by simpa using hb
    rw [e, hb'] at ha'
    exact nin ha'
  · intro s' u' v' r'
    rw [U1, List.mem_append, hm]
    by_cases e : s' = s ∧ u' = u ∧ v' = v ∧ r' = r
    · obtain ⟨rfl, rfl, rfl, rfl⟩ := e
      simp
    · rw [if_neg e]
      constructor
      · rintro (h | h)
        · exact h
        · exfalso; apply e; simpa using h
      · exact Or.inl
  · rw [hw, nI_1, List.length_append]; rfl
  · intro i m hi
    rw [List.getElem?_append] at hi
    by_cases c : i < L.length
    · rw [if_pos c] at hi
      have hne : i ≠ l := by omega
      rw [pk_un hne, pk_un hne, pk_un hne, pk_un hne, pk_un hne]
      exact ha i m hi
    · rw [if_neg c] at hi
      have hi0 : i - L.length = 0 := by
        have := (List.getElem?_eq_some_iff.mp hi).1
        simpa using this
      rw [hi0] at hi
      have em : (s, u, v, r) = m := by simpa using hi
      subst em
      have : i = l := by omega
      subst this
      rw [pk_us, pk_us, pk_us, pk_us, pk_us]
      exact ⟨rfl, rfl, rfl, rfl, hx⟩
  · intro s' u' v' r' h
    rw [U1] at h
    by_cases e : s' = s ∧ u' = u ∧ v' = v ∧ r' = r
    · obtain ⟨rfl, rfl, rfl, rfl⟩ := e
      exact ⟨hs, hu, hv, hr⟩
    · rw [if_neg e] at h
      exact hrg _ _ _ _ h
  · intro r' hr'
    rw [hct]
    by_cases e : s ≠ 0 ∧ r' + 1 = r + 1
    · rw [if_pos e, hc r' hr', nI_1]
      have er : r' = r := by omega
      subst er
      refine congrArg nI ?_
      refine (zc_up (k := 64 * (s - 1) + 8 * u + v) (by omega) ?_ ?_ ?_).symm
      · have e1 : 1 + (64 * (s - 1) + 8 * u + v) / 64 = s := by omega
        have e2 : (64 * (s - 1) + 8 * u + v) / 8 % 8 = u := by omega
        have e3 : (64 * (s - 1) + 8 * u + v) % 8 = v := by omega
        unfold zp_ct
        rw [e1, e2, e3]
        exact decide_eq_false (fun z => z h0)
      · have e1 : 1 + (64 * (s - 1) + 8 * u + v) / 64 = s := by omega
        have e2 : (64 * (s - 1) + 8 * u + v) / 8 % 8 = u := by omega
        have e3 : (64 * (s - 1) + 8 * u + v) % 8 = v := by omega
        unfold zp_ct
        rw [e1, e2, e3, U1, if_pos ⟨rfl, rfl, rfl, rfl⟩]
        rfl
      · intro i hi hne
        unfold zp_ct
        rw [U1, if_neg]
        rintro ⟨a1, a2, a3, _⟩
        exact hne (zp_dec (r := r') a1 a2 a3)
    · rw [if_neg e, hc r' hr']
      refine congrArg nI (zc_congr _ fun i hi => ?_)
      unfold zp_ct
      rw [U1, if_neg]
      rintro ⟨a1, a2, a3, a4⟩
      exact e ⟨by omega, by omega⟩
  · rw [← hT]
    refine zc_congr _ fun i hi => ?_
    unfold zp_dl
    rw [U1]
    by_cases e : i / 640 = s ∧ i / 80 % 8 = u ∧ i / 10 % 8 = v ∧ i % 10 = r
    · rw [if_pos e]
      obtain ⟨a1, a2, a3, a4⟩ := e
      rw [a1, a2, a3, a4, h0]
      rfl
    · rw [if_neg e]
/-- a message less: the one at k is delivered, the last takes its place -/
theorem zp_del (P : zp_P H M T w ct so fr tt pu lo) {l k : Nat} (hl : w = nI (l + 1)) (hl2 : l + 1 ≤ 256) (hk : k < l + 1) (C : zg_C M) :
    ∃ s u v r, M s u v r = 1 ∧ so k = nI s ∧ fr k = nI u ∧ tt k = nI v ∧ pu k = nI r ∧ (s = 0 → lo k = H r u) ∧
    zp_P H (zg_U M s u v r 2) (T + 1) (nI l) ct (upd so k (so l)) (upd fr k (fr l)) (upd tt k (tt l)) (upd pu k (pu l)) (upd lo k (lo l)) := by
  obtain ⟨L, hd, hm, hw, ha, hrg, hc, hT⟩ := P
  have hlen := zp_len hd hm hrg C
  have el : l + 1 = L.length := (nI_eq (by omega) (by omega)).mp (hl.symm.trans hw)
  have hLk : L[k]? = some L[k] := List.getElem?_eq_getElem (by omega)
  obtain ⟨m, hmk⟩ : ∃ m, L[k]? = some m := ⟨_, hLk⟩
  obtain ⟨x, hx⟩ : ∃ x, L[l]? = some x := ⟨_, List.getElem?_eq_getElem (by omega)⟩
  have hL : L = L.dropLast ++ [x] := by
    have hne : L ≠ [] := fun z => by rw [z] at el; simp at el
    have h1 := List.dropLast_concat_getLast hne
    have h2 : L.getLast hne = x := by
      rw [List.getLast_eq_getElem]
      have h3 : L.length - 1 = l := by omega
      have h4 := List.getElem?_eq_getElem (l := L) (i := L.length - 1) (by omega)
      exact Option.some.inj (h4.symm.trans (by rw [h3]; exact hx))
    rw [h2] at h1
    exact h1.symm
  have hdl : L.dropLast.length = l := by rw [List.length_dropLast]; omega
  have hp : L.Perm (m :: L.dropLast.set k x) := by
    by_cases e : k < l
    · have h1 : L.dropLast[k]? = some m := by rw [List.getElem?_dropLast, if_pos (by omega)]; exact hmk
      have h2 := zp_perm x L.dropLast k h1
      rw [← hL] at h2
      exact h2
    · have e' : k = l := by omega
      subst e'
      have h1 : m = x := by have := hmk.symm.trans hx; simpa using this
      rw [List.set_eq_of_length_le (by omega), h1]
      have h2 := List.perm_append_singleton x L.dropLast
      rw [← hL] at h2
      exact h2
  obtain ⟨nin, hd'⟩ := List.nodup_cons.mp ((List.Perm.nodup_iff hp).mp hd)
  obtain ⟨s, u, v, r⟩ := m
  have hM : M s u v r = 1 := (hm s u v r).mp (hp.mem_iff.mpr (List.mem_cons_self ..))
  obtain ⟨q1, q2, q3, q4, q5⟩ := ha k _ hmk
  have rg := hrg s u v r (by omega)
  have U1 : ∀ s' u' v' r', zg_U M s u v r 2 s' u' v' r' = if s' = s ∧ u' = u ∧ v' = v ∧ r' = r then 2 else M s' u' v' r' := fun _ _ _ _ => rfl
  refine ⟨s, u, v, r, hM, q1, q2, q3, q4, q5, L.dropLast.set k x, hd', ?_, ?_, ?_, ?_, ?_, ?_⟩
  · intro s' u' v' r'
    rw [U1]
    by_cases e : s' = s ∧ u' = u ∧ v' = v ∧ r' = r
    · obtain ⟨rfl, rfl, rfl, rfl⟩ := e
      rw [if_pos ⟨rfl, rfl, rfl, rfl⟩]
      exact ⟨fun z => absurd z nin, fun z => absurd z (by decide)⟩
    · rw [if_neg e, ← hm, hp.mem_iff, List.mem_cons]
      constructor
      · exact Or.inr
      · rintro (h | h)
        · exfalso; apply e; simpa using h
        · exact h
  · rw [List.length_set, hdl]
  · intro i m' hi
    rw [List.getElem?_set] at hi
    by_cases e : k = i
    · subst e
      rw [if_pos rfl] at hi
      by_cases c : k < L.dropLast.length
      · rw [if_pos c] at hi
        have em : x = m' := by simpa using hi
        subst em
        rw [pk_us, pk_us, pk_us, pk_us, pk_us]
        exact ha l x hx
      · rw [if_neg c] at hi; exact absurd hi (by simp)
    · rw [if_neg e, List.getElem?_dropLast] at hi
      by_cases c : i < L.length - 1
      · rw [if_pos c] at hi
        have hne : i ≠ k := fun z => e z.symm
        rw [pk_un hne, pk_un hne, pk_un hne, pk_un hne, pk_un hne]
        exact ha i m' hi
      · rw [if_neg c] at hi; exact absurd hi (by simp)
  · intro s' u' v' r' h
    rw [U1] at h
    by_cases e : s' = s ∧ u' = u ∧ v' = v ∧ r' = r
    · obtain ⟨rfl, rfl, rfl, rfl⟩ := e
      exact rg
    · rw [if_neg e] at h
      exact hrg _ _ _ _ h
  · intro r' hr'
    rw [hc r' hr']
    refine congrArg nI (zc_congr _ fun i hi => ?_)
    unfold zp_ct
    rw [U1]
    by_cases e : 1 + i / 64 = s ∧ i / 8 % 8 = u ∧ i % 8 = v ∧ r' = r
    · rw [if_pos e]
      obtain ⟨a1, a2, a3, a4⟩ := e
      rw [a1, a2, a3, a4, hM]
      rfl
    · rw [if_neg e]
  · rw [← hT]
    refine zc_up (k := 640 * s + 80 * u + 10 * v + r) (by omega) ?_ ?_ ?_
    · have e1 : (640 * s + 80 * u + 10 * v + r) / 640 = s := by omega
      have e2 : (640 * s + 80 * u + 10 * v + r) / 80 % 8 = u := by omega
      have e3 : (640 * s + 80 * u + 10 * v + r) / 10 % 8 = v := by omega
      have e4 : (640 * s + 80 * u + 10 * v + r) % 10 = r := by omega
      unfold zp_dl
      rw [e1, e2, e3, e4, hM]
      rfl
    · have e1 : (640 * s + 80 * u + 10 * v + r) / 640 = s := by omega
      have e2 : (640 * s + 80 * u + 10 * v + r) / 80 % 8 = u := by omega
      have e3 : (640 * s + 80 * u + 10 * v + r) / 10 % 8 = v := by omega
      have e4 : (640 * s + 80 * u + 10 * v + r) % 10 = r := by omega
      unfold zp_dl
      rw [e1, e2, e3, e4, U1, if_pos ⟨rfl, rfl, rfl, rfl⟩]
      rfl
    · intro i hi hne
      unfold zp_dl
      rw [U1, if_neg]
      rintro ⟨a1, a2, a3, a4⟩
      exact hne (zp_dec2 a1 a2 a3 a4)
end
end
section
/-! the end of the system; the arrays as functions of the system -/
section
variable {n : Nat} {al : Bool} {J : Nat → Nat → Bool} {pr ph : Nat → Nat} {M : zg_M}
theorem zg_sum_le (f : Nat → Nat) : ∀ k i, i < k → f i ≤ zs_s f k
  | 0, i, h => by omega
  | k + 1, i, h => by
    show f i ≤ zs_s f k + f k
    by_cases e : i = k
    · subst e; omega
    · have := zg_sum_le f k i (by omega); omega
theorem zg_end (E : zg_E n J pr) (G : zg_G n al J pr ph M) (O : ∀ x, x < n → zg_O n al J pr ph M x) (h0 : ∀ s u v r, M s u v r ≠ 1) : ∀ u, u < n → ph u = 30 := by
  obtain ⟨_, sy, ir, hJ, F, rk, hrk⟩ := E
  obtain ⟨g1, g2, g3, g4, g5, g6, g7, g8, g9, g10, g11⟩ := G
  have two : ∀ s u v r, M s u v r ≠ 0 → M s u v r = 2 := by
    intro s u v r h
    have := (g6 s u v r).1; have := h0 s u v r; omega
  have main : ∀ r, r ≤ 10 → ∀ u, u < n → 3 * r ≤ ph u := by
    intro r
    induction r with
    | zero => intro _ u _; omega
    | succ r ih =>
      intro hr
      have ih := ih (by omega)
      have hr' : r < 10 := by omega
      have s1 : ∀ u v, J u v = true → M 1 v u r = 2 := by
        intro u v j
        exact two _ _ _ _ ((g2 u v r).mpr (two _ _ _ _ ((g1 u v r).mpr ⟨j, hr', ih u (hJ _ _ j).1⟩)))
      have s2 : ∀ u, u < n → 3 * r + 1 ≤ ph u := by
        intro u hu
        refine Classical.byContradiction fun z => ?_
        obtain ⟨v, j, hv⟩ := (O u hu).1 r hr' (by have := ih u hu; omega)
        exact hv (s1 u v j)
      cases hal : al with
      | true =>
        intro u hu
        refine Classical.byContradiction fun z => ?_
        have h2 := s2 u hu
        by_cases e : ph u = 3 * r + 1
        · obtain ⟨w, j, hw⟩ := (O u hu).2.1 r hr' e hal
          exact hw (two _ _ _ _ ((g3 w u r).mpr ⟨hal, j, hr', s2 w (hJ _ _ j).1⟩))
        · have := ((O u hu).2.2.2 r hr' (by omega)).1
          rw [hal] at this
          exact absurd this (by decide)
      | false =>
        have s3 : ∀ k u, u < n → zs_s rk n - rk u < k → 3 * r + 2 ≤ ph u := by
          intro k
          induction k with
          | zero => intro u _ h; omega
          | succ k ihk =>
            intro u hu hk
            refine Classical.byContradiction fun z => ?_
            obtain ⟨c, hc, pc, hm⟩ := (O u hu).2.2.1 r hr' (by have := s2 u hu; omega) hal
            have hlt := hrk c hc (by omega)
            have hb := zg_sum_le rk n c hc
            have h3 := ihk c hc (by rw [pc] at hlt; omega)
            exact hm (two _ _ _ _ ((g4 c u r).mpr ⟨hal, hc, hu, pc, hr', h3⟩))
        have s4 : ∀ k u, u < n → rk u < k → 3 * r + 3 ≤ ph u := by
          intro k
          induction k with
          | zero => intro u _ h; omega
          | succ k ihk =>
            intro u hu hk
            refine Classical.byContradiction fun z => ?_
            obtain ⟨_, hp, hm⟩ := (O u hu).2.2.2 r hr' (by have := s3 _ u hu (Nat.lt_succ_self _); omega)
            have h3 := ihk (pr u) hp (by have := hrk u hu hp; omega)
            exact hm (two _ _ _ _ ((g5 u (pr u) r).mpr ⟨hal, hu, hp, rfl, hr', h3⟩))
        intro u hu
        have := s4 _ u hu (Nat.lt_succ_self _)
        omega
  intro u hu
  have h1 := main 10 (by omega) u hu
  have h2 := g7 u hu
  omega
/-- a node whose messages and phase are as before waits as before -/
theorem zg_Oc {ph' : Nat → Nat} {M' : zg_M} {x : Nat} (O : zg_O n al J pr ph M x) (hp : ph' x = ph x) (hM : ∀ s u r, M' s u x r = 2 → M s u x r = 2) : zg_O n al J pr ph' M' x := by
  obtain ⟨o1, o2, o3, o4⟩ := O
  refine ⟨fun r hr h => ?_, fun r hr h ha => ?_, fun r hr h ha => ?_, fun r hr h => ?_⟩
  · obtain ⟨v, j, hv⟩ := o1 r hr (by omega); exact ⟨v, j, fun z => hv (hM _ _ _ z)⟩
  · obtain ⟨v, j, hv⟩ := o2 r hr (by omega) ha; exact ⟨v, j, fun z => hv (hM _ _ _ z)⟩
  · obtain ⟨v, hv, p, hm⟩ := o3 r hr (by omega) ha; exact ⟨v, hv, p, fun z => hm (hM _ _ _ z)⟩
  · obtain ⟨a, b, c⟩ := o4 r hr (by omega); exact ⟨a, b, fun z => c (hM _ _ _ z)⟩
theorem zg_box0 (E : zg_E n J pr) (G : zg_G n al J pr ph M) {u v r : Nat} (h : M 0 u v r = 1) : J u v = true ∧ u < n ∧ v < n ∧ r < 10 ∧ (r = ph v / 3 ∨ r = ph v / 3 + 1) := by
  have N := fun u v r j hr h => zg_N E G (u := u) (v := v) (r := r) j hr h
  obtain ⟨_, sy, ir, hJ, _⟩ := E
  obtain ⟨g1, g2, g3, g4, g5, g6, g7, g8, g9, g10, g11⟩ := G
  obtain ⟨j, hr, h1⟩ := (g1 u v r).mp (by omega)
  have h2 : ¬ M 1 v u r ≠ 0 := fun z => by have := (g2 u v r).mp z; omega
  have h3 : ¬ 3 * r + 1 ≤ ph u := fun z => by have := g8 u v r j hr z; omega
  have h4 : ¬ 3 * r + 3 ≤ ph v := fun z => h3 (N v u r (sy _ _ j) hr z)
  have h5 : r = 0 ∨ 3 * (r - 1) + 1 ≤ ph v := by
    by_cases e : r = 0
    · exact Or.inl e
    · exact Or.inr (N u v (r - 1) j (by omega) (by omega))
  have := hJ _ _ j
  exact ⟨j, this.1, this.2, hr, by omega⟩
theorem zg_box1 (E : zg_E n J pr) (G : zg_G n al J pr ph M) {u v r : Nat} (h : M 1 u v r = 1) : J u v = true ∧ u < n ∧ v < n ∧ r < 10 ∧ ph v = 3 * r := by
  obtain ⟨_, sy, ir, hJ, _⟩ := E
  obtain ⟨g1, g2, g3, g4, g5, g6, g7, g8, g9, g10, g11⟩ := G
  have h0 := (g2 v u r).mp (by omega)
  obtain ⟨j, hr, h1⟩ := (g1 v u r).mp (by omega)
  have h3 : ¬ 3 * r + 1 ≤ ph v := fun z => by have := g8 v u r j hr z; omega
  have := hJ _ _ j
  exact ⟨sy _ _ j, this.2, this.1, hr, by omega⟩
theorem zg_box2 (E : zg_E n J pr) (G : zg_G n al J pr ph M) {u v r : Nat} (h : M 2 u v r = 1) : al = true ∧ J u v = true ∧ u < n ∧ v < n ∧ r < 10 ∧ (r = ph v / 3 ∨ r = ph v / 3 + 1) := by
  have N := fun u v r j hr h => zg_N E G (u := u) (v := v) (r := r) j hr h
  obtain ⟨_, sy, ir, hJ, _⟩ := E
  obtain ⟨g1, g2, g3, g4, g5, g6, g7, g8, g9, g10, g11⟩ := G
  obtain ⟨hal, j, hr, h1⟩ := (g3 u v r).mp (by omega)
  have h4 : ¬ 3 * r + 3 ≤ ph v := fun z => by have := g9 hal u v r j hr z; omega
  have h5 : r = 0 ∨ 3 * (r - 1) + 1 ≤ ph v := by
    by_cases e : r = 0
    · exact Or.inl e
    · exact Or.inr (N u v (r - 1) j (by omega) (by omega))
  have := hJ _ _ j
  exact ⟨hal, j, this.1, this.2, hr, by omega⟩
theorem zg_box3 (E : zg_E n J pr) (G : zg_G n al J pr ph M) {u v r : Nat} (h : M 3 u v r = 1) : al = false ∧ pr u = v ∧ u < n ∧ v < n ∧ r < 10 ∧ r = ph v / 3 := by
  obtain ⟨g1, g2, g3, g4, g5, g6, g7, g8, g9, g10, g11⟩ := G
  obtain ⟨hal, hu, hv, hp, hr, h1⟩ := (g4 u v r).mp (by omega)
  have h4 : ¬ 3 * r + 2 ≤ ph v := fun z => by have := g10 hal u v r hu hv hp hr z; omega
  have h5 : r = 0 ∨ 3 * (r - 1) + 3 ≤ ph v := by
    by_cases e : r = 0
    · exact Or.inl e
    · have h6 := g11 hal u v (r - 1) hu hv hp (by omega) (by omega)
      exact Or.inr ((g5 u v (r - 1)).mp (by omega)).2.2.2.2.2
  exact ⟨hal, hp, hu, hv, hr, by omega⟩
theorem zg_box4 (E : zg_E n J pr) (G : zg_G n al J pr ph M) {u v r : Nat} (h : M 4 u v r = 1) : al = false ∧ pr v = u ∧ u < n ∧ v < n ∧ r < 10 ∧ ph v = 3 * r + 2 := by
  obtain ⟨g1, g2, g3, g4, g5, g6, g7, g8, g9, g10, g11⟩ := G
  obtain ⟨hal, hu, hv, hp, hr, h1⟩ := (g5 v u r).mp (by omega)
  have h4 : ¬ 3 * r + 3 ≤ ph v := fun z => by have := g11 hal v u r hu hv hp hr z; omega
  have h5 := g10 hal v u r hu hv hp hr (by omega)
  have h6 := ((g4 v u r).mp (by omega)).2.2.2.2.2
  exact ⟨hal, hp, hv, hu, hr, by omega⟩
end
/-- the arrays -/
def za_A (n : Nat) (kd : Int32) (H : Nat → Nat → Int32) (ph : Nat → Nat) (M : zg_M) (hi ro ac sa up fo iS re : Nat → Int32) : Prop :=
  (∀ v, v < n → ro v = nI (ph v / 3)) ∧
  (∀ v, v < n → iS v = if ph v % 3 = 0 then 0 else 1) ∧
  (∀ v, v < n → ph v < 30 → re v = if ph v % 3 = 2 then 1 else 0) ∧
  (∀ v r, v < n → r < 10 → ph v = 3 * r → ac v = nI (zc_n (fun w => decide (M 1 w v r = 2)) n)) ∧
  (∀ v r, v < n → (r = ph v / 3 ∨ r = ph v / 3 + 1) → sa (2 * v + r % 2) = nI (zc_n (fun u => decide (M 2 u v r = 2)) n)) ∧
  (∀ v r, v < n → (r = ph v / 3 ∨ r = ph v / 3 + 1) → up (2 * v + r % 2) = nI (zc_n (fun u => decide (M 3 u v r = 2)) n)) ∧
  (∀ v r, v < n → (r = ph v / 3 ∨ r = ph v / 3 + 1) → fo (2 * v + r % 2) = zf_f kd (fun u => decide (M 0 u v r = 2)) (H r) n) ∧
  (∀ v r, v < n → r ≤ ph v / 3 → hi (8 * r + v) = H r v)
section
variable {n : Nat} {kd : Int32} {H : Nat → Nat → Int32} {ph : Nat → Nat} {M : zg_M} {hi ro ac sa up fo iS re : Nat → Int32}
/-- sending changes no array here -/
theorem za_send (A : za_A n kd H ph M hi ro ac sa up fo iS re) {M' : zg_M} (h : ∀ s u v r, M' s u v r = 2 ↔ M s u v r = 2) : za_A n kd H ph M' hi ro ac sa up fo iS re := by
  obtain ⟨a1, a2, a3, a4, a5, a6, a7, a8⟩ := A
  have hd : ∀ s u v r, decide (M s u v r = 2) = decide (M' s u v r = 2) := fun s u v r => by simp only [h]
  refine ⟨a1, a2, a3, fun v r hv hr e => ?_, fun v r hv hr => ?_, fun v r hv hr => ?_, fun v r hv hr => ?_, a8⟩
  · rw [a4 v r hv hr e]; exact congrArg nI (zc_congr _ fun i _ => hd _ _ _ _)
  · rw [a5 v r hv hr]; exact congrArg nI (zc_congr _ fun i _ => hd _ _ _ _)
  · rw [a6 v r hv hr]; exact congrArg nI (zc_congr _ fun i _ => hd _ _ _ _)
  · rw [a7 v r hv hr]; exact zf_congr _ (fun i _ => hd _ _ _ _) (fun _ _ _ => rfl)
/-- a state message is delivered to v -/
theorem za_del0 (A : za_A n kd H ph M hi ro ac sa up fo iS re) {u v r : Nat} (h : M 0 u v r = 1) (hu : u < n) (hv : v < n) (hr : r = ph v / 3 ∨ r = ph v / 3 + 1) :
    za_A n kd H ph (zg_U M 0 u v r 2) hi ro ac sa up (upd fo (2 * v + r % 2) (zf_op kd (fo (2 * v + r % 2)) (H r u))) iS re := by
  obtain ⟨a1, a2, a3, a4, a5, a6, a7, a8⟩ := A
  have hn : ∀ s x y z, ¬ (s = 0 ∧ x = u ∧ y = v ∧ z = r) → decide (M s x y z = 2) = decide (zg_U M 0 u v r 2 s x y z = 2) := fun s x y z c => by unfold zg_U; rw [if_neg c]
  refine ⟨a1, a2, a3, fun v' r' hv' hr' e => ?_, fun v' r' hv' hr' => ?_, fun v' r' hv' hr' => ?_, fun v' r' hv' hr' => ?_, a8⟩
  · rw [a4 v' r' hv' hr' e]; exact congrArg nI (zc_congr _ fun i _ => hn _ _ _ _ (by omega))
  · rw [a5 v' r' hv' hr']; exact congrArg nI (zc_congr _ fun i _ => hn _ _ _ _ (by omega))
  · rw [a6 v' r' hv' hr']; exact congrArg nI (zc_congr _ fun i _ => hn _ _ _ _ (by omega))
  · by_cases c : v' = v ∧ r' = r
    · obtain ⟨rfl, rfl⟩ := c
      rw [pk_us, a7 v' r' hv' hr']
      refine (zf_up hu ?_ ?_ fun i _ hne => hn _ _ _ _ (by omega)).symm
      · exact decide_eq_false (by omega)
      · unfold zg_U; rw [if_pos ⟨rfl, rfl, rfl, rfl⟩]; rfl
    · have hne : 2 * v' + r' % 2 ≠ 2 * v + r % 2 := by
        intro z
        have e : v' = v := by omega
        subst e
        exact c ⟨rfl, by omega⟩
      rw [pk_un hne, a7 v' r' hv' hr']
      exact zf_congr _ (fun i _ => hn _ _ _ _ (fun z => c ⟨z.2.2.1, z.2.2.2⟩)) (fun _ _ _ => rfl)
/-- an acknowledgement is delivered to v -/
theorem za_del1 (A : za_A n kd H ph M hi ro ac sa up fo iS re) {u v r : Nat} (h : M 1 u v r = 1) (hu : u < n) (hv : v < n) (hr : ph v = 3 * r) :
    za_A n kd H ph (zg_U M 1 u v r 2) hi ro (upd ac v (ac v + 1)) sa up fo iS re := by
  obtain ⟨a1, a2, a3, a4, a5, a6, a7, a8⟩ := A
  have hn : ∀ s x y z, ¬ (s = 1 ∧ x = u ∧ y = v ∧ z = r) → decide (M s x y z = 2) = decide (zg_U M 1 u v r 2 s x y z = 2) := fun s x y z c => by unfold zg_U; rw [if_neg c]
  refine ⟨a1, a2, a3, fun v' r' hv' hr' e => ?_, fun v' r' hv' hr' => ?_, fun v' r' hv' hr' => ?_, fun v' r' hv' hr' => ?_, a8⟩
  · by_cases c : v' = v
    · subst c
      have e' : r' = r := by omega
      subst e'
      rw [pk_us, a4 v' r' hv' hr' e, nI_1]
      refine congrArg nI (zc_up hu ?_ ?_ fun i _ hne => hn _ _ _ _ (by omega)).symm
      · exact decide_eq_false (by omega)
      · unfold zg_U; rw [if_pos ⟨rfl, rfl, rfl, rfl⟩]; rfl
    · rw [pk_un c, a4 v' r' hv' hr' e]
      exact congrArg nI (zc_congr _ fun i _ => hn _ _ _ _ (fun z => c z.2.2.1))
  · rw [a5 v' r' hv' hr']; exact congrArg nI (zc_congr _ fun i _ => hn _ _ _ _ (by omega))
  · rw [a6 v' r' hv' hr']; exact congrArg nI (zc_congr _ fun i _ => hn _ _ _ _ (by omega))
  · rw [a7 v' r' hv' hr']; exact zf_congr _ (fun i _ => hn _ _ _ _ (by omega)) (fun _ _ _ => rfl)
theorem za_del2 (A : za_A n kd H ph M hi ro ac sa up fo iS re) {u v r : Nat} (h : M 2 u v r = 1) (hu : u < n) (hv : v < n) (hr : r = ph v / 3 ∨ r = ph v / 3 + 1) :
    za_A n kd H ph (zg_U M 2 u v r 2) hi ro ac (upd sa (2 * v + r % 2) (sa (2 * v + r % 2) + 1)) up fo iS re := by
  obtain ⟨a1, a2, a3, a4, a5, a6, a7, a8⟩ := A
  have hn : ∀ s x y z, ¬ (s = 2 ∧ x = u ∧ y = v ∧ z = r) → decide (M s x y z = 2) = decide (zg_U M 2 u v r 2 s x y z = 2) := fun s x y z c => by unfold zg_U; rw [if_neg c]
  refine ⟨a1, a2, a3, fun v' r' hv' hr' e => ?_, fun v' r' hv' hr' => ?_, fun v' r' hv' hr' => ?_, fun v' r' hv' hr' => ?_, a8⟩
  · rw [a4 v' r' hv' hr' e]; exact congrArg nI (zc_congr _ fun i _ => hn _ _ _ _ (by omega))
  · by_cases c : v' = v ∧ r' = r
    · obtain ⟨rfl, rfl⟩ := c
      rw [pk_us, a5 v' r' hv' hr', nI_1]
      refine congrArg nI (zc_up hu ?_ ?_ fun i _ hne => hn _ _ _ _ (by omega)).symm
      · exact decide_eq_false (by omega)
      · unfold zg_U; rw [if_pos ⟨rfl, rfl, rfl, rfl⟩]; rfl
    · have hne : 2 * v' + r' % 2 ≠ 2 * v + r % 2 := by
        intro z
        have e : v' = v := by omega
        subst e
        exact c ⟨rfl, by omega⟩
      rw [pk_un hne, a5 v' r' hv' hr']
      exact congrArg nI (zc_congr _ (fun i _ => hn _ _ _ _ (fun z => c ⟨z.2.2.1, z.2.2.2⟩)))
  · rw [a6 v' r' hv' hr']; exact congrArg nI (zc_congr _ fun i _ => hn _ _ _ _ (by omega))
  · rw [a7 v' r' hv' hr']; exact zf_congr _ (fun i _ => hn _ _ _ _ (by omega)) (fun _ _ _ => rfl)
theorem za_del3 (A : za_A n kd H ph M hi ro ac sa up fo iS re) {u v r : Nat} (h : M 3 u v r = 1) (hu : u < n) (hv : v < n) (hr : r = ph v / 3 ∨ r = ph v / 3 + 1) :
    za_A n kd H ph (zg_U M 3 u v r 2) hi ro ac sa (upd up (2 * v + r % 2) (up (2 * v + r % 2) + 1)) fo iS re := by
  obtain ⟨a1, a2, a3, a4, a5, a6, a7, a8⟩ := A
  have hn : ∀ s x y z, ¬ (s = 3 ∧ x = u ∧ y = v ∧ z = r) → decide (M s x y z = 2) = decide (zg_U M 3 u v r 2 s x y z = 2) := fun s x y z c => by unfold zg_U; rw [if_neg c]
  refine ⟨a1, a2, a3, fun v' r' hv' hr' e => ?_, fun v' r' hv' hr' => ?_, fun v' r' hv' hr' => ?_, fun v' r' hv' hr' => ?_, a8⟩
  · rw [a4 v' r' hv' hr' e]; exact congrArg nI (zc_congr _ fun i _ => hn _ _ _ _ (by omega))
  · rw [a5 v' r' hv' hr']; exact congrArg nI (zc_congr _ fun i _ => hn _ _ _ _ (by omega))
  · by_cases c : v' = v ∧ r' = r
    · obtain ⟨rfl, rfl⟩ := c
      rw [pk_us, a6 v' r' hv' hr', nI_1]
      refine congrArg nI (zc_up hu ?_ ?_ fun i _ hne => hn _ _ _ _ (by omega)).symm
      · exact decide_eq_false (by omega)
      · unfold zg_U; rw [if_pos ⟨rfl, rfl, rfl, rfl⟩]; rfl
    · have hne : 2 * v' + r' % 2 ≠ 2 * v + r % 2 := by
        intro z
        have e : v' = v := by omega
        subst e
        exact c ⟨rfl, by omega⟩
      rw [pk_un hne, a6 v' r' hv' hr']
      exact congrArg nI (zc_congr _ (fun i _ => hn _ _ _ _ (fun z => c ⟨z.2.2.1, z.2.2.2⟩)))
  · rw [a7 v' r' hv' hr']; exact zf_congr _ (fun i _ => hn _ _ _ _ (by omega)) (fun _ _ _ => rfl)
theorem za_del4 (A : za_A n kd H ph M hi ro ac sa up fo iS re) {u v r : Nat} : za_A n kd H ph (zg_U M 4 u v r 2) hi ro ac sa up fo iS re := by
  obtain ⟨a1, a2, a3, a4, a5, a6, a7, a8⟩ := A
  have hn : ∀ s x y z, ¬ (s = 4 ∧ x = u ∧ y = v ∧ z = r) → decide (M s x y z = 2) = decide (zg_U M 4 u v r 2 s x y z = 2) := fun s x y z c => by unfold zg_U; rw [if_neg c]
  refine ⟨a1, a2, a3, fun v' r' hv' hr' e => ?_, fun v' r' hv' hr' => ?_, fun v' r' hv' hr' => ?_, fun v' r' hv' hr' => ?_, a8⟩
  · rw [a4 v' r' hv' hr' e]; exact congrArg nI (zc_congr _ fun i _ => hn _ _ _ _ (by omega))
  · rw [a5 v' r' hv' hr']; exact congrArg nI (zc_congr _ fun i _ => hn _ _ _ _ (by omega))
  · rw [a6 v' r' hv' hr']; exact congrArg nI (zc_congr _ fun i _ => hn _ _ _ _ (by omega))
  · rw [a7 v' r' hv' hr']; exact zf_congr _ (fun i _ => hn _ _ _ _ (by omega)) (fun _ _ _ => rfl)
/-- v becomes safe -/
theorem za_safe (A : za_A n kd H ph M hi ro ac sa up fo iS re) {v r : Nat} (hv : v < n) (hp : ph v = 3 * r) : za_A n kd H (zu_p ph v (3 * r + 1)) M hi ro ac sa up fo (upd iS v 1) re := by
  obtain ⟨a1, a2, a3, a4, a5, a6, a7, a8⟩ := A
  have hq : ∀ x, zu_p ph v (3 * r + 1) x / 3 = ph x / 3 := by
    intro x
    by_cases e : x = v
    · subst e; rw [zu_s]; omega
    · rw [zu_n e]
  refine ⟨fun x hx => ?_, fun x hx => ?_, fun x hx h => ?_, fun x r' hx hr' h => ?_, fun x r' hx hr' => ?_, fun x r' hx hr' => ?_, fun x r' hx hr' => ?_, fun x r' hx hr' => ?_⟩
  · rw [hq]; exact a1 x hx
  · by_cases e : x = v
    · subst e; rw [pk_us, zu_s, if_neg (by omega)]
    · rw [pk_un e, zu_n e]; exact a2 x hx
  · by_cases e : x = v
    · subst e
      rw [zu_s] at h ⊢
      rw [a3 x hx (by omega), if_neg (by omega), if_neg (by omega)]
    · rw [zu_n e] at h ⊢; exact a3 x hx h
  · by_cases e : x = v
    · subst e; rw [zu_s] at h; omega
    · rw [zu_n e] at h; exact a4 x r' hx hr' h
  · rw [hq] at hr'; exact a5 x r' hx hr'
  · rw [hq] at hr'; exact a6 x r' hx hr'
  · rw [hq] at hr'; exact a7 x r' hx hr'
  · rw [hq] at hr'; exact a8 x r' hx hr'
/-- v reports -/
theorem za_rep (A : za_A n kd H ph M hi ro ac sa up fo iS re) {v r : Nat} (hv : v < n) (hp : ph v = 3 * r + 1) : za_A n kd H (zu_p ph v (3 * r + 2)) M hi ro ac sa up fo iS (upd re v 1) := by
  obtain ⟨a1, a2, a3, a4, a5, a6, a7, a8⟩ := A
  have hq : ∀ x, zu_p ph v (3 * r + 2) x / 3 = ph x / 3 := by
    intro x
    by_cases e : x = v
    · subst e; rw [zu_s]; omega
    · rw [zu_n e]
  refine ⟨fun x hx => ?_, fun x hx => ?_, fun x hx h => ?_, fun x r' hx hr' h => ?_, fun x r' hx hr' => ?_, fun x r' hx hr' => ?_, fun x r' hx hr' => ?_, fun x r' hx hr' => ?_⟩
  · rw [hq]; exact a1 x hx
  · by_cases e : x = v
    · subst e; rw [a2 x hx, zu_s, if_neg (by omega), if_neg (by omega)]
    · rw [zu_n e]; exact a2 x hx
  · by_cases e : x = v
    · subst e; rw [pk_us, zu_s, if_pos (by omega)]
    · rw [zu_n e] at h ⊢; rw [pk_un e]; exact a3 x hx h
  · by_cases e : x = v
    · subst e; rw [zu_s] at h; omega
    · rw [zu_n e] at h; exact a4 x r' hx hr' h
  · rw [hq] at hr'; exact a5 x r' hx hr'
  · rw [hq] at hr'; exact a6 x r' hx hr'
  · rw [hq] at hr'; exact a7 x r' hx hr'
  · rw [hq] at hr'; exact a8 x r' hx hr'
/-- v goes on from round r -/
theorem za_go (h8 : n ≤ 8) (A : za_A n kd H ph M hi ro ac sa up fo iS re) {v r : Nat} (hv : v < n) (hr : r < 10) (hp : ph v = 3 * r + 1 ∨ ph v = 3 * r + 2)
    (e0 : ∀ u, u < n → M 0 u v (r + 2) ≠ 2) (e2 : ∀ u, u < n → M 2 u v (r + 2) ≠ 2) (e3 : ∀ u, u < n → M 3 u v (r + 2) ≠ 2) (e1 : ∀ u, u < n → M 1 u v (r + 1) ≠ 2)
    {ac' re' iS' : Nat → Int32} (hs : iS' v = 0) (hs' : ∀ x, x ≠ v → iS' x = iS x) (hre : r + 1 < 10 → re' v = 0) (hre' : ∀ x, x ≠ v → re' x = re x) (hac : r + 1 < 10 → ac' v = 0) (hac' : ∀ x, x ≠ v → ac' x = ac x) :
    za_A n kd H (zu_p ph v (3 * r + 3)) M (upd hi (8 * (r + 1) + v) (H (r + 1) v)) (upd ro v (nI (r + 1))) ac' (upd sa (2 * v + r % 2) 0) (upd up (2 * v + r % 2) 0) (upd fo (2 * v + r % 2) (zf_in kd)) iS' re' := by
  obtain ⟨a1, a2, a3, a4, a5, a6, a7, a8⟩ := A
  refine ⟨fun x hx => ?_, fun x hx => ?_, fun x hx h => ?_, fun x r' hx hr' h => ?_, fun x r' hx hr' => ?_, fun x r' hx hr' => ?_, fun x r' hx hr' => ?_, fun x r' hx hr' => ?_⟩
  · by_cases e : x = v
    · subst e; rw [pk_us, zu_s]; exact congrArg nI (by omega)
    · rw [pk_un e, zu_n e]; exact a1 x hx
  · by_cases e : x = v
    · subst e; rw [zu_s, if_pos (by omega)]; exact hs
    · rw [zu_n e, hs' x e]; exact a2 x hx
  · by_cases e : x = v
    · subst e; rw [zu_s] at h ⊢; rw [if_neg (by omega)]; exact hre (by omega)
    · rw [zu_n e] at h ⊢; rw [hre' x e]; exact a3 x hx h
  · by_cases e : x = v
    · subst e
      rw [zu_s] at h
      have er : r' = r + 1 := by omega
      subst er
      rw [hac (by omega), zc_0 n fun i hi => decide_eq_false (e1 i hi)]
      rfl
    · rw [zu_n e] at h; rw [hac' x e]; exact a4 x r' hx hr' h
  · by_cases e : x = v
    · subst e
      rw [zu_s] at hr'
      by_cases c : r' = r + 2
      · subst c
        rw [show 2 * x + (r + 2) % 2 = 2 * x + r % 2 from by omega, pk_us, zc_0 n fun i hi => decide_eq_false (e2 i hi)]
        rfl
      · rw [pk_un (by omega)]; exact a5 x r' hx (by omega)
    · rw [zu_n e] at hr'; rw [pk_un (by omega)]; exact a5 x r' hx hr'
  · by_cases e : x = v
    · subst e
      rw [zu_s] at hr'
      by_cases c : r' = r + 2
      · subst c
        rw [show 2 * x + (r + 2) % 2 = 2 * x + r % 2 from by omega, pk_us, zc_0 n fun i hi => decide_eq_false (e3 i hi)]
        rfl
      · rw [pk_un (by omega)]; exact a6 x r' hx (by omega)
    · rw [zu_n e] at hr'; rw [pk_un (by omega)]; exact a6 x r' hx hr'
  · by_cases e : x = v
    · subst e
      rw [zu_s] at hr'
      by_cases c : r' = r + 2
      · subst c
        rw [show 2 * x + (r + 2) % 2 = 2 * x + r % 2 from by omega, pk_us, zf_none n fun i hi => decide_eq_false (e0 i hi)]
      · rw [pk_un (by omega)]; exact a7 x r' hx (by omega)
    · rw [zu_n e] at hr'; rw [pk_un (by omega)]; exact a7 x r' hx hr'
  · by_cases e : 8 * r' + x = 8 * (r + 1) + v
    · have e1 : r' = r + 1 := by omega
      have e2 : x = v := by omega
      subst e1 e2
      rw [pk_us]
    · rw [pk_un e]
      refine a8 x r' hx ?_
      by_cases c : x = v
      · subst c; rw [zu_s] at hr'; omega
      · rw [zu_n c] at hr'; exact hr'
end
end
section
/-! the walks of X's small methods -/
theorem xs_c8 (v : Nat) (h : v < 8) : (nI v).toNatClampNeg = v := nI_clamp (by omega)
theorem xs_i8 {v : Nat} (h : v < 8) : vp_in (nI v) 8 := vp_in_nI h (by omega)
theorem xs_8 : (8 : Int32) = nI 8 := rfl
theorem xs_jo {v u : Nat} : (8 : Int32) * nI v + nI u = nI (8 * v + u) := by
  rw [xs_8, pk_mul, nI_add]
theorem xs_bx {v r : Nat} (hr : r < 2 ^ 31) : (2 : Int32) * nI v + (nI r &&& 1) = nI (2 * v + r % 2) := by
  rw [show (2 : Int32) = nI 2 from rfl, pk_mul, pk_andN (by omega) 1 (by decide), nI_add]
theorem zg_V1 {M : zg_M} {s v r i : Nat} {F : Nat → Bool} (h : F i = true) : zg_U (zg_V M s v (fun u => F u && decide (u < i)) r) s v i r 1 = zg_V M s v (fun u => F u && decide (u < i + 1)) r := by
  funext s' u' v' r'
  unfold zg_U zg_V
  by_cases c : s' = s ∧ u' = v ∧ v' = i ∧ r' = r
  · obtain ⟨rfl, rfl, rfl, rfl⟩ := c
    simp [h]
  · rw [if_neg c]
    by_cases d : s' = s ∧ u' = v ∧ r' = r
    · obtain ⟨rfl, rfl, rfl⟩ := d
      have hne : v' ≠ i := fun z => c ⟨rfl, rfl, z, rfl⟩
      have e : decide (v' < i) = decide (v' < i + 1) := by
        by_cases q : v' < i
        · rw [decide_eq_true q, decide_eq_true (by omega)]
        · rw [decide_eq_false q, decide_eq_false (by omega)]
      simp only [e]
    · rw [if_neg (fun z => d ⟨z.1, z.2.1, z.2.2.1⟩), if_neg (fun z => d ⟨z.1, z.2.1, z.2.2.1⟩)]
theorem zg_V2 {M : zg_M} {s v r i : Nat} {F : Nat → Bool} (h : F i = false) : zg_V M s v (fun u => F u && decide (u < i)) r = zg_V M s v (fun u => F u && decide (u < i + 1)) r := by
  refine congrArg (fun f => zg_V M s v f r) ?_
  funext u
  by_cases e : u = i
  · subst e; rw [h]; rfl
  · have e : decide (u < i) = decide (u < i + 1) := by
      by_cases q : u < i
      · rw [decide_eq_true q, decide_eq_true (by omega)]
      · rw [decide_eq_false q, decide_eq_false (by omega)]
    rw [e]
theorem zg_V3 {M : zg_M} {s v r n : Nat} {F : Nat → Bool} (h : ∀ u, F u = true → u < n) : zg_V M s v (fun u => F u && decide (u < n)) r = zg_V M s v F r := by
  refine congrArg (fun f => zg_V M s v f r) ?_
  funext u
  cases e : F u with
  | false => rfl
  | true => rw [decide_eq_true (h u e)]; rfl
theorem zg_V4 {M : zg_M} {s v r : Nat} {F : Nat → Bool} : zg_V M s v (fun u => F u && decide (u < 0)) r = M :=
  zg_V0 (fun u => by rw [decide_eq_false (Nat.not_lt_zero u), Bool.and_false])
theorem zg_V5 {M : zg_M} {s v r i : Nat} {F : Nat → Bool} (h : ∀ u, F u = true → M s v u r = 0) : zg_V M s v (fun u => F u && decide (u < i)) r s v i r = M s v i r := by
  unfold zg_V
  rw [if_neg]
  intro z
  have := z.2.2.2
  dsimp only at this
  rw [decide_eq_false (Nat.lt_irrefl i), Bool.and_false] at this
  exact absurd this (by decide)
theorem zg_V6 {M : zg_M} {s v r i : Nat} {F : Nat → Bool} (C : zg_C (zg_V M s v F r)) (h : ∀ u, F u = true → M s v u r = 0) : zg_C (zg_V M s v (fun u => F u && decide (u < i)) r) := by
  refine zg_Cm C fun s' u' v' r' e => ?_
  unfold zg_V at e ⊢
  by_cases c : s' = s ∧ u' = v ∧ r' = r ∧ F v' = true
  · rw [if_pos c]
  · rw [if_neg c]
    rw [if_neg] at e
    · exact e
    · intro z
      exact c ⟨z.1, z.2.1, z.2.2.1, by have := z.2.2.2; rw [Bool.and_eq_true] at this; exact this.1⟩
section
variable {n T : Nat} {J : Nat → Nat → Bool} {H : Nat → Nat → Int32} {M : zg_M} {kd wy sd rn wt cu : Int32} {jo st dg pa pt ch hi ct ro ac sa up fo iS re so fr tt pu lo : Nat → Int32}
theorem xs_send (post : SX → Prop) (P : zp_P H M T wt ct so fr tt pu lo) (C : zg_C M) {s u v r : Nat} {x : Int32} (h0 : M s u v r = 0) (hs : s < 5) (hu : u < 8) (hv : v < 8) (hr : r < 10) (hx : s = 0 → x = H r u)
    (h : ∀ (wt : Int32) (ct so fr tt pu lo : Nat → Int32), zp_P H (zg_U M s u v r 1) T wt ct so fr tt pu lo → post ((nI n), kd, wy, sd, rn, wt, cu, jo, st, dg, pa, pt, ch, hi, ct, ro, ac, sa, up, fo, iS, re, so, fr, tt, pu, lo)) : wpX_send post ((nI n), kd, wy, sd, rn, wt, cu, jo, st, dg, pa, pt, ch, hi, ct, ro, ac, sa, up, fo, iS, re, so, fr, tt, pu, lo) (nI s) (nI u) (nI v) (nI r) x := by
  obtain ⟨l, hl, hw⟩ := zp_lenw P C
  have hin : vp_in wt 340 := by rw [hw]; exact vp_in_nI (by omega) (by omega)
  have hne : ¬ wt = 340 := by
    rw [hw, show (340 : Int32) = nI 340 from rfl, nI_eq (by omega) (by omega)]; omega
  have hc : wt.toNatClampNeg = l := by rw [hw]; exact nI_clamp (by omega)
  have hc1 : (nI r + 1).toNatClampNeg = r + 1 := by rw [nI_1]; exact nI_clamp (by omega)
  have hi1 : vp_in (nI r + 1) 11 := by rw [nI_1]; exact vp_in_nI (by omega) (by omega)
  unfold wpX_send
  refine br_f hne ⟨hin, nm_e ⟨hin, nm_e ⟨hin, nm_e ⟨hin, nm_e ⟨hin, nm_e (nm_e ?_)⟩⟩⟩⟩⟩
  rw [hc]
  by_cases e : s = 0
  · refine br_t (by rw [e]; rfl) (h _ _ _ _ _ _ _ (zp_add P hw hl C h0 hs hu hv hr hx fun j => ?_))
    rw [if_neg (fun z => z.1 e)]
  · refine br_f (by rw [show (0 : Int32) = nI 0 from rfl, nI_eq (by omega) (by omega)]; exact e) ⟨hi1, hi1, nm_e (h _ _ _ _ _ _ _ (zp_add P hw hl C h0 hs hu hv hr hx fun j => ?_))⟩
    rw [hc1]
    by_cases c : j = r + 1
    · rw [if_pos ⟨e, c⟩, c, pk_us]
    · rw [if_neg (fun z => c z.2), pk_un c]
theorem xs_empty (post : SX → Prop) {b : Nat} (hb : b < 16) (h : post ((nI n), kd, wy, sd, rn, wt, cu, jo, st, dg, pa, pt, ch, hi, ct, ro, ac, upd sa b 0, upd up b 0, upd fo b (zf_in kd), iS, re, so, fr, tt, pu, lo)) : wpX_emptyInbox post ((nI n), kd, wy, sd, rn, wt, cu, jo, st, dg, pa, pt, ch, hi, ct, ro, ac, sa, up, fo, iS, re, so, fr, tt, pu, lo) (nI b) := by
  have hin : vp_in (nI b) 16 := vp_in_nI hb (by omega)
  have hc : (nI b).toNatClampNeg = b := nI_clamp (by omega)
  have uu : ∀ (f : Nat → Int32) (x y : Int32), upd (upd f b x) b y = upd f b y := by
    intro f x y
    funext j
    unfold upd
    by_cases e : j = b
    · rw [if_pos e, if_pos e]
    · rw [if_neg e, if_neg e, if_neg e]
  have fin : ∀ f' : Nat → Int32, f' = upd fo b (zf_in kd) → wX_emptyInbox_49 post (nI b) (nI n) kd wy sd rn wt cu jo st dg pa pt ch hi ct ro ac sa up f' iS re so fr tt pu lo := by
    intro f' e
    subst e
    unfold wX_emptyInbox_49
    rw [hc]
    exact ⟨hin, nm_e ⟨hin, nm_e h⟩⟩
  unfold wpX_emptyInbox
  rw [hc]
  refine ⟨hin, nm_e ?_⟩
  by_cases k0 : kd = 0
  · refine br_t k0 ⟨hin, nm_e (fin _ ?_)⟩
    rw [uu]; unfold zf_in; rw [if_pos k0]
  · refine br_f k0 ?_
    by_cases k1 : kd = 1
    · refine br_t k1 ?_
      unfold wX_emptyInbox_41
      rw [hc]
      refine ⟨hin, nm_e (fin _ ?_)⟩
      rw [uu]; unfold zf_in; rw [if_neg k0, if_pos (Or.inl k1)]
    · refine br_f k1 ?_
      by_cases k4 : kd = 4
      · refine br_t k4 ?_
        unfold wX_emptyInbox_41
        rw [hc]
        refine ⟨hin, nm_e (fin _ ?_)⟩
        rw [uu]; unfold zf_in; rw [if_neg k0, if_pos (Or.inr k4)]
      · refine br_f k4 (fin _ ?_)
        unfold zf_in; rw [if_neg k0, if_neg (by rintro (z | z); exact k1 z; exact k4 z)]
theorem xs_fold (post : SX → Prop) {b : Nat} {x : Int32} (hb : b < 16) (h : post ((nI n), kd, wy, sd, rn, wt, cu, jo, st, dg, pa, pt, ch, hi, ct, ro, ac, sa, up, upd fo b (zf_op kd (fo b) x), iS, re, so, fr, tt, pu, lo)) : wpX_fold post ((nI n), kd, wy, sd, rn, wt, cu, jo, st, dg, pa, pt, ch, hi, ct, ro, ac, sa, up, fo, iS, re, so, fr, tt, pu, lo) (nI b) x := by
  have hin : vp_in (nI b) 16 := vp_in_nI hb (by omega)
  have hc : (nI b).toNatClampNeg = b := nI_clamp (by omega)
  unfold wpX_fold
  rw [hc]
  unfold zf_op at h
  by_cases k0 : kd = 0
  · rw [if_pos k0] at h
    refine br_t k0 ⟨hin, ?_⟩
    by_cases c : x ≤ fo b
    · rw [if_pos c] at h; exact br_t c ⟨hin, hin, nm_e h⟩
    · rw [if_neg c] at h; exact br_f c ⟨hin, nm_e h⟩
  · rw [if_neg k0] at h
    refine br_f k0 ?_
    have f52 : (kd = 1 ∨ kd = 4) → wX_fold_52 post (nI b) x (nI n) kd wy sd rn wt cu jo st dg pa pt ch hi ct ro ac sa up fo iS re so fr tt pu lo := by
      intro k
      rw [if_pos k] at h
      unfold wX_fold_52
      rw [hc]
      refine ⟨hin, ?_⟩
      by_cases c : fo b ≤ x
      · rw [if_pos c] at h; exact br_t c ⟨hin, hin, nm_e h⟩
      · rw [if_neg c] at h; exact br_f c ⟨hin, nm_e h⟩
    by_cases k1 : kd = 1
    · exact br_t k1 (f52 (Or.inl k1))
    · refine br_f k1 ?_
      by_cases k4 : kd = 4
      · exact br_t k4 (f52 (Or.inr k4))
      · rw [if_neg (by rintro (z | z); exact k1 z; exact k4 z)] at h
        refine br_f k4 ?_
        by_cases k3 : kd = 3
        · rw [if_pos k3] at h; exact br_t k3 ⟨hin, hin, nm_e h⟩
        · rw [if_neg k3] at h; exact br_f k3 ⟨hin, hin, nm_e h⟩
theorem xs_made (post : Int32 → Prop) {own all : Int32} {has : Bool} {p : Int32} (hp : p = 0 ↔ has = false) (h : post (zf_md kd own all has)) : wpX_made post ((nI n), kd, wy, sd, rn, wt, cu, jo, st, dg, pa, pt, ch, hi, ct, ro, ac, sa, up, fo, iS, re, so, fr, tt, pu, lo) own all p := by
  unfold wpX_made
  unfold zf_md at h
  by_cases k2 : kd = 2
  · rw [if_pos k2] at h; exact br_t k2 h
  rw [if_neg k2] at h
  refine br_f k2 ?_
  by_cases k3 : kd = 3
  · rw [if_pos k3] at h; exact br_t k3 h
  rw [if_neg k3] at h
  refine br_f k3 ?_
  by_cases k5 : kd = 5
  · rw [if_pos k5] at h; exact br_t k5 h
  rw [if_neg k5] at h
  refine br_f k5 ?_
  by_cases c : has = false
  · rw [if_pos c] at h; exact br_t (hp.mpr c) h
  rw [if_neg c] at h
  refine br_f (fun z => c (hp.mp z)) ?_
  by_cases k4 : kd = 4
  · have k0 : ¬ kd = 0 := by rw [k4]; decide
    rw [if_neg k0, if_pos k4] at h
    refine br_t k4 ?_
    unfold wX_made_59
    refine br_f k0 ?_
    by_cases q : own ≤ all + 1
    · rw [if_pos q] at h; exact br_t q h
    · rw [if_neg q] at h; exact br_f q h
  · rw [if_neg k4] at h
    refine br_f k4 ?_
    unfold wX_made_59
    by_cases k0 : kd = 0
    · rw [if_pos k0] at h
      refine br_t k0 ?_
      by_cases q : all ≤ own
      · rw [if_pos q] at h; exact br_t q h
      · rw [if_neg q] at h; exact br_f q h
    · rw [if_neg k0] at h
      refine br_f k0 ?_
      by_cases q : own ≤ all
      · rw [if_pos q] at h; exact br_t q h
      · rw [if_neg q] at h; exact br_f q h
end
end
section
/-! X's loops of sends, a node that goes on -/
theorem xs_b0 : vp_nar .boolean 0 = 0 := rfl
theorem xs_b1 : vp_nar .boolean 1 = 1 := rfl
theorem xs_hix {v r : Nat} : (8 : Int32) * nI r + 8 + nI v = nI (8 * (r + 1) + v) := by
  rw [xs_8, pk_mul, nI_add, nI_add]; exact congrArg nI (by omega)
section
variable {n T : Nat} {J : Nat → Nat → Bool} {H : Nat → Nat → Int32} {M : zg_M} {kd wy sd rn wt cu : Int32} {jo st dg pa pt ch hi ct ro ac sa up fo iS re so fr tt pu lo : Nat → Int32}
/-- a node tells its state to its neighbours -/
theorem xs_ss23 (post : SX → Prop) {v r : Nat} (h8 : n ≤ 8) (hv : v < n) (hr : r < 10) (hro : ro v = nI r) (hhi : hi (8 * r + v) = H r v) (hJ : ∀ u, u < n → (jo (8 * v + u) = 0 ↔ J v u = false)) (hJb : ∀ u, J v u = true → u < n) (hD : ¬ dg v = 0)
    (C : zg_C (zg_V M 0 v (J v) r)) (f0 : ∀ u, J v u = true → M 0 v u r = 0) (h : ∀ (wt : Int32) (ct so fr tt pu lo : Nat → Int32), zp_P H (zg_V M 0 v (J v) r) T wt ct so fr tt pu lo → post ((nI n), kd, wy, sd, rn, wt, cu, jo, st, dg, pa, pt, ch, hi, ct, ro, ac, sa, up, fo, iS, re, so, fr, tt, pu, lo)) :
    ∀ d i, i + d = n → ∀ (wt : Int32) (ct so fr tt pu lo : Nat → Int32), zp_P H (zg_V M 0 v (fun u => J v u && decide (u < i)) r) T wt ct so fr tt pu lo → wX_sendState_23 post (nI v) (d + 1) (nI i) (nI n) kd wy sd rn wt cu jo st dg pa pt ch hi ct ro ac sa up fo iS re so fr tt pu lo := by
  have cv : (nI v).toNatClampNeg = v := nI_clamp (by omega)
  have iv : vp_in (nI v) 8 := vp_in_nI (by omega) (by omega)
  intro d
  induction d with
  | zero =>
    intro i hi wt ct so fr tt pu lo P
    have e : i = n := by omega
    subst e
    rw [zg_V3 hJb] at P
    rw [wX_sendState_23]
    rw [cv]
    exact br_t (nI_le (Nat.le_refl _) (by omega)) ⟨iv, br_f hD (h _ _ _ _ _ _ _ P)⟩
  | succ d ih =>
    intro i hi' wt ct so fr tt pu lo P
    have c1 : ((8 : Int32) * nI v + nI i).toNatClampNeg = 8 * v + i := by rw [xs_jo]; exact nI_clamp (by omega)
    have i1 : vp_in ((8 : Int32) * nI v + nI i) 64 := by rw [xs_jo]; exact vp_in_nI (by omega) (by omega)
    have c2 : ((8 : Int32) * nI r + nI v).toNatClampNeg = 8 * r + v := by rw [xs_jo]; exact nI_clamp (by omega)
    have i2 : vp_in ((8 : Int32) * nI r + nI v) 88 := by rw [xs_jo]; exact vp_in_nI (by omega) (by omega)
    rw [wX_sendState_23]
    dsimp only
    rw [c1, cv, hro, c2, hhi]
    refine br_f (nI_ge (by omega) (by omega)) ⟨i1, ?_⟩
    have hJi := hJ i (by omega)
    cases e : J v i with
    | false =>
      rw [zg_V2 e] at P
      exact br_t (hJi.mpr e) (nm_r (nI_1 i) (ih (i + 1) (by omega) _ _ _ _ _ _ _ P))
    | true =>
      refine br_f (fun z => by rw [hJi.mp z] at e; exact absurd e (by decide)) ⟨iv, iv, i2, ?_⟩
      refine xs_send (s := 0) _ P (zg_V6 C f0) ?_ (by omega) (by omega) (by omega) hr (fun _ => rfl) ?_
      · rw [zg_V5 f0]; exact f0 i e
      · intro wt ct so fr tt pu lo Q
        rw [zg_V1 e] at Q
        exact nm_r (nI_1 i) (ih (i + 1) (by omega) _ _ _ _ _ _ _ Q)
theorem xs_ss (post : SX → Prop) {v r : Nat} (h8 : n ≤ 8) (hv : v < n) (hr : r < 10) (hro : ro v = nI r) (hhi : hi (8 * r + v) = H r v) (hJ : ∀ u, u < n → (jo (8 * v + u) = 0 ↔ J v u = false)) (hJb : ∀ u, J v u = true → u < n) (hD : ¬ dg v = 0)
    (C : zg_C (zg_V M 0 v (J v) r)) (f0 : ∀ u, J v u = true → M 0 v u r = 0) (P : zp_P H M T wt ct so fr tt pu lo) (h : ∀ (wt : Int32) (ct so fr tt pu lo : Nat → Int32), zp_P H (zg_V M 0 v (J v) r) T wt ct so fr tt pu lo → post ((nI n), kd, wy, sd, rn, wt, cu, jo, st, dg, pa, pt, ch, hi, ct, ro, upd ac v 0, sa, up, fo, upd iS v 0, upd re v 0, so, fr, tt, pu, lo)) : wpX_sendState post ((nI n), kd, wy, sd, rn, wt, cu, jo, st, dg, pa, pt, ch, hi, ct, ro, ac, sa, up, fo, iS, re, so, fr, tt, pu, lo) (nI v) := by
  have cv : (nI v).toNatClampNeg = v := nI_clamp (by omega)
  have iv : vp_in (nI v) 8 := vp_in_nI (by omega) (by omega)
  unfold wpX_sendState
  rw [cv, xs_b0]
  refine ⟨iv, nm_e ⟨iv, nm_e ⟨iv, nm_e ⟨n + 1, ?_⟩⟩⟩⟩
  exact xs_ss23 post h8 hv hr hro hhi hJ hJb hD C f0 h n 0 (by omega) _ _ _ _ _ _ _ (by rw [zg_V4]; exact P)
theorem xs_goOn (post : SX → Prop) {v r : Nat} (h8 : n ≤ 8) (hv : v < n) (hr : r < 10) (hro : ro v = nI r) (hhi : hi (8 * r + v) = H r v) (hfo : H (r + 1) v = zf_md kd (H r v) (fo (2 * v + r % 2)) true) (hJ : ∀ u, u < n → (jo (8 * v + u) = 0 ↔ J v u = false)) (hJb : ∀ u, J v u = true → u < n) (hD : ¬ dg v = 0)
    (C : zg_C (zg_V M 0 v (fun u => decide (r + 1 < 10) && J v u) (r + 1))) (f0 : ∀ u, M 0 v u (r + 1) = 0) (P : zp_P H M T wt ct so fr tt pu lo)
    (h : ∀ iS' re' ac' : Nat → Int32, iS' v = 0 → (∀ x, x ≠ v → iS' x = iS x) → (r + 1 < 10 → re' v = 0) → (∀ x, x ≠ v → re' x = re x) → (r + 1 < 10 → ac' v = 0) → (∀ x, x ≠ v → ac' x = ac x) →
      ∀ (wt : Int32) (ct so fr tt pu lo : Nat → Int32), zp_P H (zg_V M 0 v (fun u => decide (r + 1 < 10) && J v u) (r + 1)) T wt ct so fr tt pu lo → post ((nI n), kd, wy, sd, rn, wt, cu, jo, st, dg, pa, pt, ch, upd hi (8 * (r + 1) + v) (H (r + 1) v), ct, upd ro v (nI (r + 1)), ac', upd sa (2 * v + r % 2) 0, upd up (2 * v + r % 2) 0, upd fo (2 * v + r % 2) (zf_in kd), iS', re', so, fr, tt, pu, lo)) :
    wpX_goOn post ((nI n), kd, wy, sd, rn, wt, cu, jo, st, dg, pa, pt, ch, hi, ct, ro, ac, sa, up, fo, iS, re, so, fr, tt, pu, lo) (nI v) := by
  have cv : (nI v).toNatClampNeg = v := nI_clamp (by omega)
  have iv : vp_in (nI v) 8 := vp_in_nI (by omega) (by omega)
  have cb : (nI (2 * v + r % 2)).toNatClampNeg = 2 * v + r % 2 := nI_clamp (by omega)
  have ib : vp_in (nI (2 * v + r % 2)) 16 := vp_in_nI (by omega) (by omega)
  have cx : (nI (8 * (r + 1) + v)).toNatClampNeg = 8 * (r + 1) + v := nI_clamp (by omega)
  have ix : vp_in (nI (8 * (r + 1) + v)) 88 := vp_in_nI (by omega) (by omega)
  have ey : nI (8 * (r + 1) + v) - 8 = nI (8 * r + v) := by rw [xs_8, pk_sub (by omega)]; exact congrArg nI (by omega)
  have cy : (nI (8 * (r + 1) + v) - 8).toNatClampNeg = 8 * r + v := by rw [ey]; exact nI_clamp (by omega)
  have iy : vp_in (nI (8 * (r + 1) + v) - 8) 88 := by rw [ey]; exact vp_in_nI (by omega) (by omega)
  unfold wpX_goOn
  dsimp only
  rw [cv, hro]
  refine ⟨iv, nm_r (xs_bx (by omega)) ⟨iv, nm_r xs_hix ⟨iy, ib, ?_⟩⟩⟩
  rw [cy, cb, cx, hhi]
  refine xs_made (has := true) _ (by decide) ⟨ix, nm_e ?_⟩
  rw [← hfo]
  refine xs_empty _ (by omega) ?_
  dsimp only
  refine ⟨iv, iv, nm_e ⟨iv, nm_e ⟨iv, ?_⟩⟩⟩
  rw [pk_us, hro, nI_1, xs_b0]
  by_cases c : r + 1 < 10
  · refine br_f (nI_ge (b := 10) c (by omega)) ?_
    have e : (fun u => decide (r + 1 < 10) && J v u) = J v := by funext u; rw [decide_eq_true c]; rfl
    rw [e] at C h
    refine xs_ss (r := r + 1) _ h8 hv c pk_us pk_us hJ hJb hD C (fun u _ => f0 u) P ?_
    intro wt ct so fr tt pu lo Q
    refine h _ _ _ pk_us (fun x hx => by rw [pk_un hx, pk_un hx]) (fun _ => pk_us) (fun x hx => pk_un hx) (fun _ => pk_us) (fun x hx => pk_un hx) _ _ _ _ _ _ _ Q
  · refine br_t (nI_le (a := 10) (by omega) (by omega)) ?_
    rw [zg_V0 (fun u => by rw [decide_eq_false c]; rfl)] at h
    exact h _ _ _ pk_us (fun x hx => pk_un hx) (fun z => absurd z c) (fun _ _ => rfl) (fun z => absurd z c) (fun _ _ => rfl) _ _ _ _ _ _ _ P
/-- word of safety to the neighbours -/
theorem xs_bs16 (post : SX → Prop) {v r : Nat} (h8 : n ≤ 8) (hv : v < n) (hr : r < 10) (hro : ro v = nI r) (hJ : ∀ u, u < n → (jo (8 * v + u) = 0 ↔ J v u = false)) (hJb : ∀ u, J v u = true → u < n)
    (C : zg_C (zg_V M 2 v (J v) r)) (f0 : ∀ u, J v u = true → M 2 v u r = 0) (h : ∀ (wt : Int32) (ct so fr tt pu lo : Nat → Int32), zp_P H (zg_V M 2 v (J v) r) T wt ct so fr tt pu lo → wpX_tryNext post ((nI n), kd, wy, sd, rn, wt, cu, jo, st, dg, pa, pt, ch, hi, ct, ro, ac, sa, up, fo, iS, re, so, fr, tt, pu, lo) (nI v)) :
    ∀ d i, i + d = n → ∀ (wt : Int32) (ct so fr tt pu lo : Nat → Int32), zp_P H (zg_V M 2 v (fun u => J v u && decide (u < i)) r) T wt ct so fr tt pu lo → wX_becomeSafe_16 post (nI v) (d + 1) (nI i) (nI n) kd wy sd rn wt cu jo st dg pa pt ch hi ct ro ac sa up fo iS re so fr tt pu lo := by
  have cv : (nI v).toNatClampNeg = v := nI_clamp (by omega)
  have iv : vp_in (nI v) 8 := vp_in_nI (by omega) (by omega)
  intro d
  induction d with
  | zero =>
    intro i hi wt ct so fr tt pu lo P
    have e : i = n := by omega
    subst e
    rw [zg_V3 hJb] at P
    rw [wX_becomeSafe_16]
    exact br_t (nI_le (Nat.le_refl _) (by omega)) (h _ _ _ _ _ _ _ P)
  | succ d ih =>
    intro i hi' wt ct so fr tt pu lo P
    have c1 : ((8 : Int32) * nI v + nI i).toNatClampNeg = 8 * v + i := by rw [xs_jo]; exact nI_clamp (by omega)
    have i1 : vp_in ((8 : Int32) * nI v + nI i) 64 := by rw [xs_jo]; exact vp_in_nI (by omega) (by omega)
    rw [wX_becomeSafe_16]
    dsimp only
    rw [c1, cv, hro]
    refine br_f (nI_ge (by omega) (by omega)) ⟨i1, ?_⟩
    have hJi := hJ i (by omega)
    cases e : J v i with
    | false =>
      rw [zg_V2 e] at P
      exact br_t (hJi.mpr e) (nm_r (nI_1 i) (ih (i + 1) (by omega) _ _ _ _ _ _ _ P))
    | true =>
      refine br_f (fun z => by rw [hJi.mp z] at e; exact absurd e (by decide)) ⟨iv, ?_⟩
      refine xs_send (s := 2) _ P (zg_V6 C f0) ?_ (by omega) (by omega) (by omega) hr (fun z => absurd z (by decide)) ?_
      · rw [zg_V5 f0]; exact f0 i e
      · intro wt ct so fr tt pu lo Q
        rw [zg_V1 e] at Q
        exact nm_r (nI_1 i) (ih (i + 1) (by omega) _ _ _ _ _ _ _ Q)
/-- leave to the children -/
theorem xs_lv2 (post : SX → Prop) {v r : Nat} {F : Nat → Bool} (h8 : n ≤ 8) (hv : v < n) (hr : r < 10) (hro : ro v = nI r) (hF : ∀ u, u < n → (pt u = nI v ↔ F u = true)) (hFb : ∀ u, F u = true → u < n)
    (C : zg_C (zg_V M 4 v F r)) (f0 : ∀ u, F u = true → M 4 v u r = 0) (h : ∀ (wt : Int32) (ct so fr tt pu lo : Nat → Int32), zp_P H (zg_V M 4 v F r) T wt ct so fr tt pu lo → wpX_goOn post ((nI n), kd, wy, sd, rn, wt, cu, jo, st, dg, pa, pt, ch, hi, ct, ro, ac, sa, up, fo, iS, re, so, fr, tt, pu, lo) (nI v)) :
    ∀ d i, i + d = n → ∀ (wt : Int32) (ct so fr tt pu lo : Nat → Int32), zp_P H (zg_V M 4 v (fun u => F u && decide (u < i)) r) T wt ct so fr tt pu lo → wX_leave_2 post (nI v) (d + 1) (nI i) (nI n) kd wy sd rn wt cu jo st dg pa pt ch hi ct ro ac sa up fo iS re so fr tt pu lo := by
  have cv : (nI v).toNatClampNeg = v := nI_clamp (by omega)
  have iv : vp_in (nI v) 8 := vp_in_nI (by omega) (by omega)
  intro d
  induction d with
  | zero =>
    intro i hi wt ct so fr tt pu lo P
    have e : i = n := by omega
    subst e
    rw [zg_V3 hFb] at P
    rw [wX_leave_2]
    exact br_t (nI_le (Nat.le_refl _) (by omega)) (h _ _ _ _ _ _ _ P)
  | succ d ih =>
    intro i hi' wt ct so fr tt pu lo P
    have c1 : (nI i).toNatClampNeg = i := nI_clamp (by omega)
    have i1 : vp_in (nI i) 8 := vp_in_nI (by omega) (by omega)
    rw [wX_leave_2]
    dsimp only
    rw [c1, cv, hro]
    refine br_f (nI_ge (by omega) (by omega)) ⟨i1, ?_⟩
    have hJi := hF i (by omega)
    cases e : F i with
    | false =>
      rw [zg_V2 e] at P
      exact br_f (fun z => by rw [hJi.mp z] at e; exact absurd e (by decide)) (nm_r (nI_1 i) (ih (i + 1) (by omega) _ _ _ _ _ _ _ P))
    | true =>
      refine br_t (hJi.mpr e) ⟨iv, ?_⟩
      refine xs_send (s := 4) _ P (zg_V6 C f0) ?_ (by omega) (by omega) (by omega) hr (fun z => absurd z (by decide)) ?_
      · rw [zg_V5 f0]; exact f0 i e
      · intro wt ct so fr tt pu lo Q
        rw [zg_V1 e] at Q
        exact nm_r (nI_1 i) (ih (i + 1) (by omega) _ _ _ _ _ _ _ Q)
end
end
section
/-! a delivery keeps the system -/
def zi_S (n : Nat) (kd wy : Int32) (al : Bool) (J : Nat → Nat → Bool) (pr : Nat → Nat) (H : Nat → Nat → Int32) (jo dg pt ch : Nat → Int32) : Prop :=
  zg_E n J pr ∧ (wy = 0 ↔ al = true) ∧ (∀ u v, u < n → v < n → (jo (8 * u + v) = 0 ↔ J u v = false)) ∧ (∀ v, v < n → dg v = nI (zc_n (J v) n)) ∧
  (∀ v, v < n → (pr v < n ∧ pt v = nI (pr v)) ∨ (pr v = 8 ∧ pt v = -1)) ∧ (∀ v, v < n → ch v = nI (zc_n (fun u => decide (pr u = v)) n)) ∧
  (∀ r v, H (r + 1) v = zf_md kd (H r v) (zf_f kd (J v) (H r) n) (decide (zc_n (J v) n ≠ 0)))
section
variable {n T : Nat} {al : Bool} {J : Nat → Nat → Bool} {pr ph : Nat → Nat} {H : Nat → Nat → Int32} {M : zg_M} {kd wy sd rn wt cu : Int32} {jo st dg pa pt ch hi ct ro ac sa up fo iS re so fr tt pu lo : Nat → Int32}
theorem xd_dg (S : zi_S n kd wy al J pr H jo dg pt ch) {u v : Nat} (j : J v u = true) : ¬ dg v = 0 := by
  obtain ⟨⟨h8, sy, ir, hJ, F⟩, _, _, hD, _⟩ := S
  have h := hJ _ _ j
  rw [hD v h.1, show (0 : Int32) = nI 0 from rfl, nI_eq (by have := zc_len (J v) n; omega) (by omega)]
  have := zc_pos (f := J v) h.2 j
  omega
theorem xd_go (post : SX → Prop) (K : ∀ (ph : Nat → Nat) (M : zg_M) (hi ro ac sa up fo iS re : Nat → Int32) (wt : Int32) (ct so fr tt pu lo : Nat → Int32), zg_G n al J pr ph M → (∀ x, x < n → zg_O n al J pr ph M x) → za_A n kd H ph M hi ro ac sa up fo iS re → zp_P H M T wt ct so fr tt pu lo → post ((nI n), kd, wy, sd, rn, wt, cu, jo, st, dg, pa, pt, ch, hi, ct, ro, ac, sa, up, fo, iS, re, so, fr, tt, pu, lo)) (S : zi_S n kd wy al J pr H jo dg pt ch) (G : zg_G n al J pr ph M) {v r w : Nat} (hv : v < n) (hr : r < 10) (jw : J v w = true)
    (hp : (al = true ∧ ph v = 3 * r + 1 ∧ ∀ u, J u v = true → M 2 u v r = 2) ∨ (al = false ∧ ph v = 3 * r + 2 ∧ (pr v < n → M 4 (pr v) v r = 2)))
    (O : ∀ x, x < n → x ≠ v → zg_O n al J pr ph M x) (A : za_A n kd H ph M hi ro ac sa up fo iS re)
    (P : zp_P H (zg_V M 4 v (fun u => !al && decide (u < n ∧ pr u = v)) r) T wt ct so fr tt pu lo) : wpX_goOn post ((nI n), kd, wy, sd, rn, wt, cu, jo, st, dg, pa, pt, ch, hi, ct, ro, ac, sa, up, fo, iS, re, so, fr, tt, pu, lo) (nI v) := by
  have S0 := S
  obtain ⟨E, hw, hjo, hD, hpt, hch, hH⟩ := S
  have E0 := E
  obtain ⟨h8, sy, ir, hJ, F⟩ := E
  have G' := zg_gG E0 G hv hr hp
  have N := fun u v r j hr h => zg_N E0 G' (u := u) (v := v) (r := r) j hr h
  have G0 := G
  obtain ⟨g1, g2, g3, g4, g5, g6, g7, g8, g9, g10, g11⟩ := G
  have hph : ph v = 3 * r + 1 ∨ ph v = 3 * r + 2 := by rcases hp with h | h; exact Or.inl h.2.1; exact Or.inr h.2.1
  have f0 : ∀ u, M 0 v u (r + 1) = 0 := fun u => Classical.byContradiction fun z => by have := (g1 v u (r + 1)).mp z; omega
  have f4 : ∀ u, M 4 v u r = 0 := fun u => Classical.byContradiction fun z => by have := (g5 u v r).mp z; omega
  have hne : ∀ u, J u v = true → u ≠ v := fun u j z => by rw [z, ir] at j; exact absurd j (by decide)
  have nb : ∀ u, J u v = true → 3 * r + 1 ≤ ph u := by
    intro u j
    have h := N v u r (sy _ _ j) hr (by rw [zu_s]; omega)
    rw [zu_n (hne u j)] at h; exact h
  have nb2 : ∀ u, J u v = true → ph u < 3 * (r + 2) := by
    intro u j
    refine Classical.byContradiction fun z => ?_
    have hb := g7 u (hJ _ _ j).1
    have h := N u v (r + 1) j (by omega) (by rw [zu_n (hne u j)]; omega)
    rw [zu_s] at h; omega
  have hrd : ph v / 3 = r := by omega
  have A0 := A
  obtain ⟨a1, a2, a3, a4, a5, a6, a7, a8⟩ := A
  have hfo : H (r + 1) v = zf_md kd (H r v) (fo (2 * v + r % 2)) true := by
    rw [hH, a7 v r hv (Or.inl hrd.symm), decide_eq_true (by have := zc_pos (f := J v) (hJ _ _ jw).2 jw; omega)]
    refine congrArg (fun q => zf_md kd (H r v) q true) (zf_congr n (fun i hi => ?_) (fun _ _ _ => rfl))
    cases e : J v i with
    | true =>
      have j := sy _ _ e
      have h1 := g8 i v r j hr (nb i j)
      exact (decide_eq_true ((g2 i v r).mp (by omega))).symm
    | false =>
      refine (decide_eq_false fun z => ?_).symm
      have h1 := ((g1 i v r).mp (by omega)).1
      rw [sy _ _ h1] at e; exact absurd e (by decide)
  refine xs_goOn (J := J) (M := zg_V M 4 v (fun u => !al && decide (u < n ∧ pr u = v)) r) post h8 hv hr ?_ (a8 v r hv (by omega)) hfo (fun u hu => hjo v u hv hu) (fun u j => (hJ _ _ j).2) (xd_dg S0 jw) (zg_cap E0 G') ?_ P ?_
  · rw [a1 v hv, hrd]
  · intro u
    show (if 0 = 4 ∧ _ then 1 else _) = 0
    rw [if_neg (fun z => absurd z.1 (by decide))]
    exact f0 u
  · intro iS' re' ac' q1 q2 q3 q4 q5 q6 wt ct so fr tt pu lo Q
    have A1 := za_go h8 A0 hv hr hph (fun u hu z => ?_) (fun u hu z => ?_) (fun u hu z => ?_) (fun u hu z => ?_) q1 q2 q3 q4 q5 q6
    · have two : ∀ s u' v' r', zg_go n al J pr M v r s u' v' r' = 2 ↔ M s u' v' r' = 2 := by
        intro s u' v' r'
        have := f0 v'; have := f4 v'
        clear g1 g2 g3 g4 g5 g6 g7 g8 g9 g10 g11 N nb nb2 hne f0 f4 A1 a1 a2 a3 a4 a5 a6 a7 a8 K hp hpt hch hH hjo hD O q2 q4 q6 sy ir hJ
        unfold zg_go zg_V
        grind
      refine K _ _ _ _ _ _ _ _ _ _ _ _ _ _ _ _ _ G' (fun x hx => ?_) (za_send A1 two) Q
      by_cases e : x = v
      · subst e
        refine ⟨fun r' hr' h => ?_, fun r' hr' h => ?_, fun r' hr' h => ?_, fun r' hr' h => ?_⟩
        · rw [zu_s] at h
          refine ⟨w, jw, fun z => ?_⟩
          have z1 := (two 1 w x r').mp z
          have z2 := (g2 x w r').mp (by omega)
          have z3 := (g1 x w r').mp (by omega)
          omega
        · rw [zu_s] at h; omega
        · rw [zu_s] at h; omega
        · rw [zu_s] at h; omega
      · exact zg_Oc (O x hx e) (zu_n e) (fun s u r' z => (two s u x r').mp z)
    · have h := (g1 u v (r + 2)).mp (by omega); have := nb2 u h.1; omega
    · have h := (g3 u v (r + 2)).mp (by omega); have := nb2 u h.2.1; omega
    · have h := (g4 u v (r + 2)).mp (by omega)
      obtain ⟨_, c2, c3, c4, c5, c6⟩ := h
      rcases F.1 u c2 with ⟨e, _⟩ | ⟨_, j, _⟩
      · omega
      · rw [c4] at j; have := nb2 u (sy _ _ j); omega
    · have h1 := (g2 v u (r + 1)).mp (by omega); have := f0 u; omega
end
end
section
/-! a delivery keeps the system: the methods that react -/
section
variable {n T : Nat} {al : Bool} {J : Nat → Nat → Bool} {pr ph : Nat → Nat} {H : Nat → Nat → Int32} {M : zg_M} {kd wy sd rn wt cu : Int32} {jo st dg pa pt ch hi ct ro ac sa up fo iS re so fr tt pu lo : Nat → Int32}
theorem xd_tryNext (post : SX → Prop) (K : ∀ (ph : Nat → Nat) (M : zg_M) (hi ro ac sa up fo iS re : Nat → Int32) (wt : Int32) (ct so fr tt pu lo : Nat → Int32), zg_G n al J pr ph M → (∀ x, x < n → zg_O n al J pr ph M x) → za_A n kd H ph M hi ro ac sa up fo iS re → zp_P H M T wt ct so fr tt pu lo → post ((nI n), kd, wy, sd, rn, wt, cu, jo, st, dg, pa, pt, ch, hi, ct, ro, ac, sa, up, fo, iS, re, so, fr, tt, pu, lo)) (S : zi_S n kd wy al J pr H jo dg pt ch) (G : zg_G n al J pr ph M) (hal : al = true) {v w : Nat} (hv : v < n) (jw : J v w = true)
    (O : ∀ x, x < n → x ≠ v → zg_O n al J pr ph M x) (o1 : ∀ r, r < 10 → ph v = 3 * r → ∃ v', J v v' = true ∧ M 1 v' v r ≠ 2) (o4 : ph v % 3 ≠ 2) (A : za_A n kd H ph M hi ro ac sa up fo iS re) (P : zp_P H M T wt ct so fr tt pu lo) : wpX_tryNext post ((nI n), kd, wy, sd, rn, wt, cu, jo, st, dg, pa, pt, ch, hi, ct, ro, ac, sa, up, fo, iS, re, so, fr, tt, pu, lo) (nI v) := by
  have S0 := S
  obtain ⟨E, hw, hjo, hD, hpt, hch, hH⟩ := S
  have E0 := E
  obtain ⟨h8, sy, ir, hJ, F⟩ := E
  have G0 := G
  obtain ⟨g1, g2, g3, g4, g5, g6, g7, g8, g9, g10, g11⟩ := G
  have A0 := A
  obtain ⟨a1, a2, a3, a4, a5, a6, a7, a8⟩ := A
  have hb := g7 v hv
  have cv : (nI v).toNatClampNeg = v := nI_clamp (by omega)
  have iv : vp_in (nI v) 8 := vp_in_nI (by omega) (by omega)
  have bx : (2 : Int32) * nI v + (ro v &&& 1) = nI (2 * v + (ph v / 3) % 2) := by rw [a1 v hv]; exact xs_bx (by omega)
  have cb : ((2 : Int32) * nI v + (ro v &&& 1)).toNatClampNeg = 2 * v + (ph v / 3) % 2 := by rw [bx]; exact nI_clamp (by omega)
  have ib : vp_in ((2 : Int32) * nI v + (ro v &&& 1)) 16 := by rw [bx]; exact vp_in_nI (by omega) (by omega)
  unfold wpX_tryNext
  dsimp only
  rw [cv, cb, a2 v hv, a5 v _ hv (Or.inl rfl), hD v hv]
  refine ⟨iv, ?_⟩
  by_cases c : ph v % 3 = 0
  · rw [if_pos c]
    refine br_t rfl (K _ _ _ _ _ _ _ _ _ _ _ _ _ _ _ _ _ G0 (fun x hx => ?_) A0 P)
    by_cases e : x = v
    · subst e
      exact ⟨o1, fun r hr h => by omega, fun r hr h => by omega, fun r hr h => by omega⟩
    · exact O x hx e
  · rw [if_neg c]
    obtain ⟨r, hr⟩ : ∃ r, ph v = 3 * r + 1 := ⟨ph v / 3, by omega⟩
    have hr10 : r < 10 := by omega
    have hq : ph v / 3 = r := by omega
    rw [hq]
    have sub : ∀ i, i < n → decide (M 2 i v r = 2) = true → J v i = true := fun i hi z => by
      have z := of_decide_eq_true z
      exact sy _ _ ((g3 i v r).mp (by omega)).2.1
    have l1 := zc_len (fun u => decide (M 2 u v r = 2)) n
    have l2 := zc_len (J v) n
    refine br_f (by decide) ⟨iv, ib, iv, pk_eq (zc_n (fun u => decide (M 2 u v r = 2)) n) (zc_n (J v) n) (fun e => ?_) (fun e => ?_)⟩
    · refine xd_go post K S0 G0 hv hr10 jw (Or.inl ⟨hal, hr, fun u j => ?_⟩) O A0 ?_
      · exact of_decide_eq_true (zc_all sub e u (hJ _ _ j).1 (sy _ _ j))
      · rw [zg_V0 (fun u => by rw [hal]; rfl)]; exact P
    · refine K _ _ _ _ _ _ _ _ _ _ _ _ _ _ _ _ _ G0 (fun x hx => ?_) A0 P
      by_cases e' : x = v
      · subst e'
        refine ⟨o1, fun r' hr' h ha => ?_, fun r' hr' h ha => ?_, fun r' hr' h => by omega⟩
        · have er : r' = r := by omega
          subst er
          have m := zc_mono n sub
          obtain ⟨i, hi, ji, di⟩ := zc_ex (show zc_n (fun u => decide (M 2 u x r' = 2)) n < zc_n (J x) n by omega)
          exact ⟨i, sy _ _ ji, of_decide_eq_false di⟩
        · rw [hal] at ha; exact absurd ha (by decide)
      · exact O x hx e'
theorem xd_leave (post : SX → Prop) (K : ∀ (ph : Nat → Nat) (M : zg_M) (hi ro ac sa up fo iS re : Nat → Int32) (wt : Int32) (ct so fr tt pu lo : Nat → Int32), zg_G n al J pr ph M → (∀ x, x < n → zg_O n al J pr ph M x) → za_A n kd H ph M hi ro ac sa up fo iS re → zp_P H M T wt ct so fr tt pu lo → post ((nI n), kd, wy, sd, rn, wt, cu, jo, st, dg, pa, pt, ch, hi, ct, ro, ac, sa, up, fo, iS, re, so, fr, tt, pu, lo)) (S : zi_S n kd wy al J pr H jo dg pt ch) (G : zg_G n al J pr ph M) (hal : al = false) {v r w : Nat} (hv : v < n) (hr : r < 10) (jw : J v w = true) (hp : ph v = 3 * r + 2) (hm : pr v < n → M 4 (pr v) v r = 2)
    (O : ∀ x, x < n → x ≠ v → zg_O n al J pr ph M x) (A : za_A n kd H ph M hi ro ac sa up fo iS re) (P : zp_P H M T wt ct so fr tt pu lo) : wpX_leave post ((nI n), kd, wy, sd, rn, wt, cu, jo, st, dg, pa, pt, ch, hi, ct, ro, ac, sa, up, fo, iS, re, so, fr, tt, pu, lo) (nI v) := by
  have S0 := S
  obtain ⟨E, hw, hjo, hD, hpt, hch, hH⟩ := S
  have E0 := E
  obtain ⟨h8, sy, ir, hJ, F⟩ := E
  have hgo : (al = true ∧ ph v = 3 * r + 1 ∧ ∀ u, J u v = true → M 2 u v r = 2) ∨ (al = false ∧ ph v = 3 * r + 2 ∧ (pr v < n → M 4 (pr v) v r = 2)) := Or.inr ⟨hal, hp, hm⟩
  have G' := zg_gG E0 G hv hr hgo
  have C' := zg_cap E0 G'
  have G0 := G
  obtain ⟨g1, g2, g3, g4, g5, g6, g7, g8, g9, g10, g11⟩ := G
  have f4 : ∀ u, M 4 v u r = 0 := fun u => Classical.byContradiction fun z => by have := (g5 u v r).mp z; omega
  have f0 : ∀ u, M 0 v u (r + 1) = 0 := fun u => Classical.byContradiction fun z => by have := (g1 v u (r + 1)).mp z; omega
  have C4 : zg_C (zg_V M 4 v (fun u => !al && decide (u < n ∧ pr u = v)) r) := by
    refine zg_Cm C' fun s u' v' r' h => ?_
    unfold zg_go
    show (if s = 0 ∧ u' = v ∧ r' = r + 1 ∧ _ then 1 else _) = 1
    by_cases c : s = 0 ∧ u' = v ∧ r' = r + 1 ∧ (decide (r + 1 < 10) && J v v') = true
    · rw [if_pos c]
    · rw [if_neg c]; exact h
  unfold wpX_leave
  refine ⟨n + 1, ?_⟩
  refine xs_lv2 (M := M) (F := fun u => !al && decide (u < n ∧ pr u = v)) post h8 hv hr ?_ (fun u hu => ?_) (fun u hu => ?_) C4 (fun u _ => f4 u) (fun wt ct so fr tt pu lo Q => ?_) n 0 (by omega) _ _ _ _ _ _ _ (by rw [zg_V4]; exact P)
  · rw [A.1 v hv]; exact congrArg nI (by omega)
  · rw [hal]
    show _ ↔ decide (u < n ∧ pr u = v) = true
    rw [decide_eq_true_iff]
    rcases hpt u hu with ⟨h1, h2⟩ | ⟨h1, h2⟩
    · rw [h2, nI_eq (by omega) (by omega)]
      exact ⟨fun z => ⟨hu, z⟩, fun z => z.2⟩
    · rw [h2]
      refine ⟨fun z => ?_, fun z => ?_⟩
      · exfalso
        have h3 : (-1 : Int32).toInt = (nI v).toInt := congrArg Int32.toInt z
        rw [nI_toInt (by omega)] at h3
        have h4 : (-1 : Int32).toInt = -1 := by decide
        omega
      · omega
  · rw [Bool.and_eq_true] at hu; exact (of_decide_eq_true hu.2).1
  · exact xd_go post K S0 G0 hv hr jw hgo O A Q
theorem xd_m1 {v : Nat} (h : v < 8) : ¬ nI v = -1 := by
  intro z
  have h3 : (nI v).toInt = (-1 : Int32).toInt := congrArg Int32.toInt z
  rw [nI_toInt (by omega)] at h3
  have h4 : (-1 : Int32).toInt = -1 := by decide
  omega
theorem xd_tryReport (post : SX → Prop) (K : ∀ (ph : Nat → Nat) (M : zg_M) (hi ro ac sa up fo iS re : Nat → Int32) (wt : Int32) (ct so fr tt pu lo : Nat → Int32), zg_G n al J pr ph M → (∀ x, x < n → zg_O n al J pr ph M x) → za_A n kd H ph M hi ro ac sa up fo iS re → zp_P H M T wt ct so fr tt pu lo → post ((nI n), kd, wy, sd, rn, wt, cu, jo, st, dg, pa, pt, ch, hi, ct, ro, ac, sa, up, fo, iS, re, so, fr, tt, pu, lo)) (S : zi_S n kd wy al J pr H jo dg pt ch) (G : zg_G n al J pr ph M) (hal : al = false) {v w : Nat} (hv : v < n) (jw : J v w = true)
    (O : ∀ x, x < n → x ≠ v → zg_O n al J pr ph M x) (o1 : ∀ r, r < 10 → ph v = 3 * r → ∃ v', J v v' = true ∧ M 1 v' v r ≠ 2) (o4 : ∀ r, r < 10 → ph v = 3 * r + 2 → al = false ∧ pr v < n ∧ M 4 (pr v) v r ≠ 2) (A : za_A n kd H ph M hi ro ac sa up fo iS re) (P : zp_P H M T wt ct so fr tt pu lo) : wpX_tryReport post ((nI n), kd, wy, sd, rn, wt, cu, jo, st, dg, pa, pt, ch, hi, ct, ro, ac, sa, up, fo, iS, re, so, fr, tt, pu, lo) (nI v) := by
  have S0 := S
  obtain ⟨E, hw, hjo, hD, hpt, hch, hH⟩ := S
  have E0 := E
  obtain ⟨h8, sy, ir, hJ, F⟩ := E
  have G0 := G
  obtain ⟨g1, g2, g3, g4, g5, g6, g7, g8, g9, g10, g11⟩ := G
  have A0 := A
  obtain ⟨a1, a2, a3, a4, a5, a6, a7, a8⟩ := A
  have hb := g7 v hv
  have cv : (nI v).toNatClampNeg = v := nI_clamp (by omega)
  have iv : vp_in (nI v) 8 := vp_in_nI (by omega) (by omega)
  have bx : (2 : Int32) * nI v + (ro v &&& 1) = nI (2 * v + (ph v / 3) % 2) := by rw [a1 v hv]; exact xs_bx (by omega)
  have cb : ((2 : Int32) * nI v + (ro v &&& 1)).toNatClampNeg = 2 * v + (ph v / 3) % 2 := by rw [bx]; exact nI_clamp (by omega)
  have ib : vp_in ((2 : Int32) * nI v + (ro v &&& 1)) 16 := by rw [bx]; exact vp_in_nI (by omega) (by omega)
  unfold wpX_tryReport
  dsimp only
  rw [cv, cb, a2 v hv, a6 v _ hv (Or.inl rfl), hch v hv]
  refine ⟨iv, ?_⟩
  by_cases c : ph v % 3 = 0
  · rw [if_pos c]
    refine br_t rfl (K _ _ _ _ _ _ _ _ _ _ _ _ _ _ _ _ _ G0 (fun x hx => ?_) A0 P)
    by_cases e : x = v
    · subst e
      exact ⟨o1, fun r hr h => by omega, fun r hr h => by omega, fun r hr h => by omega⟩
    · exact O x hx e
  · rw [if_neg c, a3 v hv (by omega)]
    refine br_f (by decide) ⟨iv, ?_⟩
    by_cases c2 : ph v % 3 = 2
    · rw [if_pos c2]
      refine br_f (by decide) (K _ _ _ _ _ _ _ _ _ _ _ _ _ _ _ _ _ G0 (fun x hx => ?_) A0 P)
      by_cases e : x = v
      · subst e
        exact ⟨o1, fun r hr h => by omega, fun r hr h => by omega, o4⟩
      · exact O x hx e
    · rw [if_neg c2]
      obtain ⟨r, hr⟩ : ∃ r, ph v = 3 * r + 1 := ⟨ph v / 3, by omega⟩
      have hr10 : r < 10 := by omega
      have hq : ph v / 3 = r := by omega
      rw [hq]
      have sub : ∀ i, i < n → decide (M 3 i v r = 2) = true → decide (pr i = v) = true := fun i hi z => by
        have z := of_decide_eq_true z
        exact decide_eq_true ((g4 i v r).mp (by omega)).2.2.2.1
      have l1 := zc_len (fun u => decide (M 3 u v r = 2)) n
      have l2 := zc_len (fun u => decide (pr u = v)) n
      refine br_t rfl ⟨iv, ib, iv, pk_le (zc_n (fun u => decide (pr u = v)) n) (zc_n (fun u => decide (M 3 u v r = 2)) n) (fun e => ?_) (fun e => ?_)⟩
      · have m := zc_mono n sub
        have all := zc_all sub (by omega)
        have hu : ∀ u, u < n → pr u = v → M 3 u v r = 2 := fun u hu p => of_decide_eq_true (all u hu (decide_eq_true p))
        rw [xs_b1]
        refine ⟨iv, nm_e ⟨iv, ?_⟩⟩
        have A1 := za_rep A0 hv hr
        rcases hpt v hv with ⟨h1, h2⟩ | ⟨h1, h2⟩
        · rw [h2]
          have G1 := zg_gR G0 hal hv hr10 hr hu h1
          refine br_f (xd_m1 (by omega)) ⟨iv, iv, ?_⟩
          rw [a1 v hv, hq]
          have f3 : M 3 v (pr v) r = 0 := Classical.byContradiction fun z => by have := (g4 v (pr v) r).mp z; omega
          refine xs_send (s := 3) _ P (zg_cap E0 G0) f3 (by omega) (by omega) (by omega) hr10 (fun z => absurd z (by decide)) ?_
          intro wt ct so fr tt pu lo Q
          have two : ∀ s u' v' r', zg_U M 3 v (pr v) r 1 s u' v' r' = 2 ↔ M s u' v' r' = 2 := by
            intro s u' v' r'
            unfold zg_U
            by_cases q : s = 3 ∧ u' = v ∧ v' = pr v ∧ r' = r
            · rw [if_pos q]; obtain ⟨rfl, rfl, rfl, rfl⟩ := q; omega
            · rw [if_neg q]
          refine K _ _ _ _ _ _ _ _ _ _ _ _ _ _ _ _ _ G1 (fun x hx => ?_) (za_send A1 two) Q
          by_cases e' : x = v
          · subst e'
            refine ⟨fun r' hr' h => ?_, fun r' hr' h => ?_, fun r' hr' h => ?_, fun r' hr' h => ?_⟩
            · rw [zu_s] at h; omega
            · rw [zu_s] at h; omega
            · rw [zu_s] at h; omega
            · rw [zu_s] at h
              have er : r' = r := by omega
              subst er
              refine ⟨hal, h1, fun z => ?_⟩
              have z1 := (two _ _ _ _).mp z
              have z2 := ((g5 x (pr x) r').mp (by omega)).2.2.2.2.2
              have z3 := g10 hal x (pr x) r' hv h1 rfl hr10 (by omega)
              omega
          · exact zg_Oc (O x hx e') (zu_n e') (fun s u r' z => (two s u x r').mp z)
        · rw [h2]
          have G1 := zg_gR0 G0 hal hv hr10 hr hu (by omega)
          refine br_t rfl ?_
          exact xd_leave _ K S0 G1 hal hv hr10 jw zu_s (fun z => by omega) (fun x hx e' => zg_Oc (O x hx e') (zu_n e') (fun _ _ _ z => z)) A1 P
      · refine K _ _ _ _ _ _ _ _ _ _ _ _ _ _ _ _ _ G0 (fun x hx => ?_) A0 P
        by_cases e' : x = v
        · subst e'
          refine ⟨o1, fun r' hr' h ha => ?_, fun r' hr' h ha => ?_, o4⟩
          · rw [hal] at ha; exact absurd ha (by decide)
          · have er : r' = r := by omega
            subst er
            obtain ⟨i, hi, ji, di⟩ := zc_ex e
            exact ⟨i, hi, of_decide_eq_true ji, of_decide_eq_false di⟩
        · exact O x hx e'
theorem xd_becomeSafe (post : SX → Prop) (K : ∀ (ph : Nat → Nat) (M : zg_M) (hi ro ac sa up fo iS re : Nat → Int32) (wt : Int32) (ct so fr tt pu lo : Nat → Int32), zg_G n al J pr ph M → (∀ x, x < n → zg_O n al J pr ph M x) → za_A n kd H ph M hi ro ac sa up fo iS re → zp_P H M T wt ct so fr tt pu lo → post ((nI n), kd, wy, sd, rn, wt, cu, jo, st, dg, pa, pt, ch, hi, ct, ro, ac, sa, up, fo, iS, re, so, fr, tt, pu, lo)) (S : zi_S n kd wy al J pr H jo dg pt ch) (G : zg_G n al J pr ph M) {v r w : Nat} (hv : v < n) (hr : r < 10) (jw : J v w = true) (hp : ph v = 3 * r) (ha : ∀ u, J v u = true → M 1 u v r = 2)
    (O : ∀ x, x < n → x ≠ v → zg_O n al J pr ph M x) (A : za_A n kd H ph M hi ro ac sa up fo iS re) (P : zp_P H M T wt ct so fr tt pu lo) : wpX_becomeSafe post ((nI n), kd, wy, sd, rn, wt, cu, jo, st, dg, pa, pt, ch, hi, ct, ro, ac, sa, up, fo, iS, re, so, fr, tt, pu, lo) (nI v) := by
  have S0 := S
  obtain ⟨E, hw, hjo, hD, hpt, hch, hH⟩ := S
  have E0 := E
  obtain ⟨h8, sy, ir, hJ, F⟩ := E
  have cv : (nI v).toNatClampNeg = v := nI_clamp (by omega)
  have iv : vp_in (nI v) 8 := vp_in_nI (by omega) (by omega)
  have A1 := za_safe A hv hp
  unfold wpX_becomeSafe
  dsimp only
  rw [cv, xs_b1]
  refine ⟨iv, nm_e ?_⟩
  cases hal : al with
  | true =>
    refine br_t (hw.mpr hal) ⟨n + 1, ?_⟩
    have G1 := zg_gB0 E0 G hal hv hr hp ha
    have G0 := G
    obtain ⟨g1, g2, g3, g4, g5, g6, g7, g8, g9, g10, g11⟩ := G
    have f2 : ∀ u, M 2 v u r = 0 := fun u => Classical.byContradiction fun z => by have := (g3 v u r).mp z; omega
    have two : ∀ s u' v' r', zg_V M 2 v (J v) r s u' v' r' = 2 ↔ M s u' v' r' = 2 := by
      intro s u' v' r'
      unfold zg_V
      by_cases q : s = 2 ∧ u' = v ∧ r' = r ∧ J v v' = true
      · rw [if_pos q]; obtain ⟨rfl, rfl, rfl, _⟩ := q; have := f2 v'; omega
      · rw [if_neg q]
    refine xs_bs16 (M := M) post h8 hv hr (by rw [A.1 v hv]; exact congrArg nI (by omega)) (fun u hu => hjo v u hv hu) (fun u j => (hJ _ _ j).2) (zg_cap E0 G1) (fun u _ => f2 u) (fun wt ct so fr tt pu lo Q => ?_) n 0 (by omega) _ _ _ _ _ _ _ (by rw [zg_V4]; exact P)
    refine xd_tryNext post K S0 G1 hal hv jw (fun x hx e => zg_Oc (O x hx e) (zu_n e) (fun s u r' z => (two s u x r').mp z)) (fun r' hr' h => ?_) (by rw [zu_s]; omega) (za_send A1 two) Q
    rw [zu_s] at h; omega
  | false =>
    refine br_f (fun z => by have := hw.mp z; rw [hal] at this; exact absurd this (by decide)) ?_
    have G1 := zg_gB1 G hal hv hr hp ha
    refine xd_tryReport _ K S0 G1 hal hv jw (fun x hx e => zg_Oc (O x hx e) (zu_n e) (fun s u r' z => z)) (fun r' hr' h => ?_) (fun r' hr' h => ?_) A1 P
    · rw [zu_s] at h; omega
    · rw [zu_s] at h; omega
theorem xd_deliver (post : SX → Prop) {k l T' : Nat} (hT : T = T' + 1) (K : ∀ (ph : Nat → Nat) (M : zg_M) (hi ro ac sa up fo iS re : Nat → Int32) (wt : Int32) (ct so fr tt pu lo : Nat → Int32), zg_G n al J pr ph M → (∀ x, x < n → zg_O n al J pr ph M x) → za_A n kd H ph M hi ro ac sa up fo iS re → zp_P H M T wt ct so fr tt pu lo → post ((nI n), kd, wy, sd, rn, wt, cu, jo, st, dg, pa, pt, ch, hi, ct, ro, ac, sa, up, fo, iS, re, so, fr, tt, pu, lo)) (S : zi_S n kd wy al J pr H jo dg pt ch) (G : zg_G n al J pr ph M)
    (O : ∀ x, x < n → zg_O n al J pr ph M x) (A : za_A n kd H ph M hi ro ac sa up fo iS re) (P : zp_P H M T' wt ct so fr tt pu lo) (hl : wt = nI (l + 1)) (hl2 : l + 1 ≤ 256) (hk : k < l + 1) : wpX_deliver post ((nI n), kd, wy, sd, rn, wt, cu, jo, st, dg, pa, pt, ch, hi, ct, ro, ac, sa, up, fo, iS, re, so, fr, tt, pu, lo) (nI k) := by
  subst hT
  have S0 := S
  obtain ⟨E, hw, hjo, hD, hpt, hch, hH⟩ := S
  have E0 := E
  obtain ⟨h8, sy, ir, hJ, F⟩ := E
  obtain ⟨s, u, v, r, hM, e1, e2, e3, e4, e5, Q⟩ := zp_del P hl hl2 hk (zg_cap E0 G)
  have rg := zg_rng E0 G (s := s) (u := u) (v := v) (r := r) (by omega)
  have ck : (nI k).toNatClampNeg = k := nI_clamp (by omega)
  have ik : vp_in (nI k) 340 := vp_in_nI (by omega) (by omega)
  have il : vp_in (nI l) 340 := vp_in_nI (by omega) (by omega)
  have cl : (nI l).toNatClampNeg = l := nI_clamp (by omega)
  have cv : (nI v).toNatClampNeg = v := nI_clamp (by omega)
  have iv : vp_in (nI v) 8 := vp_in_nI (by omega) (by omega)
  have cb : (nI (2 * v + r % 2)).toNatClampNeg = 2 * v + r % 2 := nI_clamp (by omega)
  have ib : vp_in (nI (2 * v + r % 2)) 16 := vp_in_nI (by omega) (by omega)
  unfold wpX_deliver
  dsimp only
  rw [ck]
  refine ⟨ik, nm_r e1 ⟨ik, nm_r e2 ⟨ik, nm_r e3 ⟨ik, nm_r e4 ⟨ik, nm_e (nm_r (e' := nI l) (by rw [hl, nI_pred]) ?_)⟩⟩⟩⟩⟩
  rw [cl]
  refine ⟨il, ik, nm_e ⟨il, ik, nm_e ⟨il, ik, nm_e ⟨il, ik, nm_e ⟨il, ik, nm_e (nm_r (xs_bx (by omega)) ?_)⟩⟩⟩⟩⟩
  rw [cb, cv]
  have hs : s = 0 ∨ s = 1 ∨ s = 2 ∨ s = 3 ∨ s = 4 := by omega
  have oth : ∀ x, x < n → x ≠ v → zg_O n al J pr ph (zg_U M s u v r 2) x := by
    intro x hx e
    refine zg_Oc (O x hx) rfl (fun s' u' r' z => ?_)
    unfold zg_U at z
    rw [if_neg (fun q => e q.2.2.1)] at z
    exact z
  rcases hs with rfl | rfl | rfl | rfl | rfl
  · -- a state
    obtain ⟨j, hu, hv, hr, hbx⟩ := zg_box0 E0 G hM
    have G1 := zg_gS G hM
    have A1 := za_del0 A hM hu hv hbx
    refine br_t rfl (xs_fold _ (by omega) ?_)
    dsimp only
    rw [e5 rfl]
    have f1 : M 1 v u r = 0 := Classical.byContradiction fun z => by have := (G.2.1 u v r).mp z; omega
    have C1 : zg_C (zg_U M 0 u v r 2) := by
      refine zg_Cm (zg_cap E0 G) fun s' u' v' r' z => ?_
      unfold zg_U at z
      by_cases q : s' = 0 ∧ u' = u ∧ v' = v ∧ r' = r
      · rw [if_pos q] at z; omega
      · rw [if_neg q] at z; exact z
    refine xs_send (s := 1) _ Q C1 ?_ (by omega) (by omega) (by omega) hr (fun z => absurd z (by decide)) ?_
    · unfold zg_U; rw [if_neg (fun z => absurd z.1 (by decide))]; exact f1
    · intro wt ct so fr tt pu lo R
      have two : ∀ s' u' v' r', zg_U (zg_U M 0 u v r 2) 1 v u r 1 s' u' v' r' = 2 ↔ zg_U M 0 u v r 2 s' u' v' r' = 2 := by
        intro s' u' v' r'
        unfold zg_U
        by_cases q : s' = 1 ∧ u' = v ∧ v' = u ∧ r' = r
        · rw [if_pos q]; obtain ⟨rfl, rfl, rfl, rfl⟩ := q
          rw [if_neg (fun z => absurd z.1 (by decide))]; omega
        · rw [if_neg q]
      refine K _ _ _ _ _ _ _ _ _ _ _ _ _ _ _ _ _ G1 (fun x hx => ?_) (za_send A1 two) R
      by_cases e : x = v
      · subst e
        obtain ⟨o1, o2, o3, o4⟩ := O x hx
        have nz : ∀ s' u' r', s' ≠ 0 → zg_U (zg_U M 0 u x r 2) 1 x u r 1 s' u' x r' = 2 → M s' u' x r' = 2 := by
          intro s' u' r' hs z
          have z1 := (two _ _ _ _).mp z
          unfold zg_U at z1
          rw [if_neg (fun q => hs q.1)] at z1
          exact z1
        refine ⟨fun r' hr' h => ?_, fun r' hr' h ha => ?_, fun r' hr' h ha => ?_, fun r' hr' h => ?_⟩
        · obtain ⟨w, jw, hw'⟩ := o1 r' hr' h; exact ⟨w, jw, fun z => hw' (nz _ _ _ (by decide) z)⟩
        · obtain ⟨w, jw, hw'⟩ := o2 r' hr' h ha; exact ⟨w, jw, fun z => hw' (nz _ _ _ (by decide) z)⟩
        · obtain ⟨w, jw, hp, hw'⟩ := o3 r' hr' h ha; exact ⟨w, jw, hp, fun z => hw' (nz _ _ _ (by decide) z)⟩
        · obtain ⟨q1, q2, q3⟩ := o4 r' hr' h; exact ⟨q1, q2, fun z => q3 (nz _ _ _ (by decide) z)⟩
      · exact zg_Oc (oth x hx e) rfl (fun s u r' z => (two s u x r').mp z)
  · -- an acknowledgement
    obtain ⟨j, hu, hv, hr, hp⟩ := zg_box1 E0 G hM
    have G1 := zg_gD G (by decide) hM
    have A1 := za_del1 A hM hu hv hp
    refine br_f (by decide) (br_t rfl ⟨iv, iv, nm_e ⟨iv, iv, ?_⟩⟩)
    have h4 := A1.2.2.2.1 v r hv hr hp
    rw [h4, hD v hv]
    have sub : ∀ i, i < n → decide (zg_U M 1 u v r 2 1 i v r = 2) = true → J v i = true := fun i hi z => by
      have z := of_decide_eq_true z
      have z2 := (G1.2.1 v i r).mp (by omega)
      exact ((G1.1 v i r).mp (by omega)).1
    have l1 := zc_len (fun w => decide (zg_U M 1 u v r 2 1 w v r = 2)) n
    have l2 := zc_len (J v) n
    refine pk_eq (zc_n (fun w => decide (zg_U M 1 u v r 2 1 w v r = 2)) n) (zc_n (J v) n) (fun e => ?_) (fun e => ?_)
    · exact xd_becomeSafe _ K S0 G1 hv hr (sy _ _ j) hp (fun w jw => of_decide_eq_true (zc_all sub e w (hJ _ _ jw).2 jw)) oth A1 Q
    · refine K _ _ _ _ _ _ _ _ _ _ _ _ _ _ _ _ _ G1 (fun x hx => ?_) A1 Q
      by_cases e' : x = v
      · subst e'
        refine ⟨fun r' hr' h => ?_, fun r' hr' h => by omega, fun r' hr' h => by omega, fun r' hr' h => by omega⟩
        have er : r' = r := by omega
        subst er
        have m := zc_mono n sub
        obtain ⟨i, hi, ji, di⟩ := zc_ex (show zc_n (fun w => decide (zg_U M 1 u x r' 2 1 w x r' = 2)) n < zc_n (J x) n by omega)
        exact ⟨i, ji, of_decide_eq_false di⟩
      · exact oth x hx e'
  · -- a word of safety
    obtain ⟨hal, j, hu, hv, hr, hbx⟩ := zg_box2 E0 G hM
    have G1 := zg_gD G (by decide) hM
    have A1 := za_del2 A hM hu hv hbx
    refine br_f (by decide) (br_f (by decide) (br_t rfl ⟨ib, ib, nm_e ?_⟩))
    obtain ⟨o1, o2, o3, o4⟩ := O v hv
    refine xd_tryNext _ K S0 G1 hal hv (sy _ _ j) oth (fun r' hr' h => ?_) (fun z => ?_) A1 Q
    · obtain ⟨w, jw, hw'⟩ := o1 r' hr' h
      refine ⟨w, jw, fun z => hw' ?_⟩
      unfold zg_U at z
      rw [if_neg (fun q => absurd q.1 (by decide))] at z
      exact z
    · have := G.2.2.2.2.2.2.1 v hv
      have h := (o4 (ph v / 3) (by omega) (by omega)).1
      rw [hal] at h; exact absurd h (by decide)
  · -- a report
    obtain ⟨hal, hpr, hu, hv, hr, hbx⟩ := zg_box3 E0 G hM
    have G1 := zg_gD G (by decide) hM
    have A1 := za_del3 A hM hu hv (Or.inl hbx)
    refine br_f (by decide) (br_f (by decide) (br_f (by decide) (br_t rfl ⟨ib, ib, nm_e ?_⟩)))
    obtain ⟨o1, o2, o3, o4⟩ := O v hv
    have j : J v u = true := by
      rcases F.1 u hu with ⟨e, _⟩ | ⟨_, j, _⟩
      · omega
      · rw [hpr] at j; exact j
    refine xd_tryReport _ K S0 G1 hal hv j oth (fun r' hr' h => ?_) (fun r' hr' h => ?_) A1 Q
    · obtain ⟨w, jw, hw'⟩ := o1 r' hr' h
      refine ⟨w, jw, fun z => hw' ?_⟩
      unfold zg_U at z
      rw [if_neg (fun q => absurd q.1 (by decide))] at z
      exact z
    · obtain ⟨q1, q2, q3⟩ := o4 r' hr' h
      refine ⟨q1, q2, fun z => q3 ?_⟩
      unfold zg_U at z
      rw [if_neg (fun q => absurd q.1 (by decide))] at z
      exact z
  · -- leave
    obtain ⟨hal, hpr, hu, hv, hr, hp⟩ := zg_box4 E0 G hM
    have G1 := zg_gD G (by decide) hM
    have A1 := za_del4 (u := u) (v := v) (r := r) A
    refine br_f (by decide) (br_f (by decide) (br_f (by decide) (br_f (by decide) ?_)))
    have j : J v u = true := by
      rcases F.1 v hv with ⟨e, _⟩ | ⟨_, j, _⟩
      · omega
      · rw [hpr] at j; exact sy _ _ j
    refine xd_leave _ K S0 G1 hal hv hr j hp (fun _ => ?_) oth A1 Q
    unfold zg_U
    rw [if_pos ⟨rfl, hpr, rfl, rfl⟩]
end
end
section
/-! refresh: the start, the deliveries, the end -/
section
variable {n : Nat} {al : Bool} {J : Nat → Nat → Bool} {pr : Nat → Nat} {H : Nat → Nat → Int32} {kd wy sd rn wt cu : Int32} {jo st dg pa pt ch hi ct ro ac sa up fo iS re so fr tt pu lo : Nat → Int32}
theorem xr_draw (post : Int32 → SX → Prop) {l : Nat} (hl : wt = nI (l + 1)) (hl2 : l + 1 ≤ 256) (h : ∀ (k : Nat) (rn : Int32), k < l + 1 → post (nI k) ((nI n), kd, wy, sd, rn, wt, cu, jo, st, dg, pa, pt, ch, hi, ct, ro, ac, sa, up, fo, iS, re, so, fr, tt, pu, lo)) : wpX_draw post ((nI n), kd, wy, sd, rn, wt, cu, jo, st, dg, pa, pt, ch, hi, ct, ro, ac, sa, up, fo, iS, re, so, fr, tt, pu, lo) := by
  unfold wpX_draw
  dsimp only
  intro r1 _ x ex
  obtain ⟨j, hj, ej⟩ := pk_andE ((r1.toUInt32 >>> ((16 : Int32).toUInt32 &&& Int32.toUInt32 31)).toInt32) (m := 32767) 15 (by decide)
  rw [ej] at ex
  have h0 : ¬ wt ≤ 0 := by rw [hl]; exact nI_nle (by omega) (by omega)
  have h1 : ¬ wt = 0 := by rw [hl]; exact nI_ne0 (by omega) (by omega)
  refine br_f h0 ⟨h1, ?_⟩
  have e : x - x / wt * wt = nI (j % (l + 1)) := by rw [ex, hl]; exact pk_rem (by omega) (by omega) (by omega)
  rw [e]
  exact h _ _ (Nat.mod_lt _ (by omega))
theorem xr_125 (post : SX → Prop) (S : zi_S n kd wy al J pr H jo dg pt ch)
    (h : ∀ (rn : Int32) (ph : Nat → Nat) (M : zg_M) (T : Nat) (hi ro ac sa up fo iS re : Nat → Int32), ∀ (wt : Int32) (ct so fr tt pu lo : Nat → Int32), zg_G n al J pr ph M → (∀ x, x < n → zg_O n al J pr ph M x) → za_A n kd H ph M hi ro ac sa up fo iS re → zp_P H M T wt ct so fr tt pu lo → wt = nI 0 → post ((nI n), kd, wy, sd, rn, wt, cu, jo, st, dg, pa, pt, ch, hi, ct, ro, ac, sa, up, fo, iS, re, so, fr, tt, pu, lo)) :
    ∀ d T, T + d = 3201 → ∀ (rn : Int32) (ph : Nat → Nat) (M : zg_M) (hi ro ac sa up fo iS re : Nat → Int32), ∀ (wt : Int32) (ct so fr tt pu lo : Nat → Int32), zg_G n al J pr ph M → (∀ x, x < n → zg_O n al J pr ph M x) → za_A n kd H ph M hi ro ac sa up fo iS re → zp_P H M T wt ct so fr tt pu lo → wX_refresh_125 post (d + 1) (nI T) (nI n) kd wy sd rn wt cu jo st dg pa pt ch hi ct ro ac sa up fo iS re so fr tt pu lo := by
  intro d
  induction d with
  | zero =>
    intro T hT rn ph M hi ro ac sa up fo iS re wt ct so fr tt pu lo G O A P
    have := zp_T P
    omega
  | succ d ih =>
    intro T hT rn ph M hi ro ac sa up fo iS re wt ct so fr tt pu lo G O A P
    obtain ⟨l, hl, hw⟩ := zp_lenw P (zg_cap S.1 G)
    rw [wX_refresh_125]
    refine br_f (nI_ge (b := 8000) (by omega) (by omega)) ?_
    cases l with
    | zero => exact br_t (by rw [hw]; decide) (h _ _ _ _ _ _ _ _ _ _ _ _ _ _ _ _ _ _ _ G O A P hw)
    | succ l =>
      refine br_f (by rw [hw]; exact nI_nle (by omega) (by omega)) ?_
      refine xr_draw _ hw hl fun k rn hk => ?_
      dsimp only
      refine xd_deliver _ (T := T + 1) rfl ?_ S G O A P hw hl hk
      intro ph M hi ro ac sa up fo iS re wt ct so fr tt pu lo G O A P
      exact nm_r (nI_1 T) (ih (T + 1) (by omega) _ _ _ _ _ _ _ _ _ _ _ _ _ _ _ _ _ _ G O A P)
/-- a node without neighbours -/
theorem xr_alone (post : SX → Prop) {v : Nat} (hv : v < 8) (hfo : fo (2 * v) = zf_in kd) (hH : ∀ r, H (r + 1) v = zf_md kd (H r v) (zf_in kd) false)
    (h : ∀ hi' : Nat → Int32, (∀ r, r ≤ 10 → hi' (8 * r + v) = H r v) → (∀ j, j % 8 ≠ v → hi' j = hi j) → post ((nI n), kd, wy, sd, rn, wt, cu, jo, st, dg, pa, pt, ch, hi', ct, upd ro v (nI 10), ac, sa, up, fo, iS, re, so, fr, tt, pu, lo)) :
    ∀ d i, i + d = 10 → ∀ hi' : Nat → Int32, (∀ r, r ≤ i → hi' (8 * r + v) = H r v) → (∀ j, j % 8 ≠ v → hi' j = hi j) → wX_runAlone_2 post (nI v) (nI n) kd wy sd rn wt cu (d + 1) (nI i) jo st dg pa pt ch hi' ct ro ac sa up fo iS re so fr tt pu lo := by
  have cv : (nI v).toNatClampNeg = v := nI_clamp (by omega)
  have iv : vp_in (nI v) 8 := vp_in_nI (by omega) (by omega)
  intro d
  induction d with
  | zero =>
    intro i hi' g hg hk
    have e : i = 10 := by omega
    subst e
    rw [wX_runAlone_2]
    dsimp only
    rw [cv]
    exact br_t (by decide) ⟨iv, nm_e (h g hg hk)⟩
  | succ d ih =>
    intro i hi' g hg hk
    have c1 : ((8 : Int32) * nI i + nI v).toNatClampNeg = 8 * i + v := by rw [xs_jo]; exact nI_clamp (by omega)
    have i1 : vp_in ((8 : Int32) * nI i + nI v) 88 := by rw [xs_jo]; exact vp_in_nI (by omega) (by omega)
    have e2 : (2 : Int32) * nI v = nI (2 * v) := by rw [show (2 : Int32) = nI 2 from rfl, pk_mul]
    have c2 : ((2 : Int32) * nI v).toNatClampNeg = 2 * v := by rw [e2]; exact nI_clamp (by omega)
    have i2 : vp_in ((2 : Int32) * nI v) 16 := by rw [e2]; exact vp_in_nI (by omega) (by omega)
    have c3 : ((8 : Int32) * nI i + 8 + nI v).toNatClampNeg = 8 * (i + 1) + v := by rw [xs_hix]; exact nI_clamp (by omega)
    have i3 : vp_in ((8 : Int32) * nI i + 8 + nI v) 88 := by rw [xs_hix]; exact vp_in_nI (by omega) (by omega)
    rw [wX_runAlone_2]
    dsimp only
    rw [c1, c2, c3, hg i (Nat.le_refl _), hfo]
    refine br_f (nI_ge (b := 10) (by omega) (by omega)) ⟨i1, i2, ?_⟩
    refine xs_made (has := false) _ (by decide) ⟨i3, nm_e (nm_r (nI_1 i) ?_)⟩
    rw [← hH]
    refine ih (i + 1) (by omega) _ (fun r hr => ?_) (fun j hj => ?_)
    · by_cases e : r = i + 1
      · subst e; rw [pk_us]
      · rw [pk_un (by omega)]; exact hg r (by omega)
    · rw [pk_un (by omega)]; exact hk j hj
theorem xr_ss0 (post : SX → Prop) {v : Nat} (h8 : n ≤ 8) (hv : v < n) (hJ : ∀ u, u < n → jo (8 * v + u) = 0) (hD : dg v = 0) (hfo : fo (2 * v) = zf_in kd) (hhi : hi v = H 0 v) (hH : ∀ r, H (r + 1) v = zf_md kd (H r v) (zf_in kd) false)
    (h : ∀ hi' : Nat → Int32, (∀ r, r ≤ 10 → hi' (8 * r + v) = H r v) → (∀ j, j % 8 ≠ v → hi' j = hi j) → post ((nI n), kd, wy, sd, rn, wt, cu, jo, st, dg, pa, pt, ch, hi', ct, upd ro v (nI 10), upd ac v 0, sa, up, fo, upd iS v 0, upd re v 0, so, fr, tt, pu, lo)) : wpX_sendState post ((nI n), kd, wy, sd, rn, wt, cu, jo, st, dg, pa, pt, ch, hi, ct, ro, ac, sa, up, fo, iS, re, so, fr, tt, pu, lo) (nI v) := by
  have cv : (nI v).toNatClampNeg = v := nI_clamp (by omega)
  have iv : vp_in (nI v) 8 := vp_in_nI (by omega) (by omega)
  unfold wpX_sendState
  dsimp only
  rw [cv, xs_b0]
  refine ⟨iv, nm_e ⟨iv, nm_e ⟨iv, nm_e ⟨n + 1, ?_⟩⟩⟩⟩
  have lp : ∀ d i, i + d = n → wX_sendState_23 post (nI v) (d + 1) (nI i) (nI n) kd wy sd rn wt cu jo st dg pa pt ch hi ct ro (upd ac v 0) sa up fo (upd iS v 0) (upd re v 0) so fr tt pu lo := by
    intro d
    induction d with
    | zero =>
      intro i hi
      have e : i = n := by omega
      subst e
      rw [wX_sendState_23]
      dsimp only
      rw [cv]
      refine br_t (nI_le (Nat.le_refl _) (by omega)) ⟨iv, br_t hD ?_⟩
      unfold wpX_runAlone
      refine ⟨11, ?_⟩
      refine xr_alone (H := H) _ (by omega) hfo hH h 10 0 (by omega) _ (fun r hr => ?_) (fun _ _ => rfl)
      have : r = 0 := by omega
      subst this
      rw [show 8 * 0 + v = v from by omega]; exact hhi
    | succ d ih =>
      intro i hi
      have c1 : ((8 : Int32) * nI v + nI i).toNatClampNeg = 8 * v + i := by rw [xs_jo]; exact nI_clamp (by omega)
      have i1 : vp_in ((8 : Int32) * nI v + nI i) 64 := by rw [xs_jo]; exact vp_in_nI (by omega) (by omega)
      rw [wX_sendState_23]
      dsimp only
      rw [c1]
      exact br_f (nI_ge (by omega) (by omega)) ⟨i1, br_t (hJ i (by omega)) (nm_r (nI_1 i) (ih (i + 1) (by omega)))⟩
  exact lp n 0 (by omega)
/-- the start, nodes below i have begun -/
noncomputable def zr_ph (J : Nat → Nat → Bool) (n i v : Nat) : Nat := if v < i ∧ zc_n (J v) n = 0 then 30 else 0
def zr_M (J : Nat → Nat → Bool) (i : Nat) : zg_M := fun s u v r => if s = 0 ∧ r = 0 ∧ u < i ∧ J u v = true then 1 else 0
theorem zr_C {i : Nat} (h8 : n ≤ 8) (hJ : ∀ a b, J a b = true → a < n ∧ b < n) : zg_C (zr_M J i) := by
  have key : ∀ s u v r, zr_M J i s u v r = 1 → s = 0 ∧ r = 0 ∧ u < 8 ∧ v < 8 := by
    intro s u v r h
    unfold zr_M at h
    by_cases c : s = 0 ∧ r = 0 ∧ u < i ∧ J u v = true
    · have := hJ _ _ c.2.2.2; exact ⟨c.1, c.2.1, by omega, by omega⟩
    · rw [if_neg c] at h; omega
  intro s u v r s' u' v' r' a b e
  obtain ⟨rfl, rfl, h1, h2⟩ := key _ _ _ _ a
  obtain ⟨rfl, rfl, h3, h4⟩ := key _ _ _ _ b
  have z0 : ∀ u v r, zg_code 0 u v r = 0 + (8 * u + v) := fun _ _ _ => rfl
  rw [z0, z0] at e
  omega
theorem zr_step {i : Nat} : zg_V (zr_M J i) 0 i (J i) 0 = zr_M J (i + 1) := by
  funext s u v r
  unfold zg_V zr_M
  by_cases e : u = i
  · subst e; grind
  · grind
theorem zr_skip {i : Nat} (h : ∀ u, J i u = false) : zr_M J i = zr_M J (i + 1) := by
  rw [← zr_step, zg_V0 h]
theorem zr_P0 (hw : wt = nI 0) (hct : ∀ j, j < 11 → ct j = 0) : zp_P H (zr_M J 0) 0 wt ct so fr tt pu lo := by
  have hz : ∀ s u v r, zr_M J 0 s u v r = 0 := by
    intro s u v r
    unfold zr_M
    rw [if_neg (by omega)]
  refine ⟨[], List.nodup_nil, fun s u v r => ?_, hw, fun i m h => by simp at h, fun s u v r h => absurd (hz s u v r) h, fun r hr => ?_, ?_⟩
  · rw [hz]; simp
  · rw [hct _ (by omega), zc_0 _ fun i hi => ?_]
    · rfl
    · unfold zp_ct; rw [hz]; rfl
  · refine zc_0 _ fun i hi => ?_
    unfold zp_dl; rw [hz]; rfl
/-- what refresh has of a node before it begins -/
def zr_B (n : Nat) (kd : Int32) (st hi ro sa up fo : Nat → Int32) (v : Nat) : Prop :=
  ro v = nI 0 ∧ hi v = st v ∧ sa (2 * v) = 0 ∧ sa (2 * v + 1) = 0 ∧ up (2 * v) = 0 ∧ up (2 * v + 1) = 0 ∧ fo (2 * v) = zf_in kd ∧ fo (2 * v + 1) = zf_in kd
theorem xr_104 (post : SX → Prop) (S : zi_S n kd wy al J pr H jo dg pt ch) (hH0 : ∀ v, H 0 v = st v)
    (hsa : ∀ v, v < n → sa (2 * v) = 0 ∧ sa (2 * v + 1) = 0 ∧ up (2 * v) = 0 ∧ up (2 * v + 1) = 0 ∧ fo (2 * v) = zf_in kd ∧ fo (2 * v + 1) = zf_in kd)
    (h : ∀ (hi ro ac iS re : Nat → Int32), ∀ (wt : Int32) (ct so fr tt pu lo : Nat → Int32), (∀ v, v < n → ro v = nI (zr_ph J n n v / 3) ∧ iS v = 0 ∧ re v = 0 ∧ ac v = 0 ∧ ∀ r, r ≤ zr_ph J n n v / 3 → hi (8 * r + v) = H r v) → zp_P H (zr_M J n) 0 wt ct so fr tt pu lo → ∃ n125, wX_refresh_125 post n125 0 (nI n) kd wy sd rn wt cu jo st dg pa pt ch hi ct ro ac sa up fo iS re so fr tt pu lo) :
    ∀ d i, i + d = n → ∀ (hi ro ac iS re : Nat → Int32), ∀ (wt : Int32) (ct so fr tt pu lo : Nat → Int32), (∀ v, v < n → ro v = nI (zr_ph J n i v / 3) ∧ (v < i → iS v = 0 ∧ re v = 0 ∧ ac v = 0) ∧ ∀ r, r ≤ zr_ph J n i v / 3 → hi (8 * r + v) = H r v) → zp_P H (zr_M J i) 0 wt ct so fr tt pu lo → wX_refresh_104 post (d + 1) (nI i) (nI n) kd wy sd rn wt cu jo st dg pa pt ch hi ct ro ac sa up fo iS re so fr tt pu lo := by
  have S0 := S
  obtain ⟨E, hw, hjo, hD, hpt, hch, hH⟩ := S
  obtain ⟨h8, sy, ir, hJ, F⟩ := E
  intro d
  induction d with
  | zero =>
    intro i hi hi' ro ac iS re wt ct so fr tt pu lo hb P
    have e : i = n := by omega
    subst e
    rw [wX_refresh_104]
    refine br_t (nI_le (Nat.le_refl _) (by omega)) (h _ _ _ _ _ _ _ _ _ _ _ _ (fun v hv => ?_) P)
    obtain ⟨b1, b2, b3⟩ := hb v hv
    exact ⟨b1, (b2 hv).1, (b2 hv).2.1, (b2 hv).2.2, b3⟩
  | succ d ih =>
    intro i hi hi' ro ac iS re wt ct so fr tt pu lo hb P
    have hin : i < n := by omega
    rw [wX_refresh_104]
    refine br_f (nI_ge (by omega) (by omega)) ?_
    obtain ⟨b1, b2, b3⟩ := hb i hin
    have p0 : zr_ph J n i i = 0 := by unfold zr_ph; rw [if_neg (by omega)]
    rw [p0] at b1 b3
    have hhi0 : hi' i = H 0 i := by have := b3 0 (by omega); rw [show 8 * 0 + i = i from by omega] at this; exact this
    have keep : ∀ v, v ≠ i → zr_ph J n (i + 1) v = zr_ph J n i v := by
      intro v hv
      unfold zr_ph
      by_cases c : v < i
      · by_cases z : zc_n (J v) n = 0
        · rw [if_pos ⟨by omega, z⟩, if_pos ⟨c, z⟩]
        · rw [if_neg (fun q => z q.2), if_neg (fun q => z q.2)]
      · rw [if_neg (by omega), if_neg (by omega)]
    by_cases z : zc_n (J i) n = 0
    · have nj : ∀ u, J i u = false := by
        intro u
        cases e : J i u with
        | false => rfl
        | true => have := zc_pos (f := J i) (hJ _ _ e).2 e; omega
      refine xr_ss0 (H := H) _ h8 hin (fun u hu => (hjo i u hin hu).mpr (nj u)) (by rw [hD i hin, z]; rfl) (hsa i hin).2.2.2.2.1 hhi0 (fun r => ?_) (fun g hg hk => ?_)
      · rw [hH, z, zf_none n (fun u _ => nj u)]; rfl
      · refine nm_r (nI_1 i) (ih (i + 1) (by omega) _ _ _ _ _ _ _ _ _ _ _ _ (fun v hv => ?_) (by rw [← zr_skip nj]; exact P))
        by_cases e : v = i
        · subst e
          have p1 : zr_ph J n (v + 1) v = 30 := by unfold zr_ph; rw [if_pos ⟨by omega, z⟩]
          rw [p1, pk_us, pk_us, pk_us, pk_us]
          exact ⟨rfl, fun _ => ⟨rfl, rfl, rfl⟩, hg⟩
        · obtain ⟨d1, d2, d3⟩ := hb v hv
          rw [keep v e, pk_un e, pk_un e, pk_un e, pk_un e]
          refine ⟨d1, fun q => d2 (by omega), fun r hr => ?_⟩
          rw [hk _ (by omega)]; exact d3 r hr
    · refine xs_ss (J := J) (M := zr_M J i) (r := 0) _ h8 hin (by omega) b1 (b3 0 (by omega)) (fun u hu => hjo i u hin hu) (fun u j => (hJ _ _ j).2) ?_ ?_ (fun u _ => ?_) P ?_
      · rw [hD i hin, show (0 : Int32) = nI 0 from rfl, nI_eq (by have := zc_len (J i) n; omega) (by omega)]; exact z
      · rw [zr_step]; exact zr_C h8 hJ
      · unfold zr_M; rw [if_neg (by omega)]
      · intro wt ct so fr tt pu lo Q
        rw [zr_step] at Q
        refine nm_r (nI_1 i) (ih (i + 1) (by omega) _ _ _ _ _ _ _ _ _ _ _ _ (fun v hv => ?_) Q)
        by_cases e : v = i
        · subst e
          have p1 : zr_ph J n (v + 1) v = 0 := by unfold zr_ph; rw [if_neg (fun q => z q.2)]
          rw [p1, pk_us, pk_us, pk_us]
          exact ⟨b1, fun _ => ⟨rfl, rfl, rfl⟩, b3⟩
        · obtain ⟨d1, d2, d3⟩ := hb v hv
          rw [keep v e, pk_un e, pk_un e, pk_un e]
          exact ⟨d1, fun q => d2 (by omega), d3⟩
theorem zr_G (E : zg_E n J pr) : zg_G n al J pr (zr_ph J n n) (zr_M J n) := by
  obtain ⟨h8, sy, ir, hJ, F⟩ := E
  have p0 : ∀ u v, J u v = true → zr_ph J n n u = 0 := by
    intro u v j
    unfold zr_ph
    rw [if_neg]
    intro z
    have := zc_pos (f := J u) (hJ _ _ j).2 j
    omega
  have q0 : ∀ u v, u < n → v < n → pr u = v → zr_ph J n n u = 0 ∧ zr_ph J n n v = 0 := by
    intro u v hu hv e
    rcases F.1 u hu with ⟨e', _⟩ | ⟨_, j, _⟩
    · omega
    · rw [e] at j; exact ⟨p0 u v (sy _ _ j), p0 v u j⟩
  have m0 : ∀ s u v r, s ≠ 0 → zr_M J n s u v r = 0 := fun s u v r h => by unfold zr_M; rw [if_neg (fun z => h z.1)]
  have m1 : ∀ s u v r, zr_M J n s u v r ≤ 1 := fun s u v r => by unfold zr_M; split <;> omega
  refine ⟨fun u v r => ?_, fun u v r => ?_, fun u v r => ?_, fun u v r => ?_, fun u v r => ?_, fun s u v r => ?_, fun u hu => ?_, fun u v r j hr h => ?_, fun ha u v r j hr h => ?_, fun ha u v r hu hv e hr h => ?_, fun ha u v r hu hv e hr h => ?_⟩
  · constructor
    · intro h
      have c : 0 = 0 ∧ r = 0 ∧ u < n ∧ J u v = true := by
        refine Classical.byContradiction fun z => h ?_
        unfold zr_M; rw [if_neg z]
      obtain ⟨_, rfl, _, j⟩ := c
      exact ⟨j, by omega, by omega⟩
    · rintro ⟨j, hr, h⟩
      rw [p0 u v j] at h
      unfold zr_M
      rw [if_pos ⟨rfl, by omega, (hJ _ _ j).1, j⟩]; omega
  · rw [m0 1 v u r (by decide)]
    have := m1 0 u v r
    omega
  · rw [m0 2 u v r (by decide)]
    refine ⟨fun z => absurd rfl z, fun z => ?_⟩
    have := p0 u v z.2.1; omega
  · rw [m0 3 u v r (by decide)]
    refine ⟨fun z => absurd rfl z, fun z => ?_⟩
    have := q0 u v z.2.1 z.2.2.1 z.2.2.2.1; omega
  · rw [m0 4 v u r (by decide)]
    refine ⟨fun z => absurd rfl z, fun z => ?_⟩
    have := q0 u v z.2.1 z.2.2.1 z.2.2.2.1; omega
  · refine ⟨by have := m1 s u v r; omega, fun h => m0 s u v r (by omega)⟩
  · unfold zr_ph; split <;> omega
  · have := p0 u v j; omega
  · have := p0 v u (sy _ _ j); omega
  · have := q0 u v hu hv e; omega
  · have := q0 u v hu hv e; omega
theorem zr_O (E : zg_E n J pr) : ∀ x, x < n → zg_O n al J pr (zr_ph J n n) (zr_M J n) x := by
  obtain ⟨h8, sy, ir, hJ, F⟩ := E
  intro x hx
  by_cases z : zc_n (J x) n = 0
  · have p : zr_ph J n n x = 30 := by unfold zr_ph; rw [if_pos ⟨hx, z⟩]
    refine ⟨fun r hr h => ?_, fun r hr h => ?_, fun r hr h => ?_, fun r hr h => ?_⟩ <;> omega
  · have p : zr_ph J n n x = 0 := by unfold zr_ph; rw [if_neg (fun q => z q.2)]
    refine ⟨fun r hr h => ?_, fun r hr h => ?_, fun r hr h => ?_, fun r hr h => ?_⟩
    · obtain ⟨v, hv, j, _⟩ := zc_ex (f := fun _ => false) (g := J x) (n := n) (by rw [zc_0 n (fun _ _ => rfl)]; omega)
      refine ⟨v, j, ?_⟩
      unfold zr_M
      rw [if_neg (by omega)]; omega
    · omega
    · omega
    · omega
theorem zr_A (hsa : ∀ v, v < n → sa (2 * v) = 0 ∧ sa (2 * v + 1) = 0 ∧ up (2 * v) = 0 ∧ up (2 * v + 1) = 0 ∧ fo (2 * v) = zf_in kd ∧ fo (2 * v + 1) = zf_in kd)
    (hb : ∀ v, v < n → ro v = nI (zr_ph J n n v / 3) ∧ iS v = 0 ∧ re v = 0 ∧ ac v = 0 ∧ ∀ r, r ≤ zr_ph J n n v / 3 → hi (8 * r + v) = H r v) : za_A n kd H (zr_ph J n n) (zr_M J n) hi ro ac sa up fo iS re := by
  have hm : ∀ v, zr_ph J n n v = 0 ∨ zr_ph J n n v = 30 := fun v => by unfold zr_ph; split <;> omega
  have m1 : ∀ s u v r, zr_M J n s u v r ≠ 2 := fun s u v r => by unfold zr_M; split <;> omega
  have par : ∀ v r, 2 * v + r % 2 = 2 * v ∨ 2 * v + r % 2 = 2 * v + 1 := fun v r => by omega
  refine ⟨fun v hv => (hb v hv).1, fun v hv => ?_, fun v hv h => ?_, fun v r hv hr h => ?_, fun v r hv hr => ?_, fun v r hv hr => ?_, fun v r hv hr => ?_, fun v r hv hr => (hb v hv).2.2.2.2 r hr⟩
  · rw [if_pos (by have := hm v; omega)]; exact (hb v hv).2.1
  · rw [if_neg (by have := hm v; omega)]; exact (hb v hv).2.2.1
  · rw [zc_0 n fun i hi => decide_eq_false (m1 _ _ _ _)]; exact (hb v hv).2.2.2.1
  · rw [zc_0 n fun i hi => decide_eq_false (m1 _ _ _ _)]
    rcases par v r with e | e <;> rw [e]
    · exact (hsa v hv).1
    · exact (hsa v hv).2.1
  · rw [zc_0 n fun i hi => decide_eq_false (m1 _ _ _ _)]
    rcases par v r with e | e <;> rw [e]
    · exact (hsa v hv).2.2.1
    · exact (hsa v hv).2.2.2.1
  · rw [zf_none n fun i hi => decide_eq_false (m1 _ _ _ _)]
    rcases par v r with e | e <;> rw [e]
    · exact (hsa v hv).2.2.2.2.1
    · exact (hsa v hv).2.2.2.2.2
end
end
section
/-! refresh as a whole, behind findParts; how many control messages a round has -/
theorem zc_single (n k : Nat) : zc_n (fun b => decide (k = b)) n = if k < n then 1 else 0 := by
  by_cases h : k < n
  · rw [if_pos h, zc_up (f := fun _ => false) h rfl (decide_eq_true rfl) (fun i _ hne => (decide_eq_false (fun z => hne z.symm)).symm), zc_0 n (fun _ _ => rfl)]
  · rw [if_neg h]
    exact zc_0 n (fun i hi => decide_eq_false (by omega))
def zr_D (n : Nat) (J : Nat → Nat → Bool) : Nat := zs_s (fun u => zc_n (J u) n) n
def zr_R (n : Nat) (pr : Nat → Nat) : Nat := zc_n (fun u => decide (pr u < n)) n
theorem zr_two {n : Nat} (h8 : n ≤ 8) (X : Nat → Nat → Bool) (hX : ∀ a b, X a b = true → a < n ∧ b < n) : zs_s (fun a => zs_s (fun b => if X a b = true then 1 else 0) 8) 8 = zs_s (fun a => zc_n (X a) n) n := by
  have h1 : ∀ a, zs_s (fun b => if X a b = true then 1 else 0) 8 = zc_n (X a) n := by
    intro a
    refine zs_ext 8 h8 (fun b hb _ => ?_)
    rw [if_neg]
    intro z
    have := hX _ _ z; omega
  rw [zs_congr 8 (fun a _ => h1 a)]
  refine zs_ext 8 h8 (fun a ha _ => zc_0 n (fun b _ => ?_))
  cases e : X a b with
  | false => rfl
  | true => have := hX _ _ e; omega
theorem zr_flat (M : zg_M) (r : Nat) : zc_n (zp_ct M r) 256 =
    zs_s (fun a => zs_s (fun b => if decide (M 1 a b r ≠ 0) = true then 1 else 0) 8) 8 + zs_s (fun a => zs_s (fun b => if decide (M 2 a b r ≠ 0) = true then 1 else 0) 8) 8 +
    zs_s (fun a => zs_s (fun b => if decide (M 3 a b r ≠ 0) = true then 1 else 0) 8) 8 + zs_s (fun a => zs_s (fun b => if decide (M 4 a b r ≠ 0) = true then 1 else 0) 8) 8 := by
  have blk : ∀ i, zs_s (fun j => if zp_ct M r (i * 64 + j) = true then 1 else 0) 64 = zs_s (fun a => zs_s (fun b => if decide (M (1 + i) a b r ≠ 0) = true then 1 else 0) 8) 8 := by
    intro i
    have h := zs_flat (fun j => if zp_ct M r (i * 64 + j) = true then 1 else 0) 8 8
    rw [show (8 * 8 : Nat) = 64 from rfl] at h
    rw [h]
    refine zs_congr 8 fun a ha => zs_congr 8 fun b hb => ?_
    unfold zp_ct
    rw [show 1 + (i * 64 + (a * 8 + b)) / 64 = 1 + i from by omega, show (i * 64 + (a * 8 + b)) / 8 % 8 = a from by omega, show (i * 64 + (a * 8 + b)) % 8 = b from by omega]
  have h := zs_flat (fun c => if zp_ct M r c = true then 1 else 0) 64 4
  rw [show (4 * 64 : Nat) = 256 from rfl] at h
  unfold zc_n
  rw [h, zs_congr 4 (fun i _ => blk i)]
  show 0 + _ + _ + _ + _ = _
  rw [Nat.zero_add]
section
variable {n : Nat} {al : Bool} {J : Nat → Nat → Bool} {pr ph : Nat → Nat} {M : zg_M}
theorem zr_cnt (E : zg_E n J pr) (G : zg_G n al J pr ph M) (h0 : ∀ s u v r, M s u v r ≠ 1) (h30 : ∀ u, u < n → ph u = 30) {r : Nat} (hr : r < 10) : zc_n (zp_ct M r) 256 = if al = true then 2 * zr_D n J else zr_D n J + 2 * zr_R n pr := by
  obtain ⟨h8, sy, ir, hJ, F⟩ := E
  obtain ⟨g1, g2, g3, g4, g5, g6, g7, g8, g9, g10, g11⟩ := G
  have two : ∀ s u v r, M s u v r ≠ 0 → M s u v r = 2 := by
    intro s u v r h
    have := (g6 s u v r).1; have := h0 s u v r; omega
  rw [zr_flat]
  have k1 : zs_s (fun a => zs_s (fun b => if decide (M 1 a b r ≠ 0) = true then 1 else 0) 8) 8 = zr_D n J := by
    have e : ∀ a b, decide (M 1 a b r ≠ 0) = J a b := by
      intro a b
      cases j : J a b with
      | true =>
        refine decide_eq_true ?_
        have j' := sy _ _ j
        exact (g2 b a r).mpr (two _ _ _ _ ((g1 b a r).mpr ⟨j', hr, by rw [h30 b (hJ _ _ j').1]; omega⟩))
      | false =>
        refine decide_eq_false fun z => ?_
        have z1 := (g2 b a r).mp z
        have z2 := ((g1 b a r).mp (by omega)).1
        rw [sy _ _ z2] at j; exact absurd j (by decide)
    rw [zs_congr 8 (fun a _ => zs_congr 8 (fun b _ => by rw [e a b]))]
    exact zr_two h8 J hJ
  rw [k1]
  cases hal : al with
  | true =>
    rw [if_pos rfl]
    have e2 : ∀ a b, decide (M 2 a b r ≠ 0) = J a b := by
      intro a b
      cases j : J a b with
      | true => exact decide_eq_true ((g3 a b r).mpr ⟨hal, j, hr, by rw [h30 a (hJ _ _ j).1]; omega⟩)
      | false =>
        refine decide_eq_false fun z => ?_
        have z2 := ((g3 a b r).mp z).2.1
        rw [z2] at j; exact absurd j (by decide)
    have e3 : ∀ a b, decide (M 3 a b r ≠ 0) = false := fun a b => decide_eq_false fun z => by
      have := ((g4 a b r).mp z).1
      rw [hal] at this; exact absurd this (by decide)
    have e4 : ∀ a b, decide (M 4 a b r ≠ 0) = false := fun a b => decide_eq_false fun z => by
      have := ((g5 b a r).mp z).1
      rw [hal] at this; exact absurd this (by decide)
    rw [zs_congr 8 (fun a _ => zs_congr 8 (fun b _ => by rw [e2 a b])), zr_two h8 J hJ]
    rw [zs_zero (f := fun a => zs_s (fun b => if decide (M 3 a b r ≠ 0) = true then 1 else 0) 8) 8 (fun a _ => zs_zero 8 (fun b _ => by rw [e3 a b]; rfl))]
    rw [zs_zero (f := fun a => zs_s (fun b => if decide (M 4 a b r ≠ 0) = true then 1 else 0) 8) 8 (fun a _ => zs_zero 8 (fun b _ => by rw [e4 a b]; rfl))]
    show zr_D n J + zr_D n J + 0 + 0 = _
    omega
  | false =>
    rw [if_neg (by decide)]
    have e2 : ∀ a b, decide (M 2 a b r ≠ 0) = false := fun a b => decide_eq_false fun z => by
      have := ((g3 a b r).mp z).1
      rw [hal] at this; exact absurd this (by decide)
    have e3 : ∀ a b, decide (M 3 a b r ≠ 0) = decide (a < n ∧ b < n ∧ pr a = b) := by
      intro a b
      refine decide_eq_decide.mpr ⟨fun z => ?_, fun z => ?_⟩
      · have := (g4 a b r).mp z; exact ⟨this.2.1, this.2.2.1, this.2.2.2.1⟩
      · exact (g4 a b r).mpr ⟨hal, z.1, z.2.1, z.2.2, hr, by rw [h30 a z.1]; omega⟩
    have e4 : ∀ a b, decide (M 4 a b r ≠ 0) = decide (b < n ∧ a < n ∧ pr b = a) := by
      intro a b
      refine decide_eq_decide.mpr ⟨fun z => ?_, fun z => ?_⟩
      · have := (g5 b a r).mp z; exact ⟨this.2.1, this.2.2.1, this.2.2.2.1⟩
      · exact (g5 b a r).mpr ⟨hal, z.1, z.2.1, z.2.2, hr, by rw [h30 a z.2.1]; omega⟩
    have s3 : zs_s (fun a => zc_n (fun b => decide (a < n ∧ b < n ∧ pr a = b)) n) n = zr_R n pr := by
      refine zs_congr n fun a ha => ?_
      rw [zc_congr (g := fun b => decide (pr a = b)) n (fun b hb => by
        by_cases q : pr a = b
        · rw [decide_eq_true q, decide_eq_true ⟨ha, hb, q⟩]
        · rw [decide_eq_false q, decide_eq_false (fun z => q z.2.2)]), zc_single]
      by_cases q : pr a < n
      · rw [if_pos q, if_pos (decide_eq_true q)]
      · rw [if_neg q, if_neg (fun z => q (of_decide_eq_true z))]
    rw [zs_zero (f := fun a => zs_s (fun b => if decide (M 2 a b r ≠ 0) = true then 1 else 0) 8) 8 (fun a _ => zs_zero 8 (fun b _ => by rw [e2 a b]; rfl))]
    rw [zs_congr (f := fun a => zs_s (fun b => if decide (M 3 a b r ≠ 0) = true then 1 else 0) 8) 8 (fun a _ => zs_congr 8 (fun b _ => by rw [e3 a b]))]
    rw [zs_congr (f := fun a => zs_s (fun b => if decide (M 4 a b r ≠ 0) = true then 1 else 0) 8) 8 (fun a _ => zs_congr 8 (fun b _ => by rw [e4 a b]))]
    rw [zs_swap (fun a b => if decide (b < n ∧ a < n ∧ pr b = a) = true then 1 else 0) 8 8]
    rw [zr_two h8 (fun a b => decide (a < n ∧ b < n ∧ pr a = b)) (fun a b z => ⟨(of_decide_eq_true z).1, (of_decide_eq_true z).2.1⟩), s3]
    omega
end
section
variable {n : Nat} {al : Bool} {J : Nat → Nat → Bool} {pr : Nat → Nat} {H : Nat → Nat → Int32} {kd wy sd rn wt cu : Int32} {jo st dg pa pt ch hi ct ro ac sa up fo iS re so fr tt pu lo : Nat → Int32}
theorem xr_53 (post : SX → Prop) (h8 : n ≤ 8)
    (h : ∀ hi ro sa up fo : Nat → Int32, (∀ v, v < n → zr_B n kd st hi ro sa up fo v) → ∃ n104, wX_refresh_104 post n104 0 (nI n) kd wy sd rn wt cu jo st dg pa pt ch hi ct ro ac sa up fo iS re so fr tt pu lo) :
    ∀ d i, i + d = n → ∀ hi ro sa up fo : Nat → Int32, (∀ v, v < i → zr_B n kd st hi ro sa up fo v) → wX_refresh_53 post (d + 1) (nI i) (nI n) kd wy sd rn wt cu jo st dg pa pt ch hi ct ro ac sa up fo iS re so fr tt pu lo := by
  intro d
  induction d with
  | zero =>
    intro i hi hi' ro sa up fo hb
    have e : i = n := by omega
    subst e
    rw [wX_refresh_53]
    exact br_t (nI_le (Nat.le_refl _) (by omega)) (h _ _ _ _ _ hb)
  | succ d ih =>
    intro i hi hi' ro sa up fo hb
    have ci : (nI i).toNatClampNeg = i := nI_clamp (by omega)
    have ii : vp_in (nI i) 8 := vp_in_nI (by omega) (by omega)
    have i88 : vp_in (nI i) 88 := vp_in_nI (by omega) (by omega)
    have e2 : (2 : Int32) * nI i = nI (2 * i) := by rw [show (2 : Int32) = nI 2 from rfl, pk_mul]
    rw [wX_refresh_53]
    dsimp only
    rw [ci, e2, nI_1 (2 * i)]
    refine br_f (nI_ge (by omega) (by omega)) ⟨ii, nm_e ⟨ii, i88, nm_e ?_⟩⟩
    refine xs_empty _ (by omega) ?_
    dsimp only
    refine xs_empty _ (by omega) ?_
    dsimp only
    refine nm_r (nI_1 i) (ih (i + 1) (by omega) _ _ _ _ _ (fun v hv => ?_))
    by_cases e : v = i
    · subst e
      refine ⟨pk_us, pk_us, ?_, pk_us, ?_, pk_us, ?_, pk_us⟩
      · rw [pk_un (by omega), pk_us]
      · rw [pk_un (by omega), pk_us]
      · rw [pk_un (by omega), pk_us]
    · obtain ⟨b1, b2, b3, b4, b5, b6, b7, b8⟩ := hb v (by omega)
      unfold zr_B
      rw [pk_un e, pk_un e, pk_un (by omega), pk_un (by omega), pk_un (by omega), pk_un (by omega), pk_un (by omega), pk_un (by omega), pk_un (by omega), pk_un (by omega), pk_un (by omega), pk_un (by omega), pk_un (by omega), pk_un (by omega)]
      exact ⟨b1, b2, b3, b4, b5, b6, b7, b8⟩
theorem xr_32 (post : SX → Prop) (h : ∀ ct : Nat → Int32, (∀ j, j < 11 → ct j = 0) → ∃ n53, wX_refresh_53 post n53 0 (nI n) kd wy sd rn wt cu jo st dg pa pt ch hi ct ro ac sa up fo iS re so fr tt pu lo) :
    ∀ d i, i + d = 11 → ∀ ct : Nat → Int32, (∀ j, j < i → ct j = 0) → wX_refresh_32 post (nI n) kd wy sd rn wt cu (d + 1) (nI i) jo st dg pa pt ch hi ct ro ac sa up fo iS re so fr tt pu lo := by
  intro d
  induction d with
  | zero =>
    intro i hi ct hc
    have e : i = 11 := by omega
    subst e
    rw [wX_refresh_32]
    exact br_t (by decide) (h ct hc)
  | succ d ih =>
    intro i hi ct hc
    have ci : (nI i).toNatClampNeg = i := nI_clamp (by omega)
    have ii : vp_in (nI i) 11 := vp_in_nI (by omega) (by omega)
    rw [wX_refresh_32]
    dsimp only
    rw [ci]
    refine br_f (nI_nlt (b := i) (a := 10) (by omega) (by omega)) ⟨ii, nm_e (nm_r (nI_1 i) (ih (i + 1) (by omega) _ (fun j hj => ?_)))⟩
    by_cases e : j = i
    · subst e; exact pk_us
    · rw [pk_un e]; exact hc j (by omega)
/-- what refresh leaves: the states of all rounds, the counts of all rounds -/
def zr_Q (n : Nat) (al : Bool) (J : Nat → Nat → Bool) (pr : Nat → Nat) (H : Nat → Nat → Int32) (hi ct : Nat → Int32) : Prop :=
  (∀ v r, v < n → r ≤ 10 → hi (8 * r + v) = H r v) ∧ ∀ r, r < 10 → ct (r + 1) = nI (if al = true then 2 * zr_D n J else zr_D n J + 2 * zr_R n pr)
theorem xr_run (post : SX → Prop) (S : zi_S n kd wy al J pr H jo dg pt ch) (hH0 : ∀ v, H 0 v = st v) (hw : wt = 0)
    (h : ∀ (rn wt : Int32) (hi ct ro ac sa up fo iS re so fr tt pu lo : Nat → Int32), zr_Q n al J pr H hi ct → post ((nI n), kd, wy, sd, rn, wt, cu, jo, st, dg, pa, pt, ch, hi, ct, ro, ac, sa, up, fo, iS, re, so, fr, tt, pu, lo)) : ∃ n32, wX_refresh_32 post (nI n) kd wy sd rn wt cu n32 0 jo st dg pa pt ch hi ct ro ac sa up fo iS re so fr tt pu lo := by
  have h8 : n ≤ 8 := S.1.1
  refine ⟨12, xr_32 post (fun ct hct => ⟨n + 1, xr_53 post h8 (fun hi ro sa up fo hb => ⟨n + 1, ?_⟩) n 0 (by omega) _ _ _ _ _ (fun v hv => absurd hv (Nat.not_lt_zero v))⟩) 11 0 rfl _ (fun j hj => absurd hj (Nat.not_lt_zero j))⟩
  have hsa : ∀ v, v < n → sa (2 * v) = 0 ∧ sa (2 * v + 1) = 0 ∧ up (2 * v) = 0 ∧ up (2 * v + 1) = 0 ∧ fo (2 * v) = zf_in kd ∧ fo (2 * v + 1) = zf_in kd := fun v hv => (hb v hv).2.2
  have p0 : ∀ v, zr_ph J n 0 v = 0 := fun v => by unfold zr_ph; rw [if_neg (by omega)]
  refine xr_104 post S hH0 hsa ?_ n 0 (by omega) _ _ _ _ _ _ _ _ _ _ _ _ (fun v hv => ⟨?_, fun z => absurd z (Nat.not_lt_zero v), fun r hr => ?_⟩) (zr_P0 hw hct)
  · intro hi ro ac iS re wt ct so fr tt pu lo hb' P
    refine ⟨3202, xr_125 post S ?_ 3201 0 (by omega) _ _ _ _ _ _ _ _ _ _ _ _ _ _ _ _ _ _ (zr_G S.1) (zr_O S.1) (zr_A hsa hb') P⟩
    intro rn ph M T hi ro ac sa up fo iS re wt ct so fr tt pu lo G O A P e
    have h0 : ∀ s u v r, M s u v r ≠ 1 := by subst e; exact zp_end P (zg_cap S.1 G)
    have h30 := zg_end S.1 G O h0
    refine h _ _ _ _ _ _ _ _ _ _ _ _ _ _ _ _ ⟨fun v r hv hr => ?_, fun r hr => ?_⟩
    · exact A.2.2.2.2.2.2.2 v r hv (by rw [h30 v hv]; omega)
    · obtain ⟨L, _, _, _, _, _, hc, _⟩ := P
      rw [hc r hr, zr_cnt S.1 G h0 h30 hr]
  · rw [p0]; exact (hb v hv).1
  · rw [p0] at hr
    have e : r = 0 := by omega
    subst e
    rw [show 8 * 0 + v = v from by omega, hH0]; exact (hb v hv).2.1
end
end
section
/-! X's findParts -/
theorem zq_dm {n a b k : Nat} (hb : b < n) (e : n * a + b = k) : a = k / n ∧ b = k % n := by
  subst e
  rw [Nat.mul_add_div (by omega), Nat.div_eq_of_lt hb, Nat.mul_add_mod, Nat.mod_eq_of_lt hb]
  exact ⟨rfl, rfl⟩
def zq_p (n : Nat) (pr : Nat → Nat) (pt : Nat → Int32) : Prop := ∀ v, v < n → (pr v < n ∧ pt v = nI (pr v)) ∨ (pr v = 8 ∧ pt v = -1)
def zq_c (n : Nat) (pr : Nat → Nat) (ch : Nat → Int32) : Prop := ∀ v, v < n → ch v = nI (zc_n (fun u => decide (pr u = v)) n)
def zq_F (n : Nat) (J : Nat → Nat → Bool) (dg pa pt ch : Nat → Int32) (pr : Nat → Nat) : Prop :=
  (∀ v, v < n → dg v = nI (zc_n (J v) n)) ∧ (∀ v, v < n → pa v = nI (zk_m J v)) ∧ zk_F n J pr ∧ zq_p n pr pt ∧ zq_c n pr ch
def zq_Pr (n k a b : Nat) : Prop := b < n ∧ n * a + b < k
theorem zq_Pr1 {n k : Nat} : ∀ a b, zq_Pr n (k + 1) a b → zq_Pr n k a b ∨ (a = k / n ∧ b = k % n) := by
  intro a b h
  by_cases e : n * a + b = k
  · exact Or.inr (zq_dm h.1 e)
  · exact Or.inl ⟨h.1, by have := h.2; omega⟩
theorem zq_Pr0 {n : Nat} : ∀ a b, a < n → b < n → ¬ zq_Pr n 0 a b := fun a b _ _ h => absurd h.2 (Nat.not_lt_zero _)
theorem zq_Prn {n : Nat} : ∀ a b, a < n → b < n → zq_Pr n (n * n) a b := by
  intro a b ha hb
  have h := Nat.mul_le_mul_left n (show a + 1 ≤ n by omega)
  rw [Nat.mul_add, Nat.mul_one] at h
  exact ⟨hb, by omega⟩
section
variable {n : Nat} {J : Nat → Nat → Bool} {kd wy sd rn wt cu : Int32} {jo st dg pa pt ch hi ct ro ac sa up fo iS re so fr tt pu lo : Nat → Int32}
theorem xf_40 (post : SX → Prop) (J2 : Int32 → (Nat → Int32) → (Nat → Int32) → (Nat → Int32) → (Nat → Int32) → (Nat → Int32) → (Nat → Int32) → (Nat → Int32) → (Nat → Int32) → (Nat → Int32) → (Nat → Int32) → (Nat → Int32) → (Nat → Int32) → (Nat → Int32) → (Nat → Int32) → (Nat → Int32) → (Nat → Int32) → (Nat → Int32) → (Nat → Int32) → (Nat → Int32) → (Nat → Int32) → Prop) {v : Nat} {d0 : Nat → Int32} (h8 : n ≤ 8) (hv : v < n) (hjo : ∀ u v, u < n → v < n → (jo (8 * u + v) = 0 ↔ J u v = false))
    (h : ∀ dg : Nat → Int32, dg v = nI (zc_n (J v) n) → (∀ x, x ≠ v → dg x = d0 x) → J2 (nI (v + 1)) jo st dg pa pt ch hi ct ro ac sa up fo iS re so fr tt pu lo) :
    ∀ d i, i + d = n → ∀ dg : Nat → Int32, dg v = nI (zc_n (J v) i) → (∀ x, x ≠ v → dg x = d0 x) → wX_findParts_40 post J2 (nI v) (nI n) kd wy sd rn wt cu (d + 1) (nI i) jo st dg pa pt ch hi ct ro ac sa up fo iS re so fr tt pu lo := by
  have cv : (nI v).toNatClampNeg = v := nI_clamp (by omega)
  have iv : vp_in (nI v) 8 := vp_in_nI (by omega) (by omega)
  intro d
  induction d with
  | zero =>
    intro i hi dg h1 h2
    have e : i = n := by omega
    subst e
    rw [wX_findParts_40]
    exact br_t (nI_le (Nat.le_refl _) (by omega)) (nm_r (nI_1 v) (h dg h1 h2))
  | succ d ih =>
    intro i hi dg h1 h2
    have c1 : ((8 : Int32) * nI v + nI i).toNatClampNeg = 8 * v + i := by rw [xs_jo]; exact nI_clamp (by omega)
    have i1 : vp_in ((8 : Int32) * nI v + nI i) 64 := by rw [xs_jo]; exact vp_in_nI (by omega) (by omega)
    rw [wX_findParts_40]
    dsimp only
    rw [c1, cv, h1]
    refine br_f (nI_ge (by omega) (by omega)) ⟨iv, i1, ?_⟩
    have hJi := hjo v i hv (by omega)
    cases e : J v i with
    | false =>
      refine br_t (hJi.mpr e) ⟨iv, nm_e (nm_r (nI_1 i) (ih (i + 1) (by omega) _ ?_ ?_))⟩
      · rw [pk_us, Int32.add_zero, zc_f e]
      · intro x hx; rw [pk_un hx]; exact h2 x hx
    | true =>
      refine br_f (fun z => by rw [hJi.mp z] at e; exact absurd e (by decide)) ⟨iv, nm_e (nm_r (nI_1 i) (ih (i + 1) (by omega) _ ?_ ?_))⟩
      · rw [pk_us, nI_1, zc_t e]
      · intro x hx; rw [pk_un hx]; exact h2 x hx
theorem xf_98 (post : SX → Prop) (J90 : Int32 → (Nat → Int32) → (Nat → Int32) → (Nat → Int32) → (Nat → Int32) → (Nat → Int32) → (Nat → Int32) → (Nat → Int32) → (Nat → Int32) → (Nat → Int32) → (Nat → Int32) → (Nat → Int32) → (Nat → Int32) → (Nat → Int32) → (Nat → Int32) → (Nat → Int32) → (Nat → Int32) → (Nat → Int32) → (Nat → Int32) → (Nat → Int32) → (Nat → Int32) → Prop) {t : Nat} {l0 : Nat → Nat} (h8 : n ≤ 8) (h0 : 0 < n) (sy : ∀ a b, J a b = true → J b a = true) (hJ : ∀ a b, J a b = true → a < n ∧ b < n) (hjo : ∀ u v, u < n → v < n → (jo (8 * u + v) = 0 ↔ J u v = false))
    (h : ∀ (pa : Nat → Int32) (lb : Nat → Nat), (∀ v, v < n → pa v = nI (lb v)) → zk_I n J l0 (zq_Pr n (n * n)) lb → J90 (nI (t + 1)) jo st dg pa pt ch hi ct ro ac sa up fo iS re so fr tt pu lo) :
    ∀ d k, k + d = n * n → ∀ (pa : Nat → Int32) (lb : Nat → Nat), (∀ v, v < n → pa v = nI (lb v)) → zk_I n J l0 (zq_Pr n k) lb → wX_findParts_98 post J90 (nI t) (nI n) kd wy sd rn wt cu (d + 1) (nI k) jo st dg pa pt ch hi ct ro ac sa up fo iS re so fr tt pu lo := by
  have nn : n * n ≤ 64 := Nat.mul_le_mul h8 h8
  intro d
  induction d with
  | zero =>
    intro k hk pa lb h1 I
    have e : k = n * n := by omega
    subst e
    rw [wX_findParts_98]
    dsimp only
    rw [pk_mul]
    exact br_t (nI_le (Nat.le_refl _) (by omega)) (nm_r (nI_1 t) (h pa lb h1 I))
  | succ d ih =>
    intro k hk pa lb h1 I
    have hu : k / n < n := Nat.div_lt_of_lt_mul (by omega)
    have hv : k % n < n := Nat.mod_lt _ h0
    have c1 : ((8 : Int32) * nI (k / n) + nI (k % n)).toNatClampNeg = 8 * (k / n) + k % n := by rw [xs_jo]; exact nI_clamp (by omega)
    have i1 : vp_in ((8 : Int32) * nI (k / n) + nI (k % n)) 64 := by rw [xs_jo]; exact vp_in_nI (by omega) (by omega)
    have cu' : (nI (k / n)).toNatClampNeg = k / n := nI_clamp (by omega)
    have iu : vp_in (nI (k / n)) 8 := vp_in_nI (by omega) (by omega)
    have cv : (nI (k % n)).toNatClampNeg = k % n := nI_clamp (by omega)
    have iv : vp_in (nI (k % n)) 8 := vp_in_nI (by omega) (by omega)
    have n0 : ¬ nI n = 0 := nI_ne0 h0 (by omega)
    rw [wX_findParts_98]
    dsimp only
    rw [pk_mul]
    refine br_f (nI_ge (by omega) (by omega)) ⟨n0, nm_r (pk_div (by omega) h0 (by omega)) ⟨n0, nm_r (pk_rem (by omega) h0 (by omega)) ⟨i1, ?_⟩⟩⟩
    rw [c1, cu', cv, h1 _ hu, h1 _ hv]
    have hJi := hjo (k / n) (k % n) hu hv
    have I1 := zk_I1 sy hJ I hu hv zq_Pr1
    cases e : J (k / n) (k % n) with
    | false =>
      refine br_t (hJi.mpr e) (nm_r (nI_1 k) (ih (k + 1) (by omega) _ lb h1 ?_))
      unfold zk_s at I1
      rw [if_neg (fun z => by rw [e] at z; exact absurd z.1 (by decide))] at I1
      exact I1
    | true =>
      refine br_f (fun z => by rw [hJi.mp z] at e; exact absurd e (by decide)) ⟨iu, iv, ?_⟩
      have L := I.1
      have lu := (L _ hu).2
      have lv := (L _ hv).2
      refine pk_le (lb (k % n)) (lb (k / n)) (fun c => ?_) (fun c => ?_)
      · refine nm_r (nI_1 k) (ih (k + 1) (by omega) _ lb h1 ?_)
        unfold zk_s at I1
        rw [if_neg (fun z => by omega)] at I1
        exact I1
      · refine ⟨iu, iv, nm_e (nm_r (nI_1 k) (ih (k + 1) (by omega) _ (zu_p lb (k % n) (lb (k / n))) (zu_I h1 _ _) ?_))⟩
        unfold zk_s at I1
        rw [if_pos ⟨e, c⟩] at I1
        exact I1
theorem xf_90 (post : SX → Prop) (h8 : n ≤ 8) (h0 : 0 < n) (sy : ∀ a b, J a b = true → J b a = true) (hJ : ∀ a b, J a b = true → a < n ∧ b < n) (hjo : ∀ u v, u < n → v < n → (jo (8 * u + v) = 0 ↔ J u v = false))
    (h : ∀ pa : Nat → Int32, (∀ v, v < n → pa v = nI (zk_m J v)) → ∃ n184, wX_findParts_184 post (nI n) kd wy sd rn wt cu n184 0 jo st dg pa pt ch hi ct ro ac sa up fo iS re so fr tt pu lo) :
    ∀ d t, t + d = 8 → ∀ (pa : Nat → Int32) (lb : Nat → Nat), (∀ v, v < n → pa v = nI (lb v)) → zk_L n J lb → zc_n (zk_w J lb) n ≤ 8 - t → wX_findParts_90 post (nI n) kd wy sd rn wt cu (d + 1) (nI t) jo st dg pa pt ch hi ct ro ac sa up fo iS re so fr tt pu lo := by
  intro d
  induction d with
  | zero =>
    intro t ht pa lb h1 L hc
    have e : t = 8 := by omega
    subst e
    rw [wX_findParts_90]
    have hr := zk_right (n := n) (J := J) (lb := lb) (by omega)
    exact br_t (by decide) (h pa (fun v hv => by rw [h1 v hv, hr v hv]))
  | succ d ih =>
    intro t ht pa lb h1 L hc
    rw [wX_findParts_90]
    refine br_f (nI_ge (b := 8) (by omega) (by omega)) ⟨n * n + 1, ?_⟩
    refine xf_98 (J := J) (l0 := lb) post _ h8 h0 sy hJ hjo (fun pa lb' h1 I => ?_) (n * n) 0 (by omega) pa lb h1 (zk_I0 L zq_Pr0 hJ)
    have T := zk_turn sy hJ L zq_Prn I
    exact ih (t + 1) (by omega) pa lb' h1 I.1 (by omega)
theorem xf_245 (post : SX → Prop) (J184 J192 : Int32 → (Nat → Int32) → (Nat → Int32) → (Nat → Int32) → (Nat → Int32) → (Nat → Int32) → (Nat → Int32) → (Nat → Int32) → (Nat → Int32) → (Nat → Int32) → (Nat → Int32) → (Nat → Int32) → (Nat → Int32) → (Nat → Int32) → (Nat → Int32) → (Nat → Int32) → (Nat → Int32) → (Nat → Int32) → (Nat → Int32) → (Nat → Int32) → (Nat → Int32) → Prop) {x1 z0 : Int32} {k u v : Nat} {p0 pr : Nat → Nat} (h8 : n ≤ 8) (hu : u < n) (hv : v < n) (eu : u = k / n) (ev : v = k % n) (hjo : ∀ u v, u < n → v < n → (jo (8 * u + v) = 0 ↔ J u v = false))
    (hpa : ∀ v, v < n → pa v = nI (zk_m J v)) (hpt : zq_p n pr pt) (hch : zq_c n pr ch) (I : zk_K n J p0 (zq_Pr n k) pr) (hz : z0 = 0 ↔ ¬ zk_R J n pr u)
    (h : ∀ (pt ch : Nat → Int32) (pr : Nat → Nat), zq_p n pr pt → zq_c n pr ch → zk_K n J p0 (zq_Pr n (k + 1)) pr → J192 (nI (k + 1)) jo st dg pa pt ch hi ct ro ac sa up fo iS re so fr tt pu lo) :
    wX_findParts_245 post J184 J192 x1 (nI k) (nI u) (nI v) z0 (nI n) kd wy sd rn wt cu jo st dg pa pt ch hi ct ro ac sa up fo iS re so fr tt pu lo := by
  have c1 : ((8 : Int32) * nI u + nI v).toNatClampNeg = 8 * u + v := by rw [xs_jo]; exact nI_clamp (by omega)
  have i1 : vp_in ((8 : Int32) * nI u + nI v) 64 := by rw [xs_jo]; exact vp_in_nI (by omega) (by omega)
  have cu' : (nI u).toNatClampNeg = u := nI_clamp (by omega)
  have iu : vp_in (nI u) 8 := vp_in_nI (by omega) (by omega)
  have cv : (nI v).toNatClampNeg = v := nI_clamp (by omega)
  have iv : vp_in (nI v) 8 := vp_in_nI (by omega) (by omega)
  have hP : ∀ a b, zq_Pr n (k + 1) a b → zq_Pr n k a b ∨ (a = u ∧ b = v) := by rw [eu, ev]; exact zq_Pr1
  have hJi := hjo u v hu hv
  have skip : (J u v = false ∨ ¬ zk_R J n pr u ∨ zk_R J n pr v) → J192 (nI (k + 1)) jo st dg pa pt ch hi ct ro ac sa up fo iS re so fr tt pu lo := fun q => h pt ch pr hpt hch (zk_K2 I hu hP q)
  unfold wX_findParts_245
  rw [c1, cu', cv, hpa v hv]
  refine ⟨i1, ?_⟩
  cases e : J u v with
  | false => exact br_t (hJi.mpr e) (nm_r (nI_1 k) (skip (Or.inl e)))
  | true =>
    refine br_f (fun z => by rw [hJi.mp z] at e; exact absurd e (by decide)) (br_c (fun z => nm_r (nI_1 k) (skip (Or.inr (Or.inl (hz.mp z))))) (fun z => ⟨iv, ?_⟩))
    have ru : zk_R J n pr u := Classical.byContradiction fun y => z (hz.mpr y)
    have hm := zk_mle J v
    refine pk_eq (zk_m J v) v (fun c => nm_r (nI_1 k) (skip (Or.inr (Or.inr (Or.inl c))))) (fun c => ⟨iv, ?_⟩)
    rcases hpt v hv with ⟨q1, q2⟩ | ⟨q1, q2⟩
    · rw [q2]
      exact br_f (xd_m1 (by omega)) (nm_r (nI_1 k) (skip (Or.inr (Or.inr (Or.inr q1)))))
    · rw [q2]
      refine br_t rfl ⟨iv, nm_e ⟨iu, iu, nm_e (nm_r (nI_1 k) (h _ _ (zu_p pr v u) (fun x hx => ?_) (fun x hx => ?_) (zk_K1 h8 I hu hv hP e ru c q1)))⟩⟩
      · by_cases y : x = v
        · subst y; rw [zu_s, pk_us]; exact Or.inl ⟨hu, rfl⟩
        · rw [zu_n y, pk_un y]; exact hpt x hx
      · by_cases y : x = u
        · subst y
          rw [pk_us, hch x hx, nI_1]
          refine congrArg nI (zc_up hv (decide_eq_false (by omega)) (decide_eq_true zu_s) (fun i _ hne => ?_)).symm
          rw [zu_n hne]
        · rw [pk_un y, hch x hx]
          refine congrArg nI (zc_congr n fun i _ => ?_)
          by_cases w : i = v
          · subst w
            rw [zu_s, decide_eq_false (show ¬ pr i = x by omega), decide_eq_false (fun q => y q.symm)]
          · rw [zu_n w]
theorem xf_192 (post : SX → Prop) (J184 : Int32 → (Nat → Int32) → (Nat → Int32) → (Nat → Int32) → (Nat → Int32) → (Nat → Int32) → (Nat → Int32) → (Nat → Int32) → (Nat → Int32) → (Nat → Int32) → (Nat → Int32) → (Nat → Int32) → (Nat → Int32) → (Nat → Int32) → (Nat → Int32) → (Nat → Int32) → (Nat → Int32) → (Nat → Int32) → (Nat → Int32) → (Nat → Int32) → (Nat → Int32) → Prop) {t : Nat} {p0 : Nat → Nat} (h8 : n ≤ 8) (h0 : 0 < n) (hjo : ∀ u v, u < n → v < n → (jo (8 * u + v) = 0 ↔ J u v = false)) (hpa : ∀ v, v < n → pa v = nI (zk_m J v))
    (h : ∀ (pt ch : Nat → Int32) (pr : Nat → Nat), zq_p n pr pt → zq_c n pr ch → zk_K n J p0 (zq_Pr n (n * n)) pr → J184 (nI (t + 1)) jo st dg pa pt ch hi ct ro ac sa up fo iS re so fr tt pu lo) :
    ∀ d k, k + d = n * n → ∀ (pt ch : Nat → Int32) (pr : Nat → Nat), zq_p n pr pt → zq_c n pr ch → zk_K n J p0 (zq_Pr n k) pr → wX_findParts_192 post J184 (nI t) (nI n) kd wy sd rn wt cu (d + 1) (nI k) jo st dg pa pt ch hi ct ro ac sa up fo iS re so fr tt pu lo := by
  have nn : n * n ≤ 64 := Nat.mul_le_mul h8 h8
  intro d
  induction d with
  | zero =>
    intro k hk pt ch pr h1 h2 I
    have e : k = n * n := by omega
    subst e
    rw [wX_findParts_192]
    dsimp only
    rw [pk_mul]
    exact br_t (nI_le (Nat.le_refl _) (by omega)) (nm_r (nI_1 t) (h pt ch pr h1 h2 I))
  | succ d ih =>
    intro k hk pt ch pr h1 h2 I
    have hu : k / n < n := Nat.div_lt_of_lt_mul (by omega)
    have hv : k % n < n := Nat.mod_lt _ h0
    have cu' : (nI (k / n)).toNatClampNeg = k / n := nI_clamp (by omega)
    have iu : vp_in (nI (k / n)) 8 := vp_in_nI (by omega) (by omega)
    have n0 : ¬ nI n = 0 := nI_ne0 h0 (by omega)
    rw [wX_findParts_192]
    dsimp only
    rw [pk_mul]
    refine br_f (nI_ge (by omega) (by omega)) ⟨n0, nm_r (pk_div (by omega) h0 (by omega)) ⟨n0, nm_r (pk_rem (by omega) h0 (by omega)) ⟨iu, ?_⟩⟩⟩
    rw [cu', hpa _ hu]
    have hm := zk_mle J (k / n)
    have k245 : ∀ z0 : Int32, (z0 = 0 ↔ ¬ zk_R J n pr (k / n)) → wX_findParts_245 post J184 (wX_findParts_192 post J184 (nI t) (nI n) kd wy sd rn wt cu (d + 1)) (nI t) (nI k) (nI (k / n)) (nI (k % n)) z0 (nI n) kd wy sd rn wt cu jo st dg pa pt ch hi ct ro ac sa up fo iS re so fr tt pu lo := by
      intro z0 hz
      exact xf_245 post _ _ h8 hu hv rfl rfl hjo hpa h1 h2 I hz (fun pt ch pr q1 q2 q3 => ih (k + 1) (by omega) pt ch pr q1 q2 q3)
    have k240 : zk_R J n pr (k / n) → wX_findParts_240 post J184 (wX_findParts_192 post J184 (nI t) (nI n) kd wy sd rn wt cu (d + 1)) (nI t) (nI k) (nI (k / n)) (nI (k % n)) (nI n) kd wy sd rn wt cu jo st dg pa pt ch hi ct ro ac sa up fo iS re so fr tt pu lo := by
      intro hz
      unfold wX_findParts_240
      exact k245 1 ⟨fun z => absurd z (by decide), fun z => absurd hz z⟩
    refine pk_eq (zk_m J (k / n)) (k / n) (fun c => k240 (Or.inl c)) (fun c => ⟨iu, ?_⟩)
    rcases h1 _ hu with ⟨q1, q2⟩ | ⟨q1, q2⟩
    · rw [q2]
      exact br_f (xd_m1 (by omega)) (k240 (Or.inr q1))
    · rw [q2]
      refine br_t rfl (k245 0 ⟨fun _ z => ?_, fun _ => rfl⟩)
      rcases z with z | z
      · exact c z
      · omega
theorem xf_184 (post : SX → Prop) (h8 : n ≤ 8) (h0 : 0 < n) (sy : ∀ a b, J a b = true → J b a = true) (hJ : ∀ a b, J a b = true → a < n ∧ b < n) (hjo : ∀ u v, u < n → v < n → (jo (8 * u + v) = 0 ↔ J u v = false)) (hpa : ∀ v, v < n → pa v = nI (zk_m J v))
    (h : ∀ (pt ch : Nat → Int32) (pr : Nat → Nat), zq_p n pr pt → zq_c n pr ch → zk_F n J pr → post ((nI n), kd, wy, sd, rn, wt, cu, jo, st, dg, pa, pt, ch, hi, ct, ro, ac, sa, up, fo, iS, re, so, fr, tt, pu, lo)) :
    ∀ d t, t + d = 8 → ∀ (pt ch : Nat → Int32) (pr : Nat → Nat), zq_p n pr pt → zq_c n pr ch → zk_T n J pr → zc_n (zk_u J n pr) n ≤ 8 - t → wX_findParts_184 post (nI n) kd wy sd rn wt cu (d + 1) (nI t) jo st dg pa pt ch hi ct ro ac sa up fo iS re so fr tt pu lo := by
  intro d
  induction d with
  | zero =>
    intro t ht pt ch pr h1 h2 L hc
    have e : t = 8 := by omega
    subst e
    rw [wX_findParts_184]
    exact br_t (by decide) (h pt ch pr h1 h2 (zk_forest h8 L (zk_rooted (by omega))))
  | succ d ih =>
    intro t ht pt ch pr h1 h2 L hc
    rw [wX_findParts_184]
    refine br_f (nI_ge (b := 8) (by omega) (by omega)) ⟨n * n + 1, ?_⟩
    refine xf_192 (J := J) (p0 := pr) post _ h8 h0 hjo hpa (fun pt ch pr' h1 h2 I => ?_) (n * n) 0 (by omega) pt ch pr h1 h2 (zk_K0 L zq_Pr0 hJ)
    have T := zk_Kturn sy hJ zq_Prn I
    exact ih (t + 1) (by omega) pt ch pr' h1 h2 I.1 (by omega)
theorem xf_2 (post : SX → Prop) (h8 : n ≤ 8) (hjo : ∀ u v, u < n → v < n → (jo (8 * u + v) = 0 ↔ J u v = false))
    (h : ∀ dg pa pt ch : Nat → Int32, (∀ v, v < n → dg v = nI (zc_n (J v) n) ∧ pa v = nI v ∧ pt v = -1 ∧ ch v = 0) → ∃ n90, wX_findParts_90 post (nI n) kd wy sd rn wt cu n90 0 jo st dg pa pt ch hi ct ro ac sa up fo iS re so fr tt pu lo) :
    ∀ d i, i + d = n → ∀ dg pa pt ch : Nat → Int32, (∀ v, v < i → dg v = nI (zc_n (J v) n) ∧ pa v = nI v ∧ pt v = -1 ∧ ch v = 0) → wX_findParts_2 post (nI n) kd wy sd rn wt cu (d + 1) (nI i) jo st dg pa pt ch hi ct ro ac sa up fo iS re so fr tt pu lo := by
  intro d
  induction d with
  | zero =>
    intro i hi dg pa pt ch hb
    have e : i = n := by omega
    subst e
    rw [wX_findParts_2]
    exact br_t (nI_le (Nat.le_refl _) (by omega)) (h _ _ _ _ hb)
  | succ d ih =>
    intro i hi dg pa pt ch hb
    have ci : (nI i).toNatClampNeg = i := nI_clamp (by omega)
    have ii : vp_in (nI i) 8 := vp_in_nI (by omega) (by omega)
    rw [wX_findParts_2]
    dsimp only
    rw [ci]
    refine br_f (nI_ge (by omega) (by omega)) ⟨ii, nm_e ⟨ii, nm_e ⟨ii, nm_e ⟨ii, nm_e ⟨n + 1, ?_⟩⟩⟩⟩⟩
    refine xf_40 (J := J) (d0 := dg) post _ h8 (by omega) hjo (fun g g1 g2 => ?_) n 0 (by omega) _ pk_us (fun x hx => pk_un hx)
    refine ih (i + 1) (by omega) _ _ _ _ (fun v hv => ?_)
    by_cases e : v = i
    · subst e; exact ⟨g1, pk_us, pk_us, pk_us⟩
    · rw [g2 v e, pk_un e, pk_un e, pk_un e]; exact hb v (by omega)
theorem xf_fp (post : SX → Prop) (h8 : n ≤ 8) (h0 : 0 < n) (sy : ∀ a b, J a b = true → J b a = true) (hJ : ∀ a b, J a b = true → a < n ∧ b < n) (hjo : ∀ u v, u < n → v < n → (jo (8 * u + v) = 0 ↔ J u v = false))
    (h : ∀ (dg pa pt ch : Nat → Int32) (pr : Nat → Nat), zq_F n J dg pa pt ch pr → post ((nI n), kd, wy, sd, rn, wt, cu, jo, st, dg, pa, pt, ch, hi, ct, ro, ac, sa, up, fo, iS, re, so, fr, tt, pu, lo)) : wpX_findParts post ((nI n), kd, wy, sd, rn, wt, cu, jo, st, dg, pa, pt, ch, hi, ct, ro, ac, sa, up, fo, iS, re, so, fr, tt, pu, lo) := by
  unfold wpX_findParts
  refine ⟨n + 1, xf_2 (J := J) post h8 hjo (fun dg pa pt ch hb => ⟨9, ?_⟩) n 0 (by omega) _ _ _ _ (fun v hv => absurd hv (Nat.not_lt_zero v))⟩
  refine xf_90 (J := J) post h8 h0 sy hJ hjo (fun pa hpa => ⟨9, ?_⟩) 8 0 (by omega) pa (fun v => v) (fun v hv => (hb v hv).2.1) (fun v hv => ⟨zk_refl v, Nat.le_refl _⟩) (by have := zc_len (zk_w J fun v => v) n; omega)
  refine xf_184 (J := J) post h8 h0 sy hJ hjo hpa (fun pt ch pr q1 q2 q3 => h dg pa pt ch pr ⟨fun v hv => (hb v hv).1, hpa, q3, q1, q2⟩) 8 0 (by omega) pt ch (fun _ => 8) (fun v hv => Or.inr ⟨rfl, (hb v hv).2.2.1⟩) (fun v hv => ?_) ⟨fun v hv => Or.inl rfl, fun _ => 0, fun v hv hp => absurd (show 8 < n from hp) (by omega)⟩ (by have := zc_len (zk_u J n fun _ => 8) n; omega)
  rw [(hb v hv).2.2.2, zc_0 n fun i hi => decide_eq_false (show ¬ 8 = v by omega)]
  rfl
end
end
section
/-! Y: one round after the other -/
theorem zf_as (kd a b c : Int32) : zf_op kd (zf_op kd a b) c = zf_op kd a (zf_op kd b c) := by
  unfold zf_op
  by_cases h0 : kd = 0
  · simp only [if_pos h0]
    apply Int32.toInt_inj.mp
    simp only [Int32.le_iff_toInt_le]
    repeat' split
    all_goals omega
  · simp only [if_neg h0]
    by_cases h1 : kd = 1 ∨ kd = 4
    · simp only [if_pos h1]
      apply Int32.toInt_inj.mp
      simp only [Int32.le_iff_toInt_le]
      repeat' split
      all_goals omega
    · simp only [if_neg h1]
      by_cases h3 : kd = 3
      · simp only [if_pos h3]
        rw [Int32.xor_assoc]
      · simp only [if_neg h3]
        rw [Int32.add_assoc]
theorem zf_min (a : Int32) : (-2147483648 : Int32) ≤ a := by
  rw [Int32.le_iff_toInt_le, show (-2147483648 : Int32).toInt = -2147483648 from by decide]
  exact a.le_toInt
theorem zf_max (a : Int32) : a ≤ (2147483647 : Int32) := by
  rw [Int32.le_iff_toInt_le, show (2147483647 : Int32).toInt = 2147483647 from by decide]
  have := a.toInt_lt; omega
theorem zf_op0 (a b : Int32) : zf_op 0 a b = if b ≤ a then a else b := by unfold zf_op; rw [if_pos rfl]
theorem zf_op1 (a b : Int32) : zf_op 1 a b = if a ≤ b then a else b := by unfold zf_op; rw [if_neg (by decide), if_pos (by decide)]
theorem zf_op4 (a b : Int32) : zf_op 4 a b = if a ≤ b then a else b := by unfold zf_op; rw [if_neg (by decide), if_pos (by decide)]
theorem zf_op2 (a b : Int32) : zf_op 2 a b = a + b := by unfold zf_op; rw [if_neg (by decide), if_neg (by decide), if_neg (by decide)]
theorem zf_op3 (a b : Int32) : zf_op 3 a b = a ^^^ b := by unfold zf_op; rw [if_neg (by decide), if_neg (by decide), if_pos rfl]
theorem zf_op5 (a b : Int32) : zf_op 5 a b = a + b := by unfold zf_op; rw [if_neg (by decide), if_neg (by decide), if_neg (by decide)]
theorem zf_id0 (a : Int32) : zf_op 0 a (zf_in 0) = a := by
  rw [zf_op0, show zf_in 0 = -2147483648 from rfl, if_pos (zf_min a)]
theorem zf_id1 (a : Int32) : zf_op 1 a (zf_in 1) = a := by
  rw [zf_op1, show zf_in 1 = 2147483647 from rfl, if_pos (zf_max a)]
theorem zf_id3 (a : Int32) : zf_op 3 a (zf_in 3) = a := by
  rw [zf_op3, show zf_in 3 = 0 from rfl, Int32.xor_zero]
theorem zf_id4 (a : Int32) : zf_op 4 (zf_in 4) a = a := by
  rw [zf_op4, show zf_in 4 = 2147483647 from rfl]
  by_cases h : (2147483647 : Int32) ≤ a
  · rw [if_pos h]; exact Int32.le_antisymm h (zf_max a)
  · rw [if_neg h]
theorem zf_52 (S : Nat → Bool) (h : Nat → Int32) : ∀ n, zf_f 5 S h n = zf_f 2 S h n
  | 0 => rfl
  | n + 1 => by
    show (if S n = true then zf_op 5 (zf_f 5 S h n) (h n) else zf_f 5 S h n) = (if S n = true then zf_op 2 (zf_f 2 S h n) (h n) else zf_f 2 S h n)
    rw [zf_52 S h n, zf_op5, zf_op2]
theorem zf_t {kd : Int32} {S : Nat → Bool} {h : Nat → Int32} {n : Nat} (e : S n = true) : zf_f kd S h (n + 1) = zf_op kd (zf_f kd S h n) (h n) := if_pos e
theorem zf_fa {kd : Int32} {S : Nat → Bool} {h : Nat → Int32} {n : Nat} (e : S n = false) : zf_f kd S h (n + 1) = zf_f kd S h n := if_neg (by rw [e]; decide)
/-- the locals of Y's next, behind i neighbours -/
def zy_N (S : Nat → Bool) (h : Nat → Int32) (s : Int32) (i : Nat) (x4 x5 x6 x7 x8 x9 : Int32) : Prop :=
  x4 = zf_op 0 s (zf_f 0 S h i) ∧ x5 = zf_op 1 s (zf_f 1 S h i) ∧ (zc_n S i ≠ 0 → x6 = zf_f 4 S h i) ∧ x7 = zf_f 2 S h i ∧ x8 = zf_op 3 s (zf_f 3 S h i) ∧ (x9 = 0 ↔ zc_n S i = 0)
theorem zy_N0 {S : Nat → Bool} {h : Nat → Int32} {s : Int32} : zy_N S h s 0 s s 0 0 s 0 :=
  ⟨(zf_id0 s).symm, (zf_id1 s).symm, fun z => absurd rfl z, rfl, (zf_id3 s).symm, ⟨fun _ => rfl, fun _ => rfl⟩⟩
theorem zy_Nf {S : Nat → Bool} {h : Nat → Int32} {s : Int32} {i : Nat} {x4 x5 x6 x7 x8 x9 : Int32} (N : zy_N S h s i x4 x5 x6 x7 x8 x9) (e : S i = false) : zy_N S h s (i + 1) x4 x5 x6 x7 x8 x9 := by
  unfold zy_N
  rw [zf_fa e, zf_fa e, zf_fa e, zf_fa e, zf_fa e, zc_f e]
  exact N
theorem zy_Nt {S : Nat → Bool} {h : Nat → Int32} {s : Int32} {i : Nat} {x4 x5 x6 x7 x8 x9 : Int32} (N : zy_N S h s i x4 x5 x6 x7 x8 x9) (e : S i = true) : zy_N S h s (i + 1) (if h i ≤ x4 then x4 else h i) (if x5 ≤ h i then x5 else h i) (if x9 = 0 then h i else if x6 ≤ h i then x6 else h i) (x7 + h i) (x8 ^^^ h i) 1 := by
  obtain ⟨n1, n2, n3, n4, n5, n6⟩ := N
  unfold zy_N
  rw [zf_t e, zf_t e, zf_t e, zf_t e, zf_t e, zc_t e]
  refine ⟨?_, ?_, fun _ => ?_, ?_, ?_, ?_⟩
  · rw [← zf_op0, n1, zf_as]
  · rw [← zf_op1, n2, zf_as]
  · by_cases z : zc_n S i = 0
    · rw [if_pos (n6.mpr z), zf_none i (fun j hj => ?_), zf_id4]
      cases q : S j with
      | false => rfl
      | true => have := zc_pos (f := S) hj q; omega
    · rw [if_neg (fun q => z (n6.mp q)), ← zf_op4, n3 z]
  · rw [n4, zf_op2]
  · rw [n5, ← zf_op3, zf_as]
  · exact ⟨fun z => absurd z (by decide), fun z => by omega⟩
section
variable {n : Nat} {J : Nat → Nat → Bool} {h : Nat → Int32} {kd wy : Int32} {jo st ys yl : Nat → Int32}
theorem yn_fin (post : Int32 → Prop) {S : Nat → Bool} {s x4 x5 x6 x7 x8 x9 : Int32} (hk : kd = 0 ∨ kd = 1 ∨ kd = 2 ∨ kd = 3 ∨ kd = 4 ∨ kd = 5) (N : zy_N S h s n x4 x5 x6 x7 x8 x9) (hp : post (zf_md kd s (zf_f kd S h n) (decide (zc_n S n ≠ 0)))) :
    ((kd = 0 → (post x4)) ∧ (¬ kd = 0 → (((kd = 1 → (post x5)) ∧ (¬ kd = 1 → (((kd = 2 → (post (s + x7))) ∧ (¬ kd = 2 → (((kd = 3 → (post x8)) ∧ (¬ kd = 3 → (((kd = 4 → (((x9 = 0 → (post s)) ∧ (¬ x9 = 0 → (((s ≤ (1 + x6) → (post s)) ∧ (¬ s ≤ (1 + x6) → (post (1 + x6))))))))) ∧ (¬ kd = 4 → (post ((3 * s) - x7)))))))))))))))) := by
  obtain ⟨n1, n2, n3, n4, n5, n6⟩ := N
  unfold zf_md at hp
  have non : zc_n S n = 0 → zf_f kd S h n = zf_in kd := fun z => zf_none n (fun j hj => by
    cases q : S j with
    | false => rfl
    | true => have := zc_pos (f := S) hj q; omega)
  rcases hk with rfl | rfl | rfl | rfl | rfl | rfl
  · refine br_t rfl ?_
    rw [if_neg (by decide), if_neg (by decide), if_neg (by decide)] at hp
    by_cases z : zc_n S n = 0
    · rw [if_pos (decide_eq_false (fun q => q z))] at hp
      rw [n1, non z, zf_id0]; exact hp
    · rw [if_neg (by rw [decide_eq_true z]; decide), if_pos rfl] at hp
      rw [n1, zf_op0]; exact hp
  · refine br_f (by decide) (br_t rfl ?_)
    rw [if_neg (by decide), if_neg (by decide), if_neg (by decide)] at hp
    by_cases z : zc_n S n = 0
    · rw [if_pos (decide_eq_false (fun q => q z))] at hp
      rw [n2, non z, zf_id1]; exact hp
    · rw [if_neg (by rw [decide_eq_true z]; decide), if_neg (by decide), if_neg (by decide)] at hp
      rw [n2, zf_op1]; exact hp
  · refine br_f (by decide) (br_f (by decide) (br_t rfl ?_))
    rw [if_pos rfl] at hp
    rw [n4]; exact hp
  · refine br_f (by decide) (br_f (by decide) (br_f (by decide) (br_t rfl ?_)))
    rw [if_neg (by decide), if_pos rfl] at hp
    rw [n5, zf_op3]; exact hp
  · refine br_f (by decide) (br_f (by decide) (br_f (by decide) (br_f (by decide) (br_t rfl ?_))))
    rw [if_neg (by decide), if_neg (by decide), if_neg (by decide)] at hp
    by_cases z : zc_n S n = 0
    · rw [if_pos (decide_eq_false (fun q => q z))] at hp
      exact br_t (n6.mpr z) hp
    · rw [if_neg (by rw [decide_eq_true z]; decide), if_neg (by decide), if_pos rfl] at hp
      refine br_f (fun q => z (n6.mp q)) ?_
      rw [n3 z, Int32.add_comm]
      by_cases c : s ≤ zf_f 4 S h n + 1
      · rw [if_pos c] at hp; exact br_t c hp
      · rw [if_neg c] at hp; exact br_f c hp
  · refine br_f (by decide) (br_f (by decide) (br_f (by decide) (br_f (by decide) (br_f (by decide) ?_))))
    rw [if_neg (by decide), if_neg (by decide), if_pos rfl, zf_52] at hp
    rw [n4]; exact hp
theorem yn_33 (post : Int32 → Prop) {v r : Nat} {s : Int32} (h8 : n ≤ 8) (hv : v < n) (hr : r < 10) (hk : kd = 0 ∨ kd = 1 ∨ kd = 2 ∨ kd = 3 ∨ kd = 4 ∨ kd = 5) (hjo : ∀ u v, u < n → v < n → (jo (8 * u + v) = 0 ↔ J u v = false)) (hys : ∀ u, u < n → ys (8 * r + u) = h u)
    (hp : post (zf_md kd s (zf_f kd (J v) h n) (decide (zc_n (J v) n ≠ 0)))) :
    ∀ d i, i + d = n → ∀ x4 x5 x6 x7 x8 x9 : Int32, zy_N (J v) h s i x4 x5 x6 x7 x8 x9 → wY_next_33 post (nI v) (nI r) s (nI n) kd wy jo st ys yl (d + 1) x4 x5 x6 x7 x8 x9 (nI i) := by
  intro d
  induction d with
  | zero =>
    intro i hi x4 x5 x6 x7 x8 x9 N
    have e : i = n := by omega
    subst e
    rw [wY_next_33]
    exact br_t (nI_le (Nat.le_refl _) (by omega)) (yn_fin post hk N hp)
  | succ d ih =>
    intro i hi x4 x5 x6 x7 x8 x9 N
    have c1 : ((8 : Int32) * nI v + nI i).toNatClampNeg = 8 * v + i := by rw [xs_jo]; exact nI_clamp (by omega)
    have i1 : vp_in ((8 : Int32) * nI v + nI i) 64 := by rw [xs_jo]; exact vp_in_nI (by omega) (by omega)
    have c2 : ((8 : Int32) * nI r + nI i).toNatClampNeg = 8 * r + i := by rw [xs_jo]; exact nI_clamp (by omega)
    have i2 : vp_in ((8 : Int32) * nI r + nI i) 88 := by rw [xs_jo]; exact vp_in_nI (by omega) (by omega)
    rw [wY_next_33]
    dsimp only
    rw [c1, c2, hys i (by omega)]
    refine br_f (nI_ge (by omega) (by omega)) ⟨i1, ?_⟩
    have hJi := hjo v i hv (by omega)
    cases e : J v i with
    | false => exact br_t (hJi.mpr e) (nm_r (nI_1 i) (ih (i + 1) (by omega) _ _ _ _ _ _ (zy_Nf N e)))
    | true =>
      have N' := zy_Nt N e
      refine br_f (fun z => by rw [hJi.mp z] at e; exact absurd e (by decide)) ⟨i2, nm_e ?_⟩
      have k109 : ∀ x4 x5 x6 : Int32, zy_N (J v) h s (i + 1) x4 x5 x6 (x7 + h i) (x8 ^^^ h i) 1 → wY_next_109 post (wY_next_33 post (nI v) (nI r) s (nI n) kd wy jo st ys yl (d + 1)) (nI v) (nI r) s x4 x5 x6 x7 x8 (nI i) (h i) (nI n) kd wy jo st ys yl := by
        intro x4 x5 x6 q
        unfold wY_next_109
        exact nm_e (nm_e (nm_r (nI_1 i) (ih (i + 1) (by omega) _ _ _ _ _ _ q)))
      have k93 : ∀ x4 x5 : Int32, zy_N (J v) h s (i + 1) x4 x5 (if x9 = 0 then h i else if x6 ≤ h i then x6 else h i) (x7 + h i) (x8 ^^^ h i) 1 → wY_next_93 post (wY_next_33 post (nI v) (nI r) s (nI n) kd wy jo st ys yl (d + 1)) (nI v) (nI r) s x4 x5 x6 x7 x8 x9 (nI i) (h i) (nI n) kd wy jo st ys yl := by
        intro x4 x5 q
        unfold wY_next_93
        by_cases z : x9 = 0
        · rw [if_pos z] at q
          refine br_t z ?_
          unfold wY_next_105
          exact k109 _ _ _ q
        · rw [if_neg z] at q
          refine br_f z ?_
          by_cases c : x6 ≤ h i
          · rw [if_pos c] at q
            exact br_t c (k109 _ _ _ q)
          · rw [if_neg c] at q
            refine br_f c ?_
            unfold wY_next_105
            exact k109 _ _ _ q
      have k82 : ∀ x4 : Int32, zy_N (J v) h s (i + 1) x4 (if x5 ≤ h i then x5 else h i) (if x9 = 0 then h i else if x6 ≤ h i then x6 else h i) (x7 + h i) (x8 ^^^ h i) 1 → wY_next_82 post (wY_next_33 post (nI v) (nI r) s (nI n) kd wy jo st ys yl (d + 1)) (nI v) (nI r) s x4 x5 x6 x7 x8 x9 (nI i) (h i) (nI n) kd wy jo st ys yl := by
        intro x4 q
        unfold wY_next_82
        by_cases c : x5 ≤ h i
        · rw [if_pos c] at q; exact br_t c (k93 _ _ q)
        · rw [if_neg c] at q; exact br_f c (k93 _ _ q)
      by_cases c : h i ≤ x4
      · rw [if_pos c] at N'; exact br_t c (k82 _ N')
      · rw [if_neg c] at N'; exact br_f c (k82 _ N')
theorem yn_next (post : Int32 → Prop) {v r : Nat} (h8 : n ≤ 8) (hv : v < n) (hr : r < 10) (hk : kd = 0 ∨ kd = 1 ∨ kd = 2 ∨ kd = 3 ∨ kd = 4 ∨ kd = 5) (hjo : ∀ u v, u < n → v < n → (jo (8 * u + v) = 0 ↔ J u v = false)) (hys : ∀ u, u < n → ys (8 * r + u) = h u)
    (hp : post (zf_md kd (h v) (zf_f kd (J v) h n) (decide (zc_n (J v) n ≠ 0)))) : wpY_next post ((nI n), kd, wy, jo, st, ys, yl) (nI v) (nI r) := by
  have c1 : ((8 : Int32) * nI r + nI v).toNatClampNeg = 8 * r + v := by rw [xs_jo]; exact nI_clamp (by omega)
  have i1 : vp_in ((8 : Int32) * nI r + nI v) 88 := by rw [xs_jo]; exact vp_in_nI (by omega) (by omega)
  unfold wpY_next
  dsimp only
  rw [c1, hys v hv]
  refine ⟨i1, nm_e ⟨n + 1, ?_⟩⟩
  exact yn_33 post h8 hv hr hk hjo hys hp n 0 (by omega) _ _ _ _ _ _ zy_N0
theorem yn_44 (post : SY → Prop) (J36 : Int32 → (Nat → Int32) → (Nat → Int32) → (Nat → Int32) → (Nat → Int32) → Prop) {r : Nat} {y0 : Nat → Int32} (h8 : n ≤ 8) (hr : r < 10) (hk : kd = 0 ∨ kd = 1 ∨ kd = 2 ∨ kd = 3 ∨ kd = 4 ∨ kd = 5) (hjo : ∀ u v, u < n → v < n → (jo (8 * u + v) = 0 ↔ J u v = false)) (hy0 : ∀ u, u < n → y0 (8 * r + u) = h u)
    (hp : ∀ ys : Nat → Int32, (∀ u, u < n → ys (8 * (r + 1) + u) = zf_md kd (h u) (zf_f kd (J u) h n) (decide (zc_n (J u) n ≠ 0))) → (∀ j, j < 8 * (r + 1) → ys j = y0 j) → J36 (nI (r + 1)) jo st ys yl) :
    ∀ d i, i + d = n → ∀ ys : Nat → Int32, (∀ u, u < i → ys (8 * (r + 1) + u) = zf_md kd (h u) (zf_f kd (J u) h n) (decide (zc_n (J u) n ≠ 0))) → (∀ j, j < 8 * (r + 1) → ys j = y0 j) → wY_work_44 post J36 (nI r) (nI n) kd wy (d + 1) (nI i) jo st ys yl := by
  intro d
  induction d with
  | zero =>
    intro i hi ys h1 h2
    have e : i = n := by omega
    subst e
    rw [wY_work_44]
    exact br_t (nI_le (Nat.le_refl _) (by omega)) (nm_r (nI_1 r) (hp ys h1 h2))
  | succ d ih =>
    intro i hi ys h1 h2
    have c3 : ((8 : Int32) * nI r + 8 + nI i).toNatClampNeg = 8 * (r + 1) + i := by rw [xs_hix]; exact nI_clamp (by omega)
    have i3 : vp_in ((8 : Int32) * nI r + 8 + nI i) 88 := by rw [xs_hix]; exact vp_in_nI (by omega) (by omega)
    rw [wY_work_44]
    dsimp only
    rw [c3]
    refine br_f (nI_ge (by omega) (by omega)) (br_f (nI_ge (b := 8) (by omega) (by omega)) ?_)
    refine yn_next (J := J) (h := h) _ h8 (by omega) hr hk hjo (fun u hu => ?_) ⟨i3, nm_e (nm_r (nI_1 i) (ih (i + 1) (by omega) _ (fun u hu => ?_) (fun j hj => ?_)))⟩
    · rw [h2 _ (by omega)]; exact hy0 u hu
    · by_cases e : u = i
      · subst e; rw [pk_us]
      · rw [pk_un (by omega)]; exact h1 u (by omega)
    · rw [pk_un (by omega)]; exact h2 j hj
theorem yn_work (post : SY → Prop) {H : Nat → Nat → Int32} (h8 : n ≤ 8) (hk : kd = 0 ∨ kd = 1 ∨ kd = 2 ∨ kd = 3 ∨ kd = 4 ∨ kd = 5) (hjo : ∀ u v, u < n → v < n → (jo (8 * u + v) = 0 ↔ J u v = false)) (hH0 : ∀ v, H 0 v = st v)
    (hH : ∀ r v, H (r + 1) v = zf_md kd (H r v) (zf_f kd (J v) (H r) n) (decide (zc_n (J v) n ≠ 0)))
    (hp : ∀ ys : Nat → Int32, (∀ v r, v < n → r ≤ 10 → ys (8 * r + v) = H r v) → post ((nI n), kd, wy, jo, st, ys, yl)) : wpY_work post ((nI n), kd, wy, jo, st, ys, yl) := by
  have l36 : ∀ d i, i + d = 10 → ∀ ys : Nat → Int32, (∀ v r, v < n → r ≤ i → ys (8 * r + v) = H r v) → wY_work_36 post (nI n) kd wy (d + 1) (nI i) jo st ys yl := by
    intro d
    induction d with
    | zero =>
      intro i hi ys h1
      have e : i = 10 := by omega
      subst e
      rw [wY_work_36]
      exact br_t (by decide) (hp ys h1)
    | succ d ih =>
      intro i hi ys h1
      rw [wY_work_36]
      refine br_f (nI_ge (b := 10) (by omega) (by omega)) ⟨n + 1, ?_⟩
      refine yn_44 (J := J) (h := H i) (y0 := ys) post _ h8 (by omega) hk hjo (fun u hu => h1 u i hu (Nat.le_refl _)) (fun ys' q1 q2 => ?_) n 0 (by omega) ys (fun u hu => absurd hu (Nat.not_lt_zero u)) (fun _ _ => rfl)
      refine ih (i + 1) (by omega) ys' (fun v r hv hr => ?_)
      by_cases e : r = i + 1
      · subst e; rw [q1 v hv, hH]
      · rw [q2 _ (by omega)]; exact h1 v r hv (by omega)
  have l2 : ∀ d i, i + d = n → ∀ ys : Nat → Int32, (∀ v, v < i → ys v = st v) → wY_work_2 post (nI n) kd wy (d + 1) (nI i) jo st ys yl := by
    intro d
    induction d with
    | zero =>
      intro i hi ys h1
      have e : i = n := by omega
      subst e
      rw [wY_work_2]
      refine br_t (nI_le (Nat.le_refl _) (by omega)) ⟨11, l36 10 0 (by omega) ys (fun v r hv hr => ?_)⟩
      have e : r = 0 := by omega
      subst e
      rw [show 8 * 0 + v = v from by omega, hH0]; exact h1 v hv
    | succ d ih =>
      intro i hi ys h1
      have ci : (nI i).toNatClampNeg = i := nI_clamp (by omega)
      have ii : vp_in (nI i) 8 := vp_in_nI (by omega) (by omega)
      have i88 : vp_in (nI i) 88 := vp_in_nI (by omega) (by omega)
      rw [wY_work_2]
      dsimp only
      rw [ci]
      refine br_f (nI_ge (by omega) (by omega)) (br_f (nI_ge (b := 8) (by omega) (by omega)) ⟨ii, i88, nm_e (nm_r (nI_1 i) (ih (i + 1) (by omega) _ (fun v hv => ?_)))⟩)
      by_cases e : v = i
      · subst e; exact pk_us
      · rw [pk_un e]; exact h1 v (by omega)
  unfold wpY_work
  exact ⟨n + 1, l2 n 0 (by omega) ys (fun v hv => absurd hv (Nat.not_lt_zero v))⟩
end
end
section
/-! Y: edges, neighbours, parts -/
def zy_E (n : Nat) (J : Nat → Nat → Bool) : Nat := zs_s (fun u => zc_n (fun v => decide (u < v) && J u v) n) n
def zy_C (n : Nat) (J : Nat → Nat → Bool) (m : Nat → Nat) : Nat := zc_n (fun v => decide (m v = v)) n
theorem zy_DE {n : Nat} {J : Nat → Nat → Bool} (sy : ∀ a b, J a b = true → J b a = true) (ir : ∀ a, J a a = false) : zr_D n J = 2 * zy_E n J := by
  have h1 : zr_D n J = zs_s (fun u => zc_n (fun v => decide (u < v) && J u v) n + zc_n (fun v => decide (v < u) && J v u) n) n := by
    refine zs_congr n fun u hu => ?_
    unfold zc_n
    rw [← zs_add]
    refine zs_congr n fun v hv => ?_
    show (if J u v = true then 1 else 0) = (if (decide (u < v) && J u v) = true then 1 else 0) + (if (decide (v < u) && J v u) = true then 1 else 0)
    by_cases e : u = v
    · subst e
      rw [ir, if_neg (by decide), Bool.and_false, if_neg (by decide)]
    · have s : J u v = J v u := by
        cases a : J u v with
        | true => rw [sy _ _ a]
        | false =>
          cases b : J v u with
          | true => rw [sy _ _ b] at a; exact absurd a (by decide)
          | false => rfl
      rw [← s]
      by_cases c : u < v
      · rw [decide_eq_true c, decide_eq_false (show ¬ v < u by omega), Bool.true_and, Bool.false_and, if_neg (show ¬ false = true by decide)]
        omega
      · rw [decide_eq_false c, decide_eq_true (show v < u by omega), Bool.true_and, Bool.false_and, if_neg (show ¬ false = true by decide)]
        omega
  rw [h1, zs_add]
  have h2 : zs_s (fun u => zc_n (fun v => decide (v < u) && J v u) n) n = zy_E n J := by
    unfold zc_n
    rw [zs_swap (fun u v => if (decide (v < u) && J v u) = true then 1 else 0) n n]
    rfl
  rw [h2]
  show zy_E n J + zy_E n J = _
  omega
theorem zc_not (f : Nat → Bool) : ∀ n, zc_n (fun i => !f i) n + zc_n f n = n
  | 0 => rfl
  | n + 1 => by
    have h := zc_not f n
    rw [zc_succ, zc_succ]
    cases f n with
    | true => simp only [Bool.not_true, if_neg (show ¬ false = true by decide), if_pos]; omega
    | false => simp only [Bool.not_false, if_neg (show ¬ false = true by decide), if_pos]; omega
theorem zy_RC {n : Nat} {J : Nat → Nat → Bool} {pr : Nat → Nat} (h8 : n ≤ 8) (F : zk_F n J pr) : zr_R n pr + zy_C n J (zk_m J) = n := by
  refine Eq.trans (congrArg (· + zy_C n J (zk_m J)) (zc_congr n fun v hv => ?_)) (zc_not (fun v => decide (zk_m J v = v)) n)
  rcases F.1 v hv with ⟨a, b⟩ | ⟨a, _, b⟩
  · rw [decide_eq_false (by omega), decide_eq_true b]; rfl
  · rw [decide_eq_true a, decide_eq_false b]; rfl
theorem zy_Rn {n : Nat} {J : Nat → Nat → Bool} {pr : Nat → Nat} (h8 : n ≤ 8) (F : zk_F n J pr) : zr_R n pr = n - zy_C n J (zk_m J) := by
  have := zy_RC h8 F; omega
section
variable {n : Nat} {J : Nat → Nat → Bool} {kd wy : Int32} {jo st ys yl : Nat → Int32}
theorem yg_16 (post : Int32 → Prop) (J4 : Int32 → Int32 → Prop) {u a : Nat} (h8 : n ≤ 8) (hu : u < n) (hjo : ∀ u v, u < n → v < n → (jo (8 * u + v) = 0 ↔ J u v = false)) (h : J4 (nI (a + zc_n (fun v => decide (u < v) && J u v) n)) (nI (u + 1))) :
    ∀ d i, i + d = n → u < i → wY_edges_16 post J4 (nI u) (nI n) kd wy jo st ys yl (d + 1) (nI (a + zc_n (fun v => decide (u < v) && J u v) i)) (nI i) := by
  intro d
  induction d with
  | zero =>
    intro i hi hui
    have e : i = n := by omega
    subst e
    rw [wY_edges_16]
    exact br_t (nI_le (Nat.le_refl _) (by omega)) (nm_r (nI_1 u) h)
  | succ d ih =>
    intro i hi hui
    have c1 : ((8 : Int32) * nI u + nI i).toNatClampNeg = 8 * u + i := by rw [xs_jo]; exact nI_clamp (by omega)
    have i1 : vp_in ((8 : Int32) * nI u + nI i) 64 := by rw [xs_jo]; exact vp_in_nI (by omega) (by omega)
    rw [wY_edges_16]
    dsimp only
    rw [c1]
    refine br_f (nI_ge (by omega) (by omega)) ⟨i1, ?_⟩
    have hJi := hjo u i hu (by omega)
    have q := ih (i + 1) (by omega) (by omega)
    cases e : J u i with
    | false =>
      rw [zc_f (by rw [e, Bool.and_false])] at q
      exact br_t (hJi.mpr e) (nm_r (nI_1 i) q)
    | true =>
      rw [zc_t (by rw [e, decide_eq_true hui]; rfl)] at q
      exact br_f (fun z => by rw [hJi.mp z] at e; exact absurd e (by decide)) (nm_r (nI_1 _) (nm_r (nI_1 i) q))
theorem yg_edges (post : Int32 → Prop) (h8 : n ≤ 8) (hjo : ∀ u v, u < n → v < n → (jo (8 * u + v) = 0 ↔ J u v = false)) (h : post (nI (zy_E n J))) : wpY_edges post ((nI n), kd, wy, jo, st, ys, yl) := by
  have lp : ∀ d i, i + d = n → wY_edges_4 post (nI n) kd wy jo st ys yl (d + 1) (nI (zs_s (fun u => zc_n (fun v => decide (u < v) && J u v) n) i)) (nI i) := by
    intro d
    induction d with
    | zero =>
      intro i hi
      have e : i = n := by omega
      subst e
      rw [wY_edges_4]
      exact br_t (nI_le (Nat.le_refl _) (by omega)) h
    | succ d ih =>
      intro i hi
      rw [wY_edges_4]
      refine br_f (nI_ge (by omega) (by omega)) (nm_r (nI_1 i) ⟨d + 1, ?_⟩)
      have q := yg_16 (J := J) (kd := kd) (wy := wy) (st := st) (ys := ys) (yl := yl) post (wY_edges_4 post (nI n) kd wy jo st ys yl (d + 1)) (a := zs_s (fun u => zc_n (fun v => decide (u < v) && J u v) n) i) h8 (show i < n by omega) hjo (ih (i + 1) (by omega)) d (i + 1) (by omega) (by omega)
      rw [zc_0 (i + 1) (fun j hj => by rw [decide_eq_false (by omega)]; rfl)] at q
      exact q
  unfold wpY_edges
  exact ⟨n + 1, lp n 0 (by omega)⟩
theorem yg_deg (post : Int32 → Prop) {v : Nat} (h8 : n ≤ 8) (hv : v < n) (hjo : ∀ u v, u < n → v < n → (jo (8 * u + v) = 0 ↔ J u v = false)) (h : post (nI (zc_n (J v) n))) : wpY_neighbours post ((nI n), kd, wy, jo, st, ys, yl) (nI v) := by
  have lp : ∀ d i, i + d = n → wY_neighbours_4 post (nI v) (nI n) kd wy jo st ys yl (d + 1) (nI (zc_n (J v) i)) (nI i) := by
    intro d
    induction d with
    | zero =>
      intro i hi
      have e : i = n := by omega
      subst e
      rw [wY_neighbours_4]
      exact br_t (nI_le (Nat.le_refl _) (by omega)) h
    | succ d ih =>
      intro i hi
      have c1 : ((8 : Int32) * nI v + nI i).toNatClampNeg = 8 * v + i := by rw [xs_jo]; exact nI_clamp (by omega)
      have i1 : vp_in ((8 : Int32) * nI v + nI i) 64 := by rw [xs_jo]; exact vp_in_nI (by omega) (by omega)
      rw [wY_neighbours_4]
      dsimp only
      rw [c1]
      refine br_f (nI_ge (by omega) (by omega)) ⟨i1, ?_⟩
      have hJi := hjo v i hv (by omega)
      have q := ih (i + 1) (by omega)
      cases e : J v i with
      | false =>
        rw [zc_f e] at q
        exact br_t (hJi.mpr e) (nm_r (nI_1 i) q)
      | true =>
        rw [zc_t e] at q
        exact br_f (fun z => by rw [hJi.mp z] at e; exact absurd e (by decide)) (nm_r (nI_1 _) (nm_r (nI_1 i) q))
  unfold wpY_neighbours
  exact ⟨n + 1, lp n 0 (by omega)⟩
/-- pairs that lower has looked at -/
def zy_Pr (n i j a b : Nat) : Prop := a < n ∧ (b < i ∨ (b = i ∧ a < j))
theorem yg_14 (post : Int32 → SY → Prop) (J4 : Int32 → Int32 → (Nat → Int32) → (Nat → Int32) → (Nat → Int32) → (Nat → Int32) → Prop) {u : Nat} {l0 : Nat → Nat} (h8 : n ≤ 8) (hu : u < n) (sy : ∀ a b, J a b = true → J b a = true) (hJ : ∀ a b, J a b = true → a < n ∧ b < n) (hjo : ∀ u v, u < n → v < n → (jo (8 * u + v) = 0 ↔ J u v = false))
    (h : ∀ (x : Int32) (yl : Nat → Int32) (lb : Nat → Nat), (x = 0 ∧ lb = l0) ∨ x = 1 → (∀ v, v < n → yl v = nI (lb v)) → zk_I n J l0 (zy_Pr n (u + 1) 0) lb → J4 x (nI (u + 1)) jo st ys yl) :
    ∀ d i, i + d = n → ∀ (x : Int32) (yl : Nat → Int32) (lb : Nat → Nat), (x = 0 ∧ lb = l0) ∨ x = 1 → (∀ v, v < n → yl v = nI (lb v)) → zk_I n J l0 (zy_Pr n u i) lb → wY_lower_14 post J4 (nI u) (nI n) kd wy (d + 1) x (nI i) jo st ys yl := by
  have cu' : (nI u).toNatClampNeg = u := nI_clamp (by omega)
  have iu : vp_in (nI u) 8 := vp_in_nI (by omega) (by omega)
  intro d
  induction d with
  | zero =>
    intro i hi x yl lb hx h1 I
    have e : i = n := by omega
    subst e
    rw [wY_lower_14]
    refine br_t (nI_le (Nat.le_refl _) (by omega)) (nm_r (nI_1 u) (h x yl lb hx h1 ⟨I.1, I.2.1, fun a b p => I.2.2 a b ?_⟩))
    obtain ⟨p1, p2⟩ := p
    exact ⟨p1, by omega⟩
  | succ d ih =>
    intro i hi x yl lb hx h1 I
    have c1 : ((8 : Int32) * nI u + nI i).toNatClampNeg = 8 * u + i := by rw [xs_jo]; exact nI_clamp (by omega)
    have i1 : vp_in ((8 : Int32) * nI u + nI i) 64 := by rw [xs_jo]; exact vp_in_nI (by omega) (by omega)
    have ci : (nI i).toNatClampNeg = i := nI_clamp (by omega)
    have ii : vp_in (nI i) 8 := vp_in_nI (by omega) (by omega)
    have hin : i < n := by omega
    rw [wY_lower_14]
    dsimp only
    rw [c1, cu', ci, h1 u hu, h1 i hin]
    refine br_f (nI_ge (by omega) (by omega)) ⟨i1, ?_⟩
    have hJi := hjo u i hu (by omega)
    have I1 := zk_I1 sy hJ I hin hu (Pr' := zy_Pr n u (i + 1)) (fun a b p => by
      obtain ⟨p1, p2⟩ := p
      by_cases q : b = u ∧ a = i
      · exact Or.inr ⟨q.2, q.1⟩
      · exact Or.inl ⟨p1, by omega⟩)
    cases e : J u i with
    | false =>
      refine br_t (hJi.mpr e) (nm_r (nI_1 i) (ih (i + 1) (by omega) x yl lb hx h1 ?_))
      unfold zk_s at I1
      rw [if_neg (fun z => by rw [sy _ _ z.1] at e; exact absurd e (by decide))] at I1
      exact I1
    | true =>
      refine br_f (fun z => by rw [hJi.mp z] at e; exact absurd e (by decide)) ⟨ii, iu, ?_⟩
      have lu := (I.1 _ hu).2
      have li := (I.1 _ hin).2
      refine pk_le (lb u) (lb i) (fun c => ?_) (fun c => ?_)
      · refine nm_r (nI_1 i) (ih (i + 1) (by omega) x yl lb hx h1 ?_)
        unfold zk_s at I1
        rw [if_neg (fun z => by omega)] at I1
        exact I1
      · refine ⟨ii, iu, nm_e (nm_r (nI_1 i) (ih (i + 1) (by omega) 1 _ (zu_p lb u (lb i)) (Or.inr rfl) (zu_I h1 _ _) ?_))⟩
        unfold zk_s at I1
        rw [if_pos ⟨sy _ _ e, c⟩] at I1
        exact I1
theorem yg_lower (post : Int32 → SY → Prop) {l0 : Nat → Nat} (h8 : n ≤ 8) (sy : ∀ a b, J a b = true → J b a = true) (hJ : ∀ a b, J a b = true → a < n ∧ b < n) (hjo : ∀ u v, u < n → v < n → (jo (8 * u + v) = 0 ↔ J u v = false)) (L : zk_L n J l0) (hl : ∀ v, v < n → yl v = nI (l0 v))
    (h : ∀ (x : Int32) (yl : Nat → Int32) (lb : Nat → Nat), (x = 0 ∧ zc_n (zk_w J lb) n = 0) ∨ x = 1 → (∀ v, v < n → yl v = nI (lb v)) → zk_L n J lb → (zc_n (zk_w J lb) n = 0 ∨ zc_n (zk_w J lb) n < zc_n (zk_w J l0) n) → post x ((nI n), kd, wy, jo, st, ys, yl)) : wpY_lower post ((nI n), kd, wy, jo, st, ys, yl) := by
  have lp : ∀ d i, i + d = n → ∀ (x : Int32) (yl : Nat → Int32) (lb : Nat → Nat), (x = 0 ∧ lb = l0) ∨ x = 1 → (∀ v, v < n → yl v = nI (lb v)) → zk_I n J l0 (zy_Pr n i 0) lb → wY_lower_4 post (nI n) kd wy (d + 1) x (nI i) jo st ys yl := by
    intro d
    induction d with
    | zero =>
      intro i hi x yl lb hx h1 I
      have e : i = n := by omega
      subst e
      rw [wY_lower_4]
      have T := zk_turn sy hJ L (Pr := zy_Pr i i 0) (fun a b ha hb => ⟨ha, Or.inl hb⟩) I
      refine br_t (nI_le (Nat.le_refl _) (by omega)) ⟨?_, h x yl lb ?_ h1 I.1 T⟩
      · rcases hx with ⟨rfl, _⟩ | rfl <;> rfl
      · rcases hx with ⟨q, e⟩ | q
        · subst e; exact Or.inl ⟨q, by omega⟩
        · exact Or.inr q
    | succ d ih =>
      intro i hi x yl lb hx h1 I
      rw [wY_lower_4]
      refine br_f (nI_ge (by omega) (by omega)) ⟨n + 1, ?_⟩
      exact yg_14 (J := J) (l0 := l0) post _ h8 (by omega) sy hJ hjo (fun x yl lb q1 q2 q3 => ih (i + 1) (by omega) x yl lb q1 q2 q3) n 0 (by omega) x yl lb hx h1 I
  unfold wpY_lower
  exact ⟨n + 1, lp n 0 (by omega) 0 yl l0 (Or.inl ⟨rfl, rfl⟩) hl (zk_I0 L (fun a b _ _ p => by obtain ⟨_, p⟩ := p; omega) hJ)⟩
theorem yg_partCount (post : Int32 → SY → Prop) (h8 : n ≤ 8) (sy : ∀ a b, J a b = true → J b a = true) (hJ : ∀ a b, J a b = true → a < n ∧ b < n) (hjo : ∀ u v, u < n → v < n → (jo (8 * u + v) = 0 ↔ J u v = false))
    (h : ∀ yl : Nat → Int32, post (nI (zy_C n J (zk_m J))) ((nI n), kd, wy, jo, st, ys, yl)) : wpY_partCount post ((nI n), kd, wy, jo, st, ys, yl) := by
  have l50 : ∀ (yl : Nat → Int32), (∀ v, v < n → yl v = nI (zk_m J v)) → ∀ d i, i + d = n → wY_partCount_50 post (nI n) kd wy jo st ys yl (d + 1) (nI (zc_n (fun v => decide (zk_m J v = v)) i)) (nI i) := by
    intro yl hl d
    induction d with
    | zero =>
      intro i hi
      have e : i = n := by omega
      subst e
      rw [wY_partCount_50]
      exact br_t (nI_le (Nat.le_refl _) (by omega)) (h yl)
    | succ d ih =>
      intro i hi
      have ci : (nI i).toNatClampNeg = i := nI_clamp (by omega)
      have ii : vp_in (nI i) 8 := vp_in_nI (by omega) (by omega)
      rw [wY_partCount_50]
      dsimp only
      rw [ci, hl i (by omega)]
      have q := ih (i + 1) (by omega)
      have hm := zk_mle J i
      refine br_f (nI_ge (by omega) (by omega)) ⟨ii, pk_eq (zk_m J i) i (fun c => ?_) (fun c => ?_)⟩
      · rw [zc_t (decide_eq_true c)] at q
        exact nm_r (nI_1 _) (nm_r (nI_1 i) q)
      · rw [zc_f (decide_eq_false c)] at q
        exact nm_r (nI_1 i) q
  have fin : ∀ (yl : Nat → Int32) (lb : Nat → Nat), (∀ v, v < n → yl v = nI (lb v)) → zc_n (zk_w J lb) n = 0 → ∃ n50, wY_partCount_50 post (nI n) kd wy jo st ys yl n50 0 0 := by
    intro yl lb h1 hc
    exact ⟨n + 1, l50 yl (fun v hv => by rw [h1 v hv, zk_right hc v hv]) n 0 (by omega)⟩
  have l25 : ∀ d t, t + d = 8 → ∀ (x : Int32) (yl : Nat → Int32) (lb : Nat → Nat), (x = 0 ∧ zc_n (zk_w J lb) n = 0) ∨ x = 1 → (∀ v, v < n → yl v = nI (lb v)) → zk_L n J lb → zc_n (zk_w J lb) n ≤ 8 - t → wY_partCount_25 post (d + 1) x (nI t) (nI n) kd wy jo st ys yl := by
    intro d
    induction d with
    | zero =>
      intro t ht x yl lb hx h1 L hc
      have e : t = 8 := by omega
      subst e
      rw [wY_partCount_25]
      exact br_t (by decide) (fin yl lb h1 (by omega))
    | succ d ih =>
      intro t ht x yl lb hx h1 L hc
      rw [wY_partCount_25]
      refine br_f (nI_ge (b := 8) (by omega) (by omega)) ?_
      rcases hx with ⟨rfl, z⟩ | rfl
      · exact br_t rfl (fin yl lb h1 z)
      · refine br_f (by decide) ?_
        refine yg_lower (J := J) (l0 := lb) _ h8 sy hJ hjo L h1 (fun x yl lb' q1 q2 q3 q4 => ?_)
        exact nm_r (nI_1 t) (ih (t + 1) (by omega) x yl lb' q1 q2 q3 (by omega))
  have l2 : ∀ d i, i + d = 8 → ∀ yl : Nat → Int32, (∀ v, v < i → yl v = nI v) → wY_partCount_2 post (nI n) kd wy (d + 1) (nI i) jo st ys yl := by
    intro d
    induction d with
    | zero =>
      intro i hi yl h1
      have e : i = 8 := by omega
      subst e
      rw [wY_partCount_2]
      exact br_t (by decide) ⟨9, l25 8 0 (by omega) 1 yl (fun v => v) (Or.inr rfl) (fun v hv => h1 v (by omega)) (fun v hv => ⟨zk_refl v, Nat.le_refl _⟩) (by have := zc_len (zk_w J fun v => v) n; omega)⟩
    | succ d ih =>
      intro i hi yl h1
      have ci : (nI i).toNatClampNeg = i := nI_clamp (by omega)
      have ii : vp_in (nI i) 8 := vp_in_nI (by omega) (by omega)
      rw [wY_partCount_2]
      dsimp only
      rw [ci]
      refine br_f (nI_ge (b := 8) (by omega) (by omega)) ⟨ii, nm_e (nm_r (nI_1 i) (ih (i + 1) (by omega) _ (fun v hv => ?_)))⟩
      by_cases e : v = i
      · subst e; exact pk_us
      · rw [pk_un e]; exact h1 v (by omega)
  unfold wpY_partCount
  exact ⟨9, l2 8 0 (by omega) yl (fun v hv => absurd hv (Nat.not_lt_zero v))⟩
end
end
section
/-! the relation of the two objects -/
def zi_J (n : Nat) (jo : Nat → Int32) : Nat → Nat → Bool := fun u v => decide (u < n ∧ v < n ∧ jo (8 * u + v) ≠ 0)
noncomputable def zi_b (n : Nat) (wy : Int32) (jo : Nat → Int32) : Nat := if wy = 0 then 4 * zy_E n (zi_J n jo) else 2 * zy_E n (zi_J n jo) + 2 * (n - zy_C n (zi_J n jo) (zk_m (zi_J n jo)))
def zi_Q (n : Nat) (kd wy : Int32) (jo st hi ct : Nat → Int32) : Prop :=
  (∀ v r, v < n → r ≤ 10 → hi (8 * r + v) = zf_H n kd (zi_J n jo) st r v) ∧ ∀ r, r < 10 → ct (r + 1) = nI (zi_b n wy jo)
def zi_B (n : Nat) (kd : Int32) (jo : Nat → Int32) : Prop :=
  2 ≤ n ∧ n ≤ 8 ∧ (kd = 0 ∨ kd = 1 ∨ kd = 2 ∨ kd = 3 ∨ kd = 4 ∨ kd = 5) ∧ (∀ u v, u < n → v < n → jo (8 * u + v) = jo (8 * v + u)) ∧ (∀ u, u < n → jo (8 * u + u) = 0)
def i_Rel (k : Nat) (u : SX) (v : SY) : Prop := match u, v with
  | (f_n, f_kind, f_way, f_seed, f_random, f_waiting, f_current, a_joined, a_starts, a_degrees, a_part, a_parent, a_childCount, a_history, a_controls, a_round, a_acks, a_safes, a_ups, a_folded, a_isSafe, a_reported, a_sort, a_from, a_to, a_pulse, a_load), (g_n, g_kind, g_way, b_joined, b_first, b_states, b_label) =>
    ∃ n : Nat, f_n = nI n ∧ g_n = nI n ∧ g_kind = f_kind ∧ g_way = f_way ∧ b_joined = a_joined ∧ b_first = a_starts ∧ zi_B n f_kind a_joined ∧ (¬ f_current = 0 → zi_Q n f_kind f_way a_joined a_starts a_history a_controls)
theorem i_up {k : Nat} {u : SX} {v : SY} (h : i_Rel k u v) : i_Rel (k + 4) u v := h
theorem zi_mk {n k : Nat} {kd wy sd rn wt cu : Int32} {jo st dg pa pt ch hi ct ro ac sa up fo iS re so fr tt pu lo : Nat → Int32} {ys yl : Nat → Int32} (B : zi_B n kd jo) (hq : ¬ cu = 0 → zi_Q n kd wy jo st hi ct) : i_Rel k ((nI n), kd, wy, sd, rn, wt, cu, jo, st, dg, pa, pt, ch, hi, ct, ro, ac, sa, up, fo, iS, re, so, fr, tt, pu, lo) ((nI n), kd, wy, jo, st, ys, yl) :=
  ⟨n, rfl, rfl, rfl, rfl, rfl, rfl, B, hq⟩
theorem zi_el {k : Nat} {u : SX} {v : SY} {P : SX → SY → Prop} (h : ∀ (n : Nat) (kd wy sd rn wt cu : Int32) (jo st dg pa pt ch hi ct ro ac sa up fo iS re so fr tt pu lo ys yl : Nat → Int32), zi_B n kd jo → (¬ cu = 0 → zi_Q n kd wy jo st hi ct) → P ((nI n), kd, wy, sd, rn, wt, cu, jo, st, dg, pa, pt, ch, hi, ct, ro, ac, sa, up, fo, iS, re, so, fr, tt, pu, lo) ((nI n), kd, wy, jo, st, ys, yl)) (I : i_Rel k u v) : P u v := by
  obtain ⟨fn, kd, wy, sd, rn, wt, cu, jo, st, dg, pa, pt, ch, hi, ct, ro, ac, sa, up, fo, iS, re, so, fr, tt, pu, lo⟩ := u
  obtain ⟨gn, gk, gw, gj, gf, ys, yl⟩ := v
  obtain ⟨n, e1, e2, e3, e4, e5, e6, B, hq⟩ := I
  subst e1 e2 e3 e4 e5 e6
  exact h _ _ _ _ _ _ _ _ _ _ _ _ _ _ _ _ _ _ _ _ _ _ _ _ _ _ _ _ _ B hq
section
variable {n : Nat} {kd wy sd rn wt cu : Int32} {jo st dg pa pt ch hi ct ro ac sa up fo iS re so fr tt pu lo : Nat → Int32} {ys yl : Nat → Int32}
theorem zi_jo (u v : Nat) (hu : u < n) (hv : v < n) : jo (8 * u + v) = 0 ↔ zi_J n jo u v = false := by
  unfold zi_J
  by_cases e : jo (8 * u + v) = 0
  · exact ⟨fun _ => decide_eq_false (fun z => z.2.2 e), fun _ => e⟩
  · exact ⟨fun z => absurd z e, fun z => absurd z (by rw [decide_eq_true ⟨hu, hv, e⟩]; decide)⟩
theorem zi_hJ (a b : Nat) (h : zi_J n jo a b = true) : a < n ∧ b < n := by
  have := of_decide_eq_true h; exact ⟨this.1, this.2.1⟩
theorem zi_sy (B : zi_B n kd jo) (a b : Nat) (h : zi_J n jo a b = true) : zi_J n jo b a = true := by
  obtain ⟨h1, h2, h3⟩ := of_decide_eq_true h
  exact decide_eq_true ⟨h2, h1, by rw [← B.2.2.2.1 a b h1 h2]; exact h3⟩
theorem zi_ir (B : zi_B n kd jo) (a : Nat) : zi_J n jo a a = false := decide_eq_false (fun z => z.2.2 (B.2.2.2.2 a z.1))
/-- refresh -/
theorem xq_refresh (post : SX → Prop) (B : zi_B n kd jo) (hq : ¬ cu = 0 → zi_Q n kd wy jo st hi ct)
    (h : ∀ (rn wt cu : Int32) (dg pa pt ch hi ct ro ac sa up fo iS re so fr tt pu lo : Nat → Int32), ¬ cu = 0 → zi_Q n kd wy jo st hi ct → post ((nI n), kd, wy, sd, rn, wt, cu, jo, st, dg, pa, pt, ch, hi, ct, ro, ac, sa, up, fo, iS, re, so, fr, tt, pu, lo)) : wpX_refresh post ((nI n), kd, wy, sd, rn, wt, cu, jo, st, dg, pa, pt, ch, hi, ct, ro, ac, sa, up, fo, iS, re, so, fr, tt, pu, lo) := by
  unfold wpX_refresh
  dsimp only
  by_cases c : cu = 0
  · refine br_t c ?_
    refine xf_fp (J := zi_J n jo) _ B.2.1 (by have := B.1; omega) (zi_sy B) zi_hJ zi_jo (fun dg pa pt ch pr F => ?_)
    obtain ⟨f1, f2, f3, f4, f5⟩ := F
    dsimp only
    refine xr_run (al := decide (wy = 0)) (J := zi_J n jo) (pr := pr) (H := zf_H n kd (zi_J n jo) st) post ?_ (fun _ => rfl) rfl ?_
    · exact ⟨⟨B.2.1, zi_sy B, zi_ir B, zi_hJ, f3⟩, ⟨fun z => decide_eq_true z, fun z => of_decide_eq_true z⟩, zi_jo, f1, f4, f5, fun _ _ => rfl⟩
    · intro rn wt hi ct ro ac sa up fo iS re so fr tt pu lo Q
      refine h _ _ _ _ _ _ _ _ _ _ _ _ _ _ _ _ _ _ _ _ _ (by decide) ⟨Q.1, fun r hr => ?_⟩
      rw [Q.2 r hr, zy_DE (zi_sy B) (zi_ir B), zy_Rn B.2.1 f3]
      refine congrArg nI ?_
      unfold zi_b
      by_cases w : wy = 0
      · rw [if_pos w, if_pos (decide_eq_true w)]; omega
      · rw [if_neg w, if_neg (by rw [decide_eq_false w]; decide)]
  · exact br_f c (h _ _ _ _ _ _ _ _ _ _ _ _ _ _ _ _ _ _ _ _ _ c (hq c))
/-- Y's work -/
theorem yq_work (post : SY → Prop) (B : zi_B n kd jo) (h : ∀ ys : Nat → Int32, (∀ v r, v < n → r ≤ 10 → ys (8 * r + v) = zf_H n kd (zi_J n jo) st r v) → post ((nI n), kd, wy, jo, st, ys, yl)) : wpY_work post ((nI n), kd, wy, jo, st, ys, yl) :=
  yn_work (J := zi_J n jo) post B.2.1 B.2.2.1 zi_jo (fun _ => rfl) (fun _ _ => rfl) h
theorem xq_node0 (post : Int32 → Prop) {p : Int32} (hp : p < 0 ∨ nI n ≤ p) (h : post 0) : wpX_isNode post ((nI n), kd, wy, sd, rn, wt, cu, jo, st, dg, pa, pt, ch, hi, ct, ro, ac, sa, up, fo, iS, re, so, fr, tt, pu, lo) p := by
  unfold wpX_isNode
  dsimp only
  refine br_c (fun _ => h) (fun z => br_c (fun _ => h) (fun y => ?_))
  rcases hp with q | q
  · exact absurd q z
  · exact absurd q y
theorem xq_node1 (post : Int32 → Prop) {v : Nat} (h8 : n ≤ 8) (hv : v < n) (h : post 1) : wpX_isNode post ((nI n), kd, wy, sd, rn, wt, cu, jo, st, dg, pa, pt, ch, hi, ct, ro, ac, sa, up, fo, iS, re, so, fr, tt, pu, lo) (nI v) := by
  unfold wpX_isNode
  dsimp only
  exact br_f (nI_pos (by omega)) (br_f (nI_ge hv (by omega)) h)
theorem yq_bad1 (post : Int32 → Prop) {p : Int32} (hp : p < 0 ∨ nI n ≤ p) (h : post 1) : wpY_bad post ((nI n), kd, wy, jo, st, ys, yl) p := by
  unfold wpY_bad
  dsimp only
  refine br_c (fun _ => h) (fun z => br_c (fun _ => h) (fun y => ?_))
  rcases hp with q | q
  · exact absurd q z
  · exact absurd q y
theorem yq_bad0 (post : Int32 → Prop) {v : Nat} (h8 : n ≤ 8) (hv : v < n) (h : post 0) : wpY_bad post ((nI n), kd, wy, jo, st, ys, yl) (nI v) := by
  unfold wpY_bad
  dsimp only
  exact br_f (nI_pos (by omega)) (br_f (nI_ge hv (by omega)) (br_t (nI_le (b := 7) (by omega) (by omega)) h))
theorem xq_nodes (p : Int32) (h8 : n ≤ 8) : (p < 0 ∨ nI n ≤ p) ∨ ∃ v, v < n ∧ p = nI v := by
  rcases pk_ix p (n := n) (by omega) with h | h | h
  · exact Or.inl (Or.inl h)
  · exact Or.inl (Or.inr h)
  · exact Or.inr h
theorem xq_rounds (p : Int32) : (p < 0 ∨ 10 < p) ∨ ∃ r, r ≤ 10 ∧ p = nI r := by
  by_cases h : p < 0
  · exact Or.inl (Or.inl h)
  · by_cases h2 : 10 < p
    · exact Or.inl (Or.inr h2)
    · obtain ⟨j, hj, e⟩ := nI_of2 (M := 10) (n := 10) (by decide) h (Int32.not_lt.mp h2)
      exact Or.inr ⟨j, hj, e⟩
theorem xq_round0 (post : Int32 → Prop) {p : Int32} (hp : p < 0 ∨ 10 < p) (h : post 0) : wpX_isRound post p := by
  unfold wpX_isRound
  refine br_c (fun _ => h) (fun z => br_c (fun _ => h) (fun y => ?_))
  rcases hp with q | q
  · exact absurd q z
  · exact absurd q y
theorem xq_round1 (post : Int32 → Prop) {r : Nat} (hr : r ≤ 10) (h : post 1) : wpX_isRound post (nI r) := by
  unfold wpX_isRound
  exact br_f (nI_pos (by omega)) (br_f (nI_nlt (a := 10) hr (by omega)) h)
theorem yq_round1 (post : Int32 → Prop) {p : Int32} (hp : p < 0 ∨ 10 < p) (h : post 1) : wpY_badRound post ((nI n), kd, wy, jo, st, ys, yl) p := by
  unfold wpY_badRound
  dsimp only
  refine br_c (fun _ => h) (fun z => br_c (fun y => ?_) (fun _ => h))
  rcases hp with q | q
  · exact absurd q z
  · exact absurd q (Int32.not_lt.mpr y)
theorem yq_round0 (post : Int32 → Prop) {r : Nat} (hr : r ≤ 10) (h : post 0) : wpY_badRound post ((nI n), kd, wy, jo, st, ys, yl) (nI r) := by
  unfold wpY_badRound
  dsimp only
  exact br_f (nI_pos (by omega)) (br_t (nI_le (b := 10) hr (by omega)) h)
end
end
section
/-! the loops of the questions, on both sides -/
def zw_sum (h : Nat → Int32) : Nat → Int32 → Nat → Int32
  | 0, acc, _ => acc
  | d + 1, acc, i => zw_sum h d (acc + h i) (i + 1)
def zw_fr (h : Nat → Int32) (v : Nat) : Nat → Bool → Nat → Bool
  | 0, b, _ => b
  | d + 1, b, i => zw_fr h v d (b && decide (h i ≠ h v)) (i + 1)
def zw_kn (h : Nat → Int32) : Nat → Int32 → Nat → Int32
  | 0, acc, _ => acc
  | d + 1, acc, i => zw_kn h d (acc + (if zw_fr h i i true 0 = true then 1 else 0)) (i + 1)
def zw_mv (h g : Nat → Int32) : Nat → Int32 → Nat → Int32
  | 0, acc, _ => acc
  | d + 1, acc, i => zw_mv h g d (acc + (if h i = g i then 0 else 1)) (i + 1)
def zw_st (f : Nat → Int32) : Nat → Nat → Int32
  | 0, _ => -1
  | d + 1, i => if f i = 0 then nI i else zw_st f d (i + 1)
def zw_re (g : Nat → Int32) (x : Int32) : Nat → Nat → Int32
  | 0, _ => -2
  | d + 1, i => if g i = x then nI i else zw_re g x d (i + 1)
theorem xw_pre {q i : Nat} : (8 : Int32) * nI (q + 1) - 8 + nI i = nI (8 * q + i) := by
  rw [xs_8, pk_mul, pk_sub (by omega), nI_add]; exact congrArg nI (by omega)
section
variable {n : Nat} {h g : Nat → Int32} {kd wy sd rn wt cu : Int32} {jo st dg pa pt ch hi ct ro ac sa up fo iS re so fr tt pu lo : Nat → Int32} {ys yl : Nat → Int32}
theorem xw_sum (post : Int32 → SX → Prop) {q : Nat} (h8 : n ≤ 8) (hq : q ≤ 10) (hh : ∀ v, v < n → hi (8 * q + v) = h v) :
    ∀ d i acc, i + d = n → post (zw_sum h d acc i) ((nI n), kd, wy, sd, rn, wt, cu, jo, st, dg, pa, pt, ch, hi, ct, ro, ac, sa, up, fo, iS, re, so, fr, tt, pu, lo) → wX_sum_17 post (nI q) (nI n) kd wy sd rn wt cu jo st dg pa pt ch hi ct ro ac sa up fo iS re so fr tt pu lo (d + 1) acc (nI i) := by
  intro d
  induction d with
  | zero =>
    intro i acc hi hp
    rw [wX_sum_17]
    exact br_t (nI_le (by omega) (by omega)) hp
  | succ d ih =>
    intro i acc hi' hp
    have c1 : ((8 : Int32) * nI q + nI i).toNatClampNeg = 8 * q + i := by rw [xs_jo]; exact nI_clamp (by omega)
    have i1 : vp_in ((8 : Int32) * nI q + nI i) 88 := by rw [xs_jo]; exact vp_in_nI (by omega) (by omega)
    rw [wX_sum_17]
    dsimp only
    rw [c1, hh i (by omega)]
    exact br_f (nI_ge (by omega) (by omega)) ⟨i1, nm_e (nm_r (nI_1 i) (ih (i + 1) _ (by omega) hp))⟩
theorem yw_sum (post : Int32 → SY → Prop) {q : Nat} (h8 : n ≤ 8) (hq : q ≤ 10) (hh : ∀ v, v < n → ys (8 * q + v) = h v) :
    ∀ d i acc, i + d = n → post (zw_sum h d acc i) ((nI n), kd, wy, jo, st, ys, yl) → wY_sum_18 post (nI q) (nI n) kd wy jo st ys yl (d + 1) acc (nI i) := by
  intro d
  induction d with
  | zero =>
    intro i acc hi hp
    rw [wY_sum_18]
    exact br_t (nI_le (by omega) (by omega)) hp
  | succ d ih =>
    intro i acc hi' hp
    have c1 : ((8 : Int32) * nI q + nI i).toNatClampNeg = 8 * q + i := by rw [xs_jo]; exact nI_clamp (by omega)
    have i1 : vp_in ((8 : Int32) * nI q + nI i) 88 := by rw [xs_jo]; exact vp_in_nI (by omega) (by omega)
    rw [wY_sum_18]
    dsimp only
    rw [c1, hh i (by omega)]
    exact br_f (nI_ge (by omega) (by omega)) ⟨i1, nm_e (nm_r (nI_1 i) (ih (i + 1) _ (by omega) hp))⟩
theorem xw_fr (post : Int32 → SX → Prop) (J17 : Int32 → Int32 → Prop) {q v : Nat} {acc : Int32} (h8 : n ≤ 8) (hv : v < n) (hq : q ≤ 10) (hh : ∀ v, v < n → hi (8 * q + v) = h v) :
    ∀ d i b, i + d = v → J17 (acc + (if zw_fr h v d b i = true then 1 else 0)) (nI (v + 1)) → wX_kinds_31 post J17 (nI q) acc (nI v) (nI n) kd wy sd rn wt cu jo st dg pa pt ch hi ct ro ac sa up fo iS re so fr tt pu lo (d + 1) (if b = true then 1 else 0) (nI i) := by
  intro d
  induction d with
  | zero =>
    intro i b hi hp
    rw [wX_kinds_31]
    refine br_t (nI_le (by omega) (by omega)) ?_
    cases b with
    | false => exact br_t rfl (nm_e (nm_r (nI_1 v) hp))
    | true => exact br_f (by decide) (nm_e (nm_r (nI_1 v) hp))
  | succ d ih =>
    intro i b hi' hp
    have c1 : ((8 : Int32) * nI q + nI i).toNatClampNeg = 8 * q + i := by rw [xs_jo]; exact nI_clamp (by omega)
    have i1 : vp_in ((8 : Int32) * nI q + nI i) 88 := by rw [xs_jo]; exact vp_in_nI (by omega) (by omega)
    have c2 : ((8 : Int32) * nI q + nI v).toNatClampNeg = 8 * q + v := by rw [xs_jo]; exact nI_clamp (by omega)
    have i2 : vp_in ((8 : Int32) * nI q + nI v) 88 := by rw [xs_jo]; exact vp_in_nI (by omega) (by omega)
    rw [wX_kinds_31]
    dsimp only
    rw [c1, c2, hh i (by omega), hh v hv]
    refine br_f (nI_ge (by omega) (by omega)) ?_
    have r := ih (i + 1) (b && decide (h i ≠ h v)) (by omega) hp
    cases b with
    | false => exact br_t rfl (nm_r (nI_1 i) r)
    | true =>
      refine br_f (by decide) ⟨i1, i2, ?_⟩
      by_cases e : h i = h v
      · rw [decide_eq_false (fun z => z e)] at r
        exact br_t e (nm_r (nI_1 i) r)
      · rw [decide_eq_true e] at r
        exact br_f e (nm_r (nI_1 i) r)
theorem yw_fr (post : Int32 → SY → Prop) (J18 : Int32 → Int32 → Prop) {q v : Nat} {acc : Int32} (h8 : n ≤ 8) (hv : v < n) (hq : q ≤ 10) (hh : ∀ v, v < n → ys (8 * q + v) = h v) :
    ∀ d i b, i + d = v → J18 (acc + (if zw_fr h v d b i = true then 1 else 0)) (nI (v + 1)) → wY_kinds_32 post J18 (nI q) acc (nI v) (nI n) kd wy jo st ys yl (d + 1) (if b = true then 1 else 0) (nI i) := by
  intro d
  induction d with
  | zero =>
    intro i b hi hp
    rw [wY_kinds_32]
    refine br_t (nI_le (by omega) (by omega)) ?_
    cases b with
    | false =>
      have hp' : J18 acc (nI (v + 1)) := by
        have e : acc + (if zw_fr h v 0 false i = true then 1 else 0) = acc := Int32.add_zero acc
        rw [e] at hp; exact hp
      exact br_t rfl (nm_r (nI_1 v) hp')
    | true => exact br_f (by decide) (nm_e (nm_r (nI_1 v) hp))
  | succ d ih =>
    intro i b hi' hp
    have c1 : ((8 : Int32) * nI q + nI i).toNatClampNeg = 8 * q + i := by rw [xs_jo]; exact nI_clamp (by omega)
    have i1 : vp_in ((8 : Int32) * nI q + nI i) 88 := by rw [xs_jo]; exact vp_in_nI (by omega) (by omega)
    have c2 : ((8 : Int32) * nI q + nI v).toNatClampNeg = 8 * q + v := by rw [xs_jo]; exact nI_clamp (by omega)
    have i2 : vp_in ((8 : Int32) * nI q + nI v) 88 := by rw [xs_jo]; exact vp_in_nI (by omega) (by omega)
    rw [wY_kinds_32]
    dsimp only
    rw [c1, c2, hh i (by omega), hh v hv]
    refine br_f (nI_ge (by omega) (by omega)) ⟨i1, i2, ?_⟩
    have r := ih (i + 1) (b && decide (h i ≠ h v)) (by omega) hp
    by_cases e : h i = h v
    · rw [decide_eq_false (fun z => z e), Bool.and_false] at r
      exact br_t e (nm_r (nI_1 i) r)
    · rw [decide_eq_true e, Bool.and_true] at r
      exact br_f e (nm_r (nI_1 i) r)
theorem xw_kn (post : Int32 → SX → Prop) {q : Nat} (h8 : n ≤ 8) (hq : q ≤ 10) (hh : ∀ v, v < n → hi (8 * q + v) = h v) :
    ∀ d i acc, i + d = n → post (zw_kn h d acc i) ((nI n), kd, wy, sd, rn, wt, cu, jo, st, dg, pa, pt, ch, hi, ct, ro, ac, sa, up, fo, iS, re, so, fr, tt, pu, lo) → wX_kinds_17 post (nI q) (nI n) kd wy sd rn wt cu jo st dg pa pt ch hi ct ro ac sa up fo iS re so fr tt pu lo (d + 1) acc (nI i) := by
  intro d
  induction d with
  | zero =>
    intro i acc hi hp
    rw [wX_kinds_17]
    exact br_t (nI_le (by omega) (by omega)) hp
  | succ d ih =>
    intro i acc hi' hp
    rw [wX_kinds_17]
    refine br_f (nI_ge (by omega) (by omega)) ⟨i + 1, ?_⟩
    exact xw_fr post _ h8 (by omega) hq hh i 0 true (by omega) (ih (i + 1) _ (by omega) hp)
theorem yw_kn (post : Int32 → SY → Prop) {q : Nat} (h8 : n ≤ 8) (hq : q ≤ 10) (hh : ∀ v, v < n → ys (8 * q + v) = h v) :
    ∀ d i acc, i + d = n → post (zw_kn h d acc i) ((nI n), kd, wy, jo, st, ys, yl) → wY_kinds_18 post (nI q) (nI n) kd wy jo st ys yl (d + 1) acc (nI i) := by
  intro d
  induction d with
  | zero =>
    intro i acc hi hp
    rw [wY_kinds_18]
    exact br_t (nI_le (by omega) (by omega)) hp
  | succ d ih =>
    intro i acc hi' hp
    rw [wY_kinds_18]
    refine br_f (nI_ge (by omega) (by omega)) ⟨i + 1, ?_⟩
    exact yw_fr post _ h8 (by omega) hq hh i 0 true (by omega) (ih (i + 1) _ (by omega) hp)
theorem xw_mv (post : Int32 → SX → Prop) {q : Nat} (h8 : n ≤ 8) (hq : q < 10) (hh : ∀ v, v < n → hi (8 * (q + 1) + v) = h v) (hg : ∀ v, v < n → hi (8 * q + v) = g v) :
    ∀ d i acc, i + d = n → post (zw_mv h g d acc i) ((nI n), kd, wy, sd, rn, wt, cu, jo, st, dg, pa, pt, ch, hi, ct, ro, ac, sa, up, fo, iS, re, so, fr, tt, pu, lo) → wX_changes_21 post (nI (q + 1)) (nI n) kd wy sd rn wt cu jo st dg pa pt ch hi ct ro ac sa up fo iS re so fr tt pu lo (d + 1) acc (nI i) := by
  intro d
  induction d with
  | zero =>
    intro i acc hi hp
    rw [wX_changes_21]
    exact br_t (nI_le (by omega) (by omega)) hp
  | succ d ih =>
    intro i acc hi' hp
    have c1 : ((8 : Int32) * nI (q + 1) + nI i).toNatClampNeg = 8 * (q + 1) + i := by rw [xs_jo]; exact nI_clamp (by omega)
    have i1 : vp_in ((8 : Int32) * nI (q + 1) + nI i) 88 := by rw [xs_jo]; exact vp_in_nI (by omega) (by omega)
    have c2 : ((8 : Int32) * nI (q + 1) - 8 + nI i).toNatClampNeg = 8 * q + i := by rw [xw_pre]; exact nI_clamp (by omega)
    have i2 : vp_in ((8 : Int32) * nI (q + 1) - 8 + nI i) 88 := by rw [xw_pre]; exact vp_in_nI (by omega) (by omega)
    rw [wX_changes_21]
    dsimp only
    rw [c1, c2, hh i (by omega), hg i (by omega)]
    have r := ih (i + 1) (acc + (if h i = g i then 0 else 1)) (by omega) hp
    refine br_f (nI_ge (by omega) (by omega)) ⟨i1, i2, ?_⟩
    by_cases e : h i = g i
    · rw [if_pos e] at r; exact br_t e (nm_e (nm_r (nI_1 i) r))
    · rw [if_neg e] at r; exact br_f e (nm_e (nm_r (nI_1 i) r))
theorem yw_mv (post : Int32 → Prop) {q : Nat} (h8 : n ≤ 8) (hq : q < 10) (hh : ∀ v, v < n → ys (8 * (q + 1) + v) = h v) (hg : ∀ v, v < n → ys (8 * q + v) = g v) (hp : post (zw_mv h g n 0 0)) : wpY_moved post ((nI n), kd, wy, jo, st, ys, yl) (nI (q + 1)) := by
  have lp : ∀ d i acc, i + d = n → post (zw_mv h g d acc i) → wY_moved_4 post (nI (q + 1)) (nI n) kd wy jo st ys yl (d + 1) acc (nI i) := by
    intro d
    induction d with
    | zero =>
      intro i acc hi hp
      rw [wY_moved_4]
      exact br_t (nI_le (by omega) (by omega)) hp
    | succ d ih =>
      intro i acc hi' hp
      have c1 : ((8 : Int32) * nI (q + 1) + nI i).toNatClampNeg = 8 * (q + 1) + i := by rw [xs_jo]; exact nI_clamp (by omega)
      have i1 : vp_in ((8 : Int32) * nI (q + 1) + nI i) 88 := by rw [xs_jo]; exact vp_in_nI (by omega) (by omega)
      have c2 : ((8 : Int32) * nI (q + 1) - 8 + nI i).toNatClampNeg = 8 * q + i := by rw [xw_pre]; exact nI_clamp (by omega)
      have i2 : vp_in ((8 : Int32) * nI (q + 1) - 8 + nI i) 88 := by rw [xw_pre]; exact vp_in_nI (by omega) (by omega)
      rw [wY_moved_4]
      dsimp only
      rw [c1, c2, hh i (by omega), hg i (by omega)]
      have r := ih (i + 1) (acc + (if h i = g i then 0 else 1)) (by omega) hp
      refine br_f (nI_ge (by omega) (by omega)) ⟨i1, i2, ?_⟩
      by_cases e : h i = g i
      · rw [if_pos e, Int32.add_zero] at r; exact br_t e (nm_r (nI_1 i) r)
      · rw [if_neg e] at r; exact br_f e (nm_e (nm_r (nI_1 i) r))
  unfold wpY_moved
  exact ⟨n + 1, lp n 0 0 (by omega) hp⟩
theorem xw_re (post : Int32 → SX → Prop) {v : Nat} {x : Int32} (h8 : n ≤ 8) (hv : v < n) (hg : ∀ r, r ≤ 10 → hi (8 * r + v) = g r) :
    ∀ d i, i + d = 11 → post (zw_re g x d i) ((nI n), kd, wy, sd, rn, wt, cu, jo, st, dg, pa, pt, ch, hi, ct, ro, ac, sa, up, fo, iS, re, so, fr, tt, pu, lo) → wX_reached_16 post (nI v) x (nI n) kd wy sd rn wt cu jo st dg pa pt ch hi ct ro ac sa up fo iS re so fr tt pu lo (d + 1) (nI i) := by
  intro d
  induction d with
  | zero =>
    intro i hi hp
    rw [wX_reached_16]
    exact br_t (nI_lt (a := 10) (by omega) (by omega)) hp
  | succ d ih =>
    intro i hi' hp
    have c1 : ((8 : Int32) * nI i + nI v).toNatClampNeg = 8 * i + v := by rw [xs_jo]; exact nI_clamp (by omega)
    have i1 : vp_in ((8 : Int32) * nI i + nI v) 88 := by rw [xs_jo]; exact vp_in_nI (by omega) (by omega)
    rw [wX_reached_16]
    dsimp only
    rw [c1, hg i (by omega)]
    refine br_f (nI_nlt (a := 10) (by omega) (by omega)) ⟨i1, ?_⟩
    unfold zw_re at hp
    by_cases e : g i = x
    · rw [if_pos e] at hp; exact br_t e hp
    · rw [if_neg e] at hp; exact br_f e (nm_r (nI_1 i) (ih (i + 1) (by omega) hp))
theorem yw_re (post : Int32 → SY → Prop) {v : Nat} {x : Int32} (h8 : n ≤ 8) (hv : v < n) (hg : ∀ r, r ≤ 10 → ys (8 * r + v) = g r) :
    ∀ d i, i + d = 11 → post (zw_re g x d i) ((nI n), kd, wy, jo, st, ys, yl) → wY_reached_16 post (nI v) x (nI n) kd wy jo st ys yl (d + 1) (nI i) := by
  intro d
  induction d with
  | zero =>
    intro i hi hp
    rw [wY_reached_16]
    exact br_t (nI_le (a := 11) (by omega) (by omega)) hp
  | succ d ih =>
    intro i hi' hp
    have c1 : ((8 : Int32) * nI i + nI v).toNatClampNeg = 8 * i + v := by rw [xs_jo]; exact nI_clamp (by omega)
    have i1 : vp_in ((8 : Int32) * nI i + nI v) 88 := by rw [xs_jo]; exact vp_in_nI (by omega) (by omega)
    rw [wY_reached_16]
    dsimp only
    rw [c1, hg i (by omega)]
    refine br_f (nI_ge (b := 11) (by omega) (by omega)) ⟨i1, ?_⟩
    unfold zw_re at hp
    by_cases e : g i = x
    · rw [if_pos e] at hp; exact br_t e hp
    · rw [if_neg e] at hp; exact br_f e (nm_r (nI_1 i) (ih (i + 1) (by omega) hp))
theorem xw_ov (post : Int32 → SX → Prop) {q b : Nat} (hq : q ≤ 10) (hb : ∀ r, r < 10 → ct (r + 1) = nI b) (hp : post (nI (q * b)) ((nI n), kd, wy, sd, rn, wt, cu, jo, st, dg, pa, pt, ch, hi, ct, ro, ac, sa, up, fo, iS, re, so, fr, tt, pu, lo)) :
    ∀ d i, i + d = q → wX_overhead_17 post (nI q) (nI n) kd wy sd rn wt cu jo st dg pa pt ch hi ct ro ac sa up fo iS re so fr tt pu lo (d + 1) (nI (i * b)) (nI (i + 1)) := by
  intro d
  induction d with
  | zero =>
    intro i hi
    have e : i = q := by omega
    subst e
    rw [wX_overhead_17]
    exact br_t (nI_lt (by omega) (by omega)) hp
  | succ d ih =>
    intro i hi
    have ci : (nI (i + 1)).toNatClampNeg = i + 1 := nI_clamp (by omega)
    have ii : vp_in (nI (i + 1)) 11 := vp_in_nI (by omega) (by omega)
    rw [wX_overhead_17]
    dsimp only
    rw [ci, hb i (by omega)]
    refine br_f (nI_nlt (by omega) (by omega)) ⟨ii, nm_r (e' := nI ((i + 1) * b)) (by rw [nI_add, Nat.add_mul, Nat.one_mul]) (nm_r (nI_1 (i + 1)) (ih (i + 1) (by omega)))⟩
theorem xw_deg (post : Int32 → SX → Prop) {J : Nat → Nat → Bool} (h8 : n ≤ 8) (hd : ∀ v, v < n → dg v = nI (zc_n (J v) n)) (hp : post (nI (zr_D n J) >>> ((1 : Int32) &&& 31)) ((nI n), kd, wy, sd, rn, wt, cu, jo, st, dg, pa, pt, ch, hi, ct, ro, ac, sa, up, fo, iS, re, so, fr, tt, pu, lo)) :
    ∀ d i, i + d = n → wX_edges_8 post (nI n) kd wy sd rn wt cu jo st dg pa pt ch hi ct ro ac sa up fo iS re so fr tt pu lo (d + 1) (nI (zs_s (fun u => zc_n (J u) n) i)) (nI i) := by
  intro d
  induction d with
  | zero =>
    intro i hi
    have e : i = n := by omega
    subst e
    rw [wX_edges_8]
    exact br_t (nI_le (by omega) (by omega)) hp
  | succ d ih =>
    intro i hi'
    have ci : (nI i).toNatClampNeg = i := nI_clamp (by omega)
    have ii : vp_in (nI i) 8 := vp_in_nI (by omega) (by omega)
    rw [wX_edges_8]
    dsimp only
    rw [ci, hd i (by omega)]
    exact br_f (nI_ge (by omega) (by omega)) ⟨ii, nm_r (nI_add _ _) (nm_r (nI_1 i) (ih (i + 1) (by omega)))⟩
theorem xw_parts (post : Int32 → SX → Prop) {J : Nat → Nat → Bool} (h8 : n ≤ 8) (hd : ∀ v, v < n → pa v = nI (zk_m J v)) (hp : post (nI (zy_C n J (zk_m J))) ((nI n), kd, wy, sd, rn, wt, cu, jo, st, dg, pa, pt, ch, hi, ct, ro, ac, sa, up, fo, iS, re, so, fr, tt, pu, lo)) :
    ∀ d i, i + d = n → wX_parts_8 post (nI n) kd wy sd rn wt cu jo st dg pa pt ch hi ct ro ac sa up fo iS re so fr tt pu lo (d + 1) (nI (zc_n (fun v => decide (zk_m J v = v)) i)) (nI i) := by
  intro d
  induction d with
  | zero =>
    intro i hi
    have e : i = n := by omega
    subst e
    rw [wX_parts_8]
    exact br_t (nI_le (by omega) (by omega)) hp
  | succ d ih =>
    intro i hi'
    have ci : (nI i).toNatClampNeg = i := nI_clamp (by omega)
    have ii : vp_in (nI i) 8 := vp_in_nI (by omega) (by omega)
    rw [wX_parts_8]
    dsimp only
    rw [ci, hd i (by omega)]
    have r := ih (i + 1) (by omega)
    have hm := zk_mle J i
    refine br_f (nI_ge (by omega) (by omega)) ⟨ii, pk_eq (zk_m J i) i (fun c => ?_) (fun c => ?_)⟩
    · rw [zc_t (decide_eq_true c)] at r
      exact nm_r (nI_1 _) (nm_r (nI_1 i) r)
    · rw [zc_f (decide_eq_false c)] at r
      exact nm_r (Int32.add_zero _) (nm_r (nI_1 i) r)
end
end
section
/-! what is owed -/
theorem zo_upd {n u v : Nat} {kd x : Int32} {jo : Nat → Int32} (B : zi_B n kd jo) (hu : u < n) (hv : v < n) (hne : u ≠ v) : zi_B n kd (upd (upd jo (8 * u + v) x) (8 * v + u) x) := by
  obtain ⟨h2, h8, hk, sy, ir⟩ := B
  refine ⟨h2, h8, hk, fun a b ha hb => ?_, fun a ha => ?_⟩
  · by_cases c1 : a = u ∧ b = v
    · obtain ⟨rfl, rfl⟩ := c1
      rw [pk_un (by omega), pk_us, pk_us]
    · by_cases c2 : a = v ∧ b = u
      · obtain ⟨rfl, rfl⟩ := c2
        rw [pk_us, pk_un (by omega), pk_us]
      · rw [pk_un (by omega), pk_un (by omega), pk_un (by omega), pk_un (by omega)]
        exact sy a b ha hb
  · rw [pk_un (by omega), pk_un (by omega)]; exact ir a ha
theorem i_vc0 (k0 : Int32) : wpX_init (fun u => wpY_init (fun v => i_Rel 1 u v) k0) k0 := by
  have B : ∀ n, 2 ≤ n → n ≤ 8 → zi_B n 0 (fun _ => 0) := fun n h2 h8 => ⟨h2, h8, Or.inl rfl, fun _ _ _ _ => rfl, fun _ _ => rfl⟩
  unfold wpX_init
  by_cases c : (2 : Int32) ≤ k0
  · refine br_t c ?_
    unfold wX_init_180
    by_cases d : k0 ≤ 8
    · refine br_t d (br_t c (br_t d ?_))
      have h0 : ¬ k0 < 0 := Int32.not_lt.mpr (Int32.le_trans (by decide) c)
      obtain ⟨j, hj, rfl⟩ := nI_of2 (M := 8) (n := 8) (by decide) h0 d
      have h2 : 2 ≤ j := (nI_leI (a := 2) (by omega) (by omega)).mp c
      exact zi_mk (B j h2 hj) (fun z => absurd rfl z)
    · exact br_f d (br_t c (br_f d (zi_mk (B 8 (by omega) (by omega)) (fun z => absurd rfl z))))
  · refine br_f c ?_
    unfold wX_init_180
    exact br_t (by decide) (br_f c (zi_mk (B 2 (by omega) (by omega)) (fun z => absurd rfl z)))
theorem i_vc_nodes {k : Nat} {u : SX} {v : SY} (I : i_Rel k u v) (hk : k + 4 ≤ 2049) : wpX_nodes (fun r => wpY_nodes (fun r' => r' = r ∧ i_Rel (k + 4) u v) v) u := by
  refine zi_el (P := fun u v => wpX_nodes (fun r => wpY_nodes (fun r' => r' = r ∧ i_Rel (k + 4) u v) v) u) ?_ I
  intro n kd wy sd rn wt cu jo st dg pa pt ch hi ct ro ac sa up fo iS re so fr tt pu lo ys yl B hq
  exact ⟨rfl, zi_mk B hq⟩
theorem i_vc_edge {k : Nat} {u : SX} {v : SY} (I : i_Rel k u v) (hk : k + 4 ≤ 2049) (v1 : Int32) (v2 : Int32) (v3 : Int32) : wpX_edge (fun r u' => wpY_edge (fun r' v' => r' = r ∧ i_Rel (k + 4) u' v') v v1 v2 v3) u v1 v2 v3 := by
  refine zi_el (P := fun u v => wpX_edge (fun r u' => wpY_edge (fun r' v' => r' = r ∧ i_Rel (k + 4) u' v') v v1 v2 v3) u v1 v2 v3) ?_ I
  intro n kd wy sd rn wt cu jo st dg pa pt ch hi ct ro ac sa up fo iS re so fr tt pu lo ys yl B hq
  have h8 := B.2.1
  unfold wpX_edge
  dsimp only
  rcases xq_nodes v1 h8 with h | ⟨a, ha, rfl⟩
  · refine xq_node0 _ h (br_t rfl ?_)
    unfold wpY_edge
    dsimp only
    exact yq_bad1 _ h (br_f (by decide) ⟨rfl, zi_mk B hq⟩)
  refine xq_node1 _ h8 ha (br_f (by decide) ?_)
  rcases xq_nodes v2 h8 with h | ⟨b, hb, rfl⟩
  · refine xq_node0 _ h (br_t rfl ?_)
    unfold wpY_edge
    dsimp only
    exact yq_bad0 _ h8 ha (br_t rfl (yq_bad1 _ h (br_f (by decide) ⟨rfl, zi_mk B hq⟩)))
  refine xq_node1 _ h8 hb (br_f (by decide) ?_)
  refine pk_eq a b (fun e => ?_) (fun e => ?_)
  · unfold wpY_edge
    dsimp only
    exact yq_bad0 _ h8 ha (br_t rfl (yq_bad0 _ h8 hb (br_t rfl (br_t (by rw [e]) ⟨rfl, zi_mk B hq⟩))))
  have c1 : ((8 : Int32) * nI a + nI b).toNatClampNeg = 8 * a + b := by rw [xs_jo]; exact nI_clamp (by omega)
  have i1 : vp_in ((8 : Int32) * nI a + nI b) 64 := by rw [xs_jo]; exact vp_in_nI (by omega) (by omega)
  have c2 : ((8 : Int32) * nI b + nI a).toNatClampNeg = 8 * b + a := by rw [xs_jo]; exact nI_clamp (by omega)
  have i2 : vp_in ((8 : Int32) * nI b + nI a) 64 := by rw [xs_jo]; exact vp_in_nI (by omega) (by omega)
  have hne : ¬ nI a = nI b := fun z => e ((nI_eq (by omega) (by omega)).mp z)
  have fin : ∀ x z : Int32, (v3 = 0 ∧ z = 0) ∨ (¬ v3 = 0 ∧ z = 1) →
      (∀ jo', jo' = upd (upd jo (8 * a + b) z) (8 * b + a) z → wpY_edge (fun r' v' => r' = x ∧ i_Rel (k + 4) ((nI n), kd, wy, sd, rn, wt, 0, jo', st, dg, pa, pt, ch, hi, ct, ro, ac, sa, up, fo, iS, re, so, fr, tt, pu, lo) v') ((nI n), kd, wy, jo, st, ys, yl) (nI a) (nI b) v3) → wX_edge_45 (fun r u' => wpY_edge (fun r' v' => r' = r ∧ i_Rel (k + 4) u' v') ((nI n), kd, wy, jo, st, ys, yl) (nI a) (nI b) v3) (nI a) (nI b) v3 x (nI n) kd wy sd rn wt cu jo st dg pa pt ch hi ct ro ac sa up fo iS re so fr tt pu lo := by
    intro x z hz H
    unfold wX_edge_45 wX_edge_66
    rw [c1, c2, xs_b0, xs_b1]
    rcases hz with ⟨q, rfl⟩ | ⟨q, rfl⟩
    · exact br_t q ⟨i1, nm_e (br_t q ⟨i2, nm_e (H _ rfl)⟩)⟩
    · exact br_f q ⟨i1, nm_e (br_f q ⟨i2, nm_e (H _ rfl)⟩)⟩
  have finY : ∀ x z : Int32, (v3 = 0 ∧ z = 0) ∨ (¬ v3 = 0 ∧ z = 1) → (jo (8 * a + b) = 0 ∧ x = 0) ∨ (¬ jo (8 * a + b) = 0 ∧ x = 1) →
      (∀ jo', jo' = upd (upd jo (8 * a + b) z) (8 * b + a) z → wpY_edge (fun r' v' => r' = x ∧ i_Rel (k + 4) ((nI n), kd, wy, sd, rn, wt, 0, jo', st, dg, pa, pt, ch, hi, ct, ro, ac, sa, up, fo, iS, re, so, fr, tt, pu, lo) v') ((nI n), kd, wy, jo, st, ys, yl) (nI a) (nI b) v3) := by
    intro x z hz hx jo' ej
    have R : i_Rel (k + 4) ((nI n), kd, wy, sd, rn, wt, 0, jo', st, dg, pa, pt, ch, hi, ct, ro, ac, sa, up, fo, iS, re, so, fr, tt, pu, lo) ((nI n), kd, wy, jo', st, ys, yl) := zi_mk (by rw [ej]; exact zo_upd B ha hb e) (fun z => absurd rfl z)
    unfold wpY_edge
    dsimp only
    refine yq_bad0 _ h8 ha (br_t rfl (yq_bad0 _ h8 hb (br_t rfl (br_f hne ⟨i1, ?_⟩))))
    rw [c1]
    have g : wY_edge_45 (fun r' v' => r' = x ∧ i_Rel (k + 4) ((nI n), kd, wy, sd, rn, wt, 0, jo', st, dg, pa, pt, ch, hi, ct, ro, ac, sa, up, fo, iS, re, so, fr, tt, pu, lo) v') (nI a) (nI b) v3 x (nI n) kd wy jo st ys yl := by
      unfold wY_edge_45 wY_edge_66
      rw [c1, c2, xs_b0, xs_b1]
      subst ej
      rcases hz with ⟨q, rfl⟩ | ⟨q, rfl⟩
      · exact br_t q ⟨i1, nm_e (br_t q ⟨i2, nm_e ⟨rfl, R⟩⟩)⟩
      · exact br_f q ⟨i1, nm_e (br_f q ⟨i2, nm_e ⟨rfl, R⟩⟩)⟩
    rcases hx with ⟨q, rfl⟩ | ⟨q, rfl⟩
    · exact br_t q g
    · exact br_f q g
  have hz : ∃ z : Int32, (v3 = 0 ∧ z = 0) ∨ (¬ v3 = 0 ∧ z = 1) := by
    by_cases q : v3 = 0
    · exact ⟨0, Or.inl ⟨q, rfl⟩⟩
    · exact ⟨1, Or.inr ⟨q, rfl⟩⟩
  obtain ⟨z, hz⟩ := hz
  refine ⟨i1, ?_⟩
  rw [c1]
  exact br_c (fun q => fin 0 z hz (finY 0 z hz (Or.inl ⟨q, rfl⟩))) (fun q => fin 1 z hz (finY 1 z hz (Or.inr ⟨q, rfl⟩)))
theorem i_vc_start {k : Nat} {u : SX} {v : SY} (I : i_Rel k u v) (hk : k + 4 ≤ 2049) (v1 : Int32) (v2 : Int32) : wpX_start (fun r u' => wpY_start (fun r' v' => r' = r ∧ i_Rel (k + 4) u' v') v v1 v2) u v1 v2 := by
  refine zi_el (P := fun u v => wpX_start (fun r u' => wpY_start (fun r' v' => r' = r ∧ i_Rel (k + 4) u' v') v v1 v2) u v1 v2) ?_ I
  intro n kd wy sd rn wt cu jo st dg pa pt ch hi ct ro ac sa up fo iS re so fr tt pu lo ys yl B hq
  have h8 := B.2.1
  unfold wpX_start
  dsimp only
  rcases xq_nodes v1 h8 with h | ⟨a, ha, rfl⟩
  · refine xq_node0 _ h (br_t rfl ?_)
    unfold wpY_start
    dsimp only
    exact yq_bad1 _ h (br_f (by decide) ⟨rfl, zi_mk B hq⟩)
  have ca : (nI a).toNatClampNeg = a := nI_clamp (by omega)
  have ia : vp_in (nI a) 8 := vp_in_nI (by omega) (by omega)
  refine xq_node1 _ h8 ha (br_f (by decide) ?_)
  unfold wpY_start
  dsimp only
  rw [ca]
  refine br_c (fun q => yq_bad0 _ h8 ha (br_t rfl (br_t q ⟨rfl, zi_mk B hq⟩))) (fun q => br_c (fun q2 => ?_) (fun q2 => yq_bad0 _ h8 ha (br_t rfl (br_f q (br_f q2 ⟨rfl, zi_mk B hq⟩)))))
  exact ⟨ia, nm_e ⟨ia, nm_e (yq_bad0 _ h8 ha (br_t rfl (br_f q (br_t q2 ⟨ia, nm_e ⟨ia, nm_e ⟨rfl, zi_mk B (fun z => absurd rfl z)⟩⟩⟩))))⟩⟩
theorem i_vc_program {k : Nat} {u : SX} {v : SY} (I : i_Rel k u v) (hk : k + 4 ≤ 2049) (v1 : Int32) : wpX_program (fun r u' => wpY_program (fun r' v' => r' = r ∧ i_Rel (k + 4) u' v') v v1) u v1 := by
  refine zi_el (P := fun u v => wpX_program (fun r u' => wpY_program (fun r' v' => r' = r ∧ i_Rel (k + 4) u' v') v v1) u v1) ?_ I
  intro n kd wy sd rn wt cu jo st dg pa pt ch hi ct ro ac sa up fo iS re so fr tt pu lo ys yl B hq
  unfold wpX_program wpY_program
  dsimp only
  refine br_c (fun q => br_t q ⟨rfl, zi_mk B hq⟩) (fun q => br_c (fun q2 => br_f q (br_t q2 ⟨rfl, ?_⟩)) (fun q2 => br_f q (br_f q2 ⟨rfl, zi_mk B hq⟩)))
  obtain ⟨j, hj, rfl⟩ := nI_of2 (M := 5) (n := 5) (by decide) q q2
  refine zi_mk ⟨B.1, B.2.1, ?_, B.2.2.2⟩ (fun z => absurd rfl z)
  have : j = 0 ∨ j = 1 ∨ j = 2 ∨ j = 3 ∨ j = 4 ∨ j = 5 := by omega
  rcases this with rfl | rfl | rfl | rfl | rfl | rfl
  · exact Or.inl rfl
  · exact Or.inr (Or.inl rfl)
  · exact Or.inr (Or.inr (Or.inl rfl))
  · exact Or.inr (Or.inr (Or.inr (Or.inl rfl)))
  · exact Or.inr (Or.inr (Or.inr (Or.inr (Or.inl rfl))))
  · exact Or.inr (Or.inr (Or.inr (Or.inr (Or.inr rfl))))
theorem i_vc_method {k : Nat} {u : SX} {v : SY} (I : i_Rel k u v) (hk : k + 4 ≤ 2049) (v1 : Int32) : wpX_method (fun r u' => wpY_method (fun r' v' => r' = r ∧ i_Rel (k + 4) u' v') v v1) u v1 := by
  refine zi_el (P := fun u v => wpX_method (fun r u' => wpY_method (fun r' v' => r' = r ∧ i_Rel (k + 4) u' v') v v1) u v1) ?_ I
  intro n kd wy sd rn wt cu jo st dg pa pt ch hi ct ro ac sa up fo iS re so fr tt pu lo ys yl B hq
  unfold wpX_method wX_method_11 wpY_method
  dsimp only
  by_cases c0 : v1 = 0
  · subst c0
    exact br_t rfl (br_f (by decide) (br_t (by decide) ⟨rfl, zi_mk B (fun z => absurd rfl z)⟩))
  · refine br_f c0 ?_
    by_cases c1 : v1 = 1
    · subst c1
      exact br_t rfl (br_f (by decide) (br_t (by decide) ⟨rfl, zi_mk B (fun z => absurd rfl z)⟩))
    · refine br_f c1 (br_c (fun _ => ⟨rfl, zi_mk B hq⟩) (fun q => br_c (fun q2 => ?_) (fun _ => ⟨rfl, zi_mk B hq⟩)))
      exfalso
      obtain ⟨j, hj, rfl⟩ := nI_of2 (M := 1) (n := 1) (by decide) q q2
      have : j = 0 ∨ j = 1 := by omega
      rcases this with rfl | rfl
      · exact c0 rfl
      · exact c1 rfl
theorem i_vc_schedule {k : Nat} {u : SX} {v : SY} (I : i_Rel k u v) (hk : k + 4 ≤ 2049) (v1 : Int32) : wpX_schedule (fun u' => wpY_schedule (fun v' => i_Rel (k + 4) u' v') v v1) u v1 := by
  refine zi_el (P := fun u v => wpX_schedule (fun u' => wpY_schedule (fun v' => i_Rel (k + 4) u' v') v v1) u v1) ?_ I
  intro n kd wy sd rn wt cu jo st dg pa pt ch hi ct ro ac sa up fo iS re so fr tt pu lo ys yl B hq
  unfold wpX_schedule wpY_schedule
  dsimp only
  exact zi_mk B (fun z => absurd rfl z)
theorem i_vc_edges {k : Nat} {u : SX} {v : SY} (I : i_Rel k u v) (hk : k + 4 ≤ 2049) : wpX_edges (fun r u' => wpY_edges (fun r' => r' = r ∧ i_Rel (k + 4) u' v) v) u := by
  refine zi_el (P := fun u v => wpX_edges (fun r u' => wpY_edges (fun r' => r' = r ∧ i_Rel (k + 4) u' v) v) u) ?_ I
  intro n kd wy sd rn wt cu jo st dg pa pt ch hi ct ro ac sa up fo iS re so fr tt pu lo ys yl B hq
  unfold wpX_edges
  dsimp only
  refine xf_fp (J := zi_J n jo) _ B.2.1 (by have := B.1; omega) (zi_sy B) zi_hJ zi_jo (fun dg pa pt ch pr F => ⟨n + 1, ?_⟩)
  refine xw_deg (J := zi_J n jo) _ B.2.1 F.1 ?_ n 0 (by omega)
  refine yg_edges (J := zi_J n jo) _ B.2.1 zi_jo ⟨?_, zi_mk B hq⟩
  have hE : zr_D n (zi_J n jo) ≤ 64 := by
    have h1 : zr_D n (zi_J n jo) ≤ zs_s (fun _ => 8) n := zs_le n (fun i _ => by have := zc_len (zi_J n jo i) n; have := B.2.1; omega)
    have h2 : zs_s (fun _ => 8) n ≤ zs_s (fun _ => 8) 8 := by
      have h3 := zs_split (fun _ => 8) n (8 - n)
      rw [show n + (8 - n) = 8 from by have := B.2.1; omega] at h3
      omega
    have h4 : zs_s (fun _ => 8) 8 = 64 := rfl
    omega
  rw [pk_shrN (by omega) _ 1 (by decide), zy_DE (zi_sy B) (zi_ir B)]
  exact congrArg nI (by omega)
theorem i_vc_degree {k : Nat} {u : SX} {v : SY} (I : i_Rel k u v) (hk : k + 4 ≤ 2049) (v1 : Int32) : wpX_degree (fun r u' => wpY_degree (fun r' => r' = r ∧ i_Rel (k + 4) u' v) v v1) u v1 := by
  refine zi_el (P := fun u v => wpX_degree (fun r u' => wpY_degree (fun r' => r' = r ∧ i_Rel (k + 4) u' v) v v1) u v1) ?_ I
  intro n kd wy sd rn wt cu jo st dg pa pt ch hi ct ro ac sa up fo iS re so fr tt pu lo ys yl B hq
  have h8 := B.2.1
  unfold wpX_degree
  dsimp only
  rcases xq_nodes v1 h8 with h | ⟨a, ha, rfl⟩
  · refine xq_node0 _ h (br_t rfl ?_)
    unfold wpY_degree
    dsimp only
    exact yq_bad1 _ h (br_f (by decide) ⟨rfl, zi_mk B hq⟩)
  have ca : (nI a).toNatClampNeg = a := nI_clamp (by omega)
  have ia : vp_in (nI a) 8 := vp_in_nI (by omega) (by omega)
  refine xq_node1 _ h8 ha (br_f (by decide) ?_)
  refine xf_fp (J := zi_J n jo) _ B.2.1 (by have := B.1; omega) (zi_sy B) zi_hJ zi_jo (fun dg pa pt ch pr F => ⟨ia, ?_⟩)
  unfold wpY_degree
  dsimp only
  refine yq_bad0 _ h8 ha (br_t rfl (yg_deg (J := zi_J n jo) _ h8 ha zi_jo ⟨?_, zi_mk B hq⟩))
  rw [ca, F.1 a ha]
theorem i_vc_parts {k : Nat} {u : SX} {v : SY} (I : i_Rel k u v) (hk : k + 4 ≤ 2049) : wpX_parts (fun r u' => wpY_parts (fun r' v' => r' = r ∧ i_Rel (k + 4) u' v') v) u := by
  refine zi_el (P := fun u v => wpX_parts (fun r u' => wpY_parts (fun r' v' => r' = r ∧ i_Rel (k + 4) u' v') v) u) ?_ I
  intro n kd wy sd rn wt cu jo st dg pa pt ch hi ct ro ac sa up fo iS re so fr tt pu lo ys yl B hq
  unfold wpX_parts
  dsimp only
  refine xf_fp (J := zi_J n jo) _ B.2.1 (by have := B.1; omega) (zi_sy B) zi_hJ zi_jo (fun dg pa pt ch pr F => ⟨n + 1, ?_⟩)
  refine xw_parts (J := zi_J n jo) _ B.2.1 F.2.1 ?_ n 0 (by omega)
  unfold wpY_parts
  dsimp only
  exact yg_partCount (J := zi_J n jo) _ B.2.1 (zi_sy B) zi_hJ zi_jo (fun yl => ⟨rfl, zi_mk B hq⟩)
theorem i_vc_state {k : Nat} {u : SX} {v : SY} (I : i_Rel k u v) (hk : k + 4 ≤ 2049) (v1 : Int32) (v2 : Int32) : wpX_state (fun r u' => wpY_state (fun r' v' => r' = r ∧ i_Rel (k + 4) u' v') v v1 v2) u v1 v2 := by
  refine zi_el (P := fun u v => wpX_state (fun r u' => wpY_state (fun r' v' => r' = r ∧ i_Rel (k + 4) u' v') v v1 v2) u v1 v2) ?_ I
  intro n kd wy sd rn wt cu jo st dg pa pt ch hi ct ro ac sa up fo iS re so fr tt pu lo ys yl B hq
  have h8 := B.2.1
  unfold wpX_state
  dsimp only
  rcases xq_nodes v1 h8 with h | ⟨a, ha, rfl⟩
  · refine xq_node0 _ h (br_t rfl ?_)
    unfold wpY_state
    dsimp only
    exact yq_bad1 _ h (br_f (by decide) ⟨rfl, zi_mk B hq⟩)
  refine xq_node1 _ h8 ha (br_f (by decide) ?_)
  rcases xq_rounds v2 with h | ⟨r, hr, rfl⟩
  · refine xq_round0 _ h (br_t rfl ?_)
    unfold wpY_state
    dsimp only
    exact yq_bad0 _ h8 ha (br_t rfl (yq_round1 _ h (br_f (by decide) ⟨rfl, zi_mk B hq⟩)))
  have c1 : ((8 : Int32) * nI r + nI a).toNatClampNeg = 8 * r + a := by rw [xs_jo]; exact nI_clamp (by omega)
  have i1 : vp_in ((8 : Int32) * nI r + nI a) 88 := by rw [xs_jo]; exact vp_in_nI (by omega) (by omega)
  refine xq_round1 _ hr (br_f (by decide) (xq_refresh _ B hq ?_))
  intro rn wt cu dg pa pt ch hi ct ro ac sa up fo iS re so fr tt pu lo hc Q
  dsimp only
  refine ⟨i1, ?_⟩
  unfold wpY_state
  dsimp only
  refine yq_bad0 _ h8 ha (br_t rfl (yq_round0 _ hr (br_t rfl (yq_work _ B (fun ys hy => ?_)))))
  dsimp only
  refine ⟨i1, ?_, zi_mk B (fun _ => Q)⟩
  rw [c1, hy a r ha hr, Q.1 a r ha hr]
theorem i_vc_sum {k : Nat} {u : SX} {v : SY} (I : i_Rel k u v) (hk : k + 4 ≤ 2049) (v1 : Int32) : wpX_sum (fun r u' => wpY_sum (fun r' v' => r' = r ∧ i_Rel (k + 4) u' v') v v1) u v1 := by
  refine zi_el (P := fun u v => wpX_sum (fun r u' => wpY_sum (fun r' v' => r' = r ∧ i_Rel (k + 4) u' v') v v1) u v1) ?_ I
  intro n kd wy sd rn wt cu jo st dg pa pt ch hi ct ro ac sa up fo iS re so fr tt pu lo ys yl B hq
  have h8 := B.2.1
  unfold wpX_sum
  dsimp only
  rcases xq_rounds v1 with h | ⟨r, hr, rfl⟩
  · refine xq_round0 _ h (br_t rfl ?_)
    unfold wpY_sum
    dsimp only
    exact yq_round1 _ h (br_f (by decide) ⟨rfl, zi_mk B hq⟩)
  refine xq_round1 _ hr (br_f (by decide) (xq_refresh _ B hq ?_))
  intro rn wt cu dg pa pt ch hi ct ro ac sa up fo iS re so fr tt pu lo hc Q
  dsimp only
  refine ⟨n + 1, xw_sum (h := zf_H n kd (zi_J n jo) st r) _ h8 hr (fun v hv => Q.1 v r hv hr) n 0 0 (by omega) ?_⟩
  unfold wpY_sum
  dsimp only
  refine yq_round0 _ hr (br_t rfl (yq_work _ B (fun ys hy => ?_)))
  dsimp only
  exact ⟨n + 1, yw_sum (h := zf_H n kd (zi_J n jo) st r) _ h8 hr (fun v hv => hy v r hv hr) n 0 0 (by omega) ⟨rfl, zi_mk B (fun _ => Q)⟩⟩
theorem i_vc_kinds {k : Nat} {u : SX} {v : SY} (I : i_Rel k u v) (hk : k + 4 ≤ 2049) (v1 : Int32) : wpX_kinds (fun r u' => wpY_kinds (fun r' v' => r' = r ∧ i_Rel (k + 4) u' v') v v1) u v1 := by
  refine zi_el (P := fun u v => wpX_kinds (fun r u' => wpY_kinds (fun r' v' => r' = r ∧ i_Rel (k + 4) u' v') v v1) u v1) ?_ I
  intro n kd wy sd rn wt cu jo st dg pa pt ch hi ct ro ac sa up fo iS re so fr tt pu lo ys yl B hq
  have h8 := B.2.1
  unfold wpX_kinds
  dsimp only
  rcases xq_rounds v1 with h | ⟨r, hr, rfl⟩
  · refine xq_round0 _ h (br_t rfl ?_)
    unfold wpY_kinds
    dsimp only
    exact yq_round1 _ h (br_f (by decide) ⟨rfl, zi_mk B hq⟩)
  refine xq_round1 _ hr (br_f (by decide) (xq_refresh _ B hq ?_))
  intro rn wt cu dg pa pt ch hi ct ro ac sa up fo iS re so fr tt pu lo hc Q
  dsimp only
  refine ⟨n + 1, xw_kn (h := zf_H n kd (zi_J n jo) st r) _ h8 hr (fun v hv => Q.1 v r hv hr) n 0 0 (by omega) ?_⟩
  unfold wpY_kinds
  dsimp only
  refine yq_round0 _ hr (br_t rfl (yq_work _ B (fun ys hy => ?_)))
  dsimp only
  exact ⟨n + 1, yw_kn (h := zf_H n kd (zi_J n jo) st r) _ h8 hr (fun v hv => hy v r hv hr) n 0 0 (by omega) ⟨rfl, zi_mk B (fun _ => Q)⟩⟩
section
variable {n : Nat} {kd wy sd rn wt cu : Int32} {jo st dg pa pt ch hi ct ro ac sa up fo iS re so fr tt pu lo : Nat → Int32} {ys yl : Nat → Int32}
theorem xo_changes (post : Int32 → SX → Prop) {q : Nat} (B : zi_B n kd jo) (hq : ¬ cu = 0 → zi_Q n kd wy jo st hi ct) (h10 : q < 10)
    (h : ∀ (rn wt cu : Int32) (dg pa pt ch hi ct ro ac sa up fo iS re so fr tt pu lo : Nat → Int32), ¬ cu = 0 → zi_Q n kd wy jo st hi ct → post (zw_mv (zf_H n kd (zi_J n jo) st (q + 1)) (zf_H n kd (zi_J n jo) st q) n 0 0) ((nI n), kd, wy, sd, rn, wt, cu, jo, st, dg, pa, pt, ch, hi, ct, ro, ac, sa, up, fo, iS, re, so, fr, tt, pu, lo)) : wpX_changes post ((nI n), kd, wy, sd, rn, wt, cu, jo, st, dg, pa, pt, ch, hi, ct, ro, ac, sa, up, fo, iS, re, so, fr, tt, pu, lo) (nI (q + 1)) := by
  unfold wpX_changes
  dsimp only
  refine br_f (nI_nlt (b := 1) (by omega) (by omega)) (br_t (nI_le (b := 10) (by omega) (by omega)) (xq_refresh _ B hq ?_))
  intro rn wt cu dg pa pt ch hi ct ro ac sa up fo iS re so fr tt pu lo hc Q
  dsimp only
  exact ⟨n + 1, xw_mv (h := zf_H n kd (zi_J n jo) st (q + 1)) (g := zf_H n kd (zi_J n jo) st q) _ B.2.1 h10 (fun v hv => Q.1 v (q + 1) hv (by omega)) (fun v hv => Q.1 v q hv (by omega)) n 0 0 (by omega) (h _ _ _ _ _ _ _ _ _ _ _ _ _ _ _ _ _ _ _ _ _ hc Q)⟩
theorem xo_settled (post : Int32 → SX → Prop) (B : zi_B n kd jo) {f : Nat → Int32} (hf : ∀ q, f q = zw_mv (zf_H n kd (zi_J n jo) st (q + 1)) (zf_H n kd (zi_J n jo) st q) n 0 0) :
    ∀ d i, i + d = 10 → (∀ (rn wt cu : Int32) (dg pa pt ch hi ct ro ac sa up fo iS re so fr tt pu lo : Nat → Int32), (¬ cu = 0 → zi_Q n kd wy jo st hi ct) → post (zw_st f d i) ((nI n), kd, wy, sd, rn, wt, cu, jo, st, dg, pa, pt, ch, hi, ct, ro, ac, sa, up, fo, iS, re, so, fr, tt, pu, lo)) →
      ∀ (rn wt cu : Int32) (dg pa pt ch hi ct ro ac sa up fo iS re so fr tt pu lo : Nat → Int32), (¬ cu = 0 → zi_Q n kd wy jo st hi ct) → wX_settled_2 post (d + 1) (nI i) (nI n) kd wy sd rn wt cu jo st dg pa pt ch hi ct ro ac sa up fo iS re so fr tt pu lo := by
  intro d
  induction d with
  | zero =>
    intro i hi h rn wt cu dg pa pt ch hi' ct ro ac sa up fo iS re so fr tt pu lo hq
    rw [wX_settled_2]
    exact br_t (nI_le (a := 10) (by omega) (by omega)) (h _ _ _ _ _ _ _ _ _ _ _ _ _ _ _ _ _ _ _ _ _ hq)
  | succ d ih =>
    intro i hi h rn wt cu dg pa pt ch hi' ct ro ac sa up fo iS re so fr tt pu lo hq
    rw [wX_settled_2]
    dsimp only
    rw [nI_1 i]
    refine br_f (nI_ge (b := 10) (by omega) (by omega)) (xo_changes _ B hq (by omega) ?_)
    intro rn wt cu dg pa pt ch hi' ct ro ac sa up fo iS re so fr tt pu lo hc Q
    dsimp only
    rw [← hf]
    unfold zw_st at h
    by_cases e : f i = 0
    · rw [if_pos e] at h
      exact br_t e (h _ _ _ _ _ _ _ _ _ _ _ _ _ _ _ _ _ _ _ _ _ (fun _ => Q))
    · rw [if_neg e] at h
      exact br_f e (nm_r rfl (ih (i + 1) (by omega) h _ _ _ _ _ _ _ _ _ _ _ _ _ _ _ _ _ _ _ _ _ (fun _ => Q)))
theorem yo_settled (post : Int32 → SY → Prop) (B : zi_B n kd jo) (hy : ∀ v r, v < n → r ≤ 10 → ys (8 * r + v) = zf_H n kd (zi_J n jo) st r v) {f : Nat → Int32} (hf : ∀ q, f q = zw_mv (zf_H n kd (zi_J n jo) st (q + 1)) (zf_H n kd (zi_J n jo) st q) n 0 0) :
    ∀ d i, i + d = 10 → post (zw_st f d i) ((nI n), kd, wy, jo, st, ys, yl) → wY_settled_6 post (nI n) kd wy jo st ys yl (d + 1) (nI i) := by
  intro d
  induction d with
  | zero =>
    intro i hi h
    rw [wY_settled_6]
    exact br_t (nI_le (a := 10) (by omega) (by omega)) h
  | succ d ih =>
    intro i hi h
    rw [wY_settled_6]
    dsimp only
    rw [nI_1 i]
    refine br_f (nI_ge (b := 10) (by omega) (by omega)) (yw_mv (h := zf_H n kd (zi_J n jo) st (i + 1)) (g := zf_H n kd (zi_J n jo) st i) _ B.2.1 (by omega) (fun v hv => hy v (i + 1) hv (by omega)) (fun v hv => hy v i hv (by omega)) ?_)
    rw [← hf]
    unfold zw_st at h
    by_cases e : f i = 0
    · rw [if_pos e] at h
      exact br_t e h
    · rw [if_neg e] at h
      exact br_f e (nm_r rfl (ih (i + 1) (by omega) h))
end
theorem i_vc_settled {k : Nat} {u : SX} {v : SY} (I : i_Rel k u v) (hk : k + 4 ≤ 2049) : wpX_settled (fun r u' => wpY_settled (fun r' v' => r' = r ∧ i_Rel (k + 4) u' v') v) u := by
  refine zi_el (P := fun u v => wpX_settled (fun r u' => wpY_settled (fun r' v' => r' = r ∧ i_Rel (k + 4) u' v') v) u) ?_ I
  intro n kd wy sd rn wt cu jo st dg pa pt ch hi ct ro ac sa up fo iS re so fr tt pu lo ys yl B hq
  unfold wpX_settled
  dsimp only
  refine ⟨11, xo_settled (f := fun q => zw_mv (zf_H n kd (zi_J n jo) st (q + 1)) (zf_H n kd (zi_J n jo) st q) n 0 0) _ B (fun _ => rfl) 10 0 (by omega) ?_ _ _ _ _ _ _ _ _ _ _ _ _ _ _ _ _ _ _ _ _ _ hq⟩
  intro rn wt cu dg pa pt ch hi ct ro ac sa up fo iS re so fr tt pu lo hq
  unfold wpY_settled
  dsimp only
  refine yq_work _ B (fun ys hy => ?_)
  dsimp only
  exact ⟨11, yo_settled _ B hy (fun _ => rfl) 10 0 (by omega) ⟨rfl, zi_mk B hq⟩⟩
theorem xo_one (p : Int32) : (p < 1 ∨ ¬ p ≤ 10) ∨ ∃ q, q < 10 ∧ p = nI (q + 1) := by
  by_cases h : p < 1
  · exact Or.inl (Or.inl h)
  · by_cases h2 : p ≤ 10
    · have h0 : ¬ p < 0 := fun z => h (Int32.lt_trans z (by decide))
      obtain ⟨j, hj, rfl⟩ := nI_of2 (M := 10) (n := 10) (by decide) h0 h2
      have : 1 ≤ j := Classical.byContradiction fun z => h (nI_lt (b := 1) (by omega) (by omega))
      exact Or.inr ⟨j - 1, by omega, congrArg nI (by omega)⟩
    · exact Or.inl (Or.inr h2)
theorem i_vc_changes {k : Nat} {u : SX} {v : SY} (I : i_Rel k u v) (hk : k + 4 ≤ 2049) (v1 : Int32) : wpX_changes (fun r u' => wpY_changes (fun r' v' => r' = r ∧ i_Rel (k + 4) u' v') v v1) u v1 := by
  refine zi_el (P := fun u v => wpX_changes (fun r u' => wpY_changes (fun r' v' => r' = r ∧ i_Rel (k + 4) u' v') v v1) u v1) ?_ I
  intro n kd wy sd rn wt cu jo st dg pa pt ch hi ct ro ac sa up fo iS re so fr tt pu lo ys yl B hq
  rcases xo_one v1 with h | ⟨q, h10, rfl⟩
  · unfold wpX_changes wpY_changes
    dsimp only
    refine br_c (fun z => br_t z ⟨rfl, zi_mk B hq⟩) (fun z => br_c (fun y => ?_) (fun y => br_f z (br_f y ⟨rfl, zi_mk B hq⟩)))
    rcases h with h | h
    · exact absurd h z
    · exact absurd y h
  · refine xo_changes _ B hq h10 ?_
    intro rn wt cu dg pa pt ch hi ct ro ac sa up fo iS re so fr tt pu lo hc Q
    unfold wpY_changes
    dsimp only
    refine br_f (nI_nlt (b := 1) (by omega) (by omega)) (br_t (nI_le (b := 10) (by omega) (by omega)) (yq_work _ B (fun ys hy => ?_)))
    dsimp only
    exact yw_mv (h := zf_H n kd (zi_J n jo) st (q + 1)) (g := zf_H n kd (zi_J n jo) st q) _ B.2.1 h10 (fun v hv => hy v (q + 1) hv (by omega)) (fun v hv => hy v q hv (by omega)) ⟨rfl, zi_mk B (fun _ => Q)⟩
theorem i_vc_reached {k : Nat} {u : SX} {v : SY} (I : i_Rel k u v) (hk : k + 4 ≤ 2049) (v1 : Int32) (v2 : Int32) : wpX_reached (fun r u' => wpY_reached (fun r' v' => r' = r ∧ i_Rel (k + 4) u' v') v v1 v2) u v1 v2 := by
  refine zi_el (P := fun u v => wpX_reached (fun r u' => wpY_reached (fun r' v' => r' = r ∧ i_Rel (k + 4) u' v') v v1 v2) u v1 v2) ?_ I
  intro n kd wy sd rn wt cu jo st dg pa pt ch hi ct ro ac sa up fo iS re so fr tt pu lo ys yl B hq
  have h8 := B.2.1
  unfold wpX_reached
  dsimp only
  rcases xq_nodes v1 h8 with h | ⟨a, ha, rfl⟩
  · refine xq_node0 _ h (br_t rfl ?_)
    unfold wpY_reached
    dsimp only
    exact yq_bad1 _ h (br_f (by decide) ⟨rfl, zi_mk B hq⟩)
  refine xq_node1 _ h8 ha (br_f (by decide) (xq_refresh _ B hq ?_))
  intro rn wt cu dg pa pt ch hi ct ro ac sa up fo iS re so fr tt pu lo hc Q
  dsimp only
  refine ⟨12, xw_re (g := fun r => zf_H n kd (zi_J n jo) st r a) _ h8 ha (fun r hr => Q.1 a r ha hr) 11 0 (by omega) ?_⟩
  unfold wpY_reached
  dsimp only
  refine yq_bad0 _ h8 ha (br_t rfl (yq_work _ B (fun ys hy => ?_)))
  dsimp only
  exact ⟨12, yw_re (g := fun r => zf_H n kd (zi_J n jo) st r a) _ h8 ha (fun r hr => hy a r ha hr) 11 0 (by omega) ⟨rfl, zi_mk B (fun _ => Q)⟩⟩
theorem i_vc_overhead {k : Nat} {u : SX} {v : SY} (I : i_Rel k u v) (hk : k + 4 ≤ 2049) (v1 : Int32) : wpX_overhead (fun r u' => wpY_overhead (fun r' v' => r' = r ∧ i_Rel (k + 4) u' v') v v1) u v1 := by
  refine zi_el (P := fun u v => wpX_overhead (fun r u' => wpY_overhead (fun r' v' => r' = r ∧ i_Rel (k + 4) u' v') v v1) u v1) ?_ I
  intro n kd wy sd rn wt cu jo st dg pa pt ch hi ct ro ac sa up fo iS re so fr tt pu lo ys yl B hq
  have h8 := B.2.1
  unfold wpX_overhead
  dsimp only
  rcases xq_rounds v1 with h | ⟨r, hr, rfl⟩
  · refine xq_round0 _ h (br_t rfl ?_)
    unfold wpY_overhead
    dsimp only
    exact yq_round1 _ h (br_f (by decide) ⟨rfl, zi_mk B hq⟩)
  refine xq_round1 _ hr (br_f (by decide) (xq_refresh _ B hq ?_))
  intro rn wt cu dg pa pt ch hi ct ro ac sa up fo iS re so fr tt pu lo hc Q
  dsimp only
  have R := xw_ov (n := n) (kd := kd) (wy := wy) (sd := sd) (rn := rn) (wt := wt) (cu := cu) (jo := jo) (st := st) (dg := dg) (pa := pa) (pt := pt) (ch := ch) (hi := hi) (ro := ro) (ac := ac) (sa := sa) (up := up) (fo := fo) (iS := iS) (re := re) (so := so) (fr := fr) (tt := tt) (pu := pu) (lo := lo)
    (fun r_1 u' => wpY_overhead (fun r' v' => r' = r_1 ∧ i_Rel (k + 4) u' v') ((nI n), kd, wy, jo, st, ys, yl) (nI r)) hr Q.2 ?_ r 0 (by omega)
  · rw [Nat.zero_mul] at R
    exact ⟨r + 1, R⟩
  unfold wpY_overhead
  dsimp only
  refine yq_round0 _ hr (br_t rfl (yg_edges (J := zi_J n jo) _ h8 zi_jo (yg_partCount (J := zi_J n jo) _ h8 (zi_sy B) zi_hJ zi_jo (fun yl => ?_))))
  dsimp only
  unfold zi_b
  by_cases w : wy = 0
  · refine br_t w ⟨?_, zi_mk B (fun _ => Q)⟩
    rw [if_pos w, show (4 : Int32) = nI 4 from rfl, pk_mul, pk_mul]
  · refine br_f w ⟨?_, zi_mk B (fun _ => Q)⟩
    have hC : zy_C n (zi_J n jo) (zk_m (zi_J n jo)) ≤ n := zc_len _ _
    rw [if_neg w, show (2 : Int32) = nI 2 from rfl, pk_sub hC, pk_mul, pk_mul, nI_add, pk_mul]
end
