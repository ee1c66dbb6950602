section
/-! pure rows to paste: stores, nI and lN arithmetic, masks, shifts, narrowing, branches by naturals (pk_le, pk_lt, pk_eq), loops (lp1 .. lp16: the measure of the state; rp1 ..: recursion), negatives. Take what you need -/
theorem pk_us {f : Nat → Int32} {k : Nat} {x : Int32} : upd f k x k = x := if_pos rfl
theorem pk_un {f : Nat → Int32} {k j : Nat} {x : Int32} (h : j ≠ k) : upd f k x j = f j := if_neg h
theorem pk_uLs {f : Nat → Int64} {k : Nat} {x : Int64} : vp_updL f k x k = x := if_pos rfl
theorem pk_uLn {f : Nat → Int64} {k j : Nat} {x : Int64} (h : j ≠ k) : vp_updL f k x j = f j := if_neg h
theorem pk_sub {a b : Nat} (h : b ≤ a) : nI a - nI b = nI (a - b) := by
  obtain ⟨c, rfl⟩ : ∃ c, a = c + b := ⟨a - b, by omega⟩
  rw [← nI_add, Int32.add_sub_cancel, Nat.add_sub_cancel]
theorem pk_m1 (n : Nat) : nI (n + 1) + (-1) = nI n := by
  rw [← nI_1, Int32.add_assoc, show (1 : Int32) + (-1) = 0 from rfl, Int32.add_zero]
theorem pk_mul (a b : Nat) : nI a * nI b = nI (a * b) := (Int32.ofNat_mul a b).symm
theorem pk_div {a d : Nat} (ha : a < 2 ^ 31) (h0 : 0 < d) (hd : d < 2 ^ 31) : nI a / nI d = nI (a / d) := by
  apply Int32.toInt_inj.mp
  rw [lg_idiv_nonneg (by rw [nI_toInt ha]; omega) (by rw [nI_toInt hd]; omega), nI_toInt ha, nI_toInt hd, nI_toInt (Nat.lt_of_le_of_lt (Nat.div_le_self a d) ha)]
  first | rfl | exact (Int.natCast_ediv _ _).symm
theorem pk_rem {a d : Nat} (ha : a < 2 ^ 31) (h0 : 0 < d) (hd : d < 2 ^ 31) : nI a - nI a / nI d * nI d = nI (a % d) := by
  rw [pk_div ha h0 hd, pk_mul, pk_sub (Nat.div_mul_le_self a d)]
  exact congrArg nI (by have := Nat.div_add_mod' a d; omega)
theorem pk_sub_toInt {a b : Nat} (ha : a < 2 ^ 30) (hb : b < 2 ^ 30) : (nI a - nI b).toInt = (a : Int) - b := by
  rw [Int32.toInt_sub, nI_toInt (by omega), nI_toInt (by omega)]
  exact Int.bmod_eq_of_le (by omega) (by omega)
theorem pk_sneg {a b : Nat} (hb : b < 2 ^ 30) (h : a < b) : nI a - nI b < 0 := by
  rw [Int32.lt_iff_toInt_lt, pk_sub_toInt (by omega) hb, show (0 : Int32).toInt = 0 from by decide]
  omega
theorem pk_ix (x : Int32) {n : Nat} (hn : n < 2 ^ 31) : x < 0 ∨ nI n ≤ x ∨ ∃ j : Nat, j < n ∧ x = nI j := by
  by_cases h : x < 0
  · exact Or.inl h
  · obtain ⟨j, hj, rfl⟩ := nI_of h
    by_cases h2 : j < n
    · exact Or.inr (Or.inr ⟨j, h2, rfl⟩)
    · exact Or.inr (Or.inl (nI_le (by omega) hj))
theorem pk_le {x y : Int32} {A B : Prop} (a b : Nat) (f : a ≤ b → A) (g : b < a → B) (hx : x = nI a := by rfl) (hy : y = nI b := by rfl) (ha : a < 2 ^ 31 := by omega) (hb : b < 2 ^ 31 := by omega) : (x ≤ y → A) ∧ (¬ x ≤ y → B) := by
  subst hx hy
  rw [nI_leI ha hb]
  exact ⟨f, fun z => g (by omega)⟩
theorem pk_lt {x y : Int32} {A B : Prop} (a b : Nat) (f : a < b → A) (g : b ≤ a → B) (hx : x = nI a := by rfl) (hy : y = nI b := by rfl) (ha : a < 2 ^ 31 := by omega) (hb : b < 2 ^ 31 := by omega) : (x < y → A) ∧ (¬ x < y → B) := by
  subst hx hy
  rw [nI_ltI ha hb]
  exact ⟨f, fun z => g (by omega)⟩
theorem pk_eq {x y : Int32} {A B : Prop} (a b : Nat) (f : a = b → A) (g : a ≠ b → B) (hx : x = nI a := by rfl) (hy : y = nI b := by rfl) (ha : a < 2 ^ 31 := by omega) (hb : b < 2 ^ 31 := by omega) : (x = y → A) ∧ (¬ x = y → B) := by
  subst hx hy
  rw [nI_eq ha hb]
  exact ⟨f, g⟩
theorem pk_in {x : Int32} (n N : Nat) (h : n < N) (hx : x = nI n := by rfl) (hN : N < 2 ^ 31 := by omega) : vp_in x N := by
  subst hx
  exact vp_in_nI h hN
theorem pk_cl {x : Int32} (n : Nat) (hx : x = nI n := by rfl) (h : n < 2 ^ 31 := by omega) : x.toNatClampNeg = n := by
  subst hx
  exact nI_clamp h
theorem pk_tn {n : Nat} (h : n < 2 ^ 32) : (nI n).toBitVec.toNat = n := Nat.mod_eq_of_lt h
theorem pk_and (x : Int32) {m : Int32} (k : Nat) (hm : m.toBitVec.toNat = 2 ^ k - 1) : x &&& m = nI (x.toBitVec.toNat % 2 ^ k) := by
  apply Int32.toBitVec_inj.mp
  apply BitVec.eq_of_toNat_eq
  rw [Int32.toBitVec_and, BitVec.toNat_and, hm, Nat.and_two_pow_sub_one_eq_mod]
  show _ = (BitVec.ofNat 32 _).toNat
  rw [BitVec.toNat_ofNat]
  exact (Nat.mod_eq_of_lt (Nat.lt_of_le_of_lt (Nat.mod_le _ _) x.toBitVec.isLt)).symm
theorem pk_andN {n : Nat} (h : n < 2 ^ 32) {m : Int32} (k : Nat) (hm : m.toBitVec.toNat = 2 ^ k - 1) : nI n &&& m = nI (n % 2 ^ k) := by
  rw [pk_and _ k hm, pk_tn h]
theorem pk_andE (x : Int32) {m : Int32} (k : Nat) (hm : m.toBitVec.toNat = 2 ^ k - 1) : ∃ j : Nat, j < 2 ^ k ∧ x &&& m = nI j := ⟨_, Nat.mod_lt _ (Nat.two_pow_pos k), pk_and x k hm⟩
theorem pk_andIn (x : Int32) {m : Int32} (k : Nat) (hm : m.toBitVec.toNat = 2 ^ k - 1) (hk : k ≤ 30) : vp_in (x &&& m) (2 ^ k) := by
  obtain ⟨j, hj, e⟩ := pk_andE x k hm
  rw [e]
  exact vp_in_nI hj (Nat.lt_of_le_of_lt (Nat.pow_le_pow_right (by decide) hk) (by decide))
theorem pk_shl (a s : Int32) (k : Nat) (hs : (s.toBitVec.smod 32).toNat = k) : (a <<< s).toBitVec.toNat = a.toBitVec.toNat * 2 ^ k % 2 ^ 32 := by
  show (a.toBitVec <<< (s.toBitVec.smod 32).toNat).toNat = _
  rw [hs, BitVec.toNat_shiftLeft, Nat.shiftLeft_eq]
theorem pk_shlN {n : Nat} (s : Int32) (k : Nat) (hs : (s.toBitVec.smod 32).toNat = k) (h : n * 2 ^ k < 2 ^ 32) : nI n <<< s = nI (n * 2 ^ k) := by
  apply Int32.toBitVec_inj.mp
  apply BitVec.eq_of_toNat_eq
  have hn : n < 2 ^ 32 := Nat.lt_of_le_of_lt (Nat.le_mul_of_pos_right n (Nat.two_pow_pos k)) h
  rw [pk_shl _ _ k hs, pk_tn hn, pk_tn h, Nat.mod_eq_of_lt h]
theorem pk_shr (a s : Int32) (k : Nat) (hs : (s.toBitVec.smod 32).toNat = k) : (a >>> s).toInt = a.toInt >>> k := by
  show (a.toBitVec.sshiftRight (s.toBitVec.smod 32).toNat).toInt = _
  rw [hs, BitVec.toInt_sshiftRight]
  rfl
theorem pk_shrN {n : Nat} (h : n < 2 ^ 31) (s : Int32) (k : Nat) (hs : (s.toBitVec.smod 32).toNat = k) : nI n >>> s = nI (n / 2 ^ k) := by
  apply Int32.toInt_inj.mp
  have h2 : n / 2 ^ k ≤ n := Nat.div_le_self _ _
  rw [pk_shr _ _ k hs, nI_toInt h, nI_toInt (by omega), Int.shiftRight_eq_div_pow]
  rfl
theorem pk_ushr (x s : Int32) (k : Nat) (hs : ((s.toUInt32 &&& Int32.toUInt32 31).toBitVec % 32).toNat = k) : (x.toUInt32 >>> (s.toUInt32 &&& Int32.toUInt32 31)).toInt32.toBitVec.toNat = x.toBitVec.toNat / 2 ^ k := by
  have e : (x.toUInt32 >>> (s.toUInt32 &&& Int32.toUInt32 31)).toInt32.toBitVec = x.toBitVec >>> k := by
    rw [← hs]
    exact UInt32.toBitVec_shiftRight _ _
  rw [e, BitVec.toNat_ushiftRight, Nat.shiftRight_eq_div_pow]
theorem pk_ushrN {n : Nat} (hn : n < 2 ^ 32) (s : Int32) (k : Nat) (hs : ((s.toUInt32 &&& Int32.toUInt32 31).toBitVec % 32).toNat = k) : ((nI n).toUInt32 >>> (s.toUInt32 &&& Int32.toUInt32 31)).toInt32 = nI (n / 2 ^ k) := by
  apply Int32.toBitVec_inj.mp
  apply BitVec.eq_of_toNat_eq
  rw [pk_ushr _ s k hs, pk_tn hn, pk_tn (Nat.lt_of_le_of_lt (Nat.div_le_self _ _) hn)]
theorem pk_nb (z : Int32) : narrow .byte (.int z.toInt8.toInt32) = .int z.toInt8.toInt32 := congrArg Value.int (by simp)
theorem pk_ns (z : Int32) : narrow .short (.int z.toInt16.toInt32) = .int z.toInt16.toInt32 := congrArg Value.int (by simp)
theorem pk_fb (r : Int32) : fits .byte (.int r.toInt8.toInt32) = true := by
  have ⟨a, b⟩ := lg_i2b_range r
  have h1 : (-128 : Int32).toInt = -128 := by decide
  have h2 : (127 : Int32).toInt = 127 := by decide
  simp only [fits, Bool.and_eq_true, decide_eq_true_eq, Int32.le_iff_toInt_le, h1, h2]
  omega
theorem pk_fs (r : Int32) : fits .short (.int r.toInt16.toInt32) = true := by
  have ⟨a, b⟩ := lg_i2s_range r
  have h1 : (-32768 : Int32).toInt = -32768 := by decide
  have h2 : (32767 : Int32).toInt = 32767 := by decide
  simp only [fits, Bool.and_eq_true, decide_eq_true_eq, Int32.le_iff_toInt_le, h1, h2]
  omega
theorem pk_charN {q : Nat} (hq : q < 65536) : narrow .char (.int (nI q)) = .int (nI q) ∧ fits .char (.int (nI q)) = true := by
  constructor
  · have e : (nI q).toUInt32.toUInt16.toUInt32.toInt32 = nI q := by
      apply Int32.toBitVec_inj.mp
      apply BitVec.eq_of_toNat_eq
      show (nI q).toUInt32.toUInt16.toUInt32.toNat = q % 2 ^ 32
      rw [UInt16.toNat_toUInt32, UInt32.toNat_toUInt16, show (nI q).toUInt32.toNat = q % 2 ^ 32 from rfl]
      omega
    exact congrArg Value.int e
  · have a : (0 : Int32) ≤ nI q := nI_pos' (by omega)
    have b : nI q ≤ 65535 := nI_le (b := 65535) (by omega) (by decide)
    show (decide ((0 : Int32) ≤ nI q) && decide (nI q ≤ 65535)) = true
    rw [decide_eq_true a, decide_eq_true b]
    rfl
theorem pk_char (x : Int32) : (x.toUInt32 % 65536).toInt32 = nI (x.toBitVec.toNat % 65536) := by
  apply Int32.toBitVec_inj.mp
  apply BitVec.eq_of_toNat_eq
  rw [pk_tn (by omega)]
  show (x.toUInt32 % 65536).toNat = _
  rw [UInt32.toNat_mod]
  rfl
theorem pk_nc (x : Int32) : narrow .char (.int (x.toUInt32 % 65536).toInt32) = .int (x.toUInt32 % 65536).toInt32 := by
  rw [pk_char]
  exact (pk_charN (Nat.mod_lt _ (by decide))).1
theorem pk_fc (x : Int32) : fits .char (.int (x.toUInt32 % 65536).toInt32) = true := by
  rw [pk_char]
  exact (pk_charN (Nat.mod_lt _ (by decide))).2
theorem pk_vb (z : Int32) : vp_nar .byte z.toInt8.toInt32 = z.toInt8.toInt32 := by rw [vp_nar_byte]; simp
theorem pk_vs (z : Int32) : vp_nar .short z.toInt16.toInt32 = z.toInt16.toInt32 := by rw [vp_nar_short]; simp
theorem pk_vc (z : Int32) : vp_nar .char (z.toUInt32 % 65536).toInt32 = (z.toUInt32 % 65536).toInt32 := Value.int.inj (pk_nc z)
theorem pk_lT {n : Nat} (h : n < 2 ^ 63) : (lN n).toInt = (n : Int) := lg_ofNat_toInt h
theorem pk_lLT {a b : Nat} (ha : a < 2 ^ 63) (hb : b < 2 ^ 63) : lN a < lN b ↔ a < b := by
  rw [Int64.lt_iff_toInt_lt, pk_lT ha, pk_lT hb]; omega
theorem pk_lLE {a b : Nat} (ha : a < 2 ^ 63) (hb : b < 2 ^ 63) : lN a ≤ lN b ↔ a ≤ b := by
  rw [Int64.le_iff_toInt_le, pk_lT ha, pk_lT hb]; omega
theorem pk_lEQ {a b : Nat} (ha : a < 2 ^ 63) (hb : b < 2 ^ 63) : lN a = lN b ↔ a = b := by
  rw [← Int64.toInt_inj, pk_lT ha, pk_lT hb]; omega
theorem pk_lOf {x : Int64} (h : ¬ x < 0) : ∃ k : Nat, k < 2 ^ 63 ∧ x = lN k := by
  rw [Int64.lt_iff_toInt_lt] at h
  have h0 : (0 : Int64).toInt = 0 := by decide
  have hx := Int64.toInt_lt x
  refine ⟨x.toInt.toNat, by omega, Int64.toInt_inj.mp ?_⟩
  rw [pk_lT (by omega)]
  omega
theorem pk_lDiv {a b : Nat} (ha : a < 2 ^ 63) (h0 : 0 < b) (hb : b < 2 ^ 63) : lN a / lN b = lN (a / b) := by
  apply Int64.toInt_inj.mp
  rw [lg_ldiv_nonneg (by rw [pk_lT ha]; omega) (by rw [pk_lT hb]; omega), pk_lT ha, pk_lT hb, pk_lT (Nat.lt_of_le_of_lt (Nat.div_le_self a b) ha)]
  rfl
theorem pk_lRem {a b : Nat} (ha : a < 2 ^ 63) (h0 : 0 < b) (hb : b < 2 ^ 63) : lN a - lN a / lN b * lN b = lN (a % b) := by
  rw [pk_lDiv ha h0 hb, lN_mul, lN_sub (Nat.div_mul_le_self a b)]
  exact congrArg lN (by have := Nat.div_add_mod' a b; omega)
theorem pk_loop {σ : Type} (W : Nat → Nat → σ → Prop) (I : Nat → σ → Prop) (e i0 : Nat) (s : σ) (hi : i0 ≤ e) (h0 : I i0 s) (hx : ∀ n s, I e s → W (n + 1) e s)
    (hs : ∀ n i s, i < e → I i s → (∀ s', I (i + 1) s' → W n (i + 1) s') → W (n + 1) i s) : ∃ n, W n i0 s :=
  ⟨e + 1, loop_i W I e hx hs (e + 1) i0 s hi (by omega) h0⟩
theorem pk_loopD {σ : Type} (W : Nat → Nat → σ → Prop) (I : Nat → σ → Prop) (hx : ∀ n s, I 0 s → W (n + 1) 0 s)
    (hs : ∀ n i s, I (i + 1) s → (∀ s', I i s' → W n i s') → W (n + 1) (i + 1) s) : ∀ (e : Nat) (s : σ), I e s → W (e + 1) e s := by
  intro e
  induction e with
  | zero => exact fun s h => hx 0 s h
  | succ e ih => exact fun s h => hs (e + 1) e s h (fun s' h' => ih s' h')
theorem lp1 {A1 : Type} (W : Nat → A1 → Prop) (I : A1 → Prop) (μ : A1 → Nat) (hs : ∀ (n : Nat) (a1 : A1), I a1 → (∀ (b1 : A1), I b1 → μ b1 < μ a1 → W n b1) → W (n + 1) a1) (a1 : A1) (h : I a1) : ∃ n, W n a1 :=
  loop_m (σ := A1) (fun n s => W n s) (fun s => I s) (fun s => μ s) (fun n s hI hk => hs n s hI (fun b1 h9 hm => hk b1 h9 hm)) a1 h
theorem lp2 {A1 A2 : Type} (W : Nat → A1 → A2 → Prop) (I : A1 → A2 → Prop) (μ : A1 → A2 → Nat) (hs : ∀ (n : Nat) (a1 : A1) (a2 : A2), I a1 a2 → (∀ (b1 : A1) (b2 : A2), I b1 b2 → μ b1 b2 < μ a1 a2 → W n b1 b2) → W (n + 1) a1 a2) (a1 : A1) (a2 : A2) (h : I a1 a2) : ∃ n, W n a1 a2 :=
  loop_m (σ := A1 × A2) (fun n s => W n s.1 s.2) (fun s => I s.1 s.2) (fun s => μ s.1 s.2) (fun n s hI hk => hs n s.1 s.2 hI (fun b1 b2 h9 hm => hk (b1, b2) h9 hm)) (a1, a2) h
theorem lp3 {A1 A2 A3 : Type} (W : Nat → A1 → A2 → A3 → Prop) (I : A1 → A2 → A3 → Prop) (μ : A1 → A2 → A3 → Nat) (hs : ∀ (n : Nat) (a1 : A1) (a2 : A2) (a3 : A3), I a1 a2 a3 → (∀ (b1 : A1) (b2 : A2) (b3 : A3), I b1 b2 b3 → μ b1 b2 b3 < μ a1 a2 a3 → W n b1 b2 b3) → W (n + 1) a1 a2 a3) (a1 : A1) (a2 : A2) (a3 : A3) (h : I a1 a2 a3) : ∃ n, W n a1 a2 a3 :=
  loop_m (σ := A1 × A2 × A3) (fun n s => W n s.1 s.2.1 s.2.2) (fun s => I s.1 s.2.1 s.2.2) (fun s => μ s.1 s.2.1 s.2.2) (fun n s hI hk => hs n s.1 s.2.1 s.2.2 hI (fun b1 b2 b3 h9 hm => hk (b1, b2, b3) h9 hm)) (a1, a2, a3) h
theorem lp4 {A1 A2 A3 A4 : Type} (W : Nat → A1 → A2 → A3 → A4 → Prop) (I : A1 → A2 → A3 → A4 → Prop) (μ : A1 → A2 → A3 → A4 → Nat) (hs : ∀ (n : Nat) (a1 : A1) (a2 : A2) (a3 : A3) (a4 : A4), I a1 a2 a3 a4 → (∀ (b1 : A1) (b2 : A2) (b3 : A3) (b4 : A4), I b1 b2 b3 b4 → μ b1 b2 b3 b4 < μ a1 a2 a3 a4 → W n b1 b2 b3 b4) → W (n + 1) a1 a2 a3 a4) (a1 : A1) (a2 : A2) (a3 : A3) (a4 : A4) (h : I a1 a2 a3 a4) : ∃ n, W n a1 a2 a3 a4 :=
  loop_m (σ := A1 × A2 × A3 × A4) (fun n s => W n s.1 s.2.1 s.2.2.1 s.2.2.2) (fun s => I s.1 s.2.1 s.2.2.1 s.2.2.2) (fun s => μ s.1 s.2.1 s.2.2.1 s.2.2.2) (fun n s hI hk => hs n s.1 s.2.1 s.2.2.1 s.2.2.2 hI (fun b1 b2 b3 b4 h9 hm => hk (b1, b2, b3, b4) h9 hm)) (a1, a2, a3, a4) h
theorem lp5 {A1 A2 A3 A4 A5 : Type} (W : Nat → A1 → A2 → A3 → A4 → A5 → Prop) (I : A1 → A2 → A3 → A4 → A5 → Prop) (μ : A1 → A2 → A3 → A4 → A5 → Nat) (hs : ∀ (n : Nat) (a1 : A1) (a2 : A2) (a3 : A3) (a4 : A4) (a5 : A5), I a1 a2 a3 a4 a5 → (∀ (b1 : A1) (b2 : A2) (b3 : A3) (b4 : A4) (b5 : A5), I b1 b2 b3 b4 b5 → μ b1 b2 b3 b4 b5 < μ a1 a2 a3 a4 a5 → W n b1 b2 b3 b4 b5) → W (n + 1) a1 a2 a3 a4 a5) (a1 : A1) (a2 : A2) (a3 : A3) (a4 : A4) (a5 : A5) (h : I a1 a2 a3 a4 a5) : ∃ n, W n a1 a2 a3 a4 a5 :=
  loop_m (σ := A1 × A2 × A3 × A4 × A5) (fun n s => W n s.1 s.2.1 s.2.2.1 s.2.2.2.1 s.2.2.2.2) (fun s => I s.1 s.2.1 s.2.2.1 s.2.2.2.1 s.2.2.2.2) (fun s => μ s.1 s.2.1 s.2.2.1 s.2.2.2.1 s.2.2.2.2) (fun n s hI hk => hs n s.1 s.2.1 s.2.2.1 s.2.2.2.1 s.2.2.2.2 hI (fun b1 b2 b3 b4 b5 h9 hm => hk (b1, b2, b3, b4, b5) h9 hm)) (a1, a2, a3, a4, a5) h
theorem lp6 {A1 A2 A3 A4 A5 A6 : Type} (W : Nat → A1 → A2 → A3 → A4 → A5 → A6 → Prop) (I : A1 → A2 → A3 → A4 → A5 → A6 → Prop) (μ : A1 → A2 → A3 → A4 → A5 → A6 → Nat) (hs : ∀ (n : Nat) (a1 : A1) (a2 : A2) (a3 : A3) (a4 : A4) (a5 : A5) (a6 : A6), I a1 a2 a3 a4 a5 a6 → (∀ (b1 : A1) (b2 : A2) (b3 : A3) (b4 : A4) (b5 : A5) (b6 : A6), I b1 b2 b3 b4 b5 b6 → μ b1 b2 b3 b4 b5 b6 < μ a1 a2 a3 a4 a5 a6 → W n b1 b2 b3 b4 b5 b6) → W (n + 1) a1 a2 a3 a4 a5 a6) (a1 : A1) (a2 : A2) (a3 : A3) (a4 : A4) (a5 : A5) (a6 : A6) (h : I a1 a2 a3 a4 a5 a6) : ∃ n, W n a1 a2 a3 a4 a5 a6 :=
  loop_m (σ := A1 × A2 × A3 × A4 × A5 × A6) (fun n s => W n s.1 s.2.1 s.2.2.1 s.2.2.2.1 s.2.2.2.2.1 s.2.2.2.2.2) (fun s => I s.1 s.2.1 s.2.2.1 s.2.2.2.1 s.2.2.2.2.1 s.2.2.2.2.2) (fun s => μ s.1 s.2.1 s.2.2.1 s.2.2.2.1 s.2.2.2.2.1 s.2.2.2.2.2) (fun n s hI hk => hs n s.1 s.2.1 s.2.2.1 s.2.2.2.1 s.2.2.2.2.1 s.2.2.2.2.2 hI (fun b1 b2 b3 b4 b5 b6 h9 hm => hk (b1, b2, b3, b4, b5, b6) h9 hm)) (a1, a2, a3, a4, a5, a6) h
theorem lp7 {A1 A2 A3 A4 A5 A6 A7 : Type} (W : Nat → A1 → A2 → A3 → A4 → A5 → A6 → A7 → Prop) (I : A1 → A2 → A3 → A4 → A5 → A6 → A7 → Prop) (μ : A1 → A2 → A3 → A4 → A5 → A6 → A7 → Nat) (hs : ∀ (n : Nat) (a1 : A1) (a2 : A2) (a3 : A3) (a4 : A4) (a5 : A5) (a6 : A6) (a7 : A7), I a1 a2 a3 a4 a5 a6 a7 → (∀ (b1 : A1) (b2 : A2) (b3 : A3) (b4 : A4) (b5 : A5) (b6 : A6) (b7 : A7), I b1 b2 b3 b4 b5 b6 b7 → μ b1 b2 b3 b4 b5 b6 b7 < μ a1 a2 a3 a4 a5 a6 a7 → W n b1 b2 b3 b4 b5 b6 b7) → W (n + 1) a1 a2 a3 a4 a5 a6 a7) (a1 : A1) (a2 : A2) (a3 : A3) (a4 : A4) (a5 : A5) (a6 : A6) (a7 : A7) (h : I a1 a2 a3 a4 a5 a6 a7) : ∃ n, W n a1 a2 a3 a4 a5 a6 a7 :=
  loop_m (σ := A1 × A2 × A3 × A4 × A5 × A6 × A7) (fun n s => W n s.1 s.2.1 s.2.2.1 s.2.2.2.1 s.2.2.2.2.1 s.2.2.2.2.2.1 s.2.2.2.2.2.2) (fun s => I s.1 s.2.1 s.2.2.1 s.2.2.2.1 s.2.2.2.2.1 s.2.2.2.2.2.1 s.2.2.2.2.2.2) (fun s => μ s.1 s.2.1 s.2.2.1 s.2.2.2.1 s.2.2.2.2.1 s.2.2.2.2.2.1 s.2.2.2.2.2.2) (fun n s hI hk => hs n s.1 s.2.1 s.2.2.1 s.2.2.2.1 s.2.2.2.2.1 s.2.2.2.2.2.1 s.2.2.2.2.2.2 hI (fun b1 b2 b3 b4 b5 b6 b7 h9 hm => hk (b1, b2, b3, b4, b5, b6, b7) h9 hm)) (a1, a2, a3, a4, a5, a6, a7) h
theorem lp8 {A1 A2 A3 A4 A5 A6 A7 A8 : Type} (W : Nat → A1 → A2 → A3 → A4 → A5 → A6 → A7 → A8 → Prop) (I : A1 → A2 → A3 → A4 → A5 → A6 → A7 → A8 → Prop) (μ : A1 → A2 → A3 → A4 → A5 → A6 → A7 → A8 → Nat) (hs : ∀ (n : Nat) (a1 : A1) (a2 : A2) (a3 : A3) (a4 : A4) (a5 : A5) (a6 : A6) (a7 : A7) (a8 : A8), I a1 a2 a3 a4 a5 a6 a7 a8 → (∀ (b1 : A1) (b2 : A2) (b3 : A3) (b4 : A4) (b5 : A5) (b6 : A6) (b7 : A7) (b8 : A8), I b1 b2 b3 b4 b5 b6 b7 b8 → μ b1 b2 b3 b4 b5 b6 b7 b8 < μ a1 a2 a3 a4 a5 a6 a7 a8 → W n b1 b2 b3 b4 b5 b6 b7 b8) → W (n + 1) a1 a2 a3 a4 a5 a6 a7 a8) (a1 : A1) (a2 : A2) (a3 : A3) (a4 : A4) (a5 : A5) (a6 : A6) (a7 : A7) (a8 : A8) (h : I a1 a2 a3 a4 a5 a6 a7 a8) : ∃ n, W n a1 a2 a3 a4 a5 a6 a7 a8 :=
  loop_m (σ := A1 × A2 × A3 × A4 × A5 × A6 × A7 × A8) (fun n s => W n s.1 s.2.1 s.2.2.1 s.2.2.2.1 s.2.2.2.2.1 s.2.2.2.2.2.1 s.2.2.2.2.2.2.1 s.2.2.2.2.2.2.2) (fun s => I s.1 s.2.1 s.2.2.1 s.2.2.2.1 s.2.2.2.2.1 s.2.2.2.2.2.1 s.2.2.2.2.2.2.1 s.2.2.2.2.2.2.2) (fun s => μ s.1 s.2.1 s.2.2.1 s.2.2.2.1 s.2.2.2.2.1 s.2.2.2.2.2.1 s.2.2.2.2.2.2.1 s.2.2.2.2.2.2.2) (fun n s hI hk => hs n s.1 s.2.1 s.2.2.1 s.2.2.2.1 s.2.2.2.2.1 s.2.2.2.2.2.1 s.2.2.2.2.2.2.1 s.2.2.2.2.2.2.2 hI (fun b1 b2 b3 b4 b5 b6 b7 b8 h9 hm => hk (b1, b2, b3, b4, b5, b6, b7, b8) h9 hm)) (a1, a2, a3, a4, a5, a6, a7, a8) h
theorem lp9 {A1 A2 A3 A4 A5 A6 A7 A8 A9 : Type} (W : Nat → A1 → A2 → A3 → A4 → A5 → A6 → A7 → A8 → A9 → Prop) (I : A1 → A2 → A3 → A4 → A5 → A6 → A7 → A8 → A9 → Prop) (μ : A1 → A2 → A3 → A4 → A5 → A6 → A7 → A8 → A9 → Nat) (hs : ∀ (n : Nat) (a1 : A1) (a2 : A2) (a3 : A3) (a4 : A4) (a5 : A5) (a6 : A6) (a7 : A7) (a8 : A8) (a9 : A9), I a1 a2 a3 a4 a5 a6 a7 a8 a9 → (∀ (b1 : A1) (b2 : A2) (b3 : A3) (b4 : A4) (b5 : A5) (b6 : A6) (b7 : A7) (b8 : A8) (b9 : A9), I b1 b2 b3 b4 b5 b6 b7 b8 b9 → μ b1 b2 b3 b4 b5 b6 b7 b8 b9 < μ a1 a2 a3 a4 a5 a6 a7 a8 a9 → W n b1 b2 b3 b4 b5 b6 b7 b8 b9) → W (n + 1) a1 a2 a3 a4 a5 a6 a7 a8 a9) (a1 : A1) (a2 : A2) (a3 : A3) (a4 : A4) (a5 : A5) (a6 : A6) (a7 : A7) (a8 : A8) (a9 : A9) (h : I a1 a2 a3 a4 a5 a6 a7 a8 a9) : ∃ n, W n a1 a2 a3 a4 a5 a6 a7 a8 a9 :=
  loop_m (σ := A1 × A2 × A3 × A4 × A5 × A6 × A7 × A8 × A9) (fun n s => W n s.1 s.2.1 s.2.2.1 s.2.2.2.1 s.2.2.2.2.1 s.2.2.2.2.2.1 s.2.2.2.2.2.2.1 s.2.2.2.2.2.2.2.1 s.2.2.2.2.2.2.2.2) (fun s => I s.1 s.2.1 s.2.2.1 s.2.2.2.1 s.2.2.2.2.1 s.2.2.2.2.2.1 s.2.2.2.2.2.2.1 s.2.2.2.2.2.2.2.1 s.2.2.2.2.2.2.2.2) (fun s => μ s.1 s.2.1 s.2.2.1 s.2.2.2.1 s.2.2.2.2.1 s.2.2.2.2.2.1 s.2.2.2.2.2.2.1 s.2.2.2.2.2.2.2.1 s.2.2.2.2.2.2.2.2) (fun n s hI hk => hs n s.1 s.2.1 s.2.2.1 s.2.2.2.1 s.2.2.2.2.1 s.2.2.2.2.2.1 s.2.2.2.2.2.2.1 s.2.2.2.2.2.2.2.1 s.2.2.2.2.2.2.2.2 hI (fun b1 b2 b3 b4 b5 b6 b7 b8 b9 h9 hm => hk (b1, b2, b3, b4, b5, b6, b7, b8, b9) h9 hm)) (a1, a2, a3, a4, a5, a6, a7, a8, a9) h
theorem lp10 {A1 A2 A3 A4 A5 A6 A7 A8 A9 A10 : Type} (W : Nat → A1 → A2 → A3 → A4 → A5 → A6 → A7 → A8 → A9 → A10 → Prop) (I : A1 → A2 → A3 → A4 → A5 → A6 → A7 → A8 → A9 → A10 → Prop) (μ : A1 → A2 → A3 → A4 → A5 → A6 → A7 → A8 → A9 → A10 → Nat) (hs : ∀ (n : Nat) (a1 : A1) (a2 : A2) (a3 : A3) (a4 : A4) (a5 : A5) (a6 : A6) (a7 : A7) (a8 : A8) (a9 : A9) (a10 : A10), I a1 a2 a3 a4 a5 a6 a7 a8 a9 a10 → (∀ (b1 : A1) (b2 : A2) (b3 : A3) (b4 : A4) (b5 : A5) (b6 : A6) (b7 : A7) (b8 : A8) (b9 : A9) (b10 : A10), I b1 b2 b3 b4 b5 b6 b7 b8 b9 b10 → μ b1 b2 b3 b4 b5 b6 b7 b8 b9 b10 < μ a1 a2 a3 a4 a5 a6 a7 a8 a9 a10 → W n b1 b2 b3 b4 b5 b6 b7 b8 b9 b10) → W (n + 1) a1 a2 a3 a4 a5 a6 a7 a8 a9 a10) (a1 : A1) (a2 : A2) (a3 : A3) (a4 : A4) (a5 : A5) (a6 : A6) (a7 : A7) (a8 : A8) (a9 : A9) (a10 : A10) (h : I a1 a2 a3 a4 a5 a6 a7 a8 a9 a10) : ∃ n, W n a1 a2 a3 a4 a5 a6 a7 a8 a9 a10 :=
  loop_m (σ := A1 × A2 × A3 × A4 × A5 × A6 × A7 × A8 × A9 × A10) (fun n s => W n s.1 s.2.1 s.2.2.1 s.2.2.2.1 s.2.2.2.2.1 s.2.2.2.2.2.1 s.2.2.2.2.2.2.1 s.2.2.2.2.2.2.2.1 s.2.2.2.2.2.2.2.2.1 s.2.2.2.2.2.2.2.2.2) (fun s => I s.1 s.2.1 s.2.2.1 s.2.2.2.1 s.2.2.2.2.1 s.2.2.2.2.2.1 s.2.2.2.2.2.2.1 s.2.2.2.2.2.2.2.1 s.2.2.2.2.2.2.2.2.1 s.2.2.2.2.2.2.2.2.2) (fun s => μ s.1 s.2.1 s.2.2.1 s.2.2.2.1 s.2.2.2.2.1 s.2.2.2.2.2.1 s.2.2.2.2.2.2.1 s.2.2.2.2.2.2.2.1 s.2.2.2.2.2.2.2.2.1 s.2.2.2.2.2.2.2.2.2) (fun n s hI hk => hs n s.1 s.2.1 s.2.2.1 s.2.2.2.1 s.2.2.2.2.1 s.2.2.2.2.2.1 s.2.2.2.2.2.2.1 s.2.2.2.2.2.2.2.1 s.2.2.2.2.2.2.2.2.1 s.2.2.2.2.2.2.2.2.2 hI (fun b1 b2 b3 b4 b5 b6 b7 b8 b9 b10 h9 hm => hk (b1, b2, b3, b4, b5, b6, b7, b8, b9, b10) h9 hm)) (a1, a2, a3, a4, a5, a6, a7, a8, a9, a10) h
theorem lp11 {A1 A2 A3 A4 A5 A6 A7 A8 A9 A10 A11 : Type} (W : Nat → A1 → A2 → A3 → A4 → A5 → A6 → A7 → A8 → A9 → A10 → A11 → Prop) (I : A1 → A2 → A3 → A4 → A5 → A6 → A7 → A8 → A9 → A10 → A11 → Prop) (μ : A1 → A2 → A3 → A4 → A5 → A6 → A7 → A8 → A9 → A10 → A11 → Nat) (hs : ∀ (n : Nat) (a1 : A1) (a2 : A2) (a3 : A3) (a4 : A4) (a5 : A5) (a6 : A6) (a7 : A7) (a8 : A8) (a9 : A9) (a10 : A10) (a11 : A11), I a1 a2 a3 a4 a5 a6 a7 a8 a9 a10 a11 → (∀ (b1 : A1) (b2 : A2) (b3 : A3) (b4 : A4) (b5 : A5) (b6 : A6) (b7 : A7) (b8 : A8) (b9 : A9) (b10 : A10) (b11 : A11), I b1 b2 b3 b4 b5 b6 b7 b8 b9 b10 b11 → μ b1 b2 b3 b4 b5 b6 b7 b8 b9 b10 b11 < μ a1 a2 a3 a4 a5 a6 a7 a8 a9 a10 a11 → W n b1 b2 b3 b4 b5 b6 b7 b8 b9 b10 b11) → W (n + 1) a1 a2 a3 a4 a5 a6 a7 a8 a9 a10 a11) (a1 : A1) (a2 : A2) (a3 : A3) (a4 : A4) (a5 : A5) (a6 : A6) (a7 : A7) (a8 : A8) (a9 : A9) (a10 : A10) (a11 : A11) (h : I a1 a2 a3 a4 a5 a6 a7 a8 a9 a10 a11) : ∃ n, W n a1 a2 a3 a4 a5 a6 a7 a8 a9 a10 a11 :=
  loop_m (σ := A1 × A2 × A3 × A4 × A5 × A6 × A7 × A8 × A9 × A10 × A11) (fun n s => W n s.1 s.2.1 s.2.2.1 s.2.2.2.1 s.2.2.2.2.1 s.2.2.2.2.2.1 s.2.2.2.2.2.2.1 s.2.2.2.2.2.2.2.1 s.2.2.2.2.2.2.2.2.1 s.2.2.2.2.2.2.2.2.2.1 s.2.2.2.2.2.2.2.2.2.2) (fun s => I s.1 s.2.1 s.2.2.1 s.2.2.2.1 s.2.2.2.2.1 s.2.2.2.2.2.1 s.2.2.2.2.2.2.1 s.2.2.2.2.2.2.2.1 s.2.2.2.2.2.2.2.2.1 s.2.2.2.2.2.2.2.2.2.1 s.2.2.2.2.2.2.2.2.2.2) (fun s => μ s.1 s.2.1 s.2.2.1 s.2.2.2.1 s.2.2.2.2.1 s.2.2.2.2.2.1 s.2.2.2.2.2.2.1 s.2.2.2.2.2.2.2.1 s.2.2.2.2.2.2.2.2.1 s.2.2.2.2.2.2.2.2.2.1 s.2.2.2.2.2.2.2.2.2.2) (fun n s hI hk => hs n s.1 s.2.1 s.2.2.1 s.2.2.2.1 s.2.2.2.2.1 s.2.2.2.2.2.1 s.2.2.2.2.2.2.1 s.2.2.2.2.2.2.2.1 s.2.2.2.2.2.2.2.2.1 s.2.2.2.2.2.2.2.2.2.1 s.2.2.2.2.2.2.2.2.2.2 hI (fun b1 b2 b3 b4 b5 b6 b7 b8 b9 b10 b11 h9 hm => hk (b1, b2, b3, b4, b5, b6, b7, b8, b9, b10, b11) h9 hm)) (a1, a2, a3, a4, a5, a6, a7, a8, a9, a10, a11) h
theorem lp12 {A1 A2 A3 A4 A5 A6 A7 A8 A9 A10 A11 A12 : Type} (W : Nat → A1 → A2 → A3 → A4 → A5 → A6 → A7 → A8 → A9 → A10 → A11 → A12 → Prop) (I : A1 → A2 → A3 → A4 → A5 → A6 → A7 → A8 → A9 → A10 → A11 → A12 → Prop) (μ : A1 → A2 → A3 → A4 → A5 → A6 → A7 → A8 → A9 → A10 → A11 → A12 → Nat) (hs : ∀ (n : Nat) (a1 : A1) (a2 : A2) (a3 : A3) (a4 : A4) (a5 : A5) (a6 : A6) (a7 : A7) (a8 : A8) (a9 : A9) (a10 : A10) (a11 : A11) (a12 : A12), I a1 a2 a3 a4 a5 a6 a7 a8 a9 a10 a11 a12 → (∀ (b1 : A1) (b2 : A2) (b3 : A3) (b4 : A4) (b5 : A5) (b6 : A6) (b7 : A7) (b8 : A8) (b9 : A9) (b10 : A10) (b11 : A11) (b12 : A12), I b1 b2 b3 b4 b5 b6 b7 b8 b9 b10 b11 b12 → μ b1 b2 b3 b4 b5 b6 b7 b8 b9 b10 b11 b12 < μ a1 a2 a3 a4 a5 a6 a7 a8 a9 a10 a11 a12 → W n b1 b2 b3 b4 b5 b6 b7 b8 b9 b10 b11 b12) → W (n + 1) a1 a2 a3 a4 a5 a6 a7 a8 a9 a10 a11 a12) (a1 : A1) (a2 : A2) (a3 : A3) (a4 : A4) (a5 : A5) (a6 : A6) (a7 : A7) (a8 : A8) (a9 : A9) (a10 : A10) (a11 : A11) (a12 : A12) (h : I a1 a2 a3 a4 a5 a6 a7 a8 a9 a10 a11 a12) : ∃ n, W n a1 a2 a3 a4 a5 a6 a7 a8 a9 a10 a11 a12 :=
  loop_m (σ := A1 × A2 × A3 × A4 × A5 × A6 × A7 × A8 × A9 × A10 × A11 × A12) (fun n s => W n s.1 s.2.1 s.2.2.1 s.2.2.2.1 s.2.2.2.2.1 s.2.2.2.2.2.1 s.2.2.2.2.2.2.1 s.2.2.2.2.2.2.2.1 s.2.2.2.2.2.2.2.2.1 s.2.2.2.2.2.2.2.2.2.1 s.2.2.2.2.2.2.2.2.2.2.1 s.2.2.2.2.2.2.2.2.2.2.2) (fun s => I s.1 s.2.1 s.2.2.1 s.2.2.2.1 s.2.2.2.2.1 s.2.2.2.2.2.1 s.2.2.2.2.2.2.1 s.2.2.2.2.2.2.2.1 s.2.2.2.2.2.2.2.2.1 s.2.2.2.2.2.2.2.2.2.1 s.2.2.2.2.2.2.2.2.2.2.1 s.2.2.2.2.2.2.2.2.2.2.2) (fun s => μ s.1 s.2.1 s.2.2.1 s.2.2.2.1 s.2.2.2.2.1 s.2.2.2.2.2.1 s.2.2.2.2.2.2.1 s.2.2.2.2.2.2.2.1 s.2.2.2.2.2.2.2.2.1 s.2.2.2.2.2.2.2.2.2.1 s.2.2.2.2.2.2.2.2.2.2.1 s.2.2.2.2.2.2.2.2.2.2.2) (fun n s hI hk => hs n s.1 s.2.1 s.2.2.1 s.2.2.2.1 s.2.2.2.2.1 s.2.2.2.2.2.1 s.2.2.2.2.2.2.1 s.2.2.2.2.2.2.2.1 s.2.2.2.2.2.2.2.2.1 s.2.2.2.2.2.2.2.2.2.1 s.2.2.2.2.2.2.2.2.2.2.1 s.2.2.2.2.2.2.2.2.2.2.2 hI (fun b1 b2 b3 b4 b5 b6 b7 b8 b9 b10 b11 b12 h9 hm => hk (b1, b2, b3, b4, b5, b6, b7, b8, b9, b10, b11, b12) h9 hm)) (a1, a2, a3, a4, a5, a6, a7, a8, a9, a10, a11, a12) h
theorem lp13 {A1 A2 A3 A4 A5 A6 A7 A8 A9 A10 A11 A12 A13 : Type} (W : Nat → A1 → A2 → A3 → A4 → A5 → A6 → A7 → A8 → A9 → A10 → A11 → A12 → A13 → Prop) (I : A1 → A2 → A3 → A4 → A5 → A6 → A7 → A8 → A9 → A10 → A11 → A12 → A13 → Prop) (μ : A1 → A2 → A3 → A4 → A5 → A6 → A7 → A8 → A9 → A10 → A11 → A12 → A13 → Nat) (hs : ∀ (n : Nat) (a1 : A1) (a2 : A2) (a3 : A3) (a4 : A4) (a5 : A5) (a6 : A6) (a7 : A7) (a8 : A8) (a9 : A9) (a10 : A10) (a11 : A11) (a12 : A12) (a13 : A13), I a1 a2 a3 a4 a5 a6 a7 a8 a9 a10 a11 a12 a13 → (∀ (b1 : A1) (b2 : A2) (b3 : A3) (b4 : A4) (b5 : A5) (b6 : A6) (b7 : A7) (b8 : A8) (b9 : A9) (b10 : A10) (b11 : A11) (b12 : A12) (b13 : A13), I b1 b2 b3 b4 b5 b6 b7 b8 b9 b10 b11 b12 b13 → μ b1 b2 b3 b4 b5 b6 b7 b8 b9 b10 b11 b12 b13 < μ a1 a2 a3 a4 a5 a6 a7 a8 a9 a10 a11 a12 a13 → W n b1 b2 b3 b4 b5 b6 b7 b8 b9 b10 b11 b12 b13) → W (n + 1) a1 a2 a3 a4 a5 a6 a7 a8 a9 a10 a11 a12 a13) (a1 : A1) (a2 : A2) (a3 : A3) (a4 : A4) (a5 : A5) (a6 : A6) (a7 : A7) (a8 : A8) (a9 : A9) (a10 : A10) (a11 : A11) (a12 : A12) (a13 : A13) (h : I a1 a2 a3 a4 a5 a6 a7 a8 a9 a10 a11 a12 a13) : ∃ n, W n a1 a2 a3 a4 a5 a6 a7 a8 a9 a10 a11 a12 a13 :=
  loop_m (σ := A1 × A2 × A3 × A4 × A5 × A6 × A7 × A8 × A9 × A10 × A11 × A12 × A13) (fun n s => W n s.1 s.2.1 s.2.2.1 s.2.2.2.1 s.2.2.2.2.1 s.2.2.2.2.2.1 s.2.2.2.2.2.2.1 s.2.2.2.2.2.2.2.1 s.2.2.2.2.2.2.2.2.1 s.2.2.2.2.2.2.2.2.2.1 s.2.2.2.2.2.2.2.2.2.2.1 s.2.2.2.2.2.2.2.2.2.2.2.1 s.2.2.2.2.2.2.2.2.2.2.2.2) (fun s => I s.1 s.2.1 s.2.2.1 s.2.2.2.1 s.2.2.2.2.1 s.2.2.2.2.2.1 s.2.2.2.2.2.2.1 s.2.2.2.2.2.2.2.1 s.2.2.2.2.2.2.2.2.1 s.2.2.2.2.2.2.2.2.2.1 s.2.2.2.2.2.2.2.2.2.2.1 s.2.2.2.2.2.2.2.2.2.2.2.1 s.2.2.2.2.2.2.2.2.2.2.2.2) (fun s => μ s.1 s.2.1 s.2.2.1 s.2.2.2.1 s.2.2.2.2.1 s.2.2.2.2.2.1 s.2.2.2.2.2.2.1 s.2.2.2.2.2.2.2.1 s.2.2.2.2.2.2.2.2.1 s.2.2.2.2.2.2.2.2.2.1 s.2.2.2.2.2.2.2.2.2.2.1 s.2.2.2.2.2.2.2.2.2.2.2.1 s.2.2.2.2.2.2.2.2.2.2.2.2) (fun n s hI hk => hs n s.1 s.2.1 s.2.2.1 s.2.2.2.1 s.2.2.2.2.1 s.2.2.2.2.2.1 s.2.2.2.2.2.2.1 s.2.2.2.2.2.2.2.1 s.2.2.2.2.2.2.2.2.1 s.2.2.2.2.2.2.2.2.2.1 s.2.2.2.2.2.2.2.2.2.2.1 s.2.2.2.2.2.2.2.2.2.2.2.1 s.2.2.2.2.2.2.2.2.2.2.2.2 hI (fun b1 b2 b3 b4 b5 b6 b7 b8 b9 b10 b11 b12 b13 h9 hm => hk (b1, b2, b3, b4, b5, b6, b7, b8, b9, b10, b11, b12, b13) h9 hm)) (a1, a2, a3, a4, a5, a6, a7, a8, a9, a10, a11, a12, a13) h
theorem lp14 {A1 A2 A3 A4 A5 A6 A7 A8 A9 A10 A11 A12 A13 A14 : Type} (W : Nat → A1 → A2 → A3 → A4 → A5 → A6 → A7 → A8 → A9 → A10 → A11 → A12 → A13 → A14 → Prop) (I : A1 → A2 → A3 → A4 → A5 → A6 → A7 → A8 → A9 → A10 → A11 → A12 → A13 → A14 → Prop) (μ : A1 → A2 → A3 → A4 → A5 → A6 → A7 → A8 → A9 → A10 → A11 → A12 → A13 → A14 → Nat) (hs : ∀ (n : Nat) (a1 : A1) (a2 : A2) (a3 : A3) (a4 : A4) (a5 : A5) (a6 : A6) (a7 : A7) (a8 : A8) (a9 : A9) (a10 : A10) (a11 : A11) (a12 : A12) (a13 : A13) (a14 : A14), I a1 a2 a3 a4 a5 a6 a7 a8 a9 a10 a11 a12 a13 a14 → (∀ (b1 : A1) (b2 : A2) (b3 : A3) (b4 : A4) (b5 : A5) (b6 : A6) (b7 : A7) (b8 : A8) (b9 : A9) (b10 : A10) (b11 : A11) (b12 : A12) (b13 : A13) (b14 : A14), I b1 b2 b3 b4 b5 b6 b7 b8 b9 b10 b11 b12 b13 b14 → μ b1 b2 b3 b4 b5 b6 b7 b8 b9 b10 b11 b12 b13 b14 < μ a1 a2 a3 a4 a5 a6 a7 a8 a9 a10 a11 a12 a13 a14 → W n b1 b2 b3 b4 b5 b6 b7 b8 b9 b10 b11 b12 b13 b14) → W (n + 1) a1 a2 a3 a4 a5 a6 a7 a8 a9 a10 a11 a12 a13 a14) (a1 : A1) (a2 : A2) (a3 : A3) (a4 : A4) (a5 : A5) (a6 : A6) (a7 : A7) (a8 : A8) (a9 : A9) (a10 : A10) (a11 : A11) (a12 : A12) (a13 : A13) (a14 : A14) (h : I a1 a2 a3 a4 a5 a6 a7 a8 a9 a10 a11 a12 a13 a14) : ∃ n, W n a1 a2 a3 a4 a5 a6 a7 a8 a9 a10 a11 a12 a13 a14 :=
  loop_m (σ := A1 × A2 × A3 × A4 × A5 × A6 × A7 × A8 × A9 × A10 × A11 × A12 × A13 × A14) (fun n s => W n s.1 s.2.1 s.2.2.1 s.2.2.2.1 s.2.2.2.2.1 s.2.2.2.2.2.1 s.2.2.2.2.2.2.1 s.2.2.2.2.2.2.2.1 s.2.2.2.2.2.2.2.2.1 s.2.2.2.2.2.2.2.2.2.1 s.2.2.2.2.2.2.2.2.2.2.1 s.2.2.2.2.2.2.2.2.2.2.2.1 s.2.2.2.2.2.2.2.2.2.2.2.2.1 s.2.2.2.2.2.2.2.2.2.2.2.2.2) (fun s => I s.1 s.2.1 s.2.2.1 s.2.2.2.1 s.2.2.2.2.1 s.2.2.2.2.2.1 s.2.2.2.2.2.2.1 s.2.2.2.2.2.2.2.1 s.2.2.2.2.2.2.2.2.1 s.2.2.2.2.2.2.2.2.2.1 s.2.2.2.2.2.2.2.2.2.2.1 s.2.2.2.2.2.2.2.2.2.2.2.1 s.2.2.2.2.2.2.2.2.2.2.2.2.1 s.2.2.2.2.2.2.2.2.2.2.2.2.2) (fun s => μ s.1 s.2.1 s.2.2.1 s.2.2.2.1 s.2.2.2.2.1 s.2.2.2.2.2.1 s.2.2.2.2.2.2.1 s.2.2.2.2.2.2.2.1 s.2.2.2.2.2.2.2.2.1 s.2.2.2.2.2.2.2.2.2.1 s.2.2.2.2.2.2.2.2.2.2.1 s.2.2.2.2.2.2.2.2.2.2.2.1 s.2.2.2.2.2.2.2.2.2.2.2.2.1 s.2.2.2.2.2.2.2.2.2.2.2.2.2) (fun n s hI hk => hs n s.1 s.2.1 s.2.2.1 s.2.2.2.1 s.2.2.2.2.1 s.2.2.2.2.2.1 s.2.2.2.2.2.2.1 s.2.2.2.2.2.2.2.1 s.2.2.2.2.2.2.2.2.1 s.2.2.2.2.2.2.2.2.2.1 s.2.2.2.2.2.2.2.2.2.2.1 s.2.2.2.2.2.2.2.2.2.2.2.1 s.2.2.2.2.2.2.2.2.2.2.2.2.1 s.2.2.2.2.2.2.2.2.2.2.2.2.2 hI (fun b1 b2 b3 b4 b5 b6 b7 b8 b9 b10 b11 b12 b13 b14 h9 hm => hk (b1, b2, b3, b4, b5, b6, b7, b8, b9, b10, b11, b12, b13, b14) h9 hm)) (a1, a2, a3, a4, a5, a6, a7, a8, a9, a10, a11, a12, a13, a14) h
theorem lp15 {A1 A2 A3 A4 A5 A6 A7 A8 A9 A10 A11 A12 A13 A14 A15 : Type} (W : Nat → A1 → A2 → A3 → A4 → A5 → A6 → A7 → A8 → A9 → A10 → A11 → A12 → A13 → A14 → A15 → Prop) (I : A1 → A2 → A3 → A4 → A5 → A6 → A7 → A8 → A9 → A10 → A11 → A12 → A13 → A14 → A15 → Prop) (μ : A1 → A2 → A3 → A4 → A5 → A6 → A7 → A8 → A9 → A10 → A11 → A12 → A13 → A14 → A15 → Nat) (hs : ∀ (n : Nat) (a1 : A1) (a2 : A2) (a3 : A3) (a4 : A4) (a5 : A5) (a6 : A6) (a7 : A7) (a8 : A8) (a9 : A9) (a10 : A10) (a11 : A11) (a12 : A12) (a13 : A13) (a14 : A14) (a15 : A15), I a1 a2 a3 a4 a5 a6 a7 a8 a9 a10 a11 a12 a13 a14 a15 → (∀ (b1 : A1) (b2 : A2) (b3 : A3) (b4 : A4) (b5 : A5) (b6 : A6) (b7 : A7) (b8 : A8) (b9 : A9) (b10 : A10) (b11 : A11) (b12 : A12) (b13 : A13) (b14 : A14) (b15 : A15), I b1 b2 b3 b4 b5 b6 b7 b8 b9 b10 b11 b12 b13 b14 b15 → μ b1 b2 b3 b4 b5 b6 b7 b8 b9 b10 b11 b12 b13 b14 b15 < μ a1 a2 a3 a4 a5 a6 a7 a8 a9 a10 a11 a12 a13 a14 a15 → W n b1 b2 b3 b4 b5 b6 b7 b8 b9 b10 b11 b12 b13 b14 b15) → W (n + 1) a1 a2 a3 a4 a5 a6 a7 a8 a9 a10 a11 a12 a13 a14 a15) (a1 : A1) (a2 : A2) (a3 : A3) (a4 : A4) (a5 : A5) (a6 : A6) (a7 : A7) (a8 : A8) (a9 : A9) (a10 : A10) (a11 : A11) (a12 : A12) (a13 : A13) (a14 : A14) (a15 : A15) (h : I a1 a2 a3 a4 a5 a6 a7 a8 a9 a10 a11 a12 a13 a14 a15) : ∃ n, W n a1 a2 a3 a4 a5 a6 a7 a8 a9 a10 a11 a12 a13 a14 a15 :=
  loop_m (σ := A1 × A2 × A3 × A4 × A5 × A6 × A7 × A8 × A9 × A10 × A11 × A12 × A13 × A14 × A15) (fun n s => W n s.1 s.2.1 s.2.2.1 s.2.2.2.1 s.2.2.2.2.1 s.2.2.2.2.2.1 s.2.2.2.2.2.2.1 s.2.2.2.2.2.2.2.1 s.2.2.2.2.2.2.2.2.1 s.2.2.2.2.2.2.2.2.2.1 s.2.2.2.2.2.2.2.2.2.2.1 s.2.2.2.2.2.2.2.2.2.2.2.1 s.2.2.2.2.2.2.2.2.2.2.2.2.1 s.2.2.2.2.2.2.2.2.2.2.2.2.2.1 s.2.2.2.2.2.2.2.2.2.2.2.2.2.2) (fun s => I s.1 s.2.1 s.2.2.1 s.2.2.2.1 s.2.2.2.2.1 s.2.2.2.2.2.1 s.2.2.2.2.2.2.1 s.2.2.2.2.2.2.2.1 s.2.2.2.2.2.2.2.2.1 s.2.2.2.2.2.2.2.2.2.1 s.2.2.2.2.2.2.2.2.2.2.1 s.2.2.2.2.2.2.2.2.2.2.2.1 s.2.2.2.2.2.2.2.2.2.2.2.2.1 s.2.2.2.2.2.2.2.2.2.2.2.2.2.1 s.2.2.2.2.2.2.2.2.2.2.2.2.2.2) (fun s => μ s.1 s.2.1 s.2.2.1 s.2.2.2.1 s.2.2.2.2.1 s.2.2.2.2.2.1 s.2.2.2.2.2.2.1 s.2.2.2.2.2.2.2.1 s.2.2.2.2.2.2.2.2.1 s.2.2.2.2.2.2.2.2.2.1 s.2.2.2.2.2.2.2.2.2.2.1 s.2.2.2.2.2.2.2.2.2.2.2.1 s.2.2.2.2.2.2.2.2.2.2.2.2.1 s.2.2.2.2.2.2.2.2.2.2.2.2.2.1 s.2.2.2.2.2.2.2.2.2.2.2.2.2.2) (fun n s hI hk => hs n s.1 s.2.1 s.2.2.1 s.2.2.2.1 s.2.2.2.2.1 s.2.2.2.2.2.1 s.2.2.2.2.2.2.1 s.2.2.2.2.2.2.2.1 s.2.2.2.2.2.2.2.2.1 s.2.2.2.2.2.2.2.2.2.1 s.2.2.2.2.2.2.2.2.2.2.1 s.2.2.2.2.2.2.2.2.2.2.2.1 s.2.2.2.2.2.2.2.2.2.2.2.2.1 s.2.2.2.2.2.2.2.2.2.2.2.2.2.1 s.2.2.2.2.2.2.2.2.2.2.2.2.2.2 hI (fun b1 b2 b3 b4 b5 b6 b7 b8 b9 b10 b11 b12 b13 b14 b15 h9 hm => hk (b1, b2, b3, b4, b5, b6, b7, b8, b9, b10, b11, b12, b13, b14, b15) h9 hm)) (a1, a2, a3, a4, a5, a6, a7, a8, a9, a10, a11, a12, a13, a14, a15) h
theorem lp16 {A1 A2 A3 A4 A5 A6 A7 A8 A9 A10 A11 A12 A13 A14 A15 A16 : Type} (W : Nat → A1 → A2 → A3 → A4 → A5 → A6 → A7 → A8 → A9 → A10 → A11 → A12 → A13 → A14 → A15 → A16 → Prop) (I : A1 → A2 → A3 → A4 → A5 → A6 → A7 → A8 → A9 → A10 → A11 → A12 → A13 → A14 → A15 → A16 → Prop) (μ : A1 → A2 → A3 → A4 → A5 → A6 → A7 → A8 → A9 → A10 → A11 → A12 → A13 → A14 → A15 → A16 → Nat) (hs : ∀ (n : Nat) (a1 : A1) (a2 : A2) (a3 : A3) (a4 : A4) (a5 : A5) (a6 : A6) (a7 : A7) (a8 : A8) (a9 : A9) (a10 : A10) (a11 : A11) (a12 : A12) (a13 : A13) (a14 : A14) (a15 : A15) (a16 : A16), I a1 a2 a3 a4 a5 a6 a7 a8 a9 a10 a11 a12 a13 a14 a15 a16 → (∀ (b1 : A1) (b2 : A2) (b3 : A3) (b4 : A4) (b5 : A5) (b6 : A6) (b7 : A7) (b8 : A8) (b9 : A9) (b10 : A10) (b11 : A11) (b12 : A12) (b13 : A13) (b14 : A14) (b15 : A15) (b16 : A16), I b1 b2 b3 b4 b5 b6 b7 b8 b9 b10 b11 b12 b13 b14 b15 b16 → μ b1 b2 b3 b4 b5 b6 b7 b8 b9 b10 b11 b12 b13 b14 b15 b16 < μ a1 a2 a3 a4 a5 a6 a7 a8 a9 a10 a11 a12 a13 a14 a15 a16 → W n b1 b2 b3 b4 b5 b6 b7 b8 b9 b10 b11 b12 b13 b14 b15 b16) → W (n + 1) a1 a2 a3 a4 a5 a6 a7 a8 a9 a10 a11 a12 a13 a14 a15 a16) (a1 : A1) (a2 : A2) (a3 : A3) (a4 : A4) (a5 : A5) (a6 : A6) (a7 : A7) (a8 : A8) (a9 : A9) (a10 : A10) (a11 : A11) (a12 : A12) (a13 : A13) (a14 : A14) (a15 : A15) (a16 : A16) (h : I a1 a2 a3 a4 a5 a6 a7 a8 a9 a10 a11 a12 a13 a14 a15 a16) : ∃ n, W n a1 a2 a3 a4 a5 a6 a7 a8 a9 a10 a11 a12 a13 a14 a15 a16 :=
  loop_m (σ := A1 × A2 × A3 × A4 × A5 × A6 × A7 × A8 × A9 × A10 × A11 × A12 × A13 × A14 × A15 × A16) (fun n s => W n s.1 s.2.1 s.2.2.1 s.2.2.2.1 s.2.2.2.2.1 s.2.2.2.2.2.1 s.2.2.2.2.2.2.1 s.2.2.2.2.2.2.2.1 s.2.2.2.2.2.2.2.2.1 s.2.2.2.2.2.2.2.2.2.1 s.2.2.2.2.2.2.2.2.2.2.1 s.2.2.2.2.2.2.2.2.2.2.2.1 s.2.2.2.2.2.2.2.2.2.2.2.2.1 s.2.2.2.2.2.2.2.2.2.2.2.2.2.1 s.2.2.2.2.2.2.2.2.2.2.2.2.2.2.1 s.2.2.2.2.2.2.2.2.2.2.2.2.2.2.2) (fun s => I s.1 s.2.1 s.2.2.1 s.2.2.2.1 s.2.2.2.2.1 s.2.2.2.2.2.1 s.2.2.2.2.2.2.1 s.2.2.2.2.2.2.2.1 s.2.2.2.2.2.2.2.2.1 s.2.2.2.2.2.2.2.2.2.1 s.2.2.2.2.2.2.2.2.2.2.1 s.2.2.2.2.2.2.2.2.2.2.2.1 s.2.2.2.2.2.2.2.2.2.2.2.2.1 s.2.2.2.2.2.2.2.2.2.2.2.2.2.1 s.2.2.2.2.2.2.2.2.2.2.2.2.2.2.1 s.2.2.2.2.2.2.2.2.2.2.2.2.2.2.2) (fun s => μ s.1 s.2.1 s.2.2.1 s.2.2.2.1 s.2.2.2.2.1 s.2.2.2.2.2.1 s.2.2.2.2.2.2.1 s.2.2.2.2.2.2.2.1 s.2.2.2.2.2.2.2.2.1 s.2.2.2.2.2.2.2.2.2.1 s.2.2.2.2.2.2.2.2.2.2.1 s.2.2.2.2.2.2.2.2.2.2.2.1 s.2.2.2.2.2.2.2.2.2.2.2.2.1 s.2.2.2.2.2.2.2.2.2.2.2.2.2.1 s.2.2.2.2.2.2.2.2.2.2.2.2.2.2.1 s.2.2.2.2.2.2.2.2.2.2.2.2.2.2.2) (fun n s hI hk => hs n s.1 s.2.1 s.2.2.1 s.2.2.2.1 s.2.2.2.2.1 s.2.2.2.2.2.1 s.2.2.2.2.2.2.1 s.2.2.2.2.2.2.2.1 s.2.2.2.2.2.2.2.2.1 s.2.2.2.2.2.2.2.2.2.1 s.2.2.2.2.2.2.2.2.2.2.1 s.2.2.2.2.2.2.2.2.2.2.2.1 s.2.2.2.2.2.2.2.2.2.2.2.2.1 s.2.2.2.2.2.2.2.2.2.2.2.2.2.1 s.2.2.2.2.2.2.2.2.2.2.2.2.2.2.1 s.2.2.2.2.2.2.2.2.2.2.2.2.2.2.2 hI (fun b1 b2 b3 b4 b5 b6 b7 b8 b9 b10 b11 b12 b13 b14 b15 b16 h9 hm => hk (b1, b2, b3, b4, b5, b6, b7, b8, b9, b10, b11, b12, b13, b14, b15, b16) h9 hm)) (a1, a2, a3, a4, a5, a6, a7, a8, a9, a10, a11, a12, a13, a14, a15, a16) h
theorem pk_least (P : Nat → Prop) (h : ∃ k, P k) : ∃ k, P k ∧ ∀ j, j < k → ¬ P j := by
  obtain ⟨k, hk⟩ := h
  induction k using Nat.strongRecOn with
  | ind k ih =>
    by_cases e : ∃ j, j < k ∧ P j
    · obtain ⟨j, hj, pj⟩ := e
      exact ih j hj pj
    · exact ⟨k, hk, fun j hj pj => e ⟨j, hj, pj⟩⟩
theorem rp1 {ρ A1 : Type} (W : Nat → (ρ → Prop) → A1 → Prop) (ok : A1 → Prop) (μ : A1 → Nat) (val : A1 → ρ)
    (hs : ∀ (d : Nat) (post : ρ → Prop) (a1 : A1), ok a1 → post (val a1) → (∀ (post' : ρ → Prop) (b1 : A1), ok b1 → μ b1 < μ a1 → post' (val b1) → W d post' b1) → W (d + 1) post a1) :
    ∀ (d : Nat) (post : ρ → Prop) (a1 : A1), ok a1 → μ a1 < d → post (val a1) → W d post a1 := by
  intro d
  induction d with
  | zero => intro post a1 _ h; omega
  | succ d ih =>
    intro post a1 ho hm hp
    exact hs d post a1 ho hp (fun post' b1 ho' hm' hp' => ih post' b1 ho' (by omega) hp')
theorem rp2 {ρ A1 A2 : Type} (W : Nat → (ρ → Prop) → A1 → A2 → Prop) (ok : A1 → A2 → Prop) (μ : A1 → A2 → Nat) (val : A1 → A2 → ρ)
    (hs : ∀ (d : Nat) (post : ρ → Prop) (a1 : A1) (a2 : A2), ok a1 a2 → post (val a1 a2) → (∀ (post' : ρ → Prop) (b1 : A1) (b2 : A2), ok b1 b2 → μ b1 b2 < μ a1 a2 → post' (val b1 b2) → W d post' b1 b2) → W (d + 1) post a1 a2) :
    ∀ (d : Nat) (post : ρ → Prop) (a1 : A1) (a2 : A2), ok a1 a2 → μ a1 a2 < d → post (val a1 a2) → W d post a1 a2 := by
  intro d
  induction d with
  | zero => intro post a1 a2 _ h; omega
  | succ d ih =>
    intro post a1 a2 ho hm hp
    exact hs d post a1 a2 ho hp (fun post' b1 b2 ho' hm' hp' => ih post' b1 b2 ho' (by omega) hp')
theorem rp3 {ρ A1 A2 A3 : Type} (W : Nat → (ρ → Prop) → A1 → A2 → A3 → Prop) (ok : A1 → A2 → A3 → Prop) (μ : A1 → A2 → A3 → Nat) (val : A1 → A2 → A3 → ρ)
    (hs : ∀ (d : Nat) (post : ρ → Prop) (a1 : A1) (a2 : A2) (a3 : A3), ok a1 a2 a3 → post (val a1 a2 a3) → (∀ (post' : ρ → Prop) (b1 : A1) (b2 : A2) (b3 : A3), ok b1 b2 b3 → μ b1 b2 b3 < μ a1 a2 a3 → post' (val b1 b2 b3) → W d post' b1 b2 b3) → W (d + 1) post a1 a2 a3) :
    ∀ (d : Nat) (post : ρ → Prop) (a1 : A1) (a2 : A2) (a3 : A3), ok a1 a2 a3 → μ a1 a2 a3 < d → post (val a1 a2 a3) → W d post a1 a2 a3 := by
  intro d
  induction d with
  | zero => intro post a1 a2 a3 _ h; omega
  | succ d ih =>
    intro post a1 a2 a3 ho hm hp
    exact hs d post a1 a2 a3 ho hp (fun post' b1 b2 b3 ho' hm' hp' => ih post' b1 b2 b3 ho' (by omega) hp')
theorem rp4 {ρ A1 A2 A3 A4 : Type} (W : Nat → (ρ → Prop) → A1 → A2 → A3 → A4 → Prop) (ok : A1 → A2 → A3 → A4 → Prop) (μ : A1 → A2 → A3 → A4 → Nat) (val : A1 → A2 → A3 → A4 → ρ)
    (hs : ∀ (d : Nat) (post : ρ → Prop) (a1 : A1) (a2 : A2) (a3 : A3) (a4 : A4), ok a1 a2 a3 a4 → post (val a1 a2 a3 a4) → (∀ (post' : ρ → Prop) (b1 : A1) (b2 : A2) (b3 : A3) (b4 : A4), ok b1 b2 b3 b4 → μ b1 b2 b3 b4 < μ a1 a2 a3 a4 → post' (val b1 b2 b3 b4) → W d post' b1 b2 b3 b4) → W (d + 1) post a1 a2 a3 a4) :
    ∀ (d : Nat) (post : ρ → Prop) (a1 : A1) (a2 : A2) (a3 : A3) (a4 : A4), ok a1 a2 a3 a4 → μ a1 a2 a3 a4 < d → post (val a1 a2 a3 a4) → W d post a1 a2 a3 a4 := by
  intro d
  induction d with
  | zero => intro post a1 a2 a3 a4 _ h; omega
  | succ d ih =>
    intro post a1 a2 a3 a4 ho hm hp
    exact hs d post a1 a2 a3 a4 ho hp (fun post' b1 b2 b3 b4 ho' hm' hp' => ih post' b1 b2 b3 b4 ho' (by omega) hp')
theorem rp5 {ρ A1 A2 A3 A4 A5 : Type} (W : Nat → (ρ → Prop) → A1 → A2 → A3 → A4 → A5 → Prop) (ok : A1 → A2 → A3 → A4 → A5 → Prop) (μ : A1 → A2 → A3 → A4 → A5 → Nat) (val : A1 → A2 → A3 → A4 → A5 → ρ)
    (hs : ∀ (d : Nat) (post : ρ → Prop) (a1 : A1) (a2 : A2) (a3 : A3) (a4 : A4) (a5 : A5), ok a1 a2 a3 a4 a5 → post (val a1 a2 a3 a4 a5) → (∀ (post' : ρ → Prop) (b1 : A1) (b2 : A2) (b3 : A3) (b4 : A4) (b5 : A5), ok b1 b2 b3 b4 b5 → μ b1 b2 b3 b4 b5 < μ a1 a2 a3 a4 a5 → post' (val b1 b2 b3 b4 b5) → W d post' b1 b2 b3 b4 b5) → W (d + 1) post a1 a2 a3 a4 a5) :
    ∀ (d : Nat) (post : ρ → Prop) (a1 : A1) (a2 : A2) (a3 : A3) (a4 : A4) (a5 : A5), ok a1 a2 a3 a4 a5 → μ a1 a2 a3 a4 a5 < d → post (val a1 a2 a3 a4 a5) → W d post a1 a2 a3 a4 a5 := by
  intro d
  induction d with
  | zero => intro post a1 a2 a3 a4 a5 _ h; omega
  | succ d ih =>
    intro post a1 a2 a3 a4 a5 ho hm hp
    exact hs d post a1 a2 a3 a4 a5 ho hp (fun post' b1 b2 b3 b4 b5 ho' hm' hp' => ih post' b1 b2 b3 b4 b5 ho' (by omega) hp')
theorem rp6 {ρ A1 A2 A3 A4 A5 A6 : Type} (W : Nat → (ρ → Prop) → A1 → A2 → A3 → A4 → A5 → A6 → Prop) (ok : A1 → A2 → A3 → A4 → A5 → A6 → Prop) (μ : A1 → A2 → A3 → A4 → A5 → A6 → Nat) (val : A1 → A2 → A3 → A4 → A5 → A6 → ρ)
    (hs : ∀ (d : Nat) (post : ρ → Prop) (a1 : A1) (a2 : A2) (a3 : A3) (a4 : A4) (a5 : A5) (a6 : A6), ok a1 a2 a3 a4 a5 a6 → post (val a1 a2 a3 a4 a5 a6) → (∀ (post' : ρ → Prop) (b1 : A1) (b2 : A2) (b3 : A3) (b4 : A4) (b5 : A5) (b6 : A6), ok b1 b2 b3 b4 b5 b6 → μ b1 b2 b3 b4 b5 b6 < μ a1 a2 a3 a4 a5 a6 → post' (val b1 b2 b3 b4 b5 b6) → W d post' b1 b2 b3 b4 b5 b6) → W (d + 1) post a1 a2 a3 a4 a5 a6) :
    ∀ (d : Nat) (post : ρ → Prop) (a1 : A1) (a2 : A2) (a3 : A3) (a4 : A4) (a5 : A5) (a6 : A6), ok a1 a2 a3 a4 a5 a6 → μ a1 a2 a3 a4 a5 a6 < d → post (val a1 a2 a3 a4 a5 a6) → W d post a1 a2 a3 a4 a5 a6 := by
  intro d
  induction d with
  | zero => intro post a1 a2 a3 a4 a5 a6 _ h; omega
  | succ d ih =>
    intro post a1 a2 a3 a4 a5 a6 ho hm hp
    exact hs d post a1 a2 a3 a4 a5 a6 ho hp (fun post' b1 b2 b3 b4 b5 b6 ho' hm' hp' => ih post' b1 b2 b3 b4 b5 b6 ho' (by omega) hp')
theorem rec_p {σ ρ : Type} (W : Nat → (ρ → Prop) → σ → Prop) (ok : σ → Prop) (μ : σ → Nat) (val : σ → ρ)
    (hs : ∀ d s post, ok s → post (val s) → (∀ s' post', ok s' → μ s' < μ s → post' (val s') → W d post' s') → W (d + 1) post s) :
    ∀ d s post, ok s → μ s < d → post (val s) → W d post s := by
  intro d
  induction d with
  | zero => intro s post _ h; omega
  | succ d ih =>
    intro s post ho hm hp
    exact hs d s post ho hp (fun s' post' ho' hm' hp' => ih s' post' ho' (by omega) hp')
theorem rec_q {σ ρ : Type} (W : Nat → (ρ → Prop) → σ → Prop) (ok : σ → Prop) (μ : σ → Nat) (Q : σ → ρ → Prop)
    (hs : ∀ d s post, ok s → (∀ r, Q s r → post r) → (∀ s' post', ok s' → μ s' < μ s → (∀ r, Q s' r → post' r) → W d post' s') → W (d + 1) post s) :
    ∀ d s post, ok s → μ s < d → (∀ r, Q s r → post r) → W d post s := by
  intro d
  induction d with
  | zero => intro s post _ h; omega
  | succ d ih =>
    intro s post ho hm hp
    exact hs d s post ho hp (fun s' post' ho' hm' hp' => ih s' post' ho' (by omega) hp')
def bx_sum (f : Nat → Int32) : Nat → Int32
  | 0 => 0
  | n + 1 => bx_sum f n + f n
theorem ek_u {A : Prop} {B : Nat → Prop} {k N : Nat} (hk : k < N) (h : B k) : (some k = none → A) ∧ (∀ y : Nat, some k = some y → (y < N ∧ B y)) :=
  ⟨fun z => absurd z (Option.some_ne_none k), fun _ e => (by cases e; exact ⟨hk, h⟩)⟩
theorem ek_nu {A : Prop} {B : Nat → Prop} (h : A) : ((none : Option Nat) = none → A) ∧ (∀ y : Nat, (none : Option Nat) = some y → B y) :=
  ⟨fun _ => h, fun _ e => (by cases e)⟩
theorem ek_if {c d A B : Prop} (e : c ↔ d) (f : d → A) (g : ¬ d → B) : (c → A) ∧ (¬ c → B) :=
  ⟨fun z => f (e.mp z), fun z => g (fun y => z (e.mpr y))⟩
theorem ek_v {α : Sort _} {P : α → Prop} {a b : α} (e : a = b) (h : P b) : P a := e ▸ h
theorem co_some {x : Option Nat} {A : Prop} {B : Nat → Prop} (i : Nat) (h : B i) (hx : x = some i := by rfl) : (x = none → A) ∧ (∀ y : Nat, x = some y → B y) := by
  subst hx
  exact ⟨fun e => (nomatch e), fun y e => Option.some.inj e ▸ h⟩
theorem co_none {x : Option Nat} {A : Prop} {B : Nat → Prop} (h : A) (hx : x = none := by rfl) : (x = none → A) ∧ (∀ y : Nat, x = some y → B y) := by
  subst hx
  exact ⟨fun _ => h, fun y e => (nomatch e)⟩
theorem co_any {x : Option Nat} {A : Prop} {B : Nat → Prop} (hn : x = none → A) (hs : ∀ i : Nat, x = some i → B i) : (x = none → A) ∧ (∀ y : Nat, x = some y → B y) := ⟨hn, hs⟩
theorem co_2 {P : Nat → Prop} (h0 : P 0) (h1 : P 1) {i : Nat} (hi : i < 2) : P i :=
  match i, hi with
  | 0, _ => h0
  | 1, _ => h1
theorem co_3 {P : Nat → Prop} (h0 : P 0) (h1 : P 1) (h2 : P 2) {i : Nat} (hi : i < 3) : P i :=
  match i, hi with
  | 0, _ => h0
  | 1, _ => h1
  | 2, _ => h2
theorem co_4 {P : Nat → Prop} (h0 : P 0) (h1 : P 1) (h2 : P 2) (h3 : P 3) {i : Nat} (hi : i < 4) : P i :=
  match i, hi with
  | 0, _ => h0
  | 1, _ => h1
  | 2, _ => h2
  | 3, _ => h3
theorem co_dec {N : Nat} {P : Nat → Prop} [DecidablePred P] (h : (List.range N).all (fun i => decide (P i)) = true) {i : Nat} (hi : i < N) : P i := by
  have := List.all_eq_true.mp h i (List.mem_range.mpr hi)
  exact of_decide_eq_true this
theorem co_tab {α : Type} {l : List α} {d : α} {P : α → Prop} (h : ∀ a, a ∈ l → P a) {i : Nat} (hi : i < l.length) : P (l.getD i d) := by
  rw [List.getD_eq_getElem?_getD, List.getElem?_eq_getElem hi]
  exact h _ (List.getElem_mem hi)
theorem pk_mu {x : Int32} {L : Nat} (h0 : ¬ x < 0) (h : ¬ nI L ≤ x) (hL : L < 2 ^ 31) : ∃ j : Nat, j < L ∧ x = nI j ∧ x + 1 = nI (j + 1) ∧ x.toNatClampNeg = j ∧ L - (x + 1).toNatClampNeg < L - x.toNatClampNeg := by
  obtain ⟨j, hj, rfl⟩ := nI_of h0
  have hl : j < L := Nat.not_le.mp fun q => h (nI_le q hj)
  refine ⟨j, hl, rfl, nI_1 j, nI_clamp hj, ?_⟩
  rw [nI_1, nI_clamp (by omega), nI_clamp hj]
  omega
theorem op_s {α : Type} {r : Option α} {A : Prop} {B : α → Prop} {y : α} (h : r = some y) (b : B y) : (r = none → A) ∧ ∀ z, r = some z → B z :=
  ⟨fun e => (by rw [h] at e; cases e), fun z e => (by rw [h] at e; cases e; exact b)⟩
def l_holds {α : Type} (a : Nat → Option Nat) (LP : List Nat) (p : Nat → α) (c : Nat) (b : Nat → α) : Prop :=
  ∀ j, j < c → ∃ y, a j = some y ∧ y ∈ LP ∧ p y = b j
theorem l_holds_0 {α : Type} {a : Nat → Option Nat} {LP : List Nat} {p b : Nat → α} : l_holds a LP p 0 b := fun j h => absurd h (Nat.not_lt_zero j)
theorem l_in_new (LP : List Nat) (q : Nat) : q ∈ LP ++ [q] := List.mem_append.mpr (Or.inr (List.mem_singleton.mpr rfl))
def l_sum (b : Nat → Int32) : Nat → Int32
  | 0 => 0
  | k + 1 => l_sum b k + b k
theorem sb_shr0 (x : Int32) : x >>> ((0 : Int32) &&& 31) = x := by
  rw [show ((0 : Int32) &&& 31) = 0 by decide]
  simp
theorem sb_shl0 (x : Int32) : x <<< ((0 : Int32) &&& 31) = x := by
  rw [show ((0 : Int32) &&& 31) = 0 by decide]
  simp
theorem sb_cl0 : (0 : Int32).toNatClampNeg = 0 := by decide
theorem sb_m1 {p : Nat} (h : 0 < p) : nI p + (-1) = nI (p - 1) := by
  obtain ⟨q, rfl⟩ : ∃ q, p = q + 1 := ⟨p - 1, by omega⟩
  exact pk_m1 q
def sb_b (c : Nat) : Int32 := (nI c).toInt8.toInt32
theorem sb_byte : ∀ c, c < 256 → sb_b c &&& 255 = nI c ∧ ((nI c).toUInt32 % 65536).toInt32 = nI c ∧ nI c ≤ 255 := by decide +kernel
def sb_Fit (a : Nat → Int32) : Prop := ∀ j, fits .byte (.int (a j)) = true
def sb_Lat (t : Nat → Nat) (n : Nat) (a : Nat → Int32) : Prop := ∀ j, j < n → t j < 256 ∧ a j = sb_b (t j)
theorem sb_fitB (c : Nat) : fits .byte (.int (sb_b c)) = true := pk_fb _
theorem sb_fit0 : sb_Fit (fun _ => 0) := fun _ => by
  show fits .byte (.int 0) = true
  decide
theorem sb_fitU {a : Nat → Int32} {k : Nat} {x : Int32} (h : sb_Fit a) (hx : fits .byte (.int x) = true) : sb_Fit (upd a k x) := by
  intro j
  by_cases e : j = k
  · subst e
    rw [pk_us]
    exact hx
  · rw [pk_un e]
    exact h j
def sb_cat (t : Nat → Nat) (n : Nat) (s : Nat → Nat) : Nat → Nat := fun j => if j < n then t j else s (j - n)
theorem sb_cat_lo {t s : Nat → Nat} {n j : Nat} (h : j < n) : sb_cat t n s j = t j := if_pos h
theorem sb_cat_hi {t s : Nat → Nat} {n j : Nat} : sb_cat t n s (n + j) = s j := by
  show (if n + j < n then t (n + j) else s (n + j - n)) = s j
  rw [if_neg (by omega), Nat.add_sub_cancel_left]
theorem sb_latPut {t s : Nat → Nat} {n w : Nat} {a a' : Nat → Int32} (h : sb_Lat t n a) (hk : ∀ j, j < n → a' j = a j) (hs : ∀ i, i < w → s i < 256 ∧ a' (n + i) = sb_b (s i)) : sb_Lat (sb_cat t n s) (n + w) a' := by
  intro j hj
  by_cases e : j < n
  · rw [sb_cat_lo e, hk j e]
    exact h j e
  · obtain ⟨i, rfl⟩ : ∃ i, j = n + i := ⟨j - n, by omega⟩
    rw [sb_cat_hi]
    exact hs i (by omega)
theorem sb_latKeep {t : Nat → Nat} {n : Nat} {a a' : Nat → Int32} (h : sb_Lat t n a) (hk : ∀ j, j < n → a' j = a j) : sb_Lat t n a' := fun j hj => by
  rw [hk j hj]
  exact h j hj
def sb_cap (q m : Nat) : Nat := if q ≤ m then m else if 2 * m + 2 < q then q else 2 * m + 2
def sb_Room (q m mc ms : Nat) : Prop := q ≤ m ∨ (1 ≤ mc ∧ sb_cap q m ≤ ms ∧ sb_cap q m ≤ 65536)
theorem sb_cap_ge (q m : Nat) : q ≤ sb_cap q m := by
  unfold sb_cap
  split
  · omega
  · split <;> omega
theorem sb_cap_gem (q m : Nat) : m ≤ sb_cap q m := by
  unfold sb_cap
  split
  · omega
  · split <;> omega
theorem sb_cap_le {q m mc ms : Nat} (hm : m ≤ 65536) (hr : sb_Room q m mc ms) : sb_cap q m ≤ 65536 := by
  rcases hr with h | h
  · rw [sb_cap, if_pos h]
    exact hm
  · exact h.2.2
theorem sb_at {P : Int32 → Prop} {x y : Int32} (e : x = y) (h : P y) : P x := e ▸ h
def sb_dg (w : Nat) : Nat := if w < 10 then 1 else if w < 100 then 2 else if w < 1000 then 3 else if w < 10000 then 4 else if w < 100000 then 5 else if w < 1000000 then 6 else if w < 10000000 then 7 else if w < 100000000 then 8 else if w < 1000000000 then 9 else 10
def sb_dec (v : Nat) : Nat → Nat := fun i => 48 + v / 10 ^ (sb_dg v - 1 - i) % 10
theorem sb_dg_in (w : Nat) : 1 ≤ sb_dg w ∧ sb_dg w ≤ 10 := by
  unfold sb_dg
  constructor <;> (repeat' split) <;> omega
theorem sb_dg100 {w : Nat} (h : 100 ≤ w) (hw : w < 2 ^ 31) : sb_dg w = sb_dg (w / 100) + 2 := by
  rw [sb_dg, sb_dg, if_neg (show ¬ w < 10 by omega), if_neg (show ¬ w < 100 by omega)]
  by_cases h3 : w < 1000
  · rw [if_pos h3, if_pos (show w / 100 < 10 by omega)]
  rw [if_neg h3, if_neg (show ¬ w / 100 < 10 by omega)]
  by_cases h4 : w < 10000
  · rw [if_pos h4, if_pos (show w / 100 < 100 by omega)]
  rw [if_neg h4, if_neg (show ¬ w / 100 < 100 by omega)]
  by_cases h5 : w < 100000
  · rw [if_pos h5, if_pos (show w / 100 < 1000 by omega)]
  rw [if_neg h5, if_neg (show ¬ w / 100 < 1000 by omega)]
  by_cases h6 : w < 1000000
  · rw [if_pos h6, if_pos (show w / 100 < 10000 by omega)]
  rw [if_neg h6, if_neg (show ¬ w / 100 < 10000 by omega)]
  by_cases h7 : w < 10000000
  · rw [if_pos h7, if_pos (show w / 100 < 100000 by omega)]
  rw [if_neg h7, if_neg (show ¬ w / 100 < 100000 by omega)]
  by_cases h8 : w < 100000000
  · rw [if_pos h8, if_pos (show w / 100 < 1000000 by omega)]
  rw [if_neg h8, if_neg (show ¬ w / 100 < 1000000 by omega)]
  by_cases h9 : w < 1000000000
  · rw [if_pos h9, if_pos (show w / 100 < 10000000 by omega)]
  rw [if_neg h9, if_neg (show ¬ w / 100 < 10000000 by omega)]
  rw [if_pos (show w / 100 < 100000000 by omega)]
theorem sb_negT {w : Nat} (h : w < 2 ^ 31) : (-nI w).toInt = -(w : Int) := by
  rw [Int32.toInt_neg, nI_toInt h]
  exact Int.bmod_eq_of_le (by omega) (by omega)
theorem sb_nle {a b : Nat} (ha : a < 2 ^ 31) (hb : b < 2 ^ 31) : -nI a ≤ -nI b ↔ b ≤ a := by
  rw [Int32.le_iff_toInt_le, sb_negT ha, sb_negT hb]
  omega
theorem sb_nlt {a b : Nat} (ha : a < 2 ^ 31) (hb : b < 2 ^ 31) : -nI a < -nI b ↔ b < a := by
  rw [Int32.lt_iff_toInt_lt, sb_negT ha, sb_negT hb]
  omega
theorem sb_cmp {A B : Prop} {x : Int32} (v c : Nat) (f : c ≤ v → A) (g : v < c → B) (hv : v < 2 ^ 31) (hx : x = -nI c := by rfl) (hc : c < 2 ^ 31 := by omega) : (-nI v ≤ x → A) ∧ (¬ -nI v ≤ x → B) := by
  subst hx
  rw [sb_nle hv hc]
  exact ⟨f, fun z => g (by omega)⟩
theorem sb_ndiv {w : Nat} (hw : w < 2 ^ 31) : (-nI w) / 100 = -nI (w / 100) := by
  apply Int32.toInt_inj.mp
  have h100 : (100 : Int32).toInt = 100 := by decide
  rw [Int32.toInt_div, sb_negT hw, h100, sb_negT (by omega), Int.neg_tdiv, Int.tdiv_eq_ediv_of_nonneg (by omega), Int.bmod_eq_of_le (by omega) (by omega)]
  omega
theorem sb_nrem {w : Nat} (hw : w < 2 ^ 31) : (-nI (w / 100)) * 100 - (-nI w) = nI (w % 100) := by
  have h := pk_rem (a := w) (d := 100) hw (by decide) (by decide)
  rw [pk_div hw (by decide) (by decide)] at h
  rw [← h]
  show (-nI (w / 100)) * nI 100 - (-nI w) = nI w - nI (w / 100) * nI 100
  rw [Int32.neg_mul, Int32.sub_neg, Int32.add_comm, ← Int32.sub_eq_add_neg]
/-! ===== Int32 by its bits: bt x i ===== -/
def bt (x : Int32) (i : Nat) : Bool := x.toBitVec.getLsbD i
theorem b_ext {x y : Int32} (h : ∀ i, i < 32 → bt x i = bt y i) : x = y := Int32.toBitVec_inj.mp (BitVec.eq_of_getLsbD_eq (fun i hi => h i hi))
theorem b_or (x y : Int32) (i : Nat) : bt (x ||| y) i = (bt x i || bt y i) := by unfold bt; rw [Int32.toBitVec_or, BitVec.getLsbD_or]
theorem b_and (x y : Int32) (i : Nat) : bt (x &&& y) i = (bt x i && bt y i) := by unfold bt; rw [Int32.toBitVec_and, BitVec.getLsbD_and]
theorem b_xor (x y : Int32) (i : Nat) : bt (x ^^^ y) i = (bt x i ^^ bt y i) := by unfold bt; rw [Int32.toBitVec_xor, BitVec.getLsbD_xor]
theorem b_big {x : Int32} {i : Nat} (h : 32 ≤ i) : bt x i = false := BitVec.getLsbD_of_ge _ _ h
theorem b_255 (i : Nat) : bt 255 i = decide (i < 8) := by
  rcases Nat.lt_or_ge i 32 with h | h
  · exact (by decide +kernel : ∀ i, i < 32 → bt 255 i = decide (i < 8)) i h
  · rw [b_big h, decide_eq_false (by omega)]
theorem b_65535 (i : Nat) : bt 65535 i = decide (i < 16) := by
  rcases Nat.lt_or_ge i 32 with h | h
  · exact (by decide +kernel : ∀ i, i < 32 → bt 65535 i = decide (i < 16)) i h
  · rw [b_big h, decide_eq_false (by omega)]
theorem b_m1 : ∀ i, i < 32 → bt (-1) i = true := by decide +kernel
theorem b_0 (i : Nat) : bt 0 i = false := BitVec.getLsbD_zero
theorem s_l : ∀ n, n < 32 → ((nI n &&& 31).toBitVec.smod 32).toNat = n := by decide +kernel
theorem s_u : ∀ n, n < 32 → (((nI n).toUInt32 &&& Int32.toUInt32 31).toBitVec % 32).toNat = n := by decide +kernel
theorem b_shl (n : Nat) (hn : n < 32) (x : Int32) {i : Nat} (hi : i < 32) : bt (x <<< (nI n &&& 31)) i = (decide (n ≤ i) && bt x (i - n)) := by
  unfold bt
  rw [Int32.toBitVec_shiftLeft]
  show (x.toBitVec <<< ((nI n &&& 31).toBitVec.smod 32).toNat).getLsbD i = _
  rw [s_l n hn, BitVec.getLsbD_shiftLeft]
  rcases Nat.lt_or_ge i n with h | h
  · simp [h, Nat.not_le.mpr h]
  · simp [hi, h, Nat.not_lt.mpr h]
theorem b_ushr (n : Nat) (hn : n < 32) (x : Int32) (i : Nat) : bt ((x.toUInt32 >>> ((nI n).toUInt32 &&& Int32.toUInt32 31)).toInt32) i = bt x (n + i) := by
  show (x.toUInt32 >>> ((nI n).toUInt32 &&& Int32.toUInt32 31)).toBitVec.getLsbD i = x.toUInt32.toBitVec.getLsbD (n + i)
  rw [UInt32.toBitVec_shiftRight]
  show (x.toUInt32.toBitVec >>> (((nI n).toUInt32 &&& Int32.toUInt32 31).toBitVec % 32).toNat).getLsbD i = _
  rw [s_u n hn, BitVec.getLsbD_ushiftRight]
theorem b_sshr (n : Nat) (hn : n < 32) (x : Int32) {i : Nat} (hi : i < 32) : bt (x >>> (nI n &&& 31)) i = if n + i < 32 then bt x (n + i) else bt x 31 := by
  unfold bt
  rw [Int32.toBitVec_shiftRight]
  show (x.toBitVec.sshiftRight ((nI n &&& 31).toBitVec.smod 32).toNat).getLsbD i = _
  rw [s_l n hn, BitVec.getLsbD_sshiftRight, BitVec.msb_eq_getLsbD_last]
  simp [hi]
theorem b_shl8 (x : Int32) {i : Nat} (hi : i < 32) : bt (x <<< ((8 : Int32) &&& 31)) i = (decide (8 ≤ i) && bt x (i - 8)) := b_shl 8 (by omega) x hi
theorem b_shl16 (x : Int32) {i : Nat} (hi : i < 32) : bt (x <<< ((16 : Int32) &&& 31)) i = (decide (16 ≤ i) && bt x (i - 16)) := b_shl 16 (by omega) x hi
theorem b_shl24 (x : Int32) {i : Nat} (hi : i < 32) : bt (x <<< ((24 : Int32) &&& 31)) i = (decide (24 ≤ i) && bt x (i - 24)) := b_shl 24 (by omega) x hi
theorem b_sshr8 (x : Int32) {i : Nat} (hi : i < 32) : bt (x >>> ((8 : Int32) &&& 31)) i = if 8 + i < 32 then bt x (8 + i) else bt x 31 := b_sshr 8 (by omega) x hi
end
section
/-! ===== pure: sums and counts over symbols ===== -/
def hx_ps (f : Nat → Nat) : Nat → Nat
  | 0 => 0
  | n + 1 => hx_ps f n + f n
def hx_pc (f : Nat → Nat) : Nat → Nat
  | 0 => 0
  | n + 1 => hx_pc f n + (if f n = 0 then 0 else 1)
theorem hx_ps_add (f : Nat → Nat) (n : Nat) : ∀ d, hx_ps f n ≤ hx_ps f (n + d)
  | 0 => Nat.le_refl _
  | d + 1 => Nat.le_trans (hx_ps_add f n d) (Nat.le_add_right _ _)
theorem hx_ps_mono (f : Nat → Nat) {n m : Nat} (h : n ≤ m) : hx_ps f n ≤ hx_ps f m := by
  obtain ⟨d, rfl⟩ := Nat.le.dest h
  exact hx_ps_add f n d
theorem hx_ps_item (f : Nat → Nat) {s n : Nat} (h : s < n) : hx_ps f s + f s ≤ hx_ps f n := hx_ps_mono f (n := s + 1) h
theorem hx_ps_le {f : Nat → Nat} {b : Nat} (h : ∀ t, f t ≤ b) : ∀ n, hx_ps f n ≤ b * n
  | 0 => Nat.zero_le _
  | n + 1 => by
    have h1 := hx_ps_le h n
    have h2 := h n
    show hx_ps f n + f n ≤ b * (n + 1)
    rw [Nat.mul_succ]
    omega
theorem hx_pc_le (f : Nat → Nat) : ∀ n, hx_pc f n ≤ n
  | 0 => Nat.le_refl _
  | n + 1 => by
    have h1 := hx_pc_le f n
    show hx_pc f n + (if f n = 0 then 0 else 1) ≤ n + 1
    split <;> omega
theorem hx_pc_ps (f : Nat → Nat) : ∀ n, hx_pc f n ≤ hx_ps f n
  | 0 => Nat.le_refl _
  | n + 1 => by
    have h1 := hx_pc_ps f n
    show hx_pc f n + (if f n = 0 then 0 else 1) ≤ hx_ps f n + f n
    split <;> omega
theorem hx_pc_z {f : Nat → Nat} : ∀ n, hx_pc f n = 0 → ∀ t, t < n → f t = 0
  | 0, _, t, ht => absurd ht (Nat.not_lt_zero _)
  | n + 1, h, t, ht => by
    have h' : hx_pc f n + (if f n = 0 then 0 else 1) = 0 := h
    have e : f n = 0 := by
      by_cases z : f n = 0
      · exact z
      · rw [if_neg z] at h'; omega
    rcases Nat.lt_succ_iff_lt_or_eq.mp ht with q | q
    · exact hx_pc_z n (by omega) t q
    · rw [q]; exact e
theorem hx_ps_z {f : Nat → Nat} : ∀ n, (∀ t, t < n → f t = 0) → hx_ps f n = 0
  | 0, _ => rfl
  | n + 1, h => by
    show hx_ps f n + f n = 0
    rw [hx_ps_z n (fun t ht => h t (by omega)), h n (by omega)]
theorem hx_ps_pc {f : Nat → Nat} {n : Nat} : hx_ps f n = 0 ↔ hx_pc f n = 0 :=
  ⟨fun h => by have := hx_pc_ps f n; omega, fun h => hx_ps_z n (hx_pc_z n h)⟩
theorem hx_pc_pos {f : Nat → Nat} {s n : Nat} (hs : s < n) (h : f s ≠ 0) : 0 < hx_pc f n := by
  rcases Nat.eq_zero_or_pos (hx_pc f n) with z | z
  · exact absurd (hx_pc_z n z s hs) h
  · exact z
theorem hx_ps_congr {f g : Nat → Nat} : ∀ n, (∀ t, t < n → f t = g t) → hx_ps f n = hx_ps g n
  | 0, _ => rfl
  | n + 1, h => by
    show hx_ps f n + f n = hx_ps g n + g n
    rw [hx_ps_congr n (fun t ht => h t (by omega)), h n (by omega)]
theorem hx_pc_congr {f g : Nat → Nat} : ∀ n, (∀ t, t < n → (f t = 0 ↔ g t = 0)) → hx_pc f n = hx_pc g n
  | 0, _ => rfl
  | n + 1, h => by
    show hx_pc f n + (if f n = 0 then 0 else 1) = hx_pc g n + (if g n = 0 then 0 else 1)
    rw [hx_pc_congr n (fun t ht => h t (by omega))]
    have e := h n (by omega)
    by_cases z : f n = 0
    · rw [if_pos z, if_pos (e.mp z)]
    · rw [if_neg z, if_neg (fun q => z (e.mpr q))]
/-! ===== the set of excluded symbols, the items of a level ===== -/
def hx_g (E : Nat → Bool) : Nat → Nat := hx_pc (fun t => if E t = true then 1 else 0)
def hx_f (E : Nat → Bool) (F : Nat → Nat) : Nat → Nat := fun t => if E t = true then 0 else F t
def hx_E (E : Nat → Bool) (f : Nat → Nat) : Nat → Bool := fun t => E t || decide (f t ≠ 0)
def hx_es (al gone m : Nat) : Nat := if gone + m < al then m else 0
theorem hx_f_le {E : Nat → Bool} {F : Nat → Nat} {b : Nat} (h : ∀ t, F t ≤ b) (t : Nat) : hx_f E F t ≤ b := by
  unfold hx_f
  split
  · exact Nat.zero_le _
  · exact h t
theorem hx_f_E {E : Nat → Bool} {F : Nat → Nat} {t : Nat} (h : E t = true) : hx_f E F t = 0 := if_pos h
theorem hx_f_n {E : Nat → Bool} {F : Nat → Nat} {t : Nat} (h : E t = false) : hx_f E F t = F t := if_neg (by rw [h]; decide)
theorem hx_g_E {E : Nat → Bool} {F : Nat → Nat} : ∀ n, hx_g (hx_E E (hx_f E F)) n = hx_g E n + hx_pc (hx_f E F) n
  | 0 => rfl
  | n + 1 => by
    have h := hx_g_E (E := E) (F := F) n
    show hx_g (hx_E E (hx_f E F)) n + (if (if hx_E E (hx_f E F) n = true then 1 else 0) = 0 then 0 else 1) = hx_g E n + (if (if E n = true then 1 else 0) = 0 then 0 else 1) + (hx_pc (hx_f E F) n + (if hx_f E F n = 0 then 0 else 1))
    rw [h]
    rcases Bool.eq_false_or_eq_true (E n) with z | z
    · have e1 : hx_E E (hx_f E F) n = true := by unfold hx_E; rw [z]; rfl
      have e2 : hx_f E F n = 0 := hx_f_E z
      simp only [e1, e2, z]
      simp
      omega
    · by_cases y : hx_f E F n = 0
      · have e1 : hx_E E (hx_f E F) n = false := by unfold hx_E; rw [z, y]; rfl
        simp only [e1, y, z]
        simp
      · have e1 : hx_E E (hx_f E F) n = true := by unfold hx_E; rw [z, decide_eq_true y]; rfl
        simp only [e1, if_neg y, z]
        simp
        omega
theorem hx_g_flat {E : Nat → Bool} : ∀ n, hx_g E n + hx_pc (hx_f E (fun _ => 1)) n = n
  | 0 => rfl
  | n + 1 => by
    have h := hx_g_flat (E := E) n
    show hx_g E n + (if (if E n = true then 1 else 0) = 0 then 0 else 1) + (hx_pc (hx_f E (fun _ => 1)) n + (if hx_f E (fun _ => 1) n = 0 then 0 else 1)) = n + 1
    rcases Bool.eq_false_or_eq_true (E n) with z | z
    · have e2 : hx_f E (fun _ => 1) n = 0 := hx_f_E z
      simp only [e2, z]
      simp
      omega
    · have e2 : hx_f E (fun _ => 1) n = 1 := hx_f_n z
      simp only [e2, z]
      simp
      omega
theorem hx_g_le (E : Nat → Bool) (n : Nat) : hx_g E n ≤ n := hx_pc_le _ n
/-- a symbol that is neither excluded nor a candidate leaves room for an escape -/
theorem hx_room {E : Nat → Bool} {F : Nat → Nat} {s al : Nat} (hs : s < al) (hE : E s = false) (hf : hx_f E F s = 0) : hx_g E al + hx_pc (hx_f E F) al < al := by
  have h := hx_g_flat (E := hx_E E (hx_f E F)) al
  rw [hx_g_E] at h
  have e : hx_E E (hx_f E F) s = false := by unfold hx_E; rw [hE, hf]; rfl
  have p := hx_pc_pos (f := hx_f (hx_E E (hx_f E F)) (fun _ => 1)) hs (by rw [hx_f_n e]; decide)
  omega
theorem hx_E_s {E : Nat → Bool} {f : Nat → Nat} {s : Nat} (hE : E s = false) (hf : f s = 0) : hx_E E f s = false := by unfold hx_E; rw [hE, hf]; rfl
/-! ===== counts with halving over a history (the last symbol first) ===== -/
def hx_bump (lim : Nat) (n : Nat → Nat) (s : Nat) : Nat → Nat :=
  fun t => if lim < n s + 1 then ((if t = s then n s + 1 else n t) + 1) / 2 else (if t = s then n s + 1 else n t)
theorem hx_bump_pos {lim : Nat} {n : Nat → Nat} {s t : Nat} : 0 < hx_bump lim n s t ↔ (t = s ∨ 0 < n t) := by
  unfold hx_bump
  by_cases h : t = s
  · rw [if_pos h]; split <;> simp [h] <;> omega
  · rw [if_neg h]; split <;> simp [h] <;> omega
theorem hx_bump_le {lim : Nat} {n : Nat → Nat} {s : Nat} (hl : 2 ≤ lim) (h : ∀ t, n t ≤ lim) (t : Nat) : hx_bump lim n s t ≤ lim := by
  unfold hx_bump
  have h1 := h s
  have h2 := h t
  by_cases e : t = s
  · rw [if_pos e]; split <;> omega
  · rw [if_neg e]; split <;> omega
def hx_cnt (lim : Nat) : List Nat → List Nat → Nat → Nat
  | [] => fun _ _ => 0
  | s :: L => fun w => if w <+: L then hx_bump lim (hx_cnt lim L w) s else hx_cnt lim L w
theorem hx_cnt_t {lim s : Nat} {L w : List Nat} (h : w <+: L) : hx_cnt lim (s :: L) w = hx_bump lim (hx_cnt lim L w) s := if_pos h
theorem hx_cnt_f {lim s : Nat} {L w : List Nat} (h : ¬ w <+: L) : hx_cnt lim (s :: L) w = hx_cnt lim L w := if_neg h
theorem hx_cnt_le {lim : Nat} (hl : 2 ≤ lim) : ∀ (L w : List Nat) (t : Nat), hx_cnt lim L w t ≤ lim
  | [], _, _ => Nat.zero_le _
  | s :: L, w, t => by
    by_cases h : w <+: L
    · rw [hx_cnt_t h]; exact hx_bump_le hl (hx_cnt_le hl L w) t
    · rw [hx_cnt_f h]; exact hx_cnt_le hl L w t
theorem hx_cnt_short {lim : Nat} : ∀ (L w : List Nat), L.length ≤ w.length → hx_cnt lim L w = fun _ => 0
  | [], _, _ => rfl
  | s :: L, w, h => by
    have h' : L.length + 1 ≤ w.length := h
    rw [hx_cnt_f (fun z => by have := z.length_le; omega)]
    exact hx_cnt_short L w (by omega)
theorem hx_cnt_up {lim s t : Nat} {L w : List Nat} (h : 0 < hx_cnt lim L w t) : 0 < hx_cnt lim (s :: L) w t := by
  by_cases z : w <+: L
  · rw [hx_cnt_t z]; exact hx_bump_pos.mpr (Or.inr h)
  · rw [hx_cnt_f z]; exact h
theorem hx_cnt_self {lim s : Nat} {L w : List Nat} (h : w <+: L) : 0 < hx_cnt lim (s :: L) w s := by
  rw [hx_cnt_t h]; exact hx_bump_pos.mpr (Or.inl rfl)
theorem hx_cnt_al {lim al : Nat} : ∀ (L w : List Nat) (t : Nat), (∀ s, s ∈ L → s < al) → 0 < hx_cnt lim L w t → t < al
  | [], _, _, _, h => absurd h (Nat.lt_irrefl 0)
  | s :: L, w, t, hL, h => by
    by_cases z : w <+: L
    · rw [hx_cnt_t z] at h
      rcases hx_bump_pos.mp h with e | e
      · rw [e]; exact hL s (List.mem_cons_self)
      · exact hx_cnt_al L w t (fun a ha => hL a (List.mem_cons_of_mem _ ha)) e
    · rw [hx_cnt_f z] at h
      exact hx_cnt_al L w t (fun a ha => hL a (List.mem_cons_of_mem _ ha)) h
/-- the beginning of a counted string is counted -/
theorem hx_cnt_cl {lim a : Nat} {w : List Nat} : ∀ (L : List Nat) (s : Nat), 0 < hx_cnt lim L (a :: w) s → 0 < hx_cnt lim L w a
  | [], _, h => absurd h (Nat.lt_irrefl 0)
  | b :: L, s, h => by
    by_cases z : (a :: w) <+: L
    · apply hx_cnt_up
      obtain ⟨r, e⟩ := z
      rw [← e]
      exact hx_cnt_self (List.prefix_append w r)
    · rw [hx_cnt_f z] at h
      exact hx_cnt_up (hx_cnt_cl L s h)
/-- is the string (last symbol first) counted -/
def hx_oc (C : List Nat → Nat → Nat) : List Nat → Prop
  | [] => True
  | a :: w => 0 < C w a
theorem hx_oc_drop {lim : Nat} {L : List Nat} : ∀ (w : List Nat), hx_oc (hx_cnt lim L) w → ∀ i, hx_oc (hx_cnt lim L) (w.drop i)
  | [], _, i => by rw [List.drop_nil]; trivial
  | a :: w, h, 0 => h
  | a :: w, h, i + 1 => by
    rw [List.drop_succ_cons]
    refine hx_oc_drop w ?_ i
    cases w with
    | nil => trivial
    | cons b w => exact hx_cnt_cl L a h
theorem hx_oc_take {lim : Nat} : ∀ (L : List Nat) (k : Nat), hx_oc (hx_cnt lim L) (L.take k)
  | [], k => by rw [List.take_nil]; trivial
  | a :: L, 0 => trivial
  | a :: L, k + 1 => by
    rw [List.take_succ_cons]
    exact hx_cnt_self (List.take_prefix k L)
/-- in how many of the first k contexts the symbol has no count -/
def hx_fr (lim : Nat) (L : List Nat) (s : Nat) : Nat → Nat
  | 0 => 0
  | k + 1 => hx_fr lim L s k + (if hx_cnt lim L (L.take k) s = 0 then 1 else 0)
def hx_top (L : List Nat) : Nat := if L.length < 3 then L.length else 3
def hx_fresh (lim : Nat) (L : List Nat) (s : Nat) : Nat := hx_fr lim L s (hx_top L + 1)
def hx_strs (lim : Nat) : List Nat → Nat
  | [] => 0
  | s :: L => hx_strs lim L + hx_fresh lim L s
theorem hx_fr_le (lim : Nat) (L : List Nat) (s : Nat) : ∀ k, hx_fr lim L s k ≤ k
  | 0 => Nat.le_refl _
  | k + 1 => by
    have := hx_fr_le lim L s k
    show hx_fr lim L s k + _ ≤ k + 1
    split <;> omega
theorem hx_fr_add (lim : Nat) (L : List Nat) (s n : Nat) : ∀ d, hx_fr lim L s n ≤ hx_fr lim L s (n + d)
  | 0 => Nat.le_refl _
  | d + 1 => Nat.le_trans (hx_fr_add lim L s n d) (Nat.le_add_right _ _)
theorem hx_fr_mono (lim : Nat) (L : List Nat) (s : Nat) {n m : Nat} (h : n ≤ m) : hx_fr lim L s n ≤ hx_fr lim L s m := by
  obtain ⟨d, rfl⟩ := Nat.le.dest h
  exact hx_fr_add lim L s n d
/-- the history after one more symbol -/
def hx_next (lim ar : Nat) (L : List Nat) (s : Nat) : List Nat := if hx_strs lim L + hx_fresh lim L s ≤ ar then s :: L else [s]
/-- the counts of a level: 0 the flat one, k + 1 the order k -/
def hx_F (lim : Nat) (L : List Nat) : Nat → Nat → Nat
  | 0 => fun _ => 1
  | k + 1 => hx_cnt lim L (L.take k)
theorem hx_F_le {lim : Nat} (hl : 2 ≤ lim) (h5 : lim ≤ 15) (L : List Nat) (K t : Nat) : hx_F lim L K t ≤ 15 := by
  cases K with
  | zero => show 1 ≤ 15; omega
  | succ k => exact Nat.le_trans (hx_cnt_le hl L _ t) h5
theorem hx_top_le (L : List Nat) : hx_top L ≤ 3 := by unfold hx_top; split <;> omega
theorem hx_top_len (L : List Nat) : hx_top L ≤ L.length := by unfold hx_top; split <;> omega
theorem hx_top_cons (s : Nat) (L : List Nat) : hx_top (s :: L) = if hx_top L < 3 then hx_top L + 1 else 3 := by
  unfold hx_top
  rw [List.length_cons]
  by_cases h : L.length < 3
  · rw [if_pos h, if_pos h]; split <;> omega
  · rw [if_neg h, if_neg (by omega), if_neg (by omega)]
end
section
/-! ===== pure: the coder ===== -/
/-- doubling until RANGE is at least 32768; dg the digits that come in (0 for the encoder) -/
def cx_nrm (dg : Nat → Nat) : Nat → Nat → Nat → Nat → Nat × Nat × Nat
  | 0, V, rg, w => (V, rg, w)
  | f + 1, V, rg, w => if rg < 32768 then cx_nrm dg f (2 * V + dg w) (2 * rg) (w + 1) else (V, rg, w)
theorem cx_nrm_t {dg : Nat → Nat} {f V rg w : Nat} (h : rg < 32768) : cx_nrm dg (f + 1) V rg w = cx_nrm dg f (2 * V + dg w) (2 * rg) (w + 1) := if_pos h
theorem cx_nrm_f {dg : Nat → Nat} {f V rg w : Nat} (h : ¬ rg < 32768) : cx_nrm dg f V rg w = (V, rg, w) := by
  cases f with
  | zero => rfl
  | succ f => exact if_neg h
def cx_rg (rg cum fq tot : Nat) : Nat := if cum + fq = tot then rg - rg / tot * cum else rg / tot * fq
def cx_e (st : Nat × Nat × Nat) (cum fq tot : Nat) : Nat × Nat × Nat :=
  cx_nrm (fun _ => 0) 16 (st.1 + st.2.1 / tot * cum) (cx_rg st.2.1 cum fq tot) st.2.2
def cx_d (dg : Nat → Nat) (st : Nat × Nat × Nat) (cum fq tot : Nat) : Nat × Nat × Nat :=
  cx_nrm dg 16 (st.1 - st.2.1 / tot * cum) (cx_rg st.2.1 cum fq tot) st.2.2
/-- an item of a step -/
def cx_it (cum fq tot : Nat) : Prop := 1 ≤ fq ∧ cum + fq ≤ tot ∧ tot ≤ 128
theorem cx_rg_b {rg cum fq tot : Nat} (hi : cx_it cum fq tot) (h1 : 32768 ≤ rg) : 256 ≤ cx_rg rg cum fq tot ∧ rg / tot * cum + cx_rg rg cum fq tot ≤ rg := by
  obtain ⟨a, b, c⟩ := hi
  have r1 : 256 ≤ rg / tot := (Nat.le_div_iff_mul_le (by omega)).mpr (Nat.le_trans (Nat.mul_le_mul_left 256 c) h1)
  have r2 : rg / tot * tot ≤ rg := Nat.div_mul_le_self rg tot
  have r3 : rg / tot * (cum + fq) ≤ rg / tot * tot := Nat.mul_le_mul_left _ b
  have r4 : rg / tot * fq ≥ rg / tot * 1 := Nat.mul_le_mul_left _ a
  rw [Nat.mul_add] at r3
  unfold cx_rg
  split <;> omega
theorem cx_nrm_b {dg : Nat → Nat} : ∀ f j V rg w, j ≤ f → 32768 ≤ rg * 2 ^ j → rg ≤ 65536 → 32768 ≤ (cx_nrm dg f V rg w).2.1 ∧ (cx_nrm dg f V rg w).2.1 ≤ 65536 ∧ (cx_nrm dg f V rg w).2.2 ≤ w + j ∧ w ≤ (cx_nrm dg f V rg w).2.2 := by
  intro f
  induction f with
  | zero =>
    intro j V rg w hj h1 h2
    have : j = 0 := by omega
    subst this
    rw [Nat.pow_zero, Nat.mul_one] at h1
    exact ⟨h1, h2, Nat.le_refl _, Nat.le_refl _⟩
  | succ f ih =>
    intro j V rg w hj h1 h2
    by_cases h : rg < 32768
    · rw [cx_nrm_t h]
      cases j with
      | zero => rw [Nat.pow_zero, Nat.mul_one] at h1; omega
      | succ j =>
        have e : 2 * rg * 2 ^ j = rg * 2 ^ (j + 1) := by rw [Nat.pow_succ, Nat.mul_comm 2 rg, Nat.mul_assoc, Nat.mul_comm 2]
        have := ih j (2 * V + dg w) (2 * rg) (w + 1) (by omega) (by rw [e]; exact h1) (by omega)
        refine ⟨this.1, this.2.1, ?_, ?_⟩
        · have := this.2.2.1; omega
        · have := this.2.2.2; omega
    · rw [cx_nrm_f h]
      exact ⟨by show 32768 ≤ rg; omega, h2, by show w ≤ w + j; omega, Nat.le_refl _⟩
/-- the encoder's interval stays within 2 ^ WIDTH -/
theorem cx_nrm_V : ∀ f V rg w, V + rg ≤ 2 ^ w → (cx_nrm (fun _ => 0) f V rg w).1 + (cx_nrm (fun _ => 0) f V rg w).2.1 ≤ 2 ^ (cx_nrm (fun _ => 0) f V rg w).2.2 := by
  intro f
  induction f with
  | zero => intro V rg w h; exact h
  | succ f ih =>
    intro V rg w h
    by_cases z : rg < 32768
    · rw [cx_nrm_t z]
      apply ih
      rw [Nat.pow_succ]
      show 2 * V + 0 + 2 * rg ≤ _
      omega
    · rw [cx_nrm_f z]; exact h
/-- the decoder's GAP stays below RANGE -/
theorem cx_nrm_g {dg : Nat → Nat} (hd : ∀ i, dg i ≤ 1) : ∀ f V rg w, V < rg → (cx_nrm dg f V rg w).1 < (cx_nrm dg f V rg w).2.1 := by
  intro f
  induction f with
  | zero => intro V rg w h; exact h
  | succ f ih =>
    intro V rg w h
    by_cases z : rg < 32768
    · rw [cx_nrm_t z]
      apply ih
      have := hd w
      omega
    · rw [cx_nrm_f z]; exact h
/-- the encoder's invariant: W the WIDTH at the start, n steps done -/
def cx_EI (W n : Nat) (st : Nat × Nat × Nat) : Prop := 32768 ≤ st.2.1 ∧ st.2.1 ≤ 65536 ∧ st.2.2 ≤ W + 7 * n ∧ 16 ≤ st.2.2 ∧ st.1 + st.2.1 ≤ 2 ^ st.2.2
def cx_DI (W n : Nat) (st : Nat × Nat × Nat) : Prop := 32768 ≤ st.2.1 ∧ st.2.1 ≤ 65536 ∧ st.2.2 ≤ W + 7 * n ∧ 16 ≤ st.2.2 ∧ st.1 < st.2.1
theorem cx_EI_s {W n cum fq tot : Nat} {st : Nat × Nat × Nat} (h : cx_EI W n st) (hi : cx_it cum fq tot) : cx_EI W (n + 1) (cx_e st cum fq tot) := by
  obtain ⟨h1, h2, h3, h4, h5⟩ := h
  obtain ⟨r1, r2⟩ := cx_rg_b hi h1
  have b := cx_nrm_b (dg := fun _ => 0) 16 7 (st.1 + st.2.1 / tot * cum) (cx_rg st.2.1 cum fq tot) st.2.2 (by omega) (by show 32768 ≤ _ * 128; omega) (by omega)
  have v := cx_nrm_V 16 (st.1 + st.2.1 / tot * cum) (cx_rg st.2.1 cum fq tot) st.2.2 (by omega)
  exact ⟨b.1, b.2.1, by have := b.2.2.1; show (cx_e st cum fq tot).2.2 ≤ _; unfold cx_e; omega, by have := b.2.2.2; show 16 ≤ (cx_e st cum fq tot).2.2; unfold cx_e; omega, v⟩
/-- the decoder's item holds GAP -/
def cx_di (st : Nat × Nat × Nat) (cum fq tot : Nat) : Prop := st.2.1 / tot * cum ≤ st.1 ∧ (cum + fq = tot ∨ st.1 < st.2.1 / tot * (cum + fq))
theorem cx_DI_s {dg : Nat → Nat} (hd : ∀ i, dg i ≤ 1) {W n cum fq tot : Nat} {st : Nat × Nat × Nat} (h : cx_DI W n st) (hi : cx_it cum fq tot) (hg : cx_di st cum fq tot) : cx_DI W (n + 1) (cx_d dg st cum fq tot) := by
  obtain ⟨h1, h2, h3, h4, h5⟩ := h
  obtain ⟨r1, r2⟩ := cx_rg_b hi h1
  have b := cx_nrm_b (dg := dg) 16 7 (st.1 - st.2.1 / tot * cum) (cx_rg st.2.1 cum fq tot) st.2.2 (by omega) (by show 32768 ≤ _ * 128; omega) (by omega)
  have lt : st.1 - st.2.1 / tot * cum < cx_rg st.2.1 cum fq tot := by
    obtain ⟨g1, g2⟩ := hg
    rw [Nat.mul_add] at g2
    unfold cx_rg
    split
    · omega
    · rename_i z
      rcases g2 with g2 | g2
      · exact absurd g2 z
      · omega
  have v := cx_nrm_g hd 16 (st.1 - st.2.1 / tot * cum) (cx_rg st.2.1 cum fq tot) st.2.2 lt
  exact ⟨b.1, b.2.1, by have := b.2.2.1; show (cx_d dg st cum fq tot).2.2 ≤ _; unfold cx_d; omega, by have := b.2.2.2; show 16 ≤ (cx_d dg st cum fq tot).2.2; unfold cx_d; omega, v⟩
/-! ===== pure: the walk through the levels ===== -/
def gw_m (al : Nat) (F : Nat → Nat → Nat) (E : Nat → Bool) (K : Nat) : Nat := hx_pc (hx_f E (F K)) al
def gw_s (al : Nat) (F : Nat → Nat → Nat) (E : Nat → Bool) (K : Nat) : Nat := hx_ps (hx_f E (F K)) al
def gw_t (al : Nat) (F : Nat → Nat → Nat) (E : Nat → Bool) (gone K : Nat) : Nat := gw_s al F E K + hx_es al gone (gw_m al F E K)
/-- the last step at level K with symbol s -/
def gw_end (al : Nat) (F : Nat → Nat → Nat) (cs : Nat × Nat × Nat → Nat → Nat → Nat → Nat × Nat × Nat) (K : Nat) (E : Nat → Bool) (gone n s : Nat) (st : Nat × Nat × Nat) : Nat × Nat × Nat × Nat × Nat × Nat × (Nat × Nat × Nat) :=
  (K, n, hx_ps (hx_f E (F K)) s, hx_f E (F K) s, gw_t al F E gone K, s, cs st (hx_ps (hx_f E (F K)) s) (hx_f E (F K) s) (gw_t al F E gone K))
def gw (al : Nat) (F : Nat → Nat → Nat) (ch : Nat × Nat × Nat → (Nat → Nat) → Nat → Nat) (cs : Nat × Nat × Nat → Nat → Nat → Nat → Nat × Nat × Nat) : Nat → (Nat → Bool) → Nat → Nat → Nat × Nat × Nat → Nat × Nat × Nat × Nat × Nat × Nat × (Nat × Nat × Nat)
  | 0, E, gone, n, st => gw_end al F cs 0 E gone n (ch st (hx_f E (F 0)) (gw_t al F E gone 0)) st
  | K + 1, E, gone, n, st =>
    if gw_m al F E (K + 1) = 0 then gw al F ch cs K E gone n st
    else if ch st (hx_f E (F (K + 1))) (gw_t al F E gone (K + 1)) < al then gw_end al F cs (K + 1) E gone n (ch st (hx_f E (F (K + 1))) (gw_t al F E gone (K + 1))) st
    else gw al F ch cs K (hx_E E (hx_f E (F (K + 1)))) (gone + gw_m al F E (K + 1)) (n + 1) (cs st (gw_s al F E (K + 1)) (hx_es al gone (gw_m al F E (K + 1))) (gw_t al F E gone (K + 1)))
section
variable {al : Nat} {F : Nat → Nat → Nat} {ch : Nat × Nat × Nat → (Nat → Nat) → Nat → Nat} {cs : Nat × Nat × Nat → Nat → Nat → Nat → Nat × Nat × Nat} {K : Nat} {E : Nat → Bool} {gone n : Nat} {st : Nat × Nat × Nat}
theorem gw_z (h : gw_m al F E (K + 1) = 0) : gw al F ch cs (K + 1) E gone n st = gw al F ch cs K E gone n st := if_pos h
theorem gw_l (h : gw_m al F E (K + 1) ≠ 0) (hc : ch st (hx_f E (F (K + 1))) (gw_t al F E gone (K + 1)) < al) : gw al F ch cs (K + 1) E gone n st = gw_end al F cs (K + 1) E gone n (ch st (hx_f E (F (K + 1))) (gw_t al F E gone (K + 1))) st := (if_neg h).trans (if_pos hc)
theorem gw_x (h : gw_m al F E (K + 1) ≠ 0) (hc : ¬ ch st (hx_f E (F (K + 1))) (gw_t al F E gone (K + 1)) < al) : gw al F ch cs (K + 1) E gone n st = gw al F ch cs K (hx_E E (hx_f E (F (K + 1)))) (gone + gw_m al F E (K + 1)) (n + 1) (cs st (gw_s al F E (K + 1)) (hx_es al gone (gw_m al F E (K + 1))) (gw_t al F E gone (K + 1))) := (if_neg h).trans (if_neg hc)
end
/-- the next level with candidates -/
def gw_n (al : Nat) (F : Nat → Nat → Nat) (E : Nat → Bool) : Nat → Nat
  | 0 => 0
  | K + 1 => if gw_m al F E (K + 1) = 0 then gw_n al F E K else K + 1
theorem gw_n_le (al : Nat) (F : Nat → Nat → Nat) (E : Nat → Bool) : ∀ K, gw_n al F E K ≤ K
  | 0 => Nat.le_refl _
  | K + 1 => by
    unfold gw_n
    split
    · exact Nat.le_succ_of_le (gw_n_le al F E K)
    · exact Nat.le_refl _
theorem gw_n_m (al : Nat) (F : Nat → Nat → Nat) (E : Nat → Bool) : ∀ K k, gw_n al F E K = k + 1 → gw_m al F E (k + 1) ≠ 0
  | 0, k, h => by cases h
  | K + 1, k, h => by
    unfold gw_n at h
    split at h
    · exact gw_n_m al F E K k h
    · rename_i z
      have : K = k := by omega
      rw [← this]; exact z
theorem gw_n_gw (al : Nat) (F : Nat → Nat → Nat) (E : Nat → Bool) (ch : Nat × Nat × Nat → (Nat → Nat) → Nat → Nat) (cs : Nat × Nat × Nat → Nat → Nat → Nat → Nat × Nat × Nat) (gone n : Nat) (st : Nat × Nat × Nat) : ∀ K, gw al F ch cs K E gone n st = gw al F ch cs (gw_n al F E K) E gone n st
  | 0 => rfl
  | K + 1 => by
    by_cases z : gw_m al F E (K + 1) = 0
    · rw [gw_z z, gw_n_gw al F E ch cs gone n st K]
      have e : gw_n al F E (K + 1) = gw_n al F E K := if_pos z
      rw [e]
    · have e : gw_n al F E (K + 1) = K + 1 := if_neg z
      rw [e]
/-! the totals -/
section
variable {al : Nat} {F : Nat → Nat → Nat} {E : Nat → Bool} {gone K : Nat}
theorem gw_tot (ha : al ≤ 8) (hF : ∀ K t, F K t ≤ 15) : gw_t al F E gone K ≤ 128 ∧ gw_s al F E K ≤ 120 ∧ gw_m al F E K ≤ al := by
  have h1 : gw_s al F E K ≤ 15 * al := hx_ps_le (hx_f_le (hF K)) al
  have h2 : gw_m al F E K ≤ al := hx_pc_le _ al
  have h3 : hx_es al gone (gw_m al F E K) ≤ gw_m al F E K := by unfold hx_es; split <;> omega
  unfold gw_t
  omega
theorem gw_it (ha : al ≤ 8) (hF : ∀ K t, F K t ≤ 15) {s : Nat} (hs : s < al) (hf : hx_f E (F K) s ≠ 0) : cx_it (hx_ps (hx_f E (F K)) s) (hx_f E (F K) s) (gw_t al F E gone K) := by
  have h1 := hx_ps_item (hx_f E (F K)) hs
  have h2 := (gw_tot (al := al) (F := F) (E := E) (gone := gone) (K := K) ha hF).1
  refine ⟨by omega, ?_, h2⟩
  unfold gw_t gw_s
  omega
theorem gw_ie (ha : al ≤ 8) (hF : ∀ K t, F K t ≤ 15) (hm : gw_m al F E K ≠ 0) (hr : gone + gw_m al F E K < al) : cx_it (gw_s al F E K) (hx_es al gone (gw_m al F E K)) (gw_t al F E gone K) := by
  have h2 := (gw_tot (al := al) (F := F) (E := E) (gone := gone) (K := K) ha hF).1
  have e : hx_es al gone (gw_m al F E K) = gw_m al F E K := if_pos hr
  refine ⟨by omega, Nat.le_refl _, h2⟩
theorem gw_pos (hm : gw_m al F E K ≠ 0) : 1 ≤ gw_s al F E K := by
  have := hx_pc_ps (hx_f E (F K)) al
  unfold gw_m at hm
  unfold gw_s
  omega
end
/-! choosers -/
/-- the wanted symbol if it is a candidate, else the escape -/
def gw_cs (al s : Nat) : Nat × Nat × Nat → (Nat → Nat) → Nat → Nat := fun _ f _ => if f s = 0 then al else s
/-- the item at q: the first t with q < f 0 + .. + f t, else al -/
def gw_pk (f : Nat → Nat) (q : Nat) : Nat → Nat
  | 0 => 0
  | n + 1 => if gw_pk f q n < n then gw_pk f q n else if q < hx_ps f (n + 1) then n else n + 1
def gw_q (st : Nat × Nat × Nat) (tot : Nat) : Nat := if st.1 / (st.2.1 / tot) < tot then st.1 / (st.2.1 / tot) else tot - 1
def gw_cd (al : Nat) : Nat × Nat × Nat → (Nat → Nat) → Nat → Nat := fun st f tot => gw_pk f (gw_q st tot) al
theorem gw_pk_le (f : Nat → Nat) (q : Nat) : ∀ n, gw_pk f q n ≤ n
  | 0 => Nat.le_refl _
  | n + 1 => by
    unfold gw_pk
    split
    · omega
    · split <;> omega
theorem gw_pk_sp (f : Nat → Nat) (q : Nat) : ∀ n, hx_ps f (gw_pk f q n) ≤ q ∧ (gw_pk f q n < n → q < hx_ps f (gw_pk f q n + 1))
  | 0 => ⟨Nat.zero_le _, fun h => absurd h (Nat.lt_irrefl 0)⟩
  | n + 1 => by
    have ih := gw_pk_sp f q n
    have le := gw_pk_le f q n
    by_cases z : gw_pk f q n < n
    · have e : gw_pk f q (n + 1) = gw_pk f q n := if_pos z
      rw [e]; exact ⟨ih.1, fun _ => ih.2 z⟩
    · have e0 : gw_pk f q n = n := by omega
      rw [e0] at ih
      by_cases y : q < hx_ps f (n + 1)
      · have e : gw_pk f q (n + 1) = n := (if_neg z).trans (if_pos y)
        rw [e]; exact ⟨ih.1, fun _ => y⟩
      · have e : gw_pk f q (n + 1) = n + 1 := (if_neg z).trans (if_neg y)
        rw [e]; exact ⟨by omega, fun h => absurd h (Nat.lt_irrefl _)⟩
section
variable {al : Nat} {F : Nat → Nat → Nat} {E : Nat → Bool} {K W n : Nat} {st : Nat × Nat × Nat}
theorem gw_q_lt {tot : Nat} (h : 0 < tot) : gw_q st tot < tot := by unfold gw_q; split <;> omega
theorem gw_q_le {tot : Nat} : gw_q st tot ≤ st.1 / (st.2.1 / tot) := by unfold gw_q; split <;> omega
theorem gw_q_mul {tot c : Nat} (h : c ≤ gw_q st tot) : st.2.1 / tot * c ≤ st.1 :=
  Nat.le_trans (Nat.mul_le_mul_left _ (Nat.le_trans h gw_q_le)) (Nat.mul_div_le _ _)
/-- the decoder chose a symbol -/
theorem gw_dt (ha : al ≤ 8) (hF : ∀ K t, F K t ≤ 15) (hD : cx_DI W n st) (hm : gw_m al F E K ≠ 0) {t : Nat} (ht : gw_cd al st (hx_f E (F K)) (gw_t al F E (hx_g E al) K) = t) (hl : t < al) :
    hx_f E (F K) t ≠ 0 ∧ cx_it (hx_ps (hx_f E (F K)) t) (hx_f E (F K) t) (gw_t al F E (hx_g E al) K) ∧ cx_di st (hx_ps (hx_f E (F K)) t) (hx_f E (F K) t) (gw_t al F E (hx_g E al) K) := by
  have sp := gw_pk_sp (hx_f E (F K)) (gw_q st (gw_t al F E (hx_g E al) K)) al
  have e : gw_pk (hx_f E (F K)) (gw_q st (gw_t al F E (hx_g E al) K)) al = t := ht
  rw [e] at sp
  have s2 : gw_q st (gw_t al F E (hx_g E al) K) < hx_ps (hx_f E (F K)) t + hx_f E (F K) t := sp.2 hl
  have nz : hx_f E (F K) t ≠ 0 := by have := sp.1; omega
  have it := gw_it (gone := hx_g E al) ha hF hl nz
  refine ⟨nz, it, gw_q_mul sp.1, ?_⟩
  by_cases y : hx_ps (hx_f E (F K)) t + hx_f E (F K) t = gw_t al F E (hx_g E al) K
  · exact Or.inl y
  · refine Or.inr ?_
    have h1 := it.2.1
    generalize hq : gw_q st (gw_t al F E (hx_g E al) K) = q at s2
    have hq2 : q = st.1 / (st.2.1 / gw_t al F E (hx_g E al) K) := by
      unfold gw_q at hq
      split at hq <;> omega
    have rp : 0 < st.2.1 / gw_t al F E (hx_g E al) K := by
      have r1 : 256 ≤ st.2.1 / gw_t al F E (hx_g E al) K := (Nat.le_div_iff_mul_le (by have := it.1; omega)).mpr (Nat.le_trans (Nat.mul_le_mul_left 256 it.2.2) hD.1)
      omega
    rw [Nat.mul_comm]
    exact (Nat.div_lt_iff_lt_mul rp).mp (by rw [← hq2]; exact s2)
/-- the decoder chose the escape -/
theorem gw_de (ha : al ≤ 8) (hF : ∀ K t, F K t ≤ 15) (hm : gw_m al F E K ≠ 0) (hl : ¬ gw_cd al st (hx_f E (F K)) (gw_t al F E (hx_g E al) K) < al) :
    hx_g E al + gw_m al F E K < al ∧ cx_it (gw_s al F E K) (hx_es al (hx_g E al) (gw_m al F E K)) (gw_t al F E (hx_g E al) K) ∧ cx_di st (gw_s al F E K) (hx_es al (hx_g E al) (gw_m al F E K)) (gw_t al F E (hx_g E al) K) := by
  have sp := gw_pk_sp (hx_f E (F K)) (gw_q st (gw_t al F E (hx_g E al) K)) al
  have le := gw_pk_le (hx_f E (F K)) (gw_q st (gw_t al F E (hx_g E al) K)) al
  have e : gw_pk (hx_f E (F K)) (gw_q st (gw_t al F E (hx_g E al) K)) al = al := by
    have h2 : ¬ gw_pk (hx_f E (F K)) (gw_q st (gw_t al F E (hx_g E al) K)) al < al := hl
    omega
  rw [e] at sp
  have s1 : gw_s al F E K ≤ gw_q st (gw_t al F E (hx_g E al) K) := sp.1
  have p := gw_pos hm
  have lt := gw_q_lt (st := st) (tot := gw_t al F E (hx_g E al) K) (by unfold gw_t; omega)
  have r : hx_g E al + gw_m al F E K < al := by
    by_cases y : hx_g E al + gw_m al F E K < al
    · exact y
    · have e2 : hx_es al (hx_g E al) (gw_m al F E K) = 0 := if_neg y
      have e3 : gw_t al F E (hx_g E al) K = gw_s al F E K + hx_es al (hx_g E al) (gw_m al F E K) := rfl
      omega
  exact ⟨r, gw_ie ha hF hm r, gw_q_mul s1, Or.inl rfl⟩
end
end
section
/-! ===== the trie: nodes of counted strings ===== -/
def tr_ok (R c : Nat) (C : List Nat → Nat → Nat) (nd : List Nat → Nat) (child tally : Nat → Int32) : Prop :=
  nd [] = R ∧
  (∀ a w t, 0 < C (a :: w) t → 0 < C w a) ∧
  (∀ w s, w.length ≤ 3 → 0 < C w s → R < nd (s :: w) ∧ nd (s :: w) ≤ R + c) ∧
  (∀ w s w' s', w.length ≤ 3 → w'.length ≤ 3 → 0 < C w s → 0 < C w' s' → nd (s :: w) = nd (s' :: w') → s :: w = s' :: w') ∧
  (∀ w, w.length ≤ 3 → hx_oc C w → ∀ s, s < 8 → child (nd w * 8 + s) = if 0 < C w s then nI (nd (s :: w)) else 0) ∧
  (∀ w s, w.length ≤ 3 → 0 < C w s → tally (nd (s :: w)) = nI (C w s))
section
variable {R c : Nat} {C : List Nat → Nat → Nat} {nd : List Nat → Nat} {child tally : Nat → Int32}
theorem tr_rng (h : tr_ok R c C nd child tally) {w : List Nat} (hw : w.length ≤ 4) (ho : hx_oc C w) : R ≤ nd w ∧ nd w ≤ R + c := by
  cases w with
  | nil => rw [h.1]; omega
  | cons a w =>
    have := h.2.2.1 w a (by rw [List.length_cons] at hw; omega) ho
    omega
theorem tr_inj (h : tr_ok R c C nd child tally) {w w' : List Nat} (hw : w.length ≤ 4) (hw' : w'.length ≤ 4) (ho : hx_oc C w) (ho' : hx_oc C w') (e : nd w = nd w') : w = w' := by
  cases w with
  | nil =>
    cases w' with
    | nil => rfl
    | cons a w' =>
      have := h.2.2.1 w' a (by rw [List.length_cons] at hw'; omega) ho'
      rw [h.1] at e; omega
  | cons b w =>
    cases w' with
    | nil =>
      have := h.2.2.1 w b (by rw [List.length_cons] at hw; omega) ho
      rw [h.1] at e; omega
    | cons a w' => exact h.2.2.2.1 w b w' a (by rw [List.length_cons] at hw; omega) (by rw [List.length_cons] at hw'; omega) ho ho' e
theorem tr_child (h : tr_ok R c C nd child tally) {w : List Nat} (hw : w.length ≤ 3) (ho : hx_oc C w) {s : Nat} (hs : s < 8) : child (nd w * 8 + s) = if 0 < C w s then nI (nd (s :: w)) else 0 := h.2.2.2.2.1 w hw ho s hs
theorem tr_tally (h : tr_ok R c C nd child tally) {w : List Nat} (hw : w.length ≤ 3) {s : Nat} (hs : 0 < C w s) : tally (nd (s :: w)) = nI (C w s) := h.2.2.2.2.2 w s hw hs
/-- the empty trie -/
theorem tr_empty (h : ∀ s, s < 8 → child (R * 8 + s) = 0) : tr_ok R 0 (fun _ _ => 0) (fun _ => R) child tally := by
  refine ⟨rfl, fun a w t z => absurd z (Nat.lt_irrefl 0), fun w s _ z => absurd z (Nat.lt_irrefl 0), fun w s w' s' _ _ z => absurd z (Nat.lt_irrefl 0), ?_, fun w s _ z => absurd z (Nat.lt_irrefl 0)⟩
  intro w hw ho s hs
  rw [if_neg (Nat.lt_irrefl 0)]
  exact h s hs
/-- other counts, the same strings -/
theorem tr_cnt {C' : List Nat → Nat → Nat} {tally' : Nat → Int32} (h : tr_ok R c C nd child tally) (hp : ∀ w s, 0 < C' w s ↔ 0 < C w s) (ht : ∀ w s, w.length ≤ 3 → 0 < C w s → tally' (nd (s :: w)) = nI (C' w s)) : tr_ok R c C' nd child tally' := by
  obtain ⟨h1, h2, h3, h4, h5, h6⟩ := h
  refine ⟨h1, fun a w t z => (hp w a).mpr (h2 a w t ((hp _ t).mp z)), fun w s hw z => h3 w s hw ((hp w s).mp z), fun w s w' s' hw hw' z z' => h4 w s w' s' hw hw' ((hp w s).mp z) ((hp w' s').mp z'), ?_, fun w s hw z => ht w s hw ((hp w s).mp z)⟩
  intro w hw ho s hs
  have ho' : hx_oc C w := by
    cases w with
    | nil => trivial
    | cons a w => exact (hp w a).mp ho
  rw [h5 w hw ho' s hs]
  by_cases z : 0 < C w s
  · rw [if_pos z, if_pos ((hp w s).mpr z)]
  · rw [if_neg z, if_neg (fun y => z ((hp w s).mp y))]
/-- the counts matter for strings of at most three symbols alone -/
theorem tr_congr {C' : List Nat → Nat → Nat} (h : tr_ok R c C nd child tally) (he : ∀ w, w.length ≤ 3 → C' w = C w) (hc : ∀ a w t, 0 < C' (a :: w) t → 0 < C' w a) : tr_ok R c C' nd child tally := by
  obtain ⟨h1, h2, h3, h4, h5, h6⟩ := h
  refine ⟨h1, hc, ?_, ?_, ?_, ?_⟩
  · intro w s hw z
    rw [he w hw] at z
    exact h3 w s hw z
  · intro w s w' s' hw hw' z z'
    rw [he w hw] at z
    rw [he w' hw'] at z'
    exact h4 w s w' s' hw hw' z z'
  · intro w hw ho s hs
    have ho' : hx_oc C w := by
      cases w with
      | nil => trivial
      | cons a w =>
        have z : 0 < C' w a := ho
        rw [he w (by rw [List.length_cons] at hw; omega)] at z
        exact z
    rw [he w hw]
    exact h5 w hw ho' s hs
  · intro w s hw z
    rw [he w hw] at z ⊢
    exact h6 w s hw z
/-- arrays that agree where the trie lies -/
theorem tr_frame {child' tally' : Nat → Int32} (hc : c < 128) (h : tr_ok R c C nd child tally) (h1 : ∀ j, R * 8 ≤ j → j < R * 8 + 1024 → child' j = child j) (h2 : ∀ j, R ≤ j → j < R + 128 → tally' j = tally j) : tr_ok R c C nd child' tally' := by
  refine ⟨h.1, h.2.1, h.2.2.1, h.2.2.2.1, ?_, ?_⟩
  · intro w hw ho s hs
    have r := tr_rng h (w := w) (by omega) ho
    rw [h1 _ (by omega) (by omega)]
    exact tr_child h hw ho hs
  · intro w s hw z
    have r := tr_rng h (w := s :: w) (by rw [List.length_cons]; omega) z
    rw [h2 _ (by omega) (by omega)]
    exact tr_tally h hw z
/-- one more string: node R + c + 1 -/
def tr_nd (nd : List Nat → Nat) (w0 : List Nat) (s k : Nat) : List Nat → Nat := fun w => if w = s :: w0 then k else nd w
def tr_C (lim : Nat) (C : List Nat → Nat → Nat) (w0 : List Nat) (s : Nat) : List Nat → Nat → Nat := fun w => if w = w0 then hx_bump lim (C w0) s else C w
theorem tr_C_self {lim : Nat} {w0 : List Nat} {s : Nat} : tr_C lim C w0 s w0 = hx_bump lim (C w0) s := if_pos rfl
theorem tr_C_ne {lim : Nat} {w0 w : List Nat} {s : Nat} (h : w ≠ w0) : tr_C lim C w0 s w = C w := if_neg h
theorem tr_C_pos {lim : Nat} {w0 w : List Nat} {s t : Nat} : 0 < tr_C lim C w0 s w t ↔ ((w = w0 ∧ t = s) ∨ 0 < C w t) := by
  by_cases h : w = w0
  · subst h
    rw [tr_C_self, hx_bump_pos]
    simp
  · rw [tr_C_ne h]
    simp [h]
theorem tr_C_oc {lim : Nat} {w0 w : List Nat} {s : Nat} (h : hx_oc C w) : hx_oc (tr_C lim C w0 s) w := by
  cases w with
  | nil => trivial
  | cons a w => exact tr_C_pos.mpr (Or.inr h)
theorem tr_nd_self {w0 : List Nat} {s k : Nat} : tr_nd nd w0 s k (s :: w0) = k := if_pos rfl
theorem tr_nd_ne {w0 w : List Nat} {s k : Nat} (h : w ≠ s :: w0) : tr_nd nd w0 s k w = nd w := if_neg h
theorem tr_new {lim s : Nat} {w0 : List Nat} {child' tally' : Nat → Int32} (hl : 2 ≤ lim) (h : tr_ok R c C nd child tally) (hw0 : w0.length ≤ 3) (ho0 : hx_oc C w0) (hs : s < 8) (hz : C w0 s = 0)
    (c1 : ∀ t, t < 8 → child' ((R + c + 1) * 8 + t) = 0) (c2 : child' (nd w0 * 8 + s) = nI (R + c + 1)) (c3 : ∀ j, j < (R + c + 1) * 8 → j ≠ nd w0 * 8 + s → child' j = child j)
    (t1 : tally' (R + c + 1) = nI 1) (t2 : ∀ j, j < R + c + 1 → tally' j = tally j) :
    tr_ok R (c + 1) (tr_C lim C w0 s) (tr_nd nd w0 s (R + c + 1)) child' tally' := by
  have r0 := tr_rng h (w := w0) (by omega) ho0
  have hb : ∀ t, tr_C lim C w0 s w0 t = if t = s then 1 else C w0 t := by
    intro t
    rw [tr_C_self]
    unfold hx_bump
    rw [if_neg (by omega)]
    by_cases e : t = s
    · rw [if_pos e, if_pos e, hz]
    · rw [if_neg e, if_neg e]
  refine ⟨?_, ?_, ?_, ?_, ?_, ?_⟩
  · rw [tr_nd_ne (by simp)]; exact h.1
  · intro a w t z
    rcases tr_C_pos.mp z with ⟨e, _⟩ | z
    · rw [← e] at ho0
      exact tr_C_pos.mpr (Or.inr ho0)
    · exact tr_C_pos.mpr (Or.inr (h.2.1 a w t z))
  · intro w t hw z
    by_cases e : t :: w = s :: w0
    · rw [e, tr_nd_self]; omega
    · rw [tr_nd_ne e]
      rcases tr_C_pos.mp z with ⟨e1, e2⟩ | z
      · exact absurd (by rw [e1, e2]) e
      · have := h.2.2.1 w t hw z; omega
  · intro w t w' t' hw hw' z z' en
    by_cases e : t :: w = s :: w0
    · by_cases e' : t' :: w' = s :: w0
      · rw [e, e']
      · rw [e, tr_nd_self, tr_nd_ne e'] at en
        rcases tr_C_pos.mp z' with ⟨e1, e2⟩ | z'
        · exact absurd (by rw [e1, e2]) e'
        · have := h.2.2.1 w' t' hw' z'; omega
    · rcases tr_C_pos.mp z with ⟨e1, e2⟩ | z
      · exact absurd (by rw [e1, e2]) e
      · by_cases e' : t' :: w' = s :: w0
        · rw [e', tr_nd_self, tr_nd_ne e] at en
          have := h.2.2.1 w t hw z; omega
        · rcases tr_C_pos.mp z' with ⟨e1, e2⟩ | z'
          · exact absurd (by rw [e1, e2]) e'
          · rw [tr_nd_ne e, tr_nd_ne e'] at en
            exact h.2.2.2.1 w t w' t' hw hw' z z' en
  · intro w hw ho t ht
    by_cases e : w = s :: w0
    · subst e
      have z : ¬ 0 < tr_C lim C w0 s (s :: w0) t := by
        intro y
        rcases tr_C_pos.mp y with ⟨e1, _⟩ | y
        · exact absurd (congrArg List.length e1) (by rw [List.length_cons]; omega)
        · have := h.2.1 s w0 t y; omega
      rw [tr_nd_self, if_neg z]
      exact c1 t ht
    · have ho' : hx_oc C w := by
        cases w with
        | nil => trivial
        | cons a w =>
          rcases tr_C_pos.mp ho with ⟨e1, e2⟩ | z
          · exact absurd (by rw [e1, e2]) e
          · exact z
      have r := tr_rng h (w := w) (by omega) ho'
      rw [tr_nd_ne e]
      by_cases e2 : nd w * 8 + t = nd w0 * 8 + s
      · have e3 : nd w = nd w0 := by omega
        have e4 : t = s := by omega
        have e5 := tr_inj h (by omega) (by omega) ho' ho0 e3
        subst e5 e4
        rw [if_pos (tr_C_pos.mpr (Or.inl ⟨rfl, rfl⟩)), tr_nd_self]
        exact c2
      · rw [c3 _ (by omega) e2, tr_child h hw ho' ht]
        have ne : t :: w ≠ s :: w0 := by
          intro y
          have y1 : t = s := (List.cons.inj y).1
          have y2 : w = w0 := (List.cons.inj y).2
          exact e2 (by rw [y1, y2])
        rw [tr_nd_ne ne]
        by_cases z : 0 < C w t
        · rw [if_pos z, if_pos (tr_C_pos.mpr (Or.inr z))]
        · rw [if_neg z, if_neg]
          intro y
          rcases tr_C_pos.mp y with ⟨e1, e2⟩ | y
          · exact ne (by rw [e1, e2])
          · exact z y
  · intro w t hw z
    by_cases e : t :: w = s :: w0
    · have y1 : t = s := (List.cons.inj e).1
      have y2 : w = w0 := (List.cons.inj e).2
      rw [y1, y2, tr_nd_self, t1, hb, if_pos rfl]
    · rw [tr_nd_ne e]
      rcases tr_C_pos.mp z with ⟨e1, e2⟩ | z'
      · exact absurd (by rw [e1, e2]) e
      · have r := h.2.2.1 w t hw z'
        rw [t2 _ (by omega), tr_tally h hw z']
        by_cases e1 : w = w0
        · subst e1
          rw [hb, if_neg (fun y => e (by rw [y]))]
        · rw [tr_C_ne e1]
end
/-! ===== learning: the levels from k on are done ===== -/
def tr_lv (lim : Nat) (L : List Nat) (s k : Nat) : List Nat → Nat → Nat := fun w => if k ≤ w.length ∧ w.length ≤ hx_top L ∧ w <+: L then hx_bump lim (hx_cnt lim L w) s else hx_cnt lim L w
theorem tr_lv_top {lim : Nat} {L : List Nat} {s : Nat} : tr_lv lim L s (hx_top L + 1) = hx_cnt lim L := by
  funext w
  exact if_neg (fun h => by omega)
theorem tr_lv_z {lim : Nat} {L : List Nat} {s : Nat} {w : List Nat} (hw : w.length ≤ 3) : hx_cnt lim (s :: L) w = tr_lv lim L s 0 w := by
  by_cases h : w <+: L
  · have e : tr_lv lim L s 0 w = hx_bump lim (hx_cnt lim L w) s := if_pos ⟨Nat.zero_le _, by have := h.length_le; unfold hx_top; split <;> omega, h⟩
    rw [e, hx_cnt_t h]
  · have e : tr_lv lim L s 0 w = hx_cnt lim L w := if_neg (fun z => h z.2.2)
    rw [e, hx_cnt_f h]
theorem tr_lv_at {lim : Nat} {L : List Nat} {s k : Nat} : tr_lv lim L s (k + 1) (L.take k) = hx_cnt lim L (L.take k) := by
  refine if_neg (fun h => ?_)
  have := List.length_take_le k L
  omega
theorem tr_lv_s {lim : Nat} {L : List Nat} {s k : Nat} (hk : k ≤ hx_top L) : tr_lv lim L s k = tr_C lim (tr_lv lim L s (k + 1)) (L.take k) s := by
  have hl := hx_top_len L
  have lk : (L.take k).length = k := by rw [List.length_take]; omega
  funext w
  by_cases e : w = L.take k
  · subst e
    rw [tr_C_self, tr_lv_at]
    exact if_pos ⟨by omega, by omega, List.take_prefix k L⟩
  · rw [tr_C_ne e]
    by_cases h : k ≤ w.length ∧ w.length ≤ hx_top L ∧ w <+: L
    · have h2 : k + 1 ≤ w.length := by
        rcases Nat.lt_or_ge k w.length with z | z
        · exact z
        · have e1 : w = L.take w.length := List.prefix_iff_eq_take.mp h.2.2
          have e2 : w.length = k := by omega
          rw [e2] at e1
          exact absurd e1 e
      have a1 : tr_lv lim L s k w = hx_bump lim (hx_cnt lim L w) s := if_pos h
      have a2 : tr_lv lim L s (k + 1) w = hx_bump lim (hx_cnt lim L w) s := if_pos ⟨h2, h.2.1, h.2.2⟩
      rw [a1, a2]
    · have a1 : tr_lv lim L s k w = hx_cnt lim L w := if_neg h
      have a2 : tr_lv lim L s (k + 1) w = hx_cnt lim L w := if_neg (fun z => h ⟨by omega, z.2.1, z.2.2⟩)
      rw [a1, a2]
/-! ===== one side of X ===== -/
def hx_pack : List Nat → Nat
  | [] => 0
  | s :: L => (hx_pack L * 8 + s) % 512
def xs_ok (lim sd : Nat) (L : List Nat) (nd : List Nat → Nat) (child tally cn dp rc sc : Nat → Int32) : Prop :=
  tr_ok (sd * 128) (hx_strs lim L) (hx_cnt lim L) nd child tally ∧ sc sd = nI (hx_strs lim L) ∧ hx_strs lim L ≤ 120 ∧ dp sd = nI (hx_top L) ∧
  (∀ k, k ≤ hx_top L → cn (sd * 4 + k) = nI (nd (L.take k))) ∧ rc sd = nI (hx_pack L)
def XS (lim sd : Nat) (L : List Nat) (child tally cn dp rc sc : Nat → Int32) : Prop := ∃ nd, xs_ok lim sd L nd child tally cn dp rc sc
/-- arrays that agree on side sd -/
def xs_ag (sd : Nat) (child tally cn dp rc sc child' tally' cn' dp' rc' sc' : Nat → Int32) : Prop :=
  (∀ j, sd * 1024 ≤ j → j < sd * 1024 + 1024 → child' j = child j) ∧ (∀ j, sd * 128 ≤ j → j < sd * 128 + 128 → tally' j = tally j) ∧ (∀ j, sd * 4 ≤ j → j < sd * 4 + 4 → cn' j = cn j) ∧ dp' sd = dp sd ∧ rc' sd = rc sd ∧ sc' sd = sc sd
theorem XS_ag {lim sd : Nat} {L : List Nat} {child tally cn dp rc sc child' tally' cn' dp' rc' sc' : Nat → Int32} (h : XS lim sd L child tally cn dp rc sc) (a : xs_ag sd child tally cn dp rc sc child' tally' cn' dp' rc' sc') : XS lim sd L child' tally' cn' dp' rc' sc' := by
  obtain ⟨nd, h1, h2, h3, h4, h5, h6⟩ := h
  obtain ⟨a1, a2, a3, a4, a5, a6⟩ := a
  have ht := hx_top_le L
  refine ⟨nd, tr_frame (by omega) h1 (fun j z1 z2 => a1 j (by omega) (by omega)) a2, by rw [a6]; exact h2, h3, by rw [a4]; exact h4, fun k hk => ?_, by rw [a5]; exact h6⟩
  rw [a3 _ (by omega) (by omega)]
  exact h5 k hk
end
section
/-! ===== numbers as the print has them ===== -/
theorem ix_8 (a b : Nat) : nI a * 8 + nI b = nI (a * 8 + b) := by rw [show (8 : Int32) = nI 8 from rfl, pk_mul, nI_add]
theorem ix_4 (a b : Nat) : nI a * 4 + nI b = nI (a * 4 + b) := by rw [show (4 : Int32) = nI 4 from rfl, pk_mul, nI_add]
theorem ix_4m (a : Nat) : nI a * 4 = nI (a * 4) := by rw [show (4 : Int32) = nI 4 from rfl, pk_mul]
theorem ix_128 (a : Nat) : nI a * 128 = nI (a * 128) := by rw [show (128 : Int32) = nI 128 from rfl, pk_mul]
theorem ix_96 (a : Nat) : 96 * nI a = nI (96 * a) := by rw [show (96 : Int32) = nI 96 from rfl, pk_mul]
theorem ix_2 (a b : Nat) : 2 * nI a + nI b = nI (2 * a + b) := by rw [show (2 : Int32) = nI 2 from rfl, pk_mul, nI_add]
theorem nar_s0 : vp_nar .short 0 = 0 := by rw [vp_nar_short]; decide
theorem nar_b0 : vp_nar .byte 0 = 0 := by rw [vp_nar_byte]; decide
theorem nar_s {n : Nat} (h : n < 32768) : vp_nar .short (nI n).toInt16.toInt32 = nI n := by
  rw [pk_vs]
  exact lg_i2s_small (by rw [nI_toInt (by omega)]; omega) (by rw [nI_toInt (by omega)]; omega)
theorem nar_b {n : Nat} (h : n < 128) : vp_nar .byte (nI n).toInt8.toInt32 = nI n := by
  rw [pk_vb]
  exact lg_i2b_small (by rw [nI_toInt (by omega)]; omega) (by rw [nI_toInt (by omega)]; omega)
theorem nar_bool0 : vp_nar .boolean 0 = 0 := rfl
theorem nar_bool1 : vp_nar .boolean 1 = 1 := rfl
theorem lt31 {n N : Nat} (h : n ≤ N) (hN : N < 2 ^ 31 := by decide) : n < 2 ^ 31 := Nat.lt_of_le_of_lt h hN
/-! ===== X: starting ===== -/
section
variable {f_alphabet f_countLimit f_arena f_capacity f_closed f_low f_pending f_emitted f_gap f_codeDigits f_encoded f_decodedCount f_walkSide f_walkNext f_excluded f_excludedCount f_candidates f_candidateCount f_stepLevel f_stepSum f_stepEscape f_stepTotal f_stepCum f_stepFreq : Int32} {a_child a_tally a_contextNode a_depth a_recent a_stringCount a_restartCount a_range a_width a_digits a_decoded a_itemFreq : Nat → Int32}
theorem xl_clear_9 {post : SX → Prop} {node : Nat} (hn : node < 256) (K : ∀ ch : Nat → Int32, (∀ j, j < 8 → ch (node * 8 + j) = 0) → (∀ j, (j < node * 8 ∨ node * 8 + 8 ≤ j) → ch j = a_child j) → post (f_alphabet, f_countLimit, f_arena, f_capacity, f_closed, f_low, f_pending, f_emitted, f_gap, f_codeDigits, f_encoded, f_decodedCount, f_walkSide, f_walkNext, f_excluded, f_excludedCount, f_candidates, f_candidateCount, f_stepLevel, f_stepSum, f_stepEscape, f_stepTotal, f_stepCum, f_stepFreq, ch, a_tally, a_contextNode, a_depth, a_recent, a_stringCount, a_restartCount, a_range, a_width, a_digits, a_decoded, a_itemFreq)) :
    ∀ d t, t + d = 8 → ∀ n, d < n → ∀ ch : Nat → Int32, (∀ j, j < t → ch (node * 8 + j) = 0) → (∀ j, (j < node * 8 ∨ node * 8 + 8 ≤ j) → ch j = a_child j) → wX_clearNode_9 post (nI node) f_alphabet f_countLimit f_arena f_capacity f_closed f_low f_pending f_emitted f_gap f_codeDigits f_encoded f_decodedCount f_walkSide f_walkNext f_excluded f_excludedCount f_candidates f_candidateCount f_stepLevel f_stepSum f_stepEscape f_stepTotal f_stepCum f_stepFreq n (nI t) ch a_tally a_contextNode a_depth a_recent a_stringCount a_restartCount a_range a_width a_digits a_decoded a_itemFreq := by
  intro d
  induction d with
  | zero =>
    intro t ht n hn' ch h1 h2
    obtain ⟨m, rfl⟩ : ∃ m, n = m + 1 := ⟨n - 1, by omega⟩
    have e : t = 8 := by omega
    subst e
    exact br_t (nI_le (a := 8) (b := 8) (by omega) (by omega)) (K ch h1 h2)
  | succ d ih =>
    intro t ht n hn' ch h1 h2
    obtain ⟨m, rfl⟩ : ∃ m, n = m + 1 := ⟨n - 1, by omega⟩
    refine br_f (nI_ge (b := 8) (by omega) (by omega)) ⟨pk_in (node * 8 + t) 2048 (by omega) (ix_8 _ _), nm_r (e' := upd ch (node * 8 + t) 0) (by rw [ix_8, nI_clamp (by omega), nar_s0]) (nm_r (nI_1 t) ?_)⟩
    refine ih (t + 1) (by omega) m (by omega) _ ?_ ?_
    · intro j hj
      by_cases e : j = t
      · rw [e]; exact pk_us
      · rw [pk_un (by omega)]; exact h1 j (by omega)
    · intro j hj
      rw [pk_un (by omega)]; exact h2 j hj
theorem xl_clear {post : SX → Prop} {node : Nat} (hn : node < 256) (K : ∀ ch : Nat → Int32, (∀ j, j < 8 → ch (node * 8 + j) = 0) → (∀ j, (j < node * 8 ∨ node * 8 + 8 ≤ j) → ch j = a_child j) → post (f_alphabet, f_countLimit, f_arena, f_capacity, f_closed, f_low, f_pending, f_emitted, f_gap, f_codeDigits, f_encoded, f_decodedCount, f_walkSide, f_walkNext, f_excluded, f_excludedCount, f_candidates, f_candidateCount, f_stepLevel, f_stepSum, f_stepEscape, f_stepTotal, f_stepCum, f_stepFreq, ch, upd a_tally node 0, a_contextNode, a_depth, a_recent, a_stringCount, a_restartCount, a_range, a_width, a_digits, a_decoded, a_itemFreq)) :
    wpX_clearNode post (f_alphabet, f_countLimit, f_arena, f_capacity, f_closed, f_low, f_pending, f_emitted, f_gap, f_codeDigits, f_encoded, f_decodedCount, f_walkSide, f_walkNext, f_excluded, f_excludedCount, f_candidates, f_candidateCount, f_stepLevel, f_stepSum, f_stepEscape, f_stepTotal, f_stepCum, f_stepFreq, a_child, a_tally, a_contextNode, a_depth, a_recent, a_stringCount, a_restartCount, a_range, a_width, a_digits, a_decoded, a_itemFreq) (nI node) := by
  refine ⟨pk_in node 256 hn, nm_r (e' := upd a_tally node 0) (by rw [nI_clamp (by omega), nar_b0]) ⟨9, ?_⟩⟩
  exact xl_clear_9 (a_child := a_child) hn K 8 0 rfl 9 (by omega) a_child (fun j h => absurd h (Nat.not_lt_zero _)) (fun _ _ => rfl)
theorem xl_empty {post : SX → Prop} {sd : Nat} (lim : Nat) (hs : sd < 2) (K : ∀ ch ta cn dp rc sc : Nat → Int32, XS lim sd [] ch ta cn dp rc sc → (∀ sd', sd' < 2 → sd' ≠ sd → xs_ag sd' a_child a_tally a_contextNode a_depth a_recent a_stringCount ch ta cn dp rc sc) → post (f_alphabet, f_countLimit, f_arena, f_capacity, f_closed, f_low, f_pending, f_emitted, f_gap, f_codeDigits, f_encoded, f_decodedCount, f_walkSide, f_walkNext, f_excluded, f_excludedCount, f_candidates, f_candidateCount, f_stepLevel, f_stepSum, f_stepEscape, f_stepTotal, f_stepCum, f_stepFreq, ch, ta, cn, dp, rc, sc, a_restartCount, a_range, a_width, a_digits, a_decoded, a_itemFreq)) :
    wpX_emptyModel post (f_alphabet, f_countLimit, f_arena, f_capacity, f_closed, f_low, f_pending, f_emitted, f_gap, f_codeDigits, f_encoded, f_decodedCount, f_walkSide, f_walkNext, f_excluded, f_excludedCount, f_candidates, f_candidateCount, f_stepLevel, f_stepSum, f_stepEscape, f_stepTotal, f_stepCum, f_stepFreq, a_child, a_tally, a_contextNode, a_depth, a_recent, a_stringCount, a_restartCount, a_range, a_width, a_digits, a_decoded, a_itemFreq) (nI sd) := by
  refine nm_r (ix_128 sd) ⟨pk_in sd 2 hs, nm_r (e' := upd a_stringCount sd 0) (by rw [nI_clamp (by omega)]) ⟨pk_in sd 2 hs, nm_r (e' := upd a_depth sd 0) (by rw [nI_clamp (by omega)]) ⟨pk_in sd 2 hs, nm_r (e' := upd a_recent sd 0) (by rw [nI_clamp (by omega)]) ⟨pk_in (sd * 4) 8 (by omega) (ix_4m sd), nm_r (e' := upd a_contextNode (sd * 4) (nI (sd * 128))) (by rw [ix_4m, nI_clamp (by omega), nar_s (by omega)]) ?_⟩⟩⟩⟩
  refine xl_clear (by omega) (fun ch c1 c2 => K ch _ _ _ _ _ ⟨fun _ => sd * 128, ?_, ?_, Nat.zero_le _, ?_, ?_, ?_⟩ ?_)
  · exact tr_empty c1
  · exact pk_us
  · exact pk_us
  · intro k hk
    have e : k = 0 := by have : hx_top [] = 0 := rfl; omega
    subst e
    exact pk_us
  · exact pk_us
  · intro sd' h1 h2
    refine ⟨fun j z1 z2 => c2 j (by omega), fun j z1 z2 => pk_un (by omega), fun j z1 z2 => pk_un (by omega), pk_un h2, pk_un h2, pk_un h2⟩
theorem xl_side {post : SX → Prop} {sd : Nat} (lim : Nat) (hs : sd < 2) (K : ∀ ch ta cn dp rc sc : Nat → Int32, XS lim sd [] ch ta cn dp rc sc → (∀ sd', sd' < 2 → sd' ≠ sd → xs_ag sd' a_child a_tally a_contextNode a_depth a_recent a_stringCount ch ta cn dp rc sc) → post (f_alphabet, f_countLimit, f_arena, f_capacity, f_closed, f_low, f_pending, f_emitted, f_gap, f_codeDigits, f_encoded, f_decodedCount, f_walkSide, f_walkNext, f_excluded, f_excludedCount, f_candidates, f_candidateCount, f_stepLevel, f_stepSum, f_stepEscape, f_stepTotal, f_stepCum, f_stepFreq, ch, ta, cn, dp, rc, sc, upd a_restartCount sd 0, upd a_range sd 65536, upd a_width sd 16, a_digits, a_decoded, a_itemFreq)) :
    wpX_startSide post (f_alphabet, f_countLimit, f_arena, f_capacity, f_closed, f_low, f_pending, f_emitted, f_gap, f_codeDigits, f_encoded, f_decodedCount, f_walkSide, f_walkNext, f_excluded, f_excludedCount, f_candidates, f_candidateCount, f_stepLevel, f_stepSum, f_stepEscape, f_stepTotal, f_stepCum, f_stepFreq, a_child, a_tally, a_contextNode, a_depth, a_recent, a_stringCount, a_restartCount, a_range, a_width, a_digits, a_decoded, a_itemFreq) (nI sd) := by
  unfold wpX_startSide
  refine xl_empty lim hs (fun ch ta cn dp rc sc h a => ?_)
  exact ⟨pk_in sd 2 hs, nm_r (e' := upd a_restartCount sd 0) (by rw [nI_clamp (by omega)]) ⟨pk_in sd 2 hs, nm_r (e' := upd a_range sd 65536) (by rw [nI_clamp (by omega)]) ⟨pk_in sd 2 hs, nm_r (e' := upd a_width sd 16) (by rw [nI_clamp (by omega)]) (K ch ta cn dp rc sc h a)⟩⟩⟩
end
/-- a code: cd digits dg, 0 beyond -/
def cd_ok (cd : Nat) (dg : Nat → Nat) (f : Int32) (a : Nat → Int32) : Prop := f = nI cd ∧ cd ≤ 4096 ∧ (∀ i, i < cd → a i = nI (dg i)) ∧ (∀ i, cd ≤ i → dg i = 0) ∧ (∀ i, dg i ≤ 1)
/-- the first i digits as a number -/
def cd_g (dg : Nat → Nat) : Nat → Nat
  | 0 => 0
  | i + 1 => 2 * cd_g dg i + dg i
theorem cd_g_lt {dg : Nat → Nat} (h : ∀ i, dg i ≤ 1) : ∀ i, cd_g dg i < 2 ^ i
  | 0 => Nat.one_pos
  | i + 1 => by
    have h1 := cd_g_lt h i
    have h2 := h i
    show 2 * cd_g dg i + dg i < 2 ^ (i + 1)
    rw [Nat.pow_succ]
    omega
section
variable {f_alphabet f_countLimit f_arena f_capacity f_closed f_low f_pending f_emitted f_gap f_codeDigits f_encoded f_decodedCount f_walkSide f_walkNext f_excluded f_excludedCount f_candidates f_candidateCount f_stepLevel f_stepSum f_stepEscape f_stepTotal f_stepCum f_stepFreq : Int32} {a_child a_tally a_contextNode a_depth a_recent a_stringCount a_restartCount a_range a_width a_digits a_decoded a_itemFreq : Nat → Int32}
theorem xl_digit {post : Int32 → Prop} {cd i : Nat} {dg : Nat → Nat} (hc : cd_ok cd dg f_codeDigits a_digits) (hi : i < 2 ^ 31) (K : post (nI (dg i))) : wpX_codeDigit post (f_alphabet, f_countLimit, f_arena, f_capacity, f_closed, f_low, f_pending, f_emitted, f_gap, f_codeDigits, f_encoded, f_decodedCount, f_walkSide, f_walkNext, f_excluded, f_excludedCount, f_candidates, f_candidateCount, f_stepLevel, f_stepSum, f_stepEscape, f_stepTotal, f_stepCum, f_stepFreq, a_child, a_tally, a_contextNode, a_depth, a_recent, a_stringCount, a_restartCount, a_range, a_width, a_digits, a_decoded, a_itemFreq) (nI i) := by
  obtain ⟨rfl, h2, h3, h4, h5⟩ := hc
  refine br_f (nI_pos hi) (pk_le cd i (fun z => ?_) (fun z => br_t (nI_lt (b := 4096) (by omega) (by omega)) ⟨pk_in i 4096 (by omega), ?_⟩) rfl rfl (by omega) hi)
  · rw [h4 i z] at K; exact K
  · rw [nI_clamp hi, h3 i z]; exact K
theorem xl_dec_17 {post : SX → Prop} {cd : Nat} {dg : Nat → Nat} (hc : cd_ok cd dg f_codeDigits a_digits) (K : post (f_alphabet, f_countLimit, f_arena, f_capacity, f_closed, f_low, f_pending, f_emitted, nI (cd_g dg 16), f_codeDigits, f_encoded, f_decodedCount, f_walkSide, f_walkNext, f_excluded, f_excludedCount, f_candidates, f_candidateCount, f_stepLevel, f_stepSum, f_stepEscape, f_stepTotal, f_stepCum, f_stepFreq, a_child, a_tally, a_contextNode, a_depth, a_recent, a_stringCount, a_restartCount, a_range, a_width, a_digits, a_decoded, a_itemFreq)) :
    ∀ d i, i + d = 16 → ∀ n, d < n → wX_startDecoder_17 post f_alphabet f_countLimit f_arena f_capacity f_closed f_low f_pending f_emitted f_codeDigits f_encoded f_decodedCount f_walkSide f_walkNext f_excluded f_excludedCount f_candidates f_candidateCount f_stepLevel f_stepSum f_stepEscape f_stepTotal f_stepCum f_stepFreq a_child a_tally a_contextNode a_depth a_recent a_stringCount a_restartCount a_range a_width a_digits a_decoded a_itemFreq n (nI i) (nI (cd_g dg i)) := by
  intro d
  induction d with
  | zero =>
    intro i hi n hn
    obtain ⟨m, rfl⟩ : ∃ m, n = m + 1 := ⟨n - 1, by omega⟩
    have e : i = 16 := by omega
    subst e
    exact br_t (nI_le (a := 16) (b := 16) (by omega) (by omega)) K
  | succ d ih =>
    intro i hi n hn
    obtain ⟨m, rfl⟩ : ∃ m, n = m + 1 := ⟨n - 1, by omega⟩
    refine br_f (nI_ge (b := 16) (by omega) (by omega)) ?_
    refine xl_digit hc (by omega) ?_
    exact nm_r (ix_2 _ _) (nm_r (nI_1 i) (ih (i + 1) (by omega) m (by omega)))
theorem xl_dec {post : SX → Prop} {cd : Nat} (lim : Nat) {dg : Nat → Nat} (hc : cd_ok cd dg f_codeDigits a_digits) (K : ∀ ch ta cn dp rc sc : Nat → Int32, XS lim 1 [] ch ta cn dp rc sc → xs_ag 0 a_child a_tally a_contextNode a_depth a_recent a_stringCount ch ta cn dp rc sc → post (f_alphabet, f_countLimit, f_arena, f_capacity, f_closed, f_low, f_pending, f_emitted, nI (cd_g dg 16), f_codeDigits, f_encoded, 0, f_walkSide, f_walkNext, f_excluded, f_excludedCount, f_candidates, f_candidateCount, f_stepLevel, f_stepSum, f_stepEscape, f_stepTotal, f_stepCum, f_stepFreq, ch, ta, cn, dp, rc, sc, upd a_restartCount 1 0, upd a_range 1 65536, upd a_width 1 16, a_digits, a_decoded, a_itemFreq)) :
    wpX_startDecoder post (f_alphabet, f_countLimit, f_arena, f_capacity, f_closed, f_low, f_pending, f_emitted, f_gap, f_codeDigits, f_encoded, f_decodedCount, f_walkSide, f_walkNext, f_excluded, f_excludedCount, f_candidates, f_candidateCount, f_stepLevel, f_stepSum, f_stepEscape, f_stepTotal, f_stepCum, f_stepFreq, a_child, a_tally, a_contextNode, a_depth, a_recent, a_stringCount, a_restartCount, a_range, a_width, a_digits, a_decoded, a_itemFreq) := by
  unfold wpX_startDecoder
  refine xl_side (sd := 1) lim (by omega) (fun ch ta cn dp rc sc h a => ?_)
  exact ⟨17, xl_dec_17 hc (K ch ta cn dp rc sc h (a 0 (by omega) (by omega))) 16 0 rfl 17 (by omega)⟩
theorem cd_zero (a : Nat → Int32) : cd_ok 0 (fun _ => 0) 0 a := ⟨rfl, by omega, fun i h => absurd h (Nat.not_lt_zero _), fun _ _ => rfl, fun _ => Nat.zero_le 1⟩
theorem cd_g_zero : ∀ i, cd_g (fun _ => 0) i = 0
  | 0 => rfl
  | i + 1 => by show 2 * cd_g (fun _ => 0) i + 0 = 0; rw [cd_g_zero i]
theorem xl_all {post : SX → Prop} (lim : Nat) (K : ∀ ch ta cn dp rc sc : Nat → Int32, XS lim 0 [] ch ta cn dp rc sc → XS lim 1 [] ch ta cn dp rc sc → post (f_alphabet, f_countLimit, f_arena, f_capacity, 0, 0, 0, 0, 0, 0, 0, 0, f_walkSide, f_walkNext, f_excluded, f_excludedCount, f_candidates, f_candidateCount, f_stepLevel, f_stepSum, f_stepEscape, f_stepTotal, f_stepCum, f_stepFreq, ch, ta, cn, dp, rc, sc, upd (upd a_restartCount 0 0) 1 0, upd (upd a_range 0 65536) 1 65536, upd (upd a_width 0 16) 1 16, a_digits, a_decoded, a_itemFreq)) :
    wpX_startAll post (f_alphabet, f_countLimit, f_arena, f_capacity, f_closed, f_low, f_pending, f_emitted, f_gap, f_codeDigits, f_encoded, f_decodedCount, f_walkSide, f_walkNext, f_excluded, f_excludedCount, f_candidates, f_candidateCount, f_stepLevel, f_stepSum, f_stepEscape, f_stepTotal, f_stepCum, f_stepFreq, a_child, a_tally, a_contextNode, a_depth, a_recent, a_stringCount, a_restartCount, a_range, a_width, a_digits, a_decoded, a_itemFreq) := by
  unfold wpX_startAll
  refine xl_side (sd := 0) lim (by omega) (fun ch ta cn dp rc sc h a => ?_)
  refine xl_dec lim (cd_zero _) (fun ch' ta' cn' dp' rc' sc' h' a' => ?_)
  rw [cd_g_zero]
  exact K ch' ta' cn' dp' rc' sc' (XS_ag h a') h'
end
end
section
/-! ===== bits ===== -/
theorem bb_1 : ∀ i, i < 32 → bt 1 i = decide (i = 0) := by decide +kernel
theorem bb_and1 (y : Int32) : (y &&& 1) = 0 ↔ bt y 0 = false := by
  constructor
  · intro h
    have h2 : bt (y &&& 1) 0 = bt 0 0 := by rw [h]
    rw [b_and, b_0, bb_1 0 (by omega)] at h2
    cases z : bt y 0 with
    | false => rfl
    | true => rw [z] at h2; exact absurd h2 (by decide)
  · intro h
    apply b_ext
    intro i hi
    rw [b_and, b_0, bb_1 i hi]
    cases i with
    | zero => rw [h]; rfl
    | succ i => rw [decide_eq_false (by omega), Bool.and_false]
theorem bb_tst (x : Int32) {t : Nat} (ht : t < 31) : ((x >>> (nI t &&& 31)) &&& 1) = 0 ↔ bt x t = false := by
  rw [bb_and1, b_sshr t (by omega) x (by omega), if_pos (by omega)]
  rfl
theorem bb_sh {s i : Nat} (hs : s < 32) (hi : i < 32) : bt ((1 : Int32) <<< (nI s &&& 31)) i = decide (i = s) := by
  rw [b_shl s hs _ hi]
  by_cases h : s ≤ i
  · rw [bb_1 _ (by omega), decide_eq_true h, Bool.true_and]
    by_cases e : i = s
    · rw [decide_eq_true e, decide_eq_true (by omega)]
    · rw [decide_eq_false e, decide_eq_false (by omega)]
  · rw [decide_eq_false h, decide_eq_false (by omega), Bool.false_and]
/-- the items of a step in X: freq of each symbol below t, the bits of the candidates -/
def it_ok (t : Nat) (f : Nat → Nat) (a : Nat → Int32) : Prop := ∀ u, u < 8 → a u = nI (if u < t then f u else 0)
def bm_ok (t : Nat) (f : Nat → Nat) (x : Int32) : Prop := ∀ u, u < 8 → bt x u = decide (u < t ∧ f u ≠ 0)
theorem it_z (f : Nat → Nat) {a : Nat → Int32} (h : ∀ u, u < 8 → a u = 0) : it_ok 0 f a := by
  intro u hu
  rw [if_neg (Nat.not_lt_zero _), h u hu]; rfl
theorem bm_z (f : Nat → Nat) : bm_ok 0 f 0 := by
  intro u hu
  rw [b_0, decide_eq_false (fun z => Nat.not_lt_zero _ z.1)]
theorem it_skip {t : Nat} {f : Nat → Nat} {a : Nat → Int32} (h : it_ok t f a) (z : f t = 0) : it_ok (t + 1) f a := by
  intro u hu
  rw [h u hu]
  by_cases e : u = t
  · rw [e, if_neg (by omega), if_pos (by omega), z]
  · by_cases l : u < t
    · rw [if_pos l, if_pos (by omega)]
    · rw [if_neg l, if_neg (by omega)]
theorem bm_skip {t : Nat} {f : Nat → Nat} {x : Int32} (h : bm_ok t f x) (z : f t = 0) : bm_ok (t + 1) f x := by
  intro u hu
  rw [h u hu]
  by_cases e : u = t
  · rw [e, decide_eq_false (fun y => Nat.lt_irrefl _ y.1), decide_eq_false (fun y => y.2 z)]
  · by_cases l : u < t ∧ f u ≠ 0
    · rw [decide_eq_true l, decide_eq_true ⟨by omega, l.2⟩]
    · rw [decide_eq_false l, decide_eq_false (fun y => l ⟨by omega, y.2⟩)]
theorem it_add {t : Nat} {f : Nat → Nat} {a : Nat → Int32} (h : it_ok t f a) : it_ok (t + 1) f (upd a t (nI (f t))) := by
  intro u hu
  by_cases e : u = t
  · rw [e, pk_us, if_pos (by omega)]
  · rw [pk_un e, h u hu]
    by_cases l : u < t
    · rw [if_pos l, if_pos (by omega)]
    · rw [if_neg l, if_neg (by omega)]
theorem bm_add {t : Nat} {f : Nat → Nat} {x : Int32} (ht : t < 8) (h : bm_ok t f x) (z : f t ≠ 0) : bm_ok (t + 1) f (x ||| ((1 : Int32) <<< (nI t &&& 31))) := by
  intro u hu
  rw [b_or, h u hu, bb_sh (by omega) (by omega)]
  by_cases e : u = t
  · rw [e, decide_eq_true (rfl : t = t), decide_eq_true (⟨by omega, z⟩ : t < t + 1 ∧ f t ≠ 0), Bool.or_true]
  · rw [decide_eq_false e, Bool.or_false]
    by_cases l : u < t ∧ f u ≠ 0
    · rw [decide_eq_true l, decide_eq_true ⟨by omega, l.2⟩]
    · rw [decide_eq_false l, decide_eq_false (fun y => l ⟨by omega, y.2⟩)]
def ex_ok (al : Nat) (E : Nat → Bool) (x : Int32) : Prop := ∀ t, t < al → bt x t = E t
theorem ex_or {al : Nat} {E : Nat → Bool} {f : Nat → Nat} {x y : Int32} (ha : al ≤ 8) (h : ex_ok al E x) (hy : bm_ok al f y) : ex_ok al (hx_E E f) (x ||| y) := by
  intro t ht
  rw [b_or, h t ht, hy t (by omega)]
  unfold hx_E
  by_cases z : f t ≠ 0
  · rw [decide_eq_true z, decide_eq_true ⟨ht, z⟩]
  · rw [decide_eq_false z, decide_eq_false (fun q => z q.2)]
/-- K - 1 as an int -/
def kI (K : Nat) : Int32 := match K with
  | 0 => -1
  | k + 1 => nI k
theorem kI_m (k : Nat) : nI k + (-1) = kI k := by
  cases k with
  | zero => rfl
  | succ k => exact pk_m1 k
theorem kI_s (k : Nat) : nI k - 1 = kI k := by
  cases k with
  | zero => rfl
  | succ k => exact nI_pred k
def lv (K : Nat) : Nat := match K with
  | 0 => 4
  | k + 1 => k
/-! ===== X: the walk ===== -/
section
variable {f_alphabet f_countLimit f_arena f_capacity f_closed f_low f_pending f_emitted f_gap f_codeDigits f_encoded f_decodedCount f_walkSide f_walkNext f_excluded f_excludedCount f_candidates f_candidateCount f_stepLevel f_stepSum f_stepEscape f_stepTotal f_stepCum f_stepFreq : Int32} {a_child a_tally a_contextNode a_depth a_recent a_stringCount a_restartCount a_range a_width a_digits a_decoded a_itemFreq : Nat → Int32}
theorem xl_items_27 {post : SX → Prop} (K : ∀ it : Nat → Int32, (∀ u, u < 8 → it u = 0) → post (f_alphabet, f_countLimit, f_arena, f_capacity, f_closed, f_low, f_pending, f_emitted, f_gap, f_codeDigits, f_encoded, f_decodedCount, f_walkSide, f_walkNext, f_excluded, f_excludedCount, f_candidates, f_candidateCount, f_stepLevel, f_stepSum, f_stepEscape, f_stepTotal, f_stepCum, f_stepFreq, a_child, a_tally, a_contextNode, a_depth, a_recent, a_stringCount, a_restartCount, a_range, a_width, a_digits, a_decoded, it)) :
    ∀ d t, t + d = 8 → ∀ n, d < n → ∀ it : Nat → Int32, (∀ u, u < t → it u = 0) → wX_startItems_27 post f_alphabet f_countLimit f_arena f_capacity f_closed f_low f_pending f_emitted f_gap f_codeDigits f_encoded f_decodedCount f_walkSide f_walkNext f_excluded f_excludedCount f_candidates f_candidateCount f_stepLevel f_stepSum f_stepEscape f_stepTotal f_stepCum f_stepFreq n (nI t) a_child a_tally a_contextNode a_depth a_recent a_stringCount a_restartCount a_range a_width a_digits a_decoded it := by
  intro d
  induction d with
  | zero =>
    intro t ht n hn it h
    obtain ⟨m, rfl⟩ : ∃ m, n = m + 1 := ⟨n - 1, by omega⟩
    have e : t = 8 := by omega
    subst e
    exact br_t (nI_le (a := 8) (b := 8) (by omega) (by omega)) (K it h)
  | succ d ih =>
    intro t ht n hn it h
    obtain ⟨m, rfl⟩ : ∃ m, n = m + 1 := ⟨n - 1, by omega⟩
    refine br_f (nI_ge (b := 8) (by omega) (by omega)) ⟨pk_in t 8 (by omega), nm_r (e' := upd it t 0) (by rw [nI_clamp (by omega)]) (nm_r (nI_1 t) ?_)⟩
    refine ih (t + 1) (by omega) m (by omega) _ (fun u hu => ?_)
    by_cases e : u = t
    · rw [e]; exact pk_us
    · rw [pk_un e]; exact h u (by omega)
theorem xl_items {post : SX → Prop} {p : Int32} (K : ∀ it : Nat → Int32, (∀ u, u < 8 → it u = 0) → post (f_alphabet, f_countLimit, f_arena, f_capacity, f_closed, f_low, f_pending, f_emitted, f_gap, f_codeDigits, f_encoded, f_decodedCount, f_walkSide, f_walkNext, f_excluded, f_excludedCount, 0, 0, p, 0, 0, f_stepTotal, f_stepCum, f_stepFreq, a_child, a_tally, a_contextNode, a_depth, a_recent, a_stringCount, a_restartCount, a_range, a_width, a_digits, a_decoded, it)) : wpX_startItems post (f_alphabet, f_countLimit, f_arena, f_capacity, f_closed, f_low, f_pending, f_emitted, f_gap, f_codeDigits, f_encoded, f_decodedCount, f_walkSide, f_walkNext, f_excluded, f_excludedCount, f_candidates, f_candidateCount, f_stepLevel, f_stepSum, f_stepEscape, f_stepTotal, f_stepCum, f_stepFreq, a_child, a_tally, a_contextNode, a_depth, a_recent, a_stringCount, a_restartCount, a_range, a_width, a_digits, a_decoded, a_itemFreq) p :=
  ⟨9, xl_items_27 K 8 0 rfl 9 (by omega) a_itemFreq (fun u h => absurd h (Nat.not_lt_zero _))⟩
theorem xl_add {post : SX → Prop} {t fq sm cc : Nat} (ht : t < 8) (K : post (f_alphabet, f_countLimit, f_arena, f_capacity, f_closed, f_low, f_pending, f_emitted, f_gap, f_codeDigits, f_encoded, f_decodedCount, f_walkSide, f_walkNext, f_excluded, f_excludedCount, f_candidates ||| ((1 : Int32) <<< (nI t &&& 31)), nI (cc + 1), f_stepLevel, nI (sm + fq), f_stepEscape, f_stepTotal, f_stepCum, f_stepFreq, a_child, a_tally, a_contextNode, a_depth, a_recent, a_stringCount, a_restartCount, a_range, a_width, a_digits, a_decoded, upd a_itemFreq t (nI fq))) : wpX_addItem post (f_alphabet, f_countLimit, f_arena, f_capacity, f_closed, f_low, f_pending, f_emitted, f_gap, f_codeDigits, f_encoded, f_decodedCount, f_walkSide, f_walkNext, f_excluded, f_excludedCount, f_candidates, nI cc, f_stepLevel, nI sm, f_stepEscape, f_stepTotal, f_stepCum, f_stepFreq, a_child, a_tally, a_contextNode, a_depth, a_recent, a_stringCount, a_restartCount, a_range, a_width, a_digits, a_decoded, a_itemFreq) (nI t) (nI fq) :=
  ⟨pk_in t 8 ht, nm_r (e' := upd a_itemFreq t (nI fq)) (by rw [nI_clamp (by omega)]) (nm_r (nI_add sm fq) (nm_e (nm_r (nI_1 cc) K)))⟩
theorem xl_gat {post : SX → Prop} {al node gone : Nat} {c x : Nat → Nat} {E : Nat → Bool} (ha : al ≤ 8) (hn : node < 256) (hg : gone ≤ 8) (c15 : ∀ t, c t ≤ 15)
    (hc : ∀ t, t < al → a_child (node * 8 + t) = if 0 < c t then nI (x t) else 0) (hx : ∀ t, t < al → 0 < c t → 0 < x t ∧ x t < 256 ∧ a_tally (x t) = nI (c t)) (hE : ex_ok al E f_excluded)
    (K : ∀ (cm : Int32) (it : Nat → Int32), bm_ok al (hx_f E c) cm → it_ok al (hx_f E c) it → post (nI al, f_countLimit, f_arena, f_capacity, f_closed, f_low, f_pending, f_emitted, f_gap, f_codeDigits, f_encoded, f_decodedCount, f_walkSide, f_walkNext, f_excluded, nI gone, cm, nI (hx_pc (hx_f E c) al), f_stepLevel, nI (hx_ps (hx_f E c) al), nI (hx_es al gone (hx_pc (hx_f E c) al)), nI (hx_ps (hx_f E c) al + hx_es al gone (hx_pc (hx_f E c) al)), f_stepCum, f_stepFreq, a_child, a_tally, a_contextNode, a_depth, a_recent, a_stringCount, a_restartCount, a_range, a_width, a_digits, a_decoded, it)) :
    ∀ d t, t + d = al → ∀ n, d < n → ∀ (cm : Int32) (it : Nat → Int32), bm_ok t (hx_f E c) cm → it_ok t (hx_f E c) it → wX_gather_21 post (nI node) n (nI t) (nI al) f_countLimit f_arena f_capacity f_closed f_low f_pending f_emitted f_gap f_codeDigits f_encoded f_decodedCount f_walkSide f_walkNext f_excluded (nI gone) cm (nI (hx_pc (hx_f E c) t)) f_stepLevel (nI (hx_ps (hx_f E c) t)) 0 f_stepTotal f_stepCum f_stepFreq a_child a_tally a_contextNode a_depth a_recent a_stringCount a_restartCount a_range a_width a_digits a_decoded it := by
  intro d
  induction d with
  | zero =>
    intro t ht n hn' cm it h1 h2
    obtain ⟨m, rfl⟩ : ∃ m, n = m + 1 := ⟨n - 1, by omega⟩
    have e : t = al := by omega
    subst e
    have b1 := hx_pc_le (hx_f E c) t
    have b2 := hx_ps_le (hx_f_le (E := E) c15) t
    refine br_t (nI_le (Nat.le_refl t) (by omega)) ?_
    by_cases z : gone + hx_pc (hx_f E c) t < t
    · have e : hx_es t gone (hx_pc (hx_f E c) t) = hx_pc (hx_f E c) t := if_pos z
      have k := K cm it h1 h2
      rw [e] at k
      exact br_f (by rw [nI_add]; exact nI_ge z (by omega)) (nm_r (nI_add _ _) k)
    · have e : hx_es t gone (hx_pc (hx_f E c) t) = 0 := if_neg z
      have k := K cm it h1 h2
      rw [e] at k
      exact br_t (by rw [nI_add]; exact nI_le (by omega) (by omega)) (nm_r (nI_add _ 0) k)
  | succ d ih =>
    intro t ht n hn' cm it h1 h2
    obtain ⟨m, rfl⟩ : ∃ m, n = m + 1 := ⟨n - 1, by omega⟩
    have skip : hx_f E c t = 0 → wX_gather_21 post (nI node) m (nI (t + 1)) (nI al) f_countLimit f_arena f_capacity f_closed f_low f_pending f_emitted f_gap f_codeDigits f_encoded f_decodedCount f_walkSide f_walkNext f_excluded (nI gone) cm (nI (hx_pc (hx_f E c) t)) f_stepLevel (nI (hx_ps (hx_f E c) t)) 0 f_stepTotal f_stepCum f_stepFreq a_child a_tally a_contextNode a_depth a_recent a_stringCount a_restartCount a_range a_width a_digits a_decoded it := by
      intro z
      have k := ih (t + 1) (by omega) m (by omega) cm it (bm_skip h1 z) (it_skip h2 z)
      have e1 : hx_pc (hx_f E c) (t + 1) = hx_pc (hx_f E c) t := by show hx_pc (hx_f E c) t + (if hx_f E c t = 0 then 0 else 1) = _; rw [if_pos z]; rfl
      have e2 : hx_ps (hx_f E c) (t + 1) = hx_ps (hx_f E c) t := by show hx_ps (hx_f E c) t + hx_f E c t = _; rw [z]; rfl
      rw [e1, e2] at k
      exact k
    refine br_f (nI_ge (by omega) (by omega)) ⟨pk_in (node * 8 + t) 2048 (by omega) (ix_8 _ _), ?_⟩
    by_cases z : 0 < c t
    · have hx' := hx t (by omega) z
      refine nm_r (e' := nI (x t)) (by rw [ix_8, nI_clamp (by omega), hc t (by omega), if_pos z]) (br_f (nI_ne0 hx'.1 (by omega)) ?_)
      cases y : E t with
      | true =>
        have f0 : hx_f E c t = 0 := hx_f_E y
        refine br_f (fun q => ?_) (nm_r (nI_1 t) (skip f0))
        rw [bb_tst _ (by omega), hE t (by omega), y] at q
        exact absurd q (by decide)
      | false =>
        have f0 : hx_f E c t = c t := hx_f_n y
        refine br_t ((bb_tst _ (by omega)).mpr (by rw [hE t (by omega), y])) ⟨pk_in (x t) 256 hx'.2.1, ?_⟩
        rw [nI_clamp (by omega), hx'.2.2]
        refine xl_add (by omega) (nm_r (nI_1 t) ?_)
        have k := ih (t + 1) (by omega) m (by omega) _ _ (bm_add (by omega) h1 (by omega)) (it_add h2)
        have e1 : hx_pc (hx_f E c) (t + 1) = hx_pc (hx_f E c) t + 1 := by show hx_pc (hx_f E c) t + (if hx_f E c t = 0 then 0 else 1) = _; rw [if_neg (by omega)]
        have e2 : hx_ps (hx_f E c) (t + 1) = hx_ps (hx_f E c) t + c t := by show hx_ps (hx_f E c) t + hx_f E c t = _; rw [f0]
        rw [e1, e2, f0] at k
        exact k
    · have f0 : hx_f E c t = 0 := by
        have := hx_f_le (E := E) (F := c) (b := 15) c15 t
        unfold hx_f
        split <;> omega
      exact nm_r (e' := 0) (by rw [ix_8, nI_clamp (by omega), hc t (by omega), if_neg z]) (br_t rfl (nm_r (nI_1 t) (skip f0)))
theorem xl_gfl {post : SX → Prop} {al : Nat} {E : Nat → Bool} (ha : al ≤ 8) (hE : ex_ok al E f_excluded)
    (K : ∀ (cm : Int32) (it : Nat → Int32), bm_ok al (hx_f E (fun _ => 1)) cm → it_ok al (hx_f E (fun _ => 1)) it → post (nI al, f_countLimit, f_arena, f_capacity, f_closed, f_low, f_pending, f_emitted, f_gap, f_codeDigits, f_encoded, f_decodedCount, f_walkSide, f_walkNext, f_excluded, f_excludedCount, cm, nI (hx_pc (hx_f E (fun _ => 1)) al), f_stepLevel, nI (hx_ps (hx_f E (fun _ => 1)) al), f_stepEscape, nI (hx_ps (hx_f E (fun _ => 1)) al), f_stepCum, f_stepFreq, a_child, a_tally, a_contextNode, a_depth, a_recent, a_stringCount, a_restartCount, a_range, a_width, a_digits, a_decoded, it)) :
    ∀ d t, t + d = al → ∀ n, d < n → ∀ (cm : Int32) (it : Nat → Int32), bm_ok t (hx_f E (fun _ => 1)) cm → it_ok t (hx_f E (fun _ => 1)) it → wX_gatherFlat_7 post n (nI t) (nI al) f_countLimit f_arena f_capacity f_closed f_low f_pending f_emitted f_gap f_codeDigits f_encoded f_decodedCount f_walkSide f_walkNext f_excluded f_excludedCount cm (nI (hx_pc (hx_f E (fun _ => 1)) t)) f_stepLevel (nI (hx_ps (hx_f E (fun _ => 1)) t)) f_stepEscape f_stepTotal f_stepCum f_stepFreq a_child a_tally a_contextNode a_depth a_recent a_stringCount a_restartCount a_range a_width a_digits a_decoded it := by
  intro d
  induction d with
  | zero =>
    intro t ht n hn' cm it h1 h2
    obtain ⟨m, rfl⟩ : ∃ m, n = m + 1 := ⟨n - 1, by omega⟩
    have e : t = al := by omega
    subst e
    exact br_t (nI_le (Nat.le_refl t) (by omega)) (K cm it h1 h2)
  | succ d ih =>
    intro t ht n hn' cm it h1 h2
    obtain ⟨m, rfl⟩ : ∃ m, n = m + 1 := ⟨n - 1, by omega⟩
    refine br_f (nI_ge (by omega) (by omega)) ?_
    cases y : E t with
    | true =>
      have f0 : hx_f E (fun _ => 1) t = 0 := hx_f_E y
      refine br_f (fun q => ?_) (nm_r (nI_1 t) ?_)
      · rw [bb_tst _ (by omega), hE t (by omega), y] at q
        exact absurd q (by decide)
      · have k := ih (t + 1) (by omega) m (by omega) cm it (bm_skip h1 f0) (it_skip h2 f0)
        have e1 : hx_pc (hx_f E (fun _ => 1)) (t + 1) = hx_pc (hx_f E (fun _ => 1)) t := by show hx_pc (hx_f E (fun _ => 1)) t + (if hx_f E (fun _ => 1) t = 0 then 0 else 1) = _; rw [if_pos f0]; rfl
        have e2 : hx_ps (hx_f E (fun _ => 1)) (t + 1) = hx_ps (hx_f E (fun _ => 1)) t := by show hx_ps (hx_f E (fun _ => 1)) t + hx_f E (fun _ => 1) t = _; rw [f0]; rfl
        rw [e1, e2] at k
        exact k
    | false =>
      have f0 : hx_f E (fun _ => 1) t = 1 := hx_f_n y
      refine br_t ((bb_tst _ (by omega)).mpr (by rw [hE t (by omega), y])) ?_
      refine xl_add (fq := 1) (by omega) (nm_r (nI_1 t) ?_)
      have k := ih (t + 1) (by omega) m (by omega) _ _ (bm_add (by omega) h1 (by omega)) (it_add h2)
      have e1 : hx_pc (hx_f E (fun _ => 1)) (t + 1) = hx_pc (hx_f E (fun _ => 1)) t + 1 := by show hx_pc (hx_f E (fun _ => 1)) t + (if hx_f E (fun _ => 1) t = 0 then 0 else 1) = _; rw [if_neg (by omega)]
      have e2 : hx_ps (hx_f E (fun _ => 1)) (t + 1) = hx_ps (hx_f E (fun _ => 1)) t + 1 := by show hx_ps (hx_f E (fun _ => 1)) t + hx_f E (fun _ => 1) t = _; rw [f0]
      rw [e1, e2, f0] at k
      exact k
end
end
section
/-! ===== X: the next step of the walk ===== -/
section
variable {f_alphabet f_countLimit f_arena f_capacity f_closed f_low f_pending f_emitted f_gap f_codeDigits f_encoded f_decodedCount f_walkSide f_walkNext f_excluded f_excludedCount f_candidates f_candidateCount f_stepLevel f_stepSum f_stepEscape f_stepTotal f_stepCum f_stepFreq : Int32} {a_child a_tally a_contextNode a_depth a_recent a_stringCount a_restartCount a_range a_width a_digits a_decoded a_itemFreq : Nat → Int32}
/-- gather at order k, over side sd with history L -/
theorem xl_gather {post : SX → Prop} {lim al sd k gone : Nat} {L : List Nat} {E : Nat → Bool} (hl : 2 ≤ lim) (hl5 : lim ≤ 15) (ha : al ≤ 8) (hs : sd < 2) (hk : k ≤ hx_top L) (hg : gone ≤ 8)
    (X : XS lim sd L a_child a_tally a_contextNode a_depth a_recent a_stringCount) (hE : ex_ok al E f_excluded)
    (K : ∀ (cm : Int32) (it : Nat → Int32), bm_ok al (hx_f E (hx_F lim L (k + 1))) cm → it_ok al (hx_f E (hx_F lim L (k + 1))) it → post (nI al, f_countLimit, f_arena, f_capacity, f_closed, f_low, f_pending, f_emitted, f_gap, f_codeDigits, f_encoded, f_decodedCount, nI sd, f_walkNext, f_excluded, nI gone, cm, nI (gw_m al (hx_F lim L) E (k + 1)), nI k, nI (gw_s al (hx_F lim L) E (k + 1)), nI (hx_es al gone (gw_m al (hx_F lim L) E (k + 1))), nI (gw_t al (hx_F lim L) E gone (k + 1)), f_stepCum, f_stepFreq, a_child, a_tally, a_contextNode, a_depth, a_recent, a_stringCount, a_restartCount, a_range, a_width, a_digits, a_decoded, it)) :
    wpX_gather post (nI al, f_countLimit, f_arena, f_capacity, f_closed, f_low, f_pending, f_emitted, f_gap, f_codeDigits, f_encoded, f_decodedCount, nI sd, f_walkNext, f_excluded, nI gone, f_candidates, f_candidateCount, f_stepLevel, f_stepSum, f_stepEscape, f_stepTotal, f_stepCum, f_stepFreq, a_child, a_tally, a_contextNode, a_depth, a_recent, a_stringCount, a_restartCount, a_range, a_width, a_digits, a_decoded, a_itemFreq) (nI k) := by
  obtain ⟨nd, x1, x2, x3, x4, x5, x6⟩ := X
  have ht := hx_top_le L
  have htl := hx_top_len L
  have lk : (L.take k).length ≤ 3 := by rw [List.length_take]; omega
  have oc := hx_oc_take (lim := lim) L k
  have r := tr_rng x1 (w := L.take k) (by omega) oc
  refine ⟨pk_in (sd * 4 + k) 8 (by omega) (ix_4 _ _), nm_r (e' := nI (nd (L.take k))) (by rw [ix_4, nI_clamp (by omega)]; exact x5 k hk) ?_⟩
  refine xl_items (fun it h => ⟨al + 1, ?_⟩)
  refine xl_gat (c := hx_cnt lim L (L.take k)) (x := fun t => nd (t :: L.take k)) ha (by omega) hg (fun t => Nat.le_trans (hx_cnt_le hl L _ t) hl5) (fun t ht => ?_) (fun t ht z => ?_) hE K al 0 (by omega) (al + 1) (by omega) 0 it (bm_z _) (it_z _ h)
  · exact tr_child x1 lk oc (by omega)
  · have r2 := x1.2.2.1 (L.take k) t lk z
    exact ⟨by show 0 < nd (t :: L.take k); omega, by show nd (t :: L.take k) < 256; omega, tr_tally x1 lk z⟩
theorem xl_flat {post : SX → Prop} {lim al : Nat} {L : List Nat} {E : Nat → Bool} (ha : al ≤ 8) (hE : ex_ok al E f_excluded)
    (K : ∀ (cm : Int32) (it : Nat → Int32), bm_ok al (hx_f E (hx_F lim L 0)) cm → it_ok al (hx_f E (hx_F lim L 0)) it → post (nI al, f_countLimit, f_arena, f_capacity, f_closed, f_low, f_pending, f_emitted, f_gap, f_codeDigits, f_encoded, f_decodedCount, f_walkSide, f_walkNext, f_excluded, f_excludedCount, cm, nI (gw_m al (hx_F lim L) E 0), nI 4, nI (gw_s al (hx_F lim L) E 0), nI (hx_es al (hx_g E al) (gw_m al (hx_F lim L) E 0)), nI (gw_t al (hx_F lim L) E (hx_g E al) 0), f_stepCum, f_stepFreq, a_child, a_tally, a_contextNode, a_depth, a_recent, a_stringCount, a_restartCount, a_range, a_width, a_digits, a_decoded, it)) :
    wpX_gatherFlat post (nI al, f_countLimit, f_arena, f_capacity, f_closed, f_low, f_pending, f_emitted, f_gap, f_codeDigits, f_encoded, f_decodedCount, f_walkSide, f_walkNext, f_excluded, f_excludedCount, f_candidates, f_candidateCount, f_stepLevel, f_stepSum, f_stepEscape, f_stepTotal, f_stepCum, f_stepFreq, a_child, a_tally, a_contextNode, a_depth, a_recent, a_stringCount, a_restartCount, a_range, a_width, a_digits, a_decoded, a_itemFreq) := by
  have e1 : hx_es al (hx_g E al) (gw_m al (hx_F lim L) E 0) = 0 := by
    have h := hx_g_flat (E := E) al
    refine if_neg (fun z => ?_)
    have z' : hx_g E al + hx_pc (hx_f E (fun _ => 1)) al < al := z
    omega
  have e2 : gw_t al (hx_F lim L) E (hx_g E al) 0 = hx_ps (hx_f E (fun _ => 1)) al := by
    show gw_s al (hx_F lim L) E 0 + hx_es al (hx_g E al) (gw_m al (hx_F lim L) E 0) = _
    rw [e1]; rfl
  rw [e1, e2] at K
  unfold wpX_gatherFlat
  refine xl_items (fun it h => ⟨al + 1, ?_⟩)
  exact xl_gfl ha hE K al 0 (by omega) (al + 1) (by omega) 0 it (bm_z _) (it_z _ h)
theorem xl_next_10 {post : SX → Prop} {lim al sd : Nat} {L : List Nat} {E : Nat → Bool} (hl : 2 ≤ lim) (hl5 : lim ≤ 15) (ha : al ≤ 8) (hs : sd < 2)
    (X : XS lim sd L a_child a_tally a_contextNode a_depth a_recent a_stringCount) (hE : ex_ok al E f_excluded) :
    ∀ (N : Nat) (_ : N ≤ hx_top L + 1)
    (_ : ∀ (cm : Int32) (it : Nat → Int32), bm_ok al (hx_f E (hx_F lim L (gw_n al (hx_F lim L) E N))) cm → it_ok al (hx_f E (hx_F lim L (gw_n al (hx_F lim L) E N))) it → post (nI al, f_countLimit, f_arena, f_capacity, f_closed, f_low, f_pending, f_emitted, f_gap, f_codeDigits, f_encoded, f_decodedCount, nI sd, kI (gw_n al (hx_F lim L) E N - 1), f_excluded, nI (hx_g E al), cm, nI (gw_m al (hx_F lim L) E (gw_n al (hx_F lim L) E N)), nI (lv (gw_n al (hx_F lim L) E N)), nI (gw_s al (hx_F lim L) E (gw_n al (hx_F lim L) E N)), nI (hx_es al (hx_g E al) (gw_m al (hx_F lim L) E (gw_n al (hx_F lim L) E N))), nI (gw_t al (hx_F lim L) E (hx_g E al) (gw_n al (hx_F lim L) E N)), f_stepCum, f_stepFreq, a_child, a_tally, a_contextNode, a_depth, a_recent, a_stringCount, a_restartCount, a_range, a_width, a_digits, a_decoded, it))
    (n : Nat) (_ : N + 1 < n) (wn cm cc sl ss se : Int32) (it : Nat → Int32) (_ : wn = kI N), wX_nextStep_10 post n (kI N) (nI al) f_countLimit f_arena f_capacity f_closed f_low f_pending f_emitted f_gap f_codeDigits f_encoded f_decodedCount (nI sd) wn f_excluded (nI (hx_g E al)) cm cc sl ss se 0 f_stepCum f_stepFreq a_child a_tally a_contextNode a_depth a_recent a_stringCount a_restartCount a_range a_width a_digits a_decoded it := by
  have hg8 : hx_g E al ≤ 8 := Nat.le_trans (hx_g_le E al) ha
  have hF := hx_F_le hl hl5 L
  intro N
  induction N with
  | zero =>
    intro hN K n hn wn cm cc sl ss se it hw
    obtain ⟨m, rfl⟩ : ∃ m, n = m + 1 := ⟨n - 1, by omega⟩
    subst hw
    refine br_t (show (-1 : Int32) < 0 by decide) (br_t rfl ?_)
    exact xl_flat (lim := lim) (L := L) ha hE K
  | succ k ih =>
    intro hN K n hn wn cm cc sl ss se it hw
    obtain ⟨m, rfl⟩ : ∃ m, n = m + 1 := ⟨n - 1, by omega⟩
    have ht := hx_top_le L
    refine br_f (nI_pos (n := k) (by omega)) (br_t rfl (nm_r (kI_s k) ?_))
    refine xl_gather hl hl5 ha hs (by omega) hg8 X hE (fun cm' it' h1 h2 => nm_r (kI_m k) ?_)
    have btt := gw_tot (al := al) (F := hx_F lim L) (E := E) (gone := hx_g E al) (K := k + 1) ha hF
    by_cases z : gw_m al (hx_F lim L) E (k + 1) = 0
    · have e : gw_n al (hx_F lim L) E (k + 1) = gw_n al (hx_F lim L) E k := if_pos z
      rw [e] at K
      have s0 : gw_s al (hx_F lim L) E (k + 1) = 0 := hx_ps_pc.mpr z
      have t0 : gw_t al (hx_F lim L) E (hx_g E al) (k + 1) = 0 := by
        unfold gw_t
        rw [s0, z]
        unfold hx_es
        split <;> rfl
      rw [t0]
      exact ih (by omega) K m (by omega) _ _ _ _ _ _ _ rfl
    · have e : gw_n al (hx_F lim L) E (k + 1) = k + 1 := if_neg z
      have p := gw_pos z
      have t1 : gw_t al (hx_F lim L) E (hx_g E al) (k + 1) ≠ 0 := by unfold gw_t; omega
      have K' := K cm' it' (by rw [e]; exact h1) (by rw [e]; exact h2)
      rw [e] at K'
      obtain ⟨m', rfl⟩ : ∃ m', m = m' + 1 := ⟨m - 1, by omega⟩
      have nz : ¬ nI (gw_t al (hx_F lim L) E (hx_g E al) (k + 1)) = 0 := nI_ne0 (by omega) (by omega)
      have fin : wX_nextStep_39 post (nI al) f_countLimit f_arena f_capacity f_closed f_low f_pending f_emitted f_gap f_codeDigits f_encoded f_decodedCount (nI sd) (kI k) f_excluded (nI (hx_g E al)) cm' (nI (gw_m al (hx_F lim L) E (k + 1))) (nI k) (nI (gw_s al (hx_F lim L) E (k + 1))) (nI (hx_es al (hx_g E al) (gw_m al (hx_F lim L) E (k + 1)))) (nI (gw_t al (hx_F lim L) E (hx_g E al) (k + 1))) f_stepCum f_stepFreq a_child a_tally a_contextNode a_depth a_recent a_stringCount a_restartCount a_range a_width a_digits a_decoded it' := br_f nz K'
      exact br_c (fun _ => fin) (fun _ => br_f nz fin)
theorem xl_next {post : SX → Prop} {lim al sd N : Nat} {L : List Nat} {E : Nat → Bool} (hl : 2 ≤ lim) (hl5 : lim ≤ 15) (ha : al ≤ 8) (hs : sd < 2)
    (X : XS lim sd L a_child a_tally a_contextNode a_depth a_recent a_stringCount) (hE : ex_ok al E f_excluded) (hN : N ≤ hx_top L + 1)
    (K : ∀ (cm : Int32) (it : Nat → Int32), bm_ok al (hx_f E (hx_F lim L (gw_n al (hx_F lim L) E N))) cm → it_ok al (hx_f E (hx_F lim L (gw_n al (hx_F lim L) E N))) it → post (nI al, f_countLimit, f_arena, f_capacity, f_closed, f_low, f_pending, f_emitted, f_gap, f_codeDigits, f_encoded, f_decodedCount, nI sd, kI (gw_n al (hx_F lim L) E N - 1), f_excluded, nI (hx_g E al), cm, nI (gw_m al (hx_F lim L) E (gw_n al (hx_F lim L) E N)), nI (lv (gw_n al (hx_F lim L) E N)), nI (gw_s al (hx_F lim L) E (gw_n al (hx_F lim L) E N)), nI (hx_es al (hx_g E al) (gw_m al (hx_F lim L) E (gw_n al (hx_F lim L) E N))), nI (gw_t al (hx_F lim L) E (hx_g E al) (gw_n al (hx_F lim L) E N)), f_stepCum, f_stepFreq, a_child, a_tally, a_contextNode, a_depth, a_recent, a_stringCount, a_restartCount, a_range, a_width, a_digits, a_decoded, it)) :
    wpX_nextStep post (nI al, f_countLimit, f_arena, f_capacity, f_closed, f_low, f_pending, f_emitted, f_gap, f_codeDigits, f_encoded, f_decodedCount, nI sd, kI N, f_excluded, nI (hx_g E al), f_candidates, f_candidateCount, f_stepLevel, f_stepSum, f_stepEscape, f_stepTotal, f_stepCum, f_stepFreq, a_child, a_tally, a_contextNode, a_depth, a_recent, a_stringCount, a_restartCount, a_range, a_width, a_digits, a_decoded, a_itemFreq) :=
  ⟨N + 2, xl_next_10 hl hl5 ha hs X hE N hN K (N + 2) (by omega) _ _ _ _ _ _ _ rfl⟩
theorem xl_aim_34 {post : Int32 → SX → Prop} {al s : Nat} {f : Nat → Nat} (ha : al ≤ 8) (hs : s < al) (hit : it_ok al f a_itemFreq) (hb : ∀ t, f t ≤ 15)
    (K : post 1 (f_alphabet, f_countLimit, f_arena, f_capacity, f_closed, f_low, f_pending, f_emitted, f_gap, f_codeDigits, f_encoded, f_decodedCount, f_walkSide, f_walkNext, f_excluded, f_excludedCount, f_candidates, f_candidateCount, f_stepLevel, f_stepSum, f_stepEscape, f_stepTotal, nI (hx_ps f s), nI (f s), a_child, a_tally, a_contextNode, a_depth, a_recent, a_stringCount, a_restartCount, a_range, a_width, a_digits, a_decoded, a_itemFreq)) :
    ∀ d t, t + d = s → ∀ n, d < n → wX_aimAt_34 post (nI s) f_alphabet f_countLimit f_arena f_capacity f_closed f_low f_pending f_emitted f_gap f_codeDigits f_encoded f_decodedCount f_walkSide f_walkNext f_excluded f_excludedCount f_candidates f_candidateCount f_stepLevel f_stepSum f_stepEscape f_stepTotal f_stepFreq a_child a_tally a_contextNode a_depth a_recent a_stringCount a_restartCount a_range a_width a_digits a_decoded a_itemFreq n (nI t) (nI (hx_ps f t)) := by
  intro d
  induction d with
  | zero =>
    intro t ht n hn
    obtain ⟨m, rfl⟩ : ∃ m, n = m + 1 := ⟨n - 1, by omega⟩
    have e : t = s := by omega
    subst e
    exact br_t (nI_le (Nat.le_refl t) (by omega)) ⟨pk_in t 8 (by omega), nm_r (e' := nI (f t)) (by rw [nI_clamp (by omega), hit t (by omega), if_pos hs]) K⟩
  | succ d ih =>
    intro t ht n hn
    obtain ⟨m, rfl⟩ : ∃ m, n = m + 1 := ⟨n - 1, by omega⟩
    exact br_f (nI_ge (by omega) (by omega)) ⟨pk_in t 8 (by omega), nm_r (e' := nI (hx_ps f (t + 1))) (by rw [nI_clamp (by omega), hit t (by omega), if_pos (by omega), nI_add]; rfl) (nm_r (nI_1 t) (ih (t + 1) (by omega) m (by omega)))⟩
theorem xl_aim {post : Int32 → SX → Prop} {al s : Nat} {f : Nat → Nat} (ha : al ≤ 8) (hs : s < al) (hit : it_ok al f a_itemFreq) (hb : ∀ t, f t ≤ 15)
    (K0 : f s = 0 → post 0 (f_alphabet, f_countLimit, f_arena, f_capacity, f_closed, f_low, f_pending, f_emitted, f_gap, f_codeDigits, f_encoded, f_decodedCount, f_walkSide, f_walkNext, f_excluded, f_excludedCount, f_candidates, f_candidateCount, f_stepLevel, f_stepSum, f_stepEscape, f_stepTotal, f_stepSum, f_stepEscape, a_child, a_tally, a_contextNode, a_depth, a_recent, a_stringCount, a_restartCount, a_range, a_width, a_digits, a_decoded, a_itemFreq)) (K1 : f s ≠ 0 → post 1 (f_alphabet, f_countLimit, f_arena, f_capacity, f_closed, f_low, f_pending, f_emitted, f_gap, f_codeDigits, f_encoded, f_decodedCount, f_walkSide, f_walkNext, f_excluded, f_excludedCount, f_candidates, f_candidateCount, f_stepLevel, f_stepSum, f_stepEscape, f_stepTotal, nI (hx_ps f s), nI (f s), a_child, a_tally, a_contextNode, a_depth, a_recent, a_stringCount, a_restartCount, a_range, a_width, a_digits, a_decoded, a_itemFreq)) :
    wpX_aimAt post (f_alphabet, f_countLimit, f_arena, f_capacity, f_closed, f_low, f_pending, f_emitted, f_gap, f_codeDigits, f_encoded, f_decodedCount, f_walkSide, f_walkNext, f_excluded, f_excludedCount, f_candidates, f_candidateCount, f_stepLevel, f_stepSum, f_stepEscape, f_stepTotal, f_stepCum, f_stepFreq, a_child, a_tally, a_contextNode, a_depth, a_recent, a_stringCount, a_restartCount, a_range, a_width, a_digits, a_decoded, a_itemFreq) (nI s) := by
  have e : a_itemFreq (nI s).toNatClampNeg = nI (f s) := by rw [nI_clamp (by omega), hit s (by omega), if_pos hs]
  have b := hb s
  refine ⟨pk_in s 8 (by omega), ?_⟩
  rw [e]
  refine pk_eq (f s) 0 K0 (fun z => ⟨s + 1, ?_⟩)
  exact xl_aim_34 ha hs hit hb (K1 z) s 0 (by omega) (s + 1) (by omega)
theorem gw_pk_st (f : Nat → Nat) (q n : Nat) (h : gw_pk f q n < n) : ∀ d, gw_pk f q (n + d) = gw_pk f q n
  | 0 => rfl
  | d + 1 => by
    have e := gw_pk_st f q n h d
    show (if gw_pk f q (n + d) < n + d then gw_pk f q (n + d) else _) = _
    rw [e, if_pos (by omega)]
theorem xl_pick_4 {post : Int32 → SX → Prop} {al q : Nat} {f : Nat → Nat} (ha : al ≤ 8) (hq : q < 2 ^ 31) (hit : it_ok al f a_itemFreq) (hb : ∀ t, f t ≤ 15)
    (K0 : ¬ gw_pk f q al < al → post (-1) (nI al, f_countLimit, f_arena, f_capacity, f_closed, f_low, f_pending, f_emitted, f_gap, f_codeDigits, f_encoded, f_decodedCount, f_walkSide, f_walkNext, f_excluded, f_excludedCount, f_candidates, f_candidateCount, f_stepLevel, f_stepSum, f_stepEscape, f_stepTotal, f_stepSum, f_stepEscape, a_child, a_tally, a_contextNode, a_depth, a_recent, a_stringCount, a_restartCount, a_range, a_width, a_digits, a_decoded, a_itemFreq)) (K1 : gw_pk f q al < al → post (nI (gw_pk f q al)) (nI al, f_countLimit, f_arena, f_capacity, f_closed, f_low, f_pending, f_emitted, f_gap, f_codeDigits, f_encoded, f_decodedCount, f_walkSide, f_walkNext, f_excluded, f_excludedCount, f_candidates, f_candidateCount, f_stepLevel, f_stepSum, f_stepEscape, f_stepTotal, nI (hx_ps f (gw_pk f q al)), nI (f (gw_pk f q al)), a_child, a_tally, a_contextNode, a_depth, a_recent, a_stringCount, a_restartCount, a_range, a_width, a_digits, a_decoded, a_itemFreq)) :
    ∀ d t, t + d = al → ∀ n, d < n → gw_pk f q t = t → wX_pick_4 post (nI q) (nI al) f_countLimit f_arena f_capacity f_closed f_low f_pending f_emitted f_gap f_codeDigits f_encoded f_decodedCount f_walkSide f_walkNext f_excluded f_excludedCount f_candidates f_candidateCount f_stepLevel f_stepSum f_stepEscape f_stepTotal f_stepCum f_stepFreq a_child a_tally a_contextNode a_depth a_recent a_stringCount a_restartCount a_range a_width a_digits a_decoded a_itemFreq n (nI (hx_ps f t)) (nI t) := by
  intro d
  induction d with
  | zero =>
    intro t ht n hn hp
    obtain ⟨m, rfl⟩ : ∃ m, n = m + 1 := ⟨n - 1, by omega⟩
    have e : t = al := by omega
    subst e
    exact br_t (nI_le (Nat.le_refl t) (by omega)) (K0 (by omega))
  | succ d ih =>
    intro t ht n hn hp
    obtain ⟨m, rfl⟩ : ∃ m, n = m + 1 := ⟨n - 1, by omega⟩
    have b := hx_ps_le hb (t + 1)
    have e1 : gw_pk f q (t + 1) = if q < hx_ps f (t + 1) then t else t + 1 := by
      show (if gw_pk f q t < t then gw_pk f q t else if q < hx_ps f (t + 1) then t else t + 1) = _
      rw [if_neg (by omega)]
    refine br_f (nI_ge (by omega) (by omega)) ⟨pk_in t 8 (by omega), nm_r (e' := nI (f t)) (by rw [nI_clamp (by omega), hit t (by omega), if_pos (by omega)]) ?_⟩
    have e2 : nI (hx_ps f t) + nI (f t) = nI (hx_ps f (t + 1)) := nI_add _ _
    rw [e2]
    refine pk_le (hx_ps f (t + 1)) q (fun z => nm_e (nm_r (nI_1 t) (ih (t + 1) (by omega) m (by omega) ?_))) (fun z => ?_) rfl rfl (by omega) hq
    · rw [e1, if_neg (by omega)]
    · rw [if_pos z] at e1
      have e3 : gw_pk f q al = t := by
        have := gw_pk_st f q (t + 1) (by omega) d
        rw [show t + 1 + d = al by omega, e1] at this
        exact this
      rw [e3] at K1
      exact K1 (by omega)
theorem xl_pick {post : Int32 → SX → Prop} {al q : Nat} {f : Nat → Nat} (ha : al ≤ 8) (hq : q < 2 ^ 31) (hit : it_ok al f a_itemFreq) (hb : ∀ t, f t ≤ 15)
    (K0 : ¬ gw_pk f q al < al → post (-1) (nI al, f_countLimit, f_arena, f_capacity, f_closed, f_low, f_pending, f_emitted, f_gap, f_codeDigits, f_encoded, f_decodedCount, f_walkSide, f_walkNext, f_excluded, f_excludedCount, f_candidates, f_candidateCount, f_stepLevel, f_stepSum, f_stepEscape, f_stepTotal, f_stepSum, f_stepEscape, a_child, a_tally, a_contextNode, a_depth, a_recent, a_stringCount, a_restartCount, a_range, a_width, a_digits, a_decoded, a_itemFreq)) (K1 : gw_pk f q al < al → post (nI (gw_pk f q al)) (nI al, f_countLimit, f_arena, f_capacity, f_closed, f_low, f_pending, f_emitted, f_gap, f_codeDigits, f_encoded, f_decodedCount, f_walkSide, f_walkNext, f_excluded, f_excludedCount, f_candidates, f_candidateCount, f_stepLevel, f_stepSum, f_stepEscape, f_stepTotal, nI (hx_ps f (gw_pk f q al)), nI (f (gw_pk f q al)), a_child, a_tally, a_contextNode, a_depth, a_recent, a_stringCount, a_restartCount, a_range, a_width, a_digits, a_decoded, a_itemFreq)) :
    wpX_pick post (nI al, f_countLimit, f_arena, f_capacity, f_closed, f_low, f_pending, f_emitted, f_gap, f_codeDigits, f_encoded, f_decodedCount, f_walkSide, f_walkNext, f_excluded, f_excludedCount, f_candidates, f_candidateCount, f_stepLevel, f_stepSum, f_stepEscape, f_stepTotal, f_stepCum, f_stepFreq, a_child, a_tally, a_contextNode, a_depth, a_recent, a_stringCount, a_restartCount, a_range, a_width, a_digits, a_decoded, a_itemFreq) (nI q) :=
  ⟨al + 1, xl_pick_4 ha hq hit hb K0 K1 al 0 (by omega) (al + 1) (by omega) rfl⟩
theorem xl_unit {post : Int32 → Prop} {sd rg tot : Nat} (hs : sd < 2) (hr : a_range sd = nI rg) (hrb : rg ≤ 65536) (ht : 0 < tot) (htb : tot ≤ 128) (K : post (nI (rg / tot))) : wpX_unit post (f_alphabet, f_countLimit, f_arena, f_capacity, f_closed, f_low, f_pending, f_emitted, f_gap, f_codeDigits, f_encoded, f_decodedCount, f_walkSide, f_walkNext, f_excluded, f_excludedCount, f_candidates, f_candidateCount, f_stepLevel, f_stepSum, f_stepEscape, nI tot, f_stepCum, f_stepFreq, a_child, a_tally, a_contextNode, a_depth, a_recent, a_stringCount, a_restartCount, a_range, a_width, a_digits, a_decoded, a_itemFreq) (nI sd) := by
  refine br_t (nI_lt (a := 0) ht (by omega)) ⟨pk_in sd 2 hs, nI_ne0 ht (by omega), ?_⟩
  rw [nI_clamp (by omega), hr, pk_div (by omega) ht (by omega)]
  exact K
theorem xl_gq {post : Int32 → Prop} {gp rg w tot : Nat} (hr : a_range 1 = nI rg) (h1 : 32768 ≤ rg) (h2 : rg ≤ 65536) (hg : gp < rg) (ht : 0 < tot) (htb : tot ≤ 128) (K : post (nI (gw_q (gp, rg, w) tot))) : wpX_gapQuotient post (f_alphabet, f_countLimit, f_arena, f_capacity, f_closed, f_low, f_pending, f_emitted, nI gp, f_codeDigits, f_encoded, f_decodedCount, f_walkSide, f_walkNext, f_excluded, f_excludedCount, f_candidates, f_candidateCount, f_stepLevel, f_stepSum, f_stepEscape, nI tot, f_stepCum, f_stepFreq, a_child, a_tally, a_contextNode, a_depth, a_recent, a_stringCount, a_restartCount, a_range, a_width, a_digits, a_decoded, a_itemFreq) := by
  have r1 : 256 ≤ rg / tot := (Nat.le_div_iff_mul_le ht).mpr (Nat.le_trans (Nat.mul_le_mul_left 256 htb) h1)
  have r2 : rg / tot ≤ rg := Nat.div_le_self _ _
  have r3 : gp / (rg / tot) ≤ gp := Nat.div_le_self _ _
  unfold wpX_gapQuotient
  refine xl_unit (sd := 1) (by omega) hr h2 ht htb (br_f (nI_nle (by omega) (by omega)) ⟨nI_ne0 (by omega) (by omega), nm_r (pk_div (by omega) (by omega) (by omega)) ?_⟩)
  refine pk_lt (gp / (rg / tot)) tot (fun z => ?_) (fun z => nm_r (e' := nI (tot - 1)) (pk_sub (b := 1) ht) ?_)
  · have e : gw_q (gp, rg, w) tot = gp / (rg / tot) := if_pos z
    rw [e] at K; exact K
  · have e : gw_q (gp, rg, w) tot = tot - 1 := if_neg (by show ¬ gp / (rg / tot) < tot; omega)
    rw [e] at K; exact K
theorem xl_excl {post : SX → Prop} {al m gone : Nat} {E : Nat → Bool} {f : Nat → Nat} (ha : al ≤ 8) (hE : ex_ok al E f_excluded) (hb : bm_ok al f f_candidates) (K : ∀ x : Int32, ex_ok al (hx_E E f) x → post (f_alphabet, f_countLimit, f_arena, f_capacity, f_closed, f_low, f_pending, f_emitted, f_gap, f_codeDigits, f_encoded, f_decodedCount, f_walkSide, f_walkNext, x, nI (gone + m), f_candidates, nI m, f_stepLevel, f_stepSum, f_stepEscape, f_stepTotal, f_stepCum, f_stepFreq, a_child, a_tally, a_contextNode, a_depth, a_recent, a_stringCount, a_restartCount, a_range, a_width, a_digits, a_decoded, a_itemFreq)) : wpX_excludeCandidates post (f_alphabet, f_countLimit, f_arena, f_capacity, f_closed, f_low, f_pending, f_emitted, f_gap, f_codeDigits, f_encoded, f_decodedCount, f_walkSide, f_walkNext, f_excluded, nI gone, f_candidates, nI m, f_stepLevel, f_stepSum, f_stepEscape, f_stepTotal, f_stepCum, f_stepFreq, a_child, a_tally, a_contextNode, a_depth, a_recent, a_stringCount, a_restartCount, a_range, a_width, a_digits, a_decoded, a_itemFreq) :=
  nm_e (nm_r (nI_add gone m) (K _ (ex_or ha hE hb)))
end
end
section
/-! ===== X: the coder ===== -/
/-- LOW: settled digits D, p pending digits 0 1 .. 1, 16 digits lo -/
def cx_ok (V rg w lo p e D : Nat) : Prop := e + p + 16 = w ∧ V = (D * 2 ^ p + (2 ^ (p - 1) - 1)) * 65536 + lo ∧ lo < 65536 ∧ (p = 0 → lo + rg ≤ 65536) ∧ (0 < p → 65536 < lo + rg)
def dx_ok (D e : Nat) (a : Nat → Int32) : Prop := ∀ j, j < e → a j = nI (D / 2 ^ (e - 1 - j) % 2)
def ce_ok (st : Nat × Nat × Nat) (fl fp fe : Int32) (ra wi dg : Nat → Int32) : Prop := ∃ lo p e D, fl = nI lo ∧ fp = nI p ∧ fe = nI e ∧ ra 0 = nI st.2.1 ∧ wi 0 = nI st.2.2 ∧ cx_ok st.1 st.2.1 st.2.2 lo p e D ∧ dx_ok D e dg
theorem dx_emit {D e d : Nat} {a : Nat → Int32} (hd : d ≤ 1) (h : dx_ok D e a) : dx_ok (2 * D + d) (e + 1) (upd a e (nI d)) := by
  intro j hj
  by_cases z : j = e
  · rw [z, pk_us, show e + 1 - 1 - e = 0 by omega, Nat.pow_zero, Nat.div_one]
    exact congrArg nI (by omega)
  · rw [pk_un z, h j (by omega), show e + 1 - 1 - j = (e - 1 - j) + 1 by omega, Nat.pow_succ, Nat.mul_comm (2 ^ _) 2, ← Nat.div_div_eq_div_mul, show (2 * D + d) / 2 = D by omega]
def pdv (b D : Nat) : Nat → Nat
  | 0 => 2 * D + b
  | i + 1 => 2 * pdv b D i + (1 - b)
theorem pdv_0 (D : Nat) : ∀ i, pdv 0 D i = D * 2 ^ (i + 1) + (2 ^ i - 1)
  | 0 => by show 2 * D + 0 = D * 2 + (1 - 1); omega
  | i + 1 => by
    have h := pdv_0 D i
    have p := Nat.two_pow_pos i
    show 2 * pdv 0 D i + 1 = _
    have e1 : D * 2 ^ (i + 1 + 1) = D * 2 ^ (i + 1) * 2 := by rw [Nat.pow_succ 2 (i + 1), Nat.mul_assoc]
    have e2 : 2 ^ (i + 1) = 2 ^ i * 2 := Nat.pow_succ 2 i
    rw [h, e1]
    generalize D * 2 ^ (i + 1) = x
    omega
theorem pdv_1 (D : Nat) : ∀ i, pdv 1 D i = D * 2 ^ (i + 1) + 2 ^ i
  | 0 => by show 2 * D + 1 = D * 2 + 1; omega
  | i + 1 => by
    have h := pdv_1 D i
    show 2 * pdv 1 D i + 0 = _
    have e1 : D * 2 ^ (i + 1 + 1) = D * 2 ^ (i + 1) * 2 := by rw [Nat.pow_succ 2 (i + 1), Nat.mul_assoc]
    have e2 : 2 ^ (i + 1) = 2 ^ i * 2 := Nat.pow_succ 2 i
    rw [h, e1]
    generalize D * 2 ^ (i + 1) = x
    omega
theorem sh1 {n : Nat} (h : n < 2 ^ 30) : nI n <<< ((1 : Int32) &&& 31) = nI (2 * n) := by
  rw [pk_shlN _ 1 (by decide) (by omega)]
  exact congrArg nI (by omega)
theorem an16 {n : Nat} (h : n < 2 ^ 31) : nI n &&& 65535 = nI (n % 65536) := pk_andN (by omega) 16 (by decide)
section
variable {f_alphabet f_countLimit f_arena f_capacity f_closed f_low f_pending f_emitted f_gap f_codeDigits f_encoded f_decodedCount f_walkSide f_walkNext f_excluded f_excludedCount f_candidates f_candidateCount f_stepLevel f_stepSum f_stepEscape f_stepTotal f_stepCum f_stepFreq : Int32} {a_child a_tally a_contextNode a_depth a_recent a_stringCount a_restartCount a_range a_width a_digits a_decoded a_itemFreq : Nat → Int32}
theorem xl_narrow {post : Int32 → SX → Prop} {sd rg cum fq tot : Nat} (hs : sd < 2) (hr : a_range sd = nI rg) (h1 : 32768 ≤ rg) (h2 : rg ≤ 65536) (hi : cx_it cum fq tot)
    (K : post (nI (rg / tot * cum)) (f_alphabet, f_countLimit, f_arena, f_capacity, f_closed, f_low, f_pending, f_emitted, f_gap, f_codeDigits, f_encoded, f_decodedCount, f_walkSide, f_walkNext, f_excluded, f_excludedCount, f_candidates, f_candidateCount, f_stepLevel, f_stepSum, f_stepEscape, nI tot, nI cum, nI fq, a_child, a_tally, a_contextNode, a_depth, a_recent, a_stringCount, a_restartCount, upd a_range sd (nI (cx_rg rg cum fq tot)), a_width, a_digits, a_decoded, a_itemFreq)) : wpX_narrow post (f_alphabet, f_countLimit, f_arena, f_capacity, f_closed, f_low, f_pending, f_emitted, f_gap, f_codeDigits, f_encoded, f_decodedCount, f_walkSide, f_walkNext, f_excluded, f_excludedCount, f_candidates, f_candidateCount, f_stepLevel, f_stepSum, f_stepEscape, nI tot, nI cum, nI fq, a_child, a_tally, a_contextNode, a_depth, a_recent, a_stringCount, a_restartCount, a_range, a_width, a_digits, a_decoded, a_itemFreq) (nI sd) := by
  obtain ⟨i1, i2, i3⟩ := hi
  have r2 : rg / tot * tot ≤ rg := Nat.div_mul_le_self rg tot
  have r3 : rg / tot * cum ≤ rg / tot * tot := Nat.mul_le_mul_left _ (by omega)
  have ec : nI cum + nI fq = nI (cum + fq) := nI_add _ _
  unfold wpX_narrow
  refine xl_unit hs hr h2 (by omega) i3 (nm_r (pk_mul _ _) ?_)
  rw [ec]
  refine pk_eq (cum + fq) tot (fun z => ⟨pk_in sd 2 hs, pk_in sd 2 hs, nm_r (e' := upd a_range sd (nI (cx_rg rg cum fq tot))) ?_ K⟩) (fun z => ⟨pk_in sd 2 hs, nm_r (e' := upd a_range sd (nI (cx_rg rg cum fq tot))) ?_ K⟩)
  · rw [nI_clamp (by omega), hr, pk_sub (by omega)]
    have e : cx_rg rg cum fq tot = rg - rg / tot * cum := if_pos z
    rw [e]
  · rw [nI_clamp (by omega), pk_mul]
    have e : cx_rg rg cum fq tot = rg / tot * fq := if_neg z
    rw [e]
theorem xl_put {post : SX → Prop} {i d : Nat} (hi : i < 4096) (hd : d < 128) (K : post (f_alphabet, f_countLimit, f_arena, f_capacity, f_closed, f_low, f_pending, f_emitted, f_gap, f_codeDigits, f_encoded, f_decodedCount, f_walkSide, f_walkNext, f_excluded, f_excludedCount, f_candidates, f_candidateCount, f_stepLevel, f_stepSum, f_stepEscape, f_stepTotal, f_stepCum, f_stepFreq, a_child, a_tally, a_contextNode, a_depth, a_recent, a_stringCount, a_restartCount, a_range, a_width, upd a_digits i (nI d), a_decoded, a_itemFreq)) : wpX_putDigit post (f_alphabet, f_countLimit, f_arena, f_capacity, f_closed, f_low, f_pending, f_emitted, f_gap, f_codeDigits, f_encoded, f_decodedCount, f_walkSide, f_walkNext, f_excluded, f_excludedCount, f_candidates, f_candidateCount, f_stepLevel, f_stepSum, f_stepEscape, f_stepTotal, f_stepCum, f_stepFreq, a_child, a_tally, a_contextNode, a_depth, a_recent, a_stringCount, a_restartCount, a_range, a_width, a_digits, a_decoded, a_itemFreq) (nI i) (nI d) :=
  br_f (nI_pos (by omega)) (br_f (nI_ge (b := 4096) hi (by omega)) ⟨pk_in i 4096 hi, nm_r (e' := upd a_digits i (nI d)) (by rw [nI_clamp (by omega), nar_b hd]) K⟩)
theorem xl_emit {post : SX → Prop} {e d : Nat} (hi : e < 4096) (hd : d < 128) (K : post (f_alphabet, f_countLimit, f_arena, f_capacity, f_closed, f_low, f_pending, nI (e + 1), f_gap, f_codeDigits, f_encoded, f_decodedCount, f_walkSide, f_walkNext, f_excluded, f_excludedCount, f_candidates, f_candidateCount, f_stepLevel, f_stepSum, f_stepEscape, f_stepTotal, f_stepCum, f_stepFreq, a_child, a_tally, a_contextNode, a_depth, a_recent, a_stringCount, a_restartCount, a_range, a_width, upd a_digits e (nI d), a_decoded, a_itemFreq)) : wpX_emit post (f_alphabet, f_countLimit, f_arena, f_capacity, f_closed, f_low, f_pending, nI e, f_gap, f_codeDigits, f_encoded, f_decodedCount, f_walkSide, f_walkNext, f_excluded, f_excludedCount, f_candidates, f_candidateCount, f_stepLevel, f_stepSum, f_stepEscape, f_stepTotal, f_stepCum, f_stepFreq, a_child, a_tally, a_contextNode, a_depth, a_recent, a_stringCount, a_restartCount, a_range, a_width, a_digits, a_decoded, a_itemFreq) (nI d) := by
  unfold wpX_emit
  exact xl_put hi hd (nm_r (nI_1 e) K)
theorem xl_ep_7 {post : SX → Prop} {b D e p : Nat} (hb : b ≤ 1) (hp : e + p ≤ 4096) (K : ∀ dg : Nat → Int32, dx_ok (pdv b D (p - 1)) (e + p) dg → post (f_alphabet, f_countLimit, f_arena, f_capacity, f_closed, f_low, 0, nI (e + p), f_gap, f_codeDigits, f_encoded, f_decodedCount, f_walkSide, f_walkNext, f_excluded, f_excludedCount, f_candidates, f_candidateCount, f_stepLevel, f_stepSum, f_stepEscape, f_stepTotal, f_stepCum, f_stepFreq, a_child, a_tally, a_contextNode, a_depth, a_recent, a_stringCount, a_restartCount, a_range, a_width, dg, a_decoded, a_itemFreq)) :
    ∀ d i, i + 1 + d = p → ∀ n, d < n → ∀ dg : Nat → Int32, dx_ok (pdv b D i) (e + i + 1) dg → wX_emitPending_7 post (nI b) n (nI (i + 1)) f_alphabet f_countLimit f_arena f_capacity f_closed f_low (nI p) (nI (e + i + 1)) f_gap f_codeDigits f_encoded f_decodedCount f_walkSide f_walkNext f_excluded f_excludedCount f_candidates f_candidateCount f_stepLevel f_stepSum f_stepEscape f_stepTotal f_stepCum f_stepFreq a_child a_tally a_contextNode a_depth a_recent a_stringCount a_restartCount a_range a_width dg a_decoded a_itemFreq := by
  intro d
  induction d with
  | zero =>
    intro i hi n hn dg h
    obtain ⟨m, rfl⟩ : ∃ m, n = m + 1 := ⟨n - 1, by omega⟩
    have e1 : p - 1 = i := by omega
    have e2 : e + p = e + i + 1 := by omega
    rw [e1, e2] at K
    exact br_t (nI_le (by omega) (by omega)) (K dg h)
  | succ d ih =>
    intro i hi n hn dg h
    obtain ⟨m, rfl⟩ : ∃ m, n = m + 1 := ⟨n - 1, by omega⟩
    refine br_f (nI_ge (by omega) (by omega)) ?_
    have e1 : (1 : Int32) - nI b = nI (1 - b) := pk_sub (a := 1) hb
    rw [e1]
    exact xl_emit (by omega) (by omega) (nm_r (nI_1 (i + 1)) (ih (i + 1) (by omega) m (by omega) _ (dx_emit (by omega) h)))
theorem xl_ep {post : SX → Prop} {b D e p : Nat} (hb : b ≤ 1) (h0 : 0 < p) (hp : e + p ≤ 4096) (h : dx_ok D e a_digits) (K : ∀ dg : Nat → Int32, dx_ok (pdv b D (p - 1)) (e + p) dg → post (f_alphabet, f_countLimit, f_arena, f_capacity, f_closed, f_low, 0, nI (e + p), f_gap, f_codeDigits, f_encoded, f_decodedCount, f_walkSide, f_walkNext, f_excluded, f_excludedCount, f_candidates, f_candidateCount, f_stepLevel, f_stepSum, f_stepEscape, f_stepTotal, f_stepCum, f_stepFreq, a_child, a_tally, a_contextNode, a_depth, a_recent, a_stringCount, a_restartCount, a_range, a_width, dg, a_decoded, a_itemFreq)) :
    wpX_emitPending post (f_alphabet, f_countLimit, f_arena, f_capacity, f_closed, f_low, nI p, nI e, f_gap, f_codeDigits, f_encoded, f_decodedCount, f_walkSide, f_walkNext, f_excluded, f_excludedCount, f_candidates, f_candidateCount, f_stepLevel, f_stepSum, f_stepEscape, f_stepTotal, f_stepCum, f_stepFreq, a_child, a_tally, a_contextNode, a_depth, a_recent, a_stringCount, a_restartCount, a_range, a_width, a_digits, a_decoded, a_itemFreq) (nI b) := by
  unfold wpX_emitPending
  refine xl_emit (by omega) (by omega) ⟨p, ?_⟩
  exact xl_ep_7 hb hp K (p - 1) 0 (by omega) p (by omega) _ (dx_emit hb h)
theorem xl_rp {post : SX → Prop} {V rg sh rg1 w lo p e D : Nat} (hp : 0 < p) (hw : w ≤ 4000) (hr : a_range 0 = nI rg1) (hrg : rg ≤ 65536) (hs : sh + rg1 ≤ rg) (h1 : 1 ≤ rg1) (h : cx_ok V rg w lo p e D) (hd : dx_ok D e a_digits)
    (K : ∀ lo' p' e' D' (dg : Nat → Int32), cx_ok (V + sh) rg1 w lo' p' e' D' → dx_ok D' e' dg → post (f_alphabet, f_countLimit, f_arena, f_capacity, f_closed, nI lo', nI p', nI e', f_gap, f_codeDigits, f_encoded, f_decodedCount, f_walkSide, f_walkNext, f_excluded, f_excludedCount, f_candidates, f_candidateCount, f_stepLevel, f_stepSum, f_stepEscape, f_stepTotal, f_stepCum, f_stepFreq, a_child, a_tally, a_contextNode, a_depth, a_recent, a_stringCount, a_restartCount, a_range, a_width, dg, a_decoded, a_itemFreq)) :
    wpX_resolvePending post (f_alphabet, f_countLimit, f_arena, f_capacity, f_closed, nI (lo + sh), nI p, nI e, f_gap, f_codeDigits, f_encoded, f_decodedCount, f_walkSide, f_walkNext, f_excluded, f_excludedCount, f_candidates, f_candidateCount, f_stepLevel, f_stepSum, f_stepEscape, f_stepTotal, f_stepCum, f_stepFreq, a_child, a_tally, a_contextNode, a_depth, a_recent, a_stringCount, a_restartCount, a_range, a_width, a_digits, a_decoded, a_itemFreq) := by
  obtain ⟨c1, c2, c3, c4, c5⟩ := h
  have c5 := c5 hp
  have pp : 2 ^ p = 2 ^ (p - 1) * 2 := by rw [← Nat.pow_succ]; exact congrArg (2 ^ ·) (by omega)
  have p1 := Nat.two_pow_pos (p - 1)
  have er : nI (lo + sh) + a_range 0 = nI (lo + sh + rg1) := by rw [hr, nI_add]
  refine pk_lt (lo + sh) 65536 (fun z => ?_) (fun z => nm_r (e' := nI (lo + sh - 65536)) (pk_sub (b := 65536) z) ?_)
  · rw [er]
    refine pk_lt 65536 (lo + sh + rg1) (fun y => K (lo + sh) p e D a_digits ⟨c1, by omega, z, fun q => by omega, fun _ => y⟩ hd) (fun y => ?_)
    refine xl_ep (b := 0) (by omega) hp (by omega) hd (fun dg hdg => K (lo + sh) 0 (e + p) _ dg ⟨by omega, ?_, z, fun _ => by omega, fun q => by omega⟩ hdg)
    rw [c2, pdv_0, show p - 1 + 1 = p by omega]
    show _ = ((D * 2 ^ p + (2 ^ (p - 1) - 1)) * 1 + (1 - 1)) * 65536 + (lo + sh)
    generalize D * 2 ^ p = x
    omega
  · refine xl_ep (b := 1) (by omega) hp (by omega) hd (fun dg hdg => K (lo + sh - 65536) 0 (e + p) _ dg ⟨by omega, ?_, by omega, fun _ => by omega, fun q => by omega⟩ hdg)
    rw [c2, pdv_1, show p - 1 + 1 = p by omega]
    show _ = ((D * 2 ^ p + 2 ^ (p - 1)) * 1 + (1 - 1)) * 65536 + (lo + sh - 65536)
    generalize D * 2 ^ p = x
    omega
theorem xl_shift {post : SX → Prop} {V rg w lo p e D : Nat} (hw : w ≤ 4000) (hr : a_range 0 = nI rg) (hrg : rg < 32768) (h1 : 1 ≤ rg) (h : cx_ok V rg w lo p e D) (hd : dx_ok D e a_digits)
    (K : ∀ p' e' D' (dg : Nat → Int32), cx_ok (2 * V) (2 * rg) (w + 1) (2 * lo % 65536) p' e' D' → dx_ok D' e' dg → post (f_alphabet, f_countLimit, f_arena, f_capacity, f_closed, nI lo, nI p', nI e', f_gap, f_codeDigits, f_encoded, f_decodedCount, f_walkSide, f_walkNext, f_excluded, f_excludedCount, f_candidates, f_candidateCount, f_stepLevel, f_stepSum, f_stepEscape, f_stepTotal, f_stepCum, f_stepFreq, a_child, a_tally, a_contextNode, a_depth, a_recent, a_stringCount, a_restartCount, a_range, a_width, dg, a_decoded, a_itemFreq)) :
    wpX_shiftOut post (f_alphabet, f_countLimit, f_arena, f_capacity, f_closed, nI lo, nI p, nI e, f_gap, f_codeDigits, f_encoded, f_decodedCount, f_walkSide, f_walkNext, f_excluded, f_excludedCount, f_candidates, f_candidateCount, f_stepLevel, f_stepSum, f_stepEscape, f_stepTotal, f_stepCum, f_stepFreq, a_child, a_tally, a_contextNode, a_depth, a_recent, a_stringCount, a_restartCount, a_range, a_width, a_digits, a_decoded, a_itemFreq) := by
  obtain ⟨c1, c2, c3, c4, c5⟩ := h
  have er : nI lo + a_range 0 = nI (lo + rg) := by rw [hr, nI_add]
  refine pk_le p 0 (fun z => ?_) (fun z => nm_r (nI_1 p) (K (p + 1) e D a_digits ?_ hd))
  · have p0 : p = 0 := by omega
    subst p0
    have c4 := c4 rfl
    have c2' : V = D * 65536 + lo := by rw [c2]; show (D * 1 + (1 - 1)) * 65536 + lo = _; omega
    rw [er]
    refine pk_lt 32768 (lo + rg) (fun y => pk_lt lo 32768 (fun x => K 1 e D a_digits ⟨by omega, ?_, by omega, fun q => by omega, fun _ => by omega⟩ hd) (fun x => xl_emit (d := 1) (by omega) (by omega) (K 0 (e + 1) (2 * D + 1) _ ⟨by omega, ?_, by omega, fun _ => by omega, fun q => by omega⟩ (dx_emit (by omega) hd)))) (fun y => xl_emit (d := 0) (by omega) (by omega) (K 0 (e + 1) (2 * D + 0) _ ⟨by omega, ?_, by omega, fun _ => by omega, fun q => by omega⟩ (dx_emit (by omega) hd)))
    · show _ = (D * 2 + (1 - 1)) * 65536 + _; omega
    · show _ = ((2 * D + 1) * 1 + (1 - 1)) * 65536 + _; omega
    · show _ = ((2 * D + 0) * 1 + (1 - 1)) * 65536 + _; omega
  · have c5 := c5 z
    have pp : 2 ^ p = 2 ^ (p - 1) * 2 := by rw [← Nat.pow_succ]; exact congrArg (2 ^ ·) (by omega)
    have p1 := Nat.two_pow_pos (p - 1)
    refine ⟨by omega, ?_, by omega, fun q => by omega, fun _ => by omega⟩
    rw [c2, show p + 1 - 1 = p by omega, Nat.pow_succ, ← Nat.mul_assoc]
    generalize D * 2 ^ p = x
    omega
theorem xl_es_29 {post : SX → Prop} {ra0 wi0 : Nat → Int32} : ∀ d i, i + d = 16 → ∀ n, d < n → ∀ (V rg w lo p e D : Nat) (ra wi dg : Nat → Int32), cx_ok V rg w lo p e D → dx_ok D e dg → 1 ≤ rg → rg ≤ 65536 → w + d ≤ 4000 → ra 0 = nI rg → ra 1 = ra0 1 → wi 0 = nI w → wi 1 = wi0 1 →
    (∀ (fl fp fe : Int32) (ra wi dg : Nat → Int32), ce_ok (cx_nrm (fun _ => 0) d V rg w) fl fp fe ra wi dg → ra 1 = ra0 1 → wi 1 = wi0 1 → post (f_alphabet, f_countLimit, f_arena, f_capacity, f_closed, fl, fp, fe, f_gap, f_codeDigits, f_encoded, f_decodedCount, f_walkSide, f_walkNext, f_excluded, f_excludedCount, f_candidates, f_candidateCount, f_stepLevel, f_stepSum, f_stepEscape, f_stepTotal, f_stepCum, f_stepFreq, a_child, a_tally, a_contextNode, a_depth, a_recent, a_stringCount, a_restartCount, ra, wi, dg, a_decoded, a_itemFreq)) →
    wX_encodeStep_29 post n (nI i) f_alphabet f_countLimit f_arena f_capacity f_closed (nI lo) (nI p) (nI e) f_gap f_codeDigits f_encoded f_decodedCount f_walkSide f_walkNext f_excluded f_excludedCount f_candidates f_candidateCount f_stepLevel f_stepSum f_stepEscape f_stepTotal f_stepCum f_stepFreq a_child a_tally a_contextNode a_depth a_recent a_stringCount a_restartCount ra wi dg a_decoded a_itemFreq := by
  intro d
  induction d with
  | zero =>
    intro i hi n hn V rg w lo p e D ra wi dg hc hd h1 h2 hw r0 r1 w0 w1 K
    obtain ⟨m, rfl⟩ : ∃ m, n = m + 1 := ⟨n - 1, by omega⟩
    have e : i = 16 := by omega
    subst e
    exact br_t (nI_le (a := 16) (b := 16) (by omega) (by omega)) (K _ _ _ ra wi dg ⟨lo, p, _, D, rfl, rfl, rfl, r0, w0, hc, hd⟩ r1 w1)
  | succ d ih =>
    intro i hi n hn V rg w lo p e D ra wi dg hc hd h1 h2 hw r0 r1 w0 w1 K
    obtain ⟨m, rfl⟩ : ∃ m, n = m + 1 := ⟨n - 1, by omega⟩
    refine br_f (nI_ge (b := 16) (by omega) (by omega)) ?_
    rw [r0]
    refine pk_le 32768 rg (fun z => ?_) (fun z => ?_)
    · rw [cx_nrm_f (by omega)] at K
      exact K _ _ _ ra wi dg ⟨lo, p, e, D, rfl, rfl, rfl, r0, w0, hc, hd⟩ r1 w1
    · rw [cx_nrm_t z] at K
      have c3 := hc.2.2.1
      refine xl_shift (by omega) r0 z h1 hc hd (fun p' e' D' dg' hc' hd' => ?_)
      refine nm_r (e' := nI (2 * lo % 65536)) (by rw [sh1 (by omega), an16 (by omega)]) (nm_r (e' := upd ra 0 (nI (2 * rg))) (by rw [r0, sh1 (by omega)]) (nm_r (e' := upd wi 0 (nI (w + 1))) (by rw [w0, nI_1]) (nm_r (nI_1 i) ?_)))
      exact ih (i + 1) (by omega) m (by omega) (2 * V) (2 * rg) (w + 1) _ _ _ _ _ _ _ hc' hd' (by omega) (by omega) (by omega) pk_us (by rw [pk_un (by decide)]; exact r1) pk_us (by rw [pk_un (by decide)]; exact w1) K
theorem xl_es {post : SX → Prop} {W n cum fq tot : Nat} {st : Nat × Nat × Nat} (hI : cx_EI W n st) (hW : W + 7 * n ≤ 3900) (hi : cx_it cum fq tot) (h : ce_ok st f_low f_pending f_emitted a_range a_width a_digits)
    (K : ∀ (fl fp fe : Int32) (ra wi dg : Nat → Int32), ce_ok (cx_e st cum fq tot) fl fp fe ra wi dg → ra 1 = a_range 1 → wi 1 = a_width 1 → post (f_alphabet, f_countLimit, f_arena, f_capacity, f_closed, fl, fp, fe, f_gap, f_codeDigits, f_encoded, f_decodedCount, f_walkSide, f_walkNext, f_excluded, f_excludedCount, f_candidates, f_candidateCount, f_stepLevel, f_stepSum, f_stepEscape, nI tot, nI cum, nI fq, a_child, a_tally, a_contextNode, a_depth, a_recent, a_stringCount, a_restartCount, ra, wi, dg, a_decoded, a_itemFreq)) :
    wpX_encodeStep post (f_alphabet, f_countLimit, f_arena, f_capacity, f_closed, f_low, f_pending, f_emitted, f_gap, f_codeDigits, f_encoded, f_decodedCount, f_walkSide, f_walkNext, f_excluded, f_excludedCount, f_candidates, f_candidateCount, f_stepLevel, f_stepSum, f_stepEscape, nI tot, nI cum, nI fq, a_child, a_tally, a_contextNode, a_depth, a_recent, a_stringCount, a_restartCount, a_range, a_width, a_digits, a_decoded, a_itemFreq) := by
  obtain ⟨V, rg, w⟩ := st
  obtain ⟨lo, p, e, D, rfl, rfl, rfl, r0, w0, hc, hd⟩ := h
  obtain ⟨b1, b2, b3, b4, b5⟩ := hI
  dsimp only at r0 w0 hc b1 b2 b3 b4 b5
  obtain ⟨q1, q2⟩ := cx_rg_b hi b1
  obtain ⟨c1, c2, c3, c4, c5⟩ := hc
  unfold wpX_encodeStep
  refine xl_narrow (sd := 0) (by omega) r0 b1 b2 hi (nm_r (nI_add lo _) ?_)
  refine pk_le p 0 (fun z => ⟨17, ?_⟩) (fun z => ?_)
  · have p0 : p = 0 := by omega
    subst p0
    have c4 := c4 rfl
    exact xl_es_29 (ra0 := a_range) (wi0 := a_width) 16 0 rfl 17 (by omega) (V + rg / tot * cum) (cx_rg rg cum fq tot) w (lo + rg / tot * cum) 0 e D _ a_width a_digits ⟨c1, by omega, by omega, fun _ => by omega, fun q => by omega⟩ hd (by omega) (by omega) (by omega) pk_us (pk_un (by decide)) w0 rfl K
  · refine xl_rp z (by omega) pk_us b2 q2 (by omega) ⟨c1, c2, c3, c4, c5⟩ hd (fun lo' p' e' D' dg hc' hd' => ⟨17, ?_⟩)
    exact xl_es_29 (ra0 := a_range) (wi0 := a_width) 16 0 rfl 17 (by omega) (V + rg / tot * cum) (cx_rg rg cum fq tot) w lo' p' e' D' _ a_width dg hc' hd' (by omega) (by omega) (by omega) pk_us (pk_un (by decide)) w0 rfl K
theorem xl_ds_18 {post : SX → Prop} {ra0 wi0 : Nat → Int32} {cd : Nat} {dg : Nat → Nat} (hc : cd_ok cd dg f_codeDigits a_digits) : ∀ d i, i + d = 16 → ∀ n, d < n → ∀ (g rg w : Nat) (ra wi : Nat → Int32), rg ≤ 65536 → w + d ≤ 4000 → ra 1 = nI rg → ra 0 = ra0 0 → wi 1 = nI w → wi 0 = wi0 0 →
    (∀ (ra wi : Nat → Int32), ra 1 = nI (cx_nrm dg d g rg w).2.1 → wi 1 = nI (cx_nrm dg d g rg w).2.2 → ra 0 = ra0 0 → wi 0 = wi0 0 → post (f_alphabet, f_countLimit, f_arena, f_capacity, f_closed, f_low, f_pending, f_emitted, nI (cx_nrm dg d g rg w).1, f_codeDigits, f_encoded, f_decodedCount, f_walkSide, f_walkNext, f_excluded, f_excludedCount, f_candidates, f_candidateCount, f_stepLevel, f_stepSum, f_stepEscape, f_stepTotal, f_stepCum, f_stepFreq, a_child, a_tally, a_contextNode, a_depth, a_recent, a_stringCount, a_restartCount, ra, wi, a_digits, a_decoded, a_itemFreq)) →
    wX_decodeStep_18 post f_alphabet f_countLimit f_arena f_capacity f_closed f_low f_pending f_emitted f_codeDigits f_encoded f_decodedCount f_walkSide f_walkNext f_excluded f_excludedCount f_candidates f_candidateCount f_stepLevel f_stepSum f_stepEscape f_stepTotal f_stepCum f_stepFreq n (nI i) (nI g) a_child a_tally a_contextNode a_depth a_recent a_stringCount a_restartCount ra wi a_digits a_decoded a_itemFreq := by
  intro d
  induction d with
  | zero =>
    intro i hi n hn g rg w ra wi h2 hw r0 r1 w0 w1 K
    obtain ⟨m, rfl⟩ : ∃ m, n = m + 1 := ⟨n - 1, by omega⟩
    have e : i = 16 := by omega
    subst e
    exact br_t (nI_le (a := 16) (b := 16) (by omega) (by omega)) (K ra wi r0 w0 r1 w1)
  | succ d ih =>
    intro i hi n hn g rg w ra wi h2 hw r0 r1 w0 w1 K
    obtain ⟨m, rfl⟩ : ∃ m, n = m + 1 := ⟨n - 1, by omega⟩
    refine br_f (nI_ge (b := 16) (by omega) (by omega)) ?_
    rw [r0]
    refine pk_le 32768 rg (fun z => ?_) (fun z => ?_)
    · rw [cx_nrm_f (by omega)] at K
      exact K ra wi r0 w0 r1 w1
    · rw [cx_nrm_t z] at K
      rw [w0]
      refine xl_digit hc (by omega) (nm_r (e' := upd ra 1 (nI (2 * rg))) (by rw [sh1 (by omega)]) (nm_r (ix_2 _ _) (nm_r (e' := upd wi 1 (nI (w + 1))) (by rw [nI_1]) (nm_r (nI_1 i) ?_))))
      exact ih (i + 1) (by omega) m (by omega) (2 * g + dg w) (2 * rg) (w + 1) _ _ (by omega) (by omega) pk_us (by rw [pk_un (by decide)]; exact r1) pk_us (by rw [pk_un (by decide)]; exact w1) K
theorem xl_ds {post : SX → Prop} {W n cum fq tot cd : Nat} {dg : Nat → Nat} {st : Nat × Nat × Nat} (hc : cd_ok cd dg f_codeDigits a_digits) (hI : cx_DI W n st) (hW : W + 7 * n ≤ 3900) (hi : cx_it cum fq tot) (hg : cx_di st cum fq tot) (r0 : a_range 1 = nI st.2.1) (w0 : a_width 1 = nI st.2.2)
    (K : ∀ (ra wi : Nat → Int32), ra 1 = nI (cx_d dg st cum fq tot).2.1 → wi 1 = nI (cx_d dg st cum fq tot).2.2 → ra 0 = a_range 0 → wi 0 = a_width 0 → post (f_alphabet, f_countLimit, f_arena, f_capacity, f_closed, f_low, f_pending, f_emitted, nI (cx_d dg st cum fq tot).1, f_codeDigits, f_encoded, f_decodedCount, f_walkSide, f_walkNext, f_excluded, f_excludedCount, f_candidates, f_candidateCount, f_stepLevel, f_stepSum, f_stepEscape, nI tot, nI cum, nI fq, a_child, a_tally, a_contextNode, a_depth, a_recent, a_stringCount, a_restartCount, ra, wi, a_digits, a_decoded, a_itemFreq)) :
    wpX_decodeStep post (f_alphabet, f_countLimit, f_arena, f_capacity, f_closed, f_low, f_pending, f_emitted, nI st.1, f_codeDigits, f_encoded, f_decodedCount, f_walkSide, f_walkNext, f_excluded, f_excludedCount, f_candidates, f_candidateCount, f_stepLevel, f_stepSum, f_stepEscape, nI tot, nI cum, nI fq, a_child, a_tally, a_contextNode, a_depth, a_recent, a_stringCount, a_restartCount, a_range, a_width, a_digits, a_decoded, a_itemFreq) := by
  obtain ⟨g, rg, w⟩ := st
  obtain ⟨b1, b2, b3, b4, b5⟩ := hI
  dsimp only at r0 w0 b1 b2 b3 b4 b5
  obtain ⟨q1, q2⟩ := cx_rg_b hi b1
  unfold wpX_decodeStep
  refine xl_narrow (sd := 1) (by omega) r0 b1 b2 hi (nm_r (pk_sub hg.1) ⟨17, ?_⟩)
  exact xl_ds_18 (ra0 := a_range) (wi0 := a_width) hc 16 0 rfl 17 (by omega) (g - rg / tot * cum) (cx_rg rg cum fq tot) w _ a_width (by omega) (by omega) pk_us (pk_un (by decide)) w0 rfl K
end
end
section
/-! ===== X: counting ===== -/
section
variable {f_alphabet f_countLimit f_arena f_capacity f_closed f_low f_pending f_emitted f_gap f_codeDigits f_encoded f_decodedCount f_walkSide f_walkNext f_excluded f_excludedCount f_candidates f_candidateCount f_stepLevel f_stepSum f_stepEscape f_stepTotal f_stepCum f_stepFreq : Int32} {a_child a_tally a_contextNode a_depth a_recent a_stringCount a_restartCount a_range a_width a_digits a_decoded a_itemFreq : Nat → Int32}
theorem xl_fresh_5 {post : Int32 → Prop} {lim sd s : Nat} {L : List Nat} {nd : List Nat → Nat} (hs : sd < 2) (h8 : s < 8) (X : xs_ok lim sd L nd a_child a_tally a_contextNode a_depth a_recent a_stringCount) (K : post (nI (hx_fresh lim L s))) :
    ∀ d k, k + d = hx_top L + 1 → ∀ n, d < n → wX_freshStrings_5 post (nI sd) (nI s) f_alphabet f_countLimit f_arena f_capacity f_closed f_low f_pending f_emitted f_gap f_codeDigits f_encoded f_decodedCount f_walkSide f_walkNext f_excluded f_excludedCount f_candidates f_candidateCount f_stepLevel f_stepSum f_stepEscape f_stepTotal f_stepCum f_stepFreq a_child a_tally a_contextNode a_depth a_recent a_stringCount a_restartCount a_range a_width a_digits a_decoded a_itemFreq n (nI (hx_fr lim L s k)) (nI k) := by
  have ht := hx_top_le L
  have htl := hx_top_len L
  obtain ⟨x1, x2, x3, x4, x5, x6⟩ := X
  intro d
  induction d with
  | zero =>
    intro k hk n hn
    obtain ⟨m, rfl⟩ : ∃ m, n = m + 1 := ⟨n - 1, by omega⟩
    have e : k = hx_top L + 1 := by omega
    subst e
    refine ⟨pk_in sd 2 hs, br_t ?_ K⟩
    rw [nI_clamp (by omega), x4]
    exact nI_lt (by omega) (by omega)
  | succ d ih =>
    intro k hk n hn
    obtain ⟨m, rfl⟩ : ∃ m, n = m + 1 := ⟨n - 1, by omega⟩
    have lk : (L.take k).length ≤ 3 := by rw [List.length_take]; omega
    have oc := hx_oc_take (lim := lim) L k
    have r := tr_rng x1 (w := L.take k) (by omega) oc
    have cc := tr_child x1 lk oc h8
    refine ⟨pk_in sd 2 hs, br_f ?_ ⟨pk_in (sd * 4 + k) 8 (by omega) (ix_4 _ _), nm_r (e' := nI (nd (L.take k))) (by rw [ix_4, nI_clamp (by omega)]; exact x5 k (by omega)) ⟨pk_in (nd (L.take k) * 8 + s) 2048 (by omega) (ix_8 _ _), ?_⟩⟩⟩
    · rw [nI_clamp (by omega), x4]
      exact nI_nlt (by omega) (by omega)
    · rw [ix_8, nI_clamp (by omega), cc]
      by_cases z : hx_cnt lim L (L.take k) s = 0
      · have e : hx_fr lim L s (k + 1) = hx_fr lim L s k + 1 := by show hx_fr lim L s k + (if hx_cnt lim L (L.take k) s = 0 then 1 else 0) = _; rw [if_pos z]
        have k2 := ih (k + 1) (by omega) m (by omega)
        rw [e] at k2
        exact br_t (if_neg (by omega)) (nm_r (nI_1 _) (nm_r (nI_1 k) k2))
      · have e : hx_fr lim L s (k + 1) = hx_fr lim L s k := by show hx_fr lim L s k + (if hx_cnt lim L (L.take k) s = 0 then 1 else 0) = _; rw [if_neg z]; rfl
        have k2 := ih (k + 1) (by omega) m (by omega)
        rw [e] at k2
        have r2 := x1.2.2.1 (L.take k) s lk (by omega)
        refine br_f ?_ (nm_r (nI_1 k) k2)
        rw [if_pos (by omega)]
        exact nI_ne0 (by omega) (by omega)
theorem xl_fresh {post : Int32 → Prop} {lim sd s : Nat} {L : List Nat} {nd : List Nat → Nat} (hs : sd < 2) (h8 : s < 8) (X : xs_ok lim sd L nd a_child a_tally a_contextNode a_depth a_recent a_stringCount) (K : post (nI (hx_fresh lim L s))) : wpX_freshStrings post (f_alphabet, f_countLimit, f_arena, f_capacity, f_closed, f_low, f_pending, f_emitted, f_gap, f_codeDigits, f_encoded, f_decodedCount, f_walkSide, f_walkNext, f_excluded, f_excludedCount, f_candidates, f_candidateCount, f_stepLevel, f_stepSum, f_stepEscape, f_stepTotal, f_stepCum, f_stepFreq, a_child, a_tally, a_contextNode, a_depth, a_recent, a_stringCount, a_restartCount, a_range, a_width, a_digits, a_decoded, a_itemFreq) (nI sd) (nI s) :=
  ⟨hx_top L + 2, xl_fresh_5 hs h8 X K (hx_top L + 1) 0 (by omega) (hx_top L + 2) (by omega)⟩
theorem xl_halve {post : SX → Prop} {par : Nat} {c x : Nat → Nat} (hp : par < 256) (hc : ∀ t, t < 8 → a_child (par * 8 + t) = if 0 < c t then nI (x t) else 0) (hx : ∀ t, t < 8 → 0 < c t → 0 < x t ∧ x t < 256 ∧ a_tally (x t) = nI (c t) ∧ c t ≤ 16) (hi : ∀ t u, t < 8 → u < 8 → 0 < c t → 0 < c u → x t = x u → t = u)
    (K : ∀ ta : Nat → Int32, (∀ t, t < 8 → 0 < c t → ta (x t) = nI ((c t + 1) / 2)) → (∀ j, (∀ t, t < 8 → 0 < c t → j ≠ x t) → ta j = a_tally j) → post (f_alphabet, f_countLimit, f_arena, f_capacity, f_closed, f_low, f_pending, f_emitted, f_gap, f_codeDigits, f_encoded, f_decodedCount, f_walkSide, f_walkNext, f_excluded, f_excludedCount, f_candidates, f_candidateCount, f_stepLevel, f_stepSum, f_stepEscape, f_stepTotal, f_stepCum, f_stepFreq, a_child, ta, a_contextNode, a_depth, a_recent, a_stringCount, a_restartCount, a_range, a_width, a_digits, a_decoded, a_itemFreq)) : wpX_halve post (f_alphabet, f_countLimit, f_arena, f_capacity, f_closed, f_low, f_pending, f_emitted, f_gap, f_codeDigits, f_encoded, f_decodedCount, f_walkSide, f_walkNext, f_excluded, f_excludedCount, f_candidates, f_candidateCount, f_stepLevel, f_stepSum, f_stepEscape, f_stepTotal, f_stepCum, f_stepFreq, a_child, a_tally, a_contextNode, a_depth, a_recent, a_stringCount, a_restartCount, a_range, a_width, a_digits, a_decoded, a_itemFreq) (nI par) := by
  have main : ∀ d t, t + d = 8 → ∀ n, d < n → ∀ ta : Nat → Int32, (∀ u, u < t → 0 < c u → ta (x u) = nI ((c u + 1) / 2)) → (∀ j, (∀ u, u < t → 0 < c u → j ≠ x u) → ta j = a_tally j) → wX_halve_2 post (nI par) f_alphabet f_countLimit f_arena f_capacity f_closed f_low f_pending f_emitted f_gap f_codeDigits f_encoded f_decodedCount f_walkSide f_walkNext f_excluded f_excludedCount f_candidates f_candidateCount f_stepLevel f_stepSum f_stepEscape f_stepTotal f_stepCum f_stepFreq n (nI t) a_child ta a_contextNode a_depth a_recent a_stringCount a_restartCount a_range a_width a_digits a_decoded a_itemFreq := by
    intro d
    induction d with
    | zero =>
      intro t ht n hn ta h1 h2
      obtain ⟨m, rfl⟩ : ∃ m, n = m + 1 := ⟨n - 1, by omega⟩
      have e : t = 8 := by omega
      subst e
      exact br_t (nI_le (a := 8) (b := 8) (by omega) (by omega)) (K ta h1 h2)
    | succ d ih =>
      intro t ht n hn ta h1 h2
      obtain ⟨m, rfl⟩ : ∃ m, n = m + 1 := ⟨n - 1, by omega⟩
      refine br_f (nI_ge (b := 8) (by omega) (by omega)) ⟨pk_in (par * 8 + t) 2048 (by omega) (ix_8 _ _), ?_⟩
      by_cases z : 0 < c t
      · obtain ⟨x1, x2, x3, x4⟩ := hx t (by omega) z
        have et : ta (x t) = nI (c t) := by
          rw [h2 (x t) (fun u hu y e => by have := hi t u (by omega) (by omega) z y e; omega)]
          exact x3
        refine nm_r (e' := nI (x t)) (by rw [ix_8, nI_clamp (by omega), hc t (by omega), if_pos z]) (br_f (nI_ne0 x1 (by omega)) ⟨pk_in (x t) 256 x2, by decide, pk_in (x t) 256 x2, nm_r (e' := upd ta (x t) (nI ((c t + 1) / 2))) ?_ (nm_r (nI_1 t) ?_)⟩)
        · have e2 : nI (c t + 1) / 2 = nI ((c t + 1) / 2) := pk_div (d := 2) (by omega) (by omega) (by omega)
          rw [nI_clamp (by omega), et, nI_1, e2, nar_b (by omega)]
        · refine ih (t + 1) (by omega) m (by omega) _ (fun u hu y => ?_) (fun j hj => ?_)
          · by_cases e : u = t
            · rw [e]; exact pk_us
            · rw [pk_un (fun q => e (hi u t (by omega) (by omega) y z q))]
              exact h1 u (by omega) y
          · rw [pk_un (hj t (by omega) z)]
            exact h2 j (fun u hu y => hj u (by omega) y)
      · refine nm_r (e' := 0) (by rw [ix_8, nI_clamp (by omega), hc t (by omega), if_neg z]) (br_t rfl (nm_r (nI_1 t) ?_))
        refine ih (t + 1) (by omega) m (by omega) _ (fun u hu y => ?_) (fun j hj => ?_)
        · have : u ≠ t := fun q => z (by rw [← q]; exact y)
          exact h1 u (by omega) y
        · exact h2 j (fun u hu y => hj u (by omega) y)
  exact ⟨9, main 8 0 rfl 9 (by omega) a_tally (fun u h => absurd h (Nat.not_lt_zero _)) (fun _ _ => rfl)⟩
theorem xl_grow {post : Int32 → SX → Prop} {lim sd c s : Nat} {C : List Nat → Nat → Nat} {nd : List Nat → Nat} {w0 : List Nat} (hl : 2 ≤ lim) (hl5 : lim ≤ 15) (hs : sd < 2) (h8 : s < 8) (hc : c < 127) (h : tr_ok (sd * 128) c C nd a_child a_tally) (hw0 : w0.length ≤ 3) (ho0 : hx_oc C w0) (hC8 : ∀ w t, 0 < C w t → t < 8) (hCl : ∀ t, C w0 t ≤ lim) (hsc : a_stringCount sd = nI c)
    (K : ∀ (nd' : List Nat → Nat) (ch ta sc : Nat → Int32), tr_ok (sd * 128) (c + if C w0 s = 0 then 1 else 0) (tr_C lim C w0 s) nd' ch ta → (∀ w, w.length ≤ 4 → hx_oc C w → nd' w = nd w) → sc sd = nI (c + if C w0 s = 0 then 1 else 0) →
      (∀ sd', sd' < 2 → sd' ≠ sd → (∀ j, sd' * 1024 ≤ j → j < sd' * 1024 + 1024 → ch j = a_child j) ∧ (∀ j, sd' * 128 ≤ j → j < sd' * 128 + 128 → ta j = a_tally j) ∧ sc sd' = a_stringCount sd') → post (nI (nd' (s :: w0))) (f_alphabet, nI lim, f_arena, f_capacity, f_closed, f_low, f_pending, f_emitted, f_gap, f_codeDigits, f_encoded, f_decodedCount, f_walkSide, f_walkNext, f_excluded, f_excludedCount, f_candidates, f_candidateCount, f_stepLevel, f_stepSum, f_stepEscape, f_stepTotal, f_stepCum, f_stepFreq, ch, ta, a_contextNode, a_depth, a_recent, sc, a_restartCount, a_range, a_width, a_digits, a_decoded, a_itemFreq)) :
    wpX_grow post (f_alphabet, nI lim, f_arena, f_capacity, f_closed, f_low, f_pending, f_emitted, f_gap, f_codeDigits, f_encoded, f_decodedCount, f_walkSide, f_walkNext, f_excluded, f_excludedCount, f_candidates, f_candidateCount, f_stepLevel, f_stepSum, f_stepEscape, f_stepTotal, f_stepCum, f_stepFreq, a_child, a_tally, a_contextNode, a_depth, a_recent, a_stringCount, a_restartCount, a_range, a_width, a_digits, a_decoded, a_itemFreq) (nI sd) (nI (nd w0)) (nI s) := by
  have r0 := tr_rng h (w := w0) (by omega) ho0
  have cc := tr_child h hw0 ho0 h8
  refine nm_r (ix_8 _ _) ⟨pk_in (nd w0 * 8 + s) 2048 (by omega), ?_⟩
  by_cases z : C w0 s = 0
  · rw [if_pos z] at K
    refine nm_r (e' := 0) (by rw [nI_clamp (by omega), cc, if_neg (by omega)]) (br_t rfl ⟨pk_in sd 2 hs, pk_in sd 2 hs, nm_r (e' := upd a_stringCount sd (nI (c + 1))) (by rw [nI_clamp (by omega), hsc, nI_1]) ⟨pk_in sd 2 hs, nm_r (e' := nI (sd * 128 + c + 1)) (by rw [nI_clamp (by omega), pk_us, ix_128, nI_add]; rfl) ?_⟩⟩)
    refine xl_clear (by omega) (fun ch c1 c2 => ?_)
    refine ⟨pk_in (nd w0 * 8 + s) 2048 (by omega), nm_r (e' := upd ch (nd w0 * 8 + s) (nI (sd * 128 + c + 1))) (by rw [nI_clamp (by omega), nar_s (by omega)]) ?_⟩
    refine ⟨pk_in (sd * 128 + c + 1) 256 (by omega), pk_in (sd * 128 + c + 1) 256 (by omega), nm_r (e' := upd (upd a_tally (sd * 128 + c + 1) 0) (sd * 128 + c + 1) (nI 1)) ?_ ⟨pk_in (sd * 128 + c + 1) 256 (by omega), br_t ?_ ?_⟩⟩
    · rw [nI_clamp (by omega), pk_us]
      have e1 : (0 : Int32) + 1 = nI 1 := rfl
      rw [e1, nar_b (by omega)]
    · rw [nI_clamp (by omega), pk_us]
      exact nI_le (by omega) (by omega)
    · have T := tr_new (lim := lim) (child' := upd ch (nd w0 * 8 + s) (nI (sd * 128 + c + 1))) (tally' := upd (upd a_tally (sd * 128 + c + 1) 0) (sd * 128 + c + 1) (nI 1)) hl h hw0 ho0 h8 z (fun t ht => by rw [pk_un (by omega)]; exact c1 t ht) pk_us (fun j hj hne => by rw [pk_un hne]; exact c2 j (by omega)) pk_us (fun j hj => by rw [pk_un (by omega), pk_un (by omega)])
      have k := K _ _ _ (upd a_stringCount sd (nI (c + 1))) T (fun w hw ho => ?_) pk_us (fun sd' h1 h2 => ⟨fun j z1 z2 => ?_, fun j z1 z2 => ?_, pk_un h2⟩)
      · rw [tr_nd_self] at k
        exact k
      · refine tr_nd_ne (fun e => ?_)
        rw [e] at ho
        have : 0 < C w0 s := ho
        omega
      · rw [pk_un (by omega)]
        exact c2 j (by omega)
      · rw [pk_un (by omega), pk_un (by omega)]
  · have zp : 0 < C w0 s := by omega
    have hsl := hCl s
    have r1 := h.2.2.1 w0 s hw0 zp
    have tt := tr_tally h hw0 zp
    rw [if_neg z] at K
    refine nm_r (e' := nI (nd (s :: w0))) (by rw [nI_clamp (by omega), cc, if_pos zp]) (br_f (nI_ne0 (by omega) (by omega)) ?_)
    refine ⟨pk_in (nd (s :: w0)) 256 (by omega), pk_in (nd (s :: w0)) 256 (by omega), nm_r (e' := upd a_tally (nd (s :: w0)) (nI (C w0 s + 1))) (by rw [nI_clamp (by omega), tt, nI_1, nar_b (by omega)]) ⟨pk_in (nd (s :: w0)) 256 (by omega), ?_⟩⟩
    have hp : ∀ w t, 0 < tr_C lim C w0 s w t ↔ 0 < C w t := by
      intro w t
      rw [tr_C_pos]
      exact ⟨fun q => q.elim (fun e => by rw [e.1, e.2]; exact zp) id, Or.inr⟩
    have e1 : upd a_tally (nd (s :: w0)) (nI (C w0 s + 1)) (nI (nd (s :: w0))).toNatClampNeg = nI (C w0 s + 1) := by rw [nI_clamp (by omega), pk_us]
    rw [e1]
    have t1 : ∀ t, 0 < C w0 t → upd a_tally (nd (s :: w0)) (nI (C w0 s + 1)) (nd (t :: w0)) = nI (if t = s then C w0 s + 1 else C w0 t) := by
      intro t ht
      by_cases e : t = s
      · rw [e, pk_us, if_pos rfl]
      · rw [pk_un (fun q => e (List.cons.inj (h.2.2.2.1 w0 t w0 s hw0 hw0 ht zp q)).1), if_neg e]
        exact tr_tally h hw0 ht
    have t2 : ∀ w t, w.length ≤ 3 → 0 < C w t → w ≠ w0 → upd a_tally (nd (s :: w0)) (nI (C w0 s + 1)) (nd (t :: w)) = nI (C w t) := by
      intro w t hw ht e
      rw [pk_un (fun q => e (List.cons.inj (h.2.2.2.1 w t w0 s hw hw0 ht zp q)).2)]
      exact tr_tally h hw ht
    refine pk_le (C w0 s + 1) lim (fun y => ?_) (fun y => ?_)
    · refine K nd _ _ _ (tr_cnt h hp ?_) (fun w _ _ => rfl) hsc (fun sd' h1 h2 => ⟨fun j _ _ => rfl, fun j z1 z2 => pk_un (by omega), rfl⟩)
      intro w t hw ht
      by_cases e : w = w0
      · subst e
        rw [t1 t ht, tr_C_self]
        unfold hx_bump
        rw [if_neg (Nat.not_lt.mpr y)]
      · rw [tr_C_ne e]; exact t2 w t hw ht e
    · refine xl_halve (c := fun t => if t = s then C w0 s + 1 else C w0 t) (x := fun t => nd (t :: w0)) (by omega) (fun t ht => ?_) (fun t ht q => ?_) (fun t u ht hu q q' e => ?_) (fun ta g1 g2 => ?_)
      · rw [tr_child h hw0 ho0 ht]
        by_cases e : t = s
        · subst e
          rw [if_pos zp, if_pos (by rw [if_pos rfl]; omega)]
        · simp only [if_neg e]
      · have q2 : 0 < C w0 t := by
          by_cases e : t = s
          · rw [e]; exact zp
          · have q' : 0 < (if t = s then C w0 s + 1 else C w0 t) := q
            rw [if_neg e] at q'; exact q'
        have r2 := h.2.2.1 w0 t hw0 q2
        have b := hCl t
        refine ⟨by show 0 < nd (t :: w0); omega, by show nd (t :: w0) < 256; omega, t1 t q2, ?_⟩
        show (if t = s then C w0 s + 1 else C w0 t) ≤ 16
        split <;> omega
      · have f : ∀ v, 0 < (if v = s then C w0 s + 1 else C w0 v) → 0 < C w0 v := by
          intro v hv
          by_cases e : v = s
          · rw [e]; exact zp
          · rw [if_neg e] at hv; exact hv
        exact (List.cons.inj (h.2.2.2.1 w0 t w0 u hw0 hw0 (f t q) (f u q') e)).1
      · have f : ∀ v, 0 < C w0 v → 0 < (if v = s then C w0 s + 1 else C w0 v) := by
          intro v hv
          split <;> omega
        have f' : ∀ v, 0 < (if v = s then C w0 s + 1 else C w0 v) → 0 < C w0 v := by
          intro v hv
          by_cases e : v = s
          · rw [e]; exact zp
          · rw [if_neg e] at hv; exact hv
        refine K nd _ _ _ (tr_cnt h hp ?_) (fun w _ _ => rfl) hsc (fun sd' h1 h2 => ⟨fun j _ _ => rfl, fun j z1 z2 => ?_, rfl⟩)
        · intro w t hw ht
          by_cases e : w = w0
          · subst e
            rw [g1 t (hC8 w t ht) (f t ht), tr_C_self]
            unfold hx_bump
            rw [if_pos y]
          · rw [g2 _ (fun u hu q e2 => e (List.cons.inj (h.2.2.2.1 w t w0 u hw hw0 ht (f' u q) e2)).2), tr_C_ne e]
            exact t2 w t hw ht e
        · rw [g2 j (fun u hu q e2 => by have := h.2.2.1 w0 u hw0 (f' u q); omega)]
          exact pk_un (by omega)
end
end
section
/-! ===== X: learning ===== -/
theorem nx_or (a b : Nat) : nI a ||| nI b = nI (a ||| b) := by
  apply Int32.toBitVec_inj.1
  show BitVec.ofNat 32 a ||| BitVec.ofNat 32 b = BitVec.ofNat 32 (a ||| b)
  apply BitVec.eq_of_getLsbD_eq
  intro i hi
  simp [hi]
theorem rc_up {r s : Nat} (hr : r < 512) (hs : s < 8) : (((nI r) <<< ((3 : Int32) &&& 31)) ||| nI s) &&& 511 = nI ((r * 8 + s) % 512) := by
  rw [pk_shlN _ 3 (by decide) (by omega), nx_or, show r * 2 ^ 3 ||| s = r * 8 + s from ?_, pk_andN (by omega) 9 (by decide)]
  have := Nat.shiftLeft_add_eq_or_of_lt (i := 3) (b := s) (by omega) r
  rw [Nat.shiftLeft_eq] at this
  omega
theorem hx_pack_lt : ∀ L, hx_pack L < 512
  | [] => by decide
  | _ :: _ => Nat.mod_lt _ (by decide)
theorem tr_lv_pos {lim : Nat} {L : List Nat} {s k : Nat} {w : List Nat} {t : Nat} : 0 < tr_lv lim L s k w t ↔ ((t = s ∧ k ≤ w.length ∧ w.length ≤ hx_top L ∧ w <+: L) ∨ 0 < hx_cnt lim L w t) := by
  by_cases h : k ≤ w.length ∧ w.length ≤ hx_top L ∧ w <+: L
  · have e : tr_lv lim L s k w = hx_bump lim (hx_cnt lim L w) s := if_pos h
    rw [e, hx_bump_pos]
    exact ⟨fun q => q.elim (fun z => Or.inl ⟨z, h⟩) Or.inr, fun q => q.elim (fun z => Or.inl z.1) Or.inr⟩
  · have e : tr_lv lim L s k w = hx_cnt lim L w := if_neg h
    rw [e]
    exact ⟨Or.inr, fun q => q.elim (fun z => absurd z.2 h) id⟩
theorem tr_lv_oc {lim : Nat} {L : List Nat} {s k : Nat} {w : List Nat} (h : hx_oc (hx_cnt lim L) w) : hx_oc (tr_lv lim L s k) w := by
  cases w with
  | nil => trivial
  | cons a w => exact tr_lv_pos.mpr (Or.inr h)
section
variable {f_alphabet f_countLimit f_arena f_capacity f_closed f_low f_pending f_emitted f_gap f_codeDigits f_encoded f_decodedCount f_walkSide f_walkNext f_excluded f_excludedCount f_candidates f_candidateCount f_stepLevel f_stepSum f_stepEscape f_stepTotal f_stepCum f_stepFreq : Int32} {a_child a_tally a_contextNode a_depth a_recent a_stringCount a_restartCount a_range a_width a_digits a_decoded a_itemFreq : Nat → Int32}
theorem xl_learn_45 {post : SX → Prop} {lim sd s : Nat} {L : List Nat} {ch0 ta0 cn0 sc0 : Nat → Int32} (hl : 2 ≤ lim) (hl5 : lim ≤ 15) (hs : sd < 2) (h8 : s < 8) (hL8 : ∀ a, a ∈ L → a < 8) (hfin : hx_strs lim L + hx_fresh lim L s ≤ 120) (hdp : a_depth sd = nI (hx_top L)) (hrc : a_recent sd = nI (hx_pack L))
    (K : ∀ ch ta cn dp rc sc : Nat → Int32, XS lim sd (s :: L) ch ta cn dp rc sc → (∀ sd', sd' < 2 → sd' ≠ sd → xs_ag sd' ch0 ta0 cn0 a_depth a_recent sc0 ch ta cn dp rc sc) → post (f_alphabet, nI lim, f_arena, f_capacity, f_closed, f_low, f_pending, f_emitted, f_gap, f_codeDigits, f_encoded, f_decodedCount, f_walkSide, f_walkNext, f_excluded, f_excludedCount, f_candidates, f_candidateCount, f_stepLevel, f_stepSum, f_stepEscape, f_stepTotal, f_stepCum, f_stepFreq, ch, ta, cn, dp, rc, sc, a_restartCount, a_range, a_width, a_digits, a_decoded, a_itemFreq)) :
    ∀ N, N ≤ hx_top L + 1 → ∀ n, N < n → ∀ (c : Nat) (nd : List Nat → Nat) (ch ta cn sc : Nat → Int32), c + hx_fr lim L s N = hx_strs lim L + hx_fresh lim L s → tr_ok (sd * 128) c (tr_lv lim L s N) nd ch ta → sc sd = nI c → cn (sd * 4) = nI (sd * 128) →
      (∀ j, j < N → cn (sd * 4 + j) = nI (nd (L.take j))) → (∀ j, N ≤ j → j ≤ hx_top L → j < 3 → cn (sd * 4 + j + 1) = nI (nd (s :: L.take j))) →
      (∀ sd', sd' < 2 → sd' ≠ sd → (∀ j, sd' * 1024 ≤ j → j < sd' * 1024 + 1024 → ch j = ch0 j) ∧ (∀ j, sd' * 128 ≤ j → j < sd' * 128 + 128 → ta j = ta0 j) ∧ (∀ j, sd' * 4 ≤ j → j < sd' * 4 + 4 → cn j = cn0 j) ∧ sc sd' = sc0 sd') →
      wX_learn_45 post (nI sd) (nI s) n (kI N) f_alphabet (nI lim) f_arena f_capacity f_closed f_low f_pending f_emitted f_gap f_codeDigits f_encoded f_decodedCount f_walkSide f_walkNext f_excluded f_excludedCount f_candidates f_candidateCount f_stepLevel f_stepSum f_stepEscape f_stepTotal f_stepCum f_stepFreq ch ta cn a_depth a_recent sc a_restartCount a_range a_width a_digits a_decoded a_itemFreq := by
  have ht := hx_top_le L
  have htl := hx_top_len L
  have hpk := hx_pack_lt L
  intro N
  induction N with
  | zero =>
    intro hN n hn c nd ch ta cn sc hcc T hsc hr h1 h2 hf
    obtain ⟨m, rfl⟩ : ∃ m, n = m + 1 := ⟨n - 1, by omega⟩
    have hcc' : c = hx_strs lim (s :: L) := by
      show c = hx_strs lim L + hx_fresh lim L s
      rw [← hcc]; rfl
    have T' : tr_ok (sd * 128) c (hx_cnt lim (s :: L)) nd ch ta := tr_congr T (fun w hw => tr_lv_z hw) (fun a w t z => hx_cnt_cl _ t z)
    have fin : ∀ dp : Nat → Int32, dp sd = nI (hx_top (s :: L)) → (∀ sd', sd' < 2 → sd' ≠ sd → dp sd' = a_depth sd') → wX_learn_121 post (nI sd) (nI s) f_alphabet (nI lim) f_arena f_capacity f_closed f_low f_pending f_emitted f_gap f_codeDigits f_encoded f_decodedCount f_walkSide f_walkNext f_excluded f_excludedCount f_candidates f_candidateCount f_stepLevel f_stepSum f_stepEscape f_stepTotal f_stepCum f_stepFreq ch ta cn dp a_recent sc a_restartCount a_range a_width a_digits a_decoded a_itemFreq := by
      intro dp d1 d2
      refine ⟨pk_in sd 2 hs, pk_in sd 2 hs, nm_r (e' := upd a_recent sd (nI (hx_pack (s :: L)))) (by rw [nI_clamp (by omega), hrc, rc_up hpk h8]; rfl) ?_⟩
      refine K ch ta cn dp _ sc ⟨nd, ?_, ?_, ?_, d1, ?_, pk_us⟩ (fun sd' q1 q2 => ?_)
      · rw [← hcc']; exact T'
      · rw [← hcc']; exact hsc
      · exact hfin
      · intro k hk
        rw [hx_top_cons] at hk
        cases k with
        | zero => show cn (sd * 4 + 0) = nI (nd []); rw [T.1]; exact hr
        | succ k =>
          rw [List.take_succ_cons]
          have b : k ≤ hx_top L ∧ k < 3 := by
            by_cases z : hx_top L < 3
            · rw [if_pos z] at hk; omega
            · rw [if_neg z] at hk; omega
          exact h2 k (by omega) b.1 b.2
      · obtain ⟨f1, f2, f3, f4⟩ := hf sd' q1 q2
        exact ⟨f1, f2, f3, d2 sd' q1 q2, pk_un q2, f4⟩
    refine br_t (show (-1 : Int32) < 0 by decide) ⟨pk_in sd 2 hs, ?_⟩
    have e1 : a_depth (nI sd).toNatClampNeg = nI (hx_top L) := by rw [nI_clamp (by omega)]; exact hdp
    rw [e1]
    refine pk_le 3 (hx_top L) (fun z => fin a_depth ?_ (fun _ _ _ => rfl)) (fun z => ⟨pk_in sd 2 hs, pk_in sd 2 hs, nm_r (e' := upd a_depth sd (nI (hx_top L + 1))) (by rw [nI_clamp (by omega), nI_1]) (fin _ ?_ (fun _ _ q => pk_un q))⟩)
    · rw [hx_top_cons, if_neg (by omega), hdp]
      exact congrArg nI (by omega)
    · rw [hx_top_cons, if_pos z]; exact pk_us
  | succ k ih =>
    intro hN n hn c nd ch ta cn sc hcc T hsc hr h1 h2 hf
    obtain ⟨m, rfl⟩ : ∃ m, n = m + 1 := ⟨n - 1, by omega⟩
    have lk : (L.take k).length = k := by rw [List.length_take]; omega
    have oc : hx_oc (tr_lv lim L s (k + 1)) (L.take k) := tr_lv_oc (hx_oc_take (lim := lim) L k)
    have ef : hx_fr lim L s (k + 1) = hx_fr lim L s k + (if hx_cnt lim L (L.take k) s = 0 then 1 else 0) := rfl
    refine br_f (nI_pos (n := k) (by omega)) ⟨pk_in (sd * 4 + k) 8 (by omega) (ix_4 _ _), nm_r (e' := nI (nd (L.take k))) (by rw [show kI (k + 1) = nI k from rfl, ix_4, nI_clamp (by omega)]; exact h1 k (by omega)) ?_⟩
    refine xl_grow (c := c) (C := tr_lv lim L s (k + 1)) (nd := nd) (w0 := L.take k) hl hl5 hs h8 (by omega) T (by omega) oc (fun w t z => ?_) (fun t => ?_) hsc (fun nd' ch' ta' sc' T' hnd hsc' hf' => ?_)
    · rcases tr_lv_pos.mp z with y | y
      · rw [y.1]; exact h8
      · exact hx_cnt_al L w t hL8 y
    · rw [tr_lv_at]; exact hx_cnt_le hl L _ t
    · rw [← tr_lv_s (by omega)] at T'
      rw [tr_lv_at] at T' hsc'
      have a1 : ∀ j, j < k → nd' (L.take j) = nd (L.take j) := fun j hj => hnd _ (by rw [List.length_take]; omega) (tr_lv_oc (hx_oc_take (lim := lim) L j))
      have a2 : ∀ j, k + 1 ≤ j → j ≤ hx_top L → j < 3 → nd' (s :: L.take j) = nd (s :: L.take j) := fun j q1 q2 q3 => hnd _ (by rw [List.length_cons, List.length_take]; omega) (tr_lv_pos.mpr (Or.inl ⟨rfl, by rw [List.length_take]; omega, by rw [List.length_take]; omega, List.take_prefix j L⟩))
      have fr' : ∀ sd', sd' < 2 → sd' ≠ sd → (∀ j, sd' * 1024 ≤ j → j < sd' * 1024 + 1024 → ch' j = ch0 j) ∧ (∀ j, sd' * 128 ≤ j → j < sd' * 128 + 128 → ta' j = ta0 j) ∧ sc' sd' = sc0 sd' := by
        intro sd' q1 q2
        obtain ⟨f1, f2, f3, f4⟩ := hf sd' q1 q2
        obtain ⟨g1, g2, g3⟩ := hf' sd' q1 q2
        exact ⟨fun j y1 y2 => (g1 j y1 y2).trans (f1 j y1 y2), fun j y1 y2 => (g2 j y1 y2).trans (f2 j y1 y2), g3.trans f4⟩
      refine pk_le 3 k (fun z => nm_r (kI_m k) ?_) (fun z => ⟨pk_in (sd * 4 + k + 1) 8 (by omega) (by rw [show kI (k + 1) = nI k from rfl, ix_4, nI_1]), nm_r (e' := upd cn (sd * 4 + k + 1) (nI (nd' (s :: L.take k)))) ?_ (nm_r (kI_m k) ?_)⟩)
      · refine ih (by omega) m (by omega) _ nd' ch' ta' cn sc' (by omega) T' hsc' hr (fun j hj => ?_) (fun j q1 q2 q3 => by omega) (fun sd' q1 q2 => ?_)
        · rw [a1 j hj]; exact h1 j (by omega)
        · obtain ⟨f1, f2, f3, f4⟩ := hf sd' q1 q2
          obtain ⟨g1, g2, g3⟩ := fr' sd' q1 q2
          exact ⟨g1, g2, f3, g3⟩
      · have rr := T'.2.2.1 (L.take k) s (by omega) (tr_lv_pos.mpr (Or.inl ⟨rfl, by omega, by omega, List.take_prefix k L⟩))
        have cb : c + (if hx_cnt lim L (L.take k) s = 0 then 1 else 0) ≤ 121 := by split <;> omega
        rw [show kI (k + 1) = nI k from rfl, ix_4, nI_1, nI_clamp (by omega), nar_s (by omega)]
      · refine ih (by omega) m (by omega) _ nd' ch' ta' _ sc' (by omega) T' hsc' ?_ (fun j hj => ?_) (fun j q1 q2 q3 => ?_) (fun sd' q1 q2 => ?_)
        · rw [pk_un (by omega)]; exact hr
        · rw [pk_un (by omega), a1 j hj]; exact h1 j (by omega)
        · by_cases e : j = k
          · rw [e]; exact pk_us
          · rw [pk_un (by omega), a2 j (by omega) q2 q3]; exact h2 j (by omega) q2 q3
        · obtain ⟨f1, f2, f3, f4⟩ := hf sd' q1 q2
          obtain ⟨g1, g2, g3⟩ := fr' sd' q1 q2
          exact ⟨g1, g2, fun j y1 y2 => by rw [pk_un (by omega)]; exact f3 j y1 y2, g3⟩
theorem xl_learn {post : SX → Prop} {lim sd s ar : Nat} {L : List Nat} (hl : 2 ≤ lim) (hl5 : lim ≤ 15) (hs : sd < 2) (h8 : s < 8) (hL8 : ∀ a, a ∈ L → a < 8) (har : ar ≤ 120) (har8 : 8 ≤ ar) (X : XS lim sd L a_child a_tally a_contextNode a_depth a_recent a_stringCount)
    (K : ∀ ch ta cn dp rc sc : Nat → Int32, XS lim sd (hx_next lim ar L s) ch ta cn dp rc sc → (∀ sd', sd' < 2 → sd' ≠ sd → xs_ag sd' a_child a_tally a_contextNode a_depth a_recent a_stringCount ch ta cn dp rc sc) → post (f_alphabet, nI lim, nI ar, f_capacity, f_closed, f_low, f_pending, f_emitted, f_gap, f_codeDigits, f_encoded, f_decodedCount, f_walkSide, f_walkNext, f_excluded, f_excludedCount, f_candidates, f_candidateCount, f_stepLevel, f_stepSum, f_stepEscape, f_stepTotal, f_stepCum, f_stepFreq, ch, ta, cn, dp, rc, sc, if hx_strs lim L + hx_fresh lim L s ≤ ar then a_restartCount else upd a_restartCount sd (a_restartCount sd + 1), a_range, a_width, a_digits, a_decoded, a_itemFreq)) :
    wpX_learn post (f_alphabet, nI lim, nI ar, f_capacity, f_closed, f_low, f_pending, f_emitted, f_gap, f_codeDigits, f_encoded, f_decodedCount, f_walkSide, f_walkNext, f_excluded, f_excludedCount, f_candidates, f_candidateCount, f_stepLevel, f_stepSum, f_stepEscape, f_stepTotal, f_stepCum, f_stepFreq, a_child, a_tally, a_contextNode, a_depth, a_recent, a_stringCount, a_restartCount, a_range, a_width, a_digits, a_decoded, a_itemFreq) (nI sd) (nI s) := by
  obtain ⟨nd, X⟩ := X
  have ht := hx_top_le L
  have hfl : hx_fresh lim L s ≤ hx_top L + 1 := hx_fr_le lim L s _
  unfold wpX_learn
  refine xl_fresh hs h8 X ⟨pk_in sd 2 hs, ?_⟩
  obtain ⟨x1, x2, x3, x4, x5, x6⟩ := X
  have e1 : a_stringCount (nI sd).toNatClampNeg + nI (hx_fresh lim L s) = nI (hx_strs lim L + hx_fresh lim L s) := by rw [nI_clamp (by omega), x2, nI_add]
  rw [e1]
  refine pk_le (hx_strs lim L + hx_fresh lim L s) ar (fun z => ⟨pk_in sd 2 hs, nm_r (e' := kI (hx_top L + 1)) (by rw [nI_clamp (by omega)]; exact x4) ⟨hx_top L + 2, ?_⟩⟩) (fun z => ?_)
  · have e2 : hx_next lim ar L s = s :: L := if_pos z
    rw [e2, if_pos z] at K
    refine xl_learn_45 (ch0 := a_child) (ta0 := a_tally) (cn0 := a_contextNode) (sc0 := a_stringCount) hl hl5 hs h8 hL8 (by omega) x4 x6 K (hx_top L + 1) (by omega) (hx_top L + 2) (by omega) (hx_strs lim L) nd a_child a_tally a_contextNode a_stringCount rfl ?_ x2 ?_ (fun j hj => x5 j (by omega)) (fun j q1 q2 => by omega) (fun sd' _ _ => ⟨fun _ _ _ => rfl, fun _ _ _ => rfl, fun _ _ _ => rfl, rfl⟩)
    · rw [tr_lv_top]; exact x1
    · have := x5 0 (by omega)
      rw [List.take_zero, x1.1] at this
      exact this
  · have e2 : hx_next lim ar L s = [s] := if_neg (by omega)
    rw [e2, if_neg (by omega)] at K
    refine xl_empty lim hs (fun ch ta cn dp rc sc Y hag => ?_)
    obtain ⟨nd', y1, y2, y3, y4, y5, y6⟩ := Y
    refine ⟨pk_in sd 2 hs, pk_in sd 2 hs, nm_r (e' := upd a_restartCount sd (a_restartCount sd + 1)) (by rw [nI_clamp (by omega)]) ⟨pk_in sd 2 hs, nm_r (e' := kI (hx_top [] + 1)) (by rw [nI_clamp (by omega)]; exact y4) ⟨hx_top [] + 2, ?_⟩⟩⟩
    have f1 : hx_fresh lim [] s ≤ 1 := hx_fr_le lim [] s 1
    refine xl_learn_45 (L := []) (ch0 := ch) (ta0 := ta) (cn0 := cn) (sc0 := sc) hl hl5 hs h8 (fun a h => absurd h (List.not_mem_nil)) (by show 0 + hx_fresh lim [] s ≤ 120; omega) y4 y6 (fun ch' ta' cn' dp' rc' sc' Z zag => K ch' ta' cn' dp' rc' sc' Z (fun sd' q1 q2 => ?_)) (hx_top [] + 1) (by omega) (hx_top [] + 2) (by omega) 0 nd' ch ta cn sc rfl ?_ y2 ?_ (fun j hj => y5 j (by omega)) (fun j q1 q2 => by omega) (fun sd' _ _ => ⟨fun _ _ _ => rfl, fun _ _ _ => rfl, fun _ _ _ => rfl, rfl⟩)
    · obtain ⟨a1, a2, a3, a4, a5, a6⟩ := hag sd' q1 q2
      obtain ⟨b1, b2, b3, b4, b5, b6⟩ := zag sd' q1 q2
      exact ⟨fun j p1 p2 => (b1 j p1 p2).trans (a1 j p1 p2), fun j p1 p2 => (b2 j p1 p2).trans (a2 j p1 p2), fun j p1 p2 => (b3 j p1 p2).trans (a3 j p1 p2), b4.trans a4, b5.trans a5, b6.trans a6⟩
    · rw [tr_lv_top]; exact y1
    · have := y5 0 (by omega)
      rw [List.take_zero, y1.1] at this
      exact this
end
end
section
/-! ===== X: the loops of encode, predict, decode over the steps ===== -/
def gw_id : Nat × Nat × Nat → Nat → Nat → Nat → Nat × Nat × Nat := fun st _ _ _ => st
theorem cx_EI_m {W n n' : Nat} {st : Nat × Nat × Nat} (h : n ≤ n') (H : cx_EI W n st) : cx_EI W n' st := ⟨H.1, H.2.1, by have := H.2.2.1; omega, H.2.2.2.1, H.2.2.2.2⟩
theorem cx_DI_m {W n n' : Nat} {st : Nat × Nat × Nat} (h : n ≤ n') (H : cx_DI W n st) : cx_DI W n' st := ⟨H.1, H.2.1, by have := H.2.2.1; omega, H.2.2.2.1, H.2.2.2.2⟩
section
variable {lim al s : Nat} {L : List Nat} {E : Nat → Bool} {n N : Nat} {st : Nat × Nat × Nat} {cs : Nat × Nat × Nat → Nat → Nat → Nat → Nat × Nat × Nat}
/-- the wanted symbol is a candidate at the next level -/
theorem gw_yes (hs : s < al) (z : hx_f E (hx_F lim L (gw_n al (hx_F lim L) E N)) s ≠ 0) : gw al (hx_F lim L) (gw_cs al s) cs N E (hx_g E al) n st = gw_end al (hx_F lim L) cs (gw_n al (hx_F lim L) E N) E (hx_g E al) n s st := by
  rw [gw_n_gw]
  generalize hK : gw_n al (hx_F lim L) E N = K at z
  have hc : ∀ t, gw_cs al s st (hx_f E (hx_F lim L K)) t = s := fun t => if_neg z
  cases K with
  | zero =>
    show gw_end al (hx_F lim L) cs 0 E (hx_g E al) n (gw_cs al s st (hx_f E (hx_F lim L 0)) (gw_t al (hx_F lim L) E (hx_g E al) 0)) st = _
    rw [hc]
  | succ k =>
    rw [gw_l (gw_n_m al _ E N k hK) (by rw [hc]; exact hs), hc]
/-- it is not: the escape -/
theorem gw_no (hs : s < al) (hE : E s = false) (z : hx_f E (hx_F lim L (gw_n al (hx_F lim L) E N)) s = 0) : ∃ k, gw_n al (hx_F lim L) E N = k + 1 ∧ k < N ∧ gw_m al (hx_F lim L) E (k + 1) ≠ 0 ∧ hx_g E al + gw_m al (hx_F lim L) E (k + 1) < al ∧
    gw al (hx_F lim L) (gw_cs al s) cs N E (hx_g E al) n st = gw al (hx_F lim L) (gw_cs al s) cs k (hx_E E (hx_f E (hx_F lim L (k + 1)))) (hx_g (hx_E E (hx_f E (hx_F lim L (k + 1)))) al) (n + 1) (cs st (gw_s al (hx_F lim L) E (k + 1)) (hx_es al (hx_g E al) (gw_m al (hx_F lim L) E (k + 1))) (gw_t al (hx_F lim L) E (hx_g E al) (k + 1))) := by
  have le := gw_n_le al (hx_F lim L) E N
  rw [gw_n_gw]
  generalize hK : gw_n al (hx_F lim L) E N = K at z le
  cases K with
  | zero =>
    rw [hx_f_n hE] at z
    exact absurd z (by show ¬ 1 = 0; decide)
  | succ k =>
    have hm := gw_n_m al (hx_F lim L) E N k hK
    have hc : ∀ t, gw_cs al s st (hx_f E (hx_F lim L (k + 1))) t = al := fun t => if_pos z
    refine ⟨k, rfl, by omega, hm, hx_room hs hE z, ?_⟩
    rw [gw_x hm (by rw [hc]; omega), hx_g_E]
    rfl
end
section
variable {f_alphabet f_countLimit f_arena f_capacity f_closed f_low f_pending f_emitted f_gap f_codeDigits f_encoded f_decodedCount f_walkSide f_walkNext f_excluded f_excludedCount f_candidates f_candidateCount f_stepLevel f_stepSum f_stepEscape f_stepTotal f_stepCum f_stepFreq : Int32} {a_child a_tally a_contextNode a_depth a_recent a_stringCount a_restartCount a_range a_width a_digits a_decoded a_itemFreq : Nat → Int32}
theorem xl_enc_51 {post : Int32 → SX → Prop} {lim al s W : Nat} {L : List Nat} {x2 : Int32} {ra0 wi0 : Nat → Int32} (hl : 2 ≤ lim) (hl5 : lim ≤ 15) (ha : al ≤ 8) (hs : s < al) (hW : W ≤ 3800)
    (X : XS lim 0 L a_child a_tally a_contextNode a_depth a_recent a_stringCount) :
    ∀ M N, N ≤ M → N ≤ hx_top L + 1 → ∀ (n : Nat) (E : Nat → Bool) (st : Nat × Nat × Nat), n + N ≤ 4 → E s = false → cx_EI W n st →
    ∀ (fu : Nat) (fl fp fe ex cm cc sl ss se so sc sf : Int32) (ra wi dg it : Nat → Int32), N + 1 < fu → ex_ok al E ex → ce_ok st fl fp fe ra wi dg → ra 1 = ra0 1 → wi 1 = wi0 1 →
    (∀ (fl fp fe wn ex ec cm cc sl ss se so sc sf : Int32) (ra wi dg it : Nat → Int32), cx_EI W 5 (gw al (hx_F lim L) (gw_cs al s) cx_e N E (hx_g E al) n st).2.2.2.2.2.2 → ce_ok (gw al (hx_F lim L) (gw_cs al s) cx_e N E (hx_g E al) n st).2.2.2.2.2.2 fl fp fe ra wi dg → ra 1 = ra0 1 → wi 1 = wi0 1 →
      wX_encode_89 post (nI s) x2 (nI al) f_countLimit f_arena f_capacity f_closed fl fp fe f_gap f_codeDigits f_encoded f_decodedCount (nI 0) wn ex ec cm cc sl ss se so sc sf a_child a_tally a_contextNode a_depth a_recent a_stringCount a_restartCount ra wi dg a_decoded it) →
    wX_encode_51 post (nI s) x2 fu 0 (nI n) (nI al) f_countLimit f_arena f_capacity f_closed fl fp fe f_gap f_codeDigits f_encoded f_decodedCount (nI 0) (kI N) ex (nI (hx_g E al)) cm cc sl ss se so sc sf a_child a_tally a_contextNode a_depth a_recent a_stringCount a_restartCount ra wi dg a_decoded it := by
  have hF := hx_F_le hl hl5 L
  intro M
  induction M with
  | zero =>
    intro N hNM hN n E st hn hEs hI fu fl fp fe ex cm cc sl ss se so sc sf ra wi dg it hfu hE hce r1 w1 K
    obtain ⟨m, rfl⟩ : ∃ m, fu = m + 1 := ⟨fu - 1, by omega⟩
    obtain ⟨m, rfl⟩ : ∃ m', m = m' + 1 := ⟨m - 1, by omega⟩
    refine br_f (nI_ge (b := 5) (by omega) (by omega)) (br_t rfl ?_)
    refine xl_next hl hl5 ha (by omega) X hE hN (fun cm' it' hcm hit => ?_)
    refine xl_aim ha hs hit (hx_f_le (hF _)) (fun z => ?_) (fun z => ?_)
    · obtain ⟨k, _, hk, _⟩ := gw_no (n := n) (st := st) (cs := cx_e) hs hEs z
      omega
    · have hi := gw_it (gone := hx_g E al) ha hF hs z
      have eg := gw_yes (n := n) (st := st) (cs := cx_e) hs z
      rw [eg] at K
      refine xl_es hI (by omega) hi hce (fun fl' fp' fe' ra' wi' dg' hce' r1' w1' => ?_)
      refine br_f (by decide) (nm_r (nI_1 n) ?_)
      exact br_c (fun _ => (K fl' fp' fe' _ _ _ _ _ _ _ _ _ _ _ ra' wi' dg' it' (cx_EI_m (by omega) (cx_EI_s hI hi)) hce' (r1'.trans r1) (w1'.trans w1))) (fun _ => br_f (by decide) (K fl' fp' fe' _ _ _ _ _ _ _ _ _ _ _ ra' wi' dg' it' (cx_EI_m (by omega) (cx_EI_s hI hi)) hce' (r1'.trans r1) (w1'.trans w1)))
  | succ M ih =>
    intro N hNM hN n E st hn hEs hI fu fl fp fe ex cm cc sl ss se so sc sf ra wi dg it hfu hE hce r1 w1 K
    obtain ⟨m, rfl⟩ : ∃ m, fu = m + 1 := ⟨fu - 1, by omega⟩
    obtain ⟨m, rfl⟩ : ∃ m', m = m' + 1 := ⟨m - 1, by omega⟩
    refine br_f (nI_ge (b := 5) (by omega) (by omega)) (br_t rfl ?_)
    refine xl_next hl hl5 ha (by omega) X hE hN (fun cm' it' hcm hit => ?_)
    refine xl_aim ha hs hit (hx_f_le (hF _)) (fun z => ?_) (fun z => ?_)
    · obtain ⟨k, hk, hkN, hm, hr, eg⟩ := gw_no (n := n) (st := st) (cs := cx_e) hs hEs z
      rw [hk] at z hcm hit ⊢
      rw [eg] at K
      have hi := gw_ie (gone := hx_g E al) ha hF hm hr
      refine xl_es hI (by omega) hi hce (fun fl' fp' fe' ra' wi' dg' hce' r1' w1' => ?_)
      refine br_t rfl ?_
      refine xl_excl ha hE hcm (fun ex' hE' => nm_r (nI_1 n) ?_)
      have eg2 : hx_g E al + gw_m al (hx_F lim L) E (k + 1) = hx_g (hx_E E (hx_f E (hx_F lim L (k + 1)))) al := (hx_g_E al).symm
      rw [eg2]
      exact ih k (by omega) (by omega) (n + 1) _ _ (by omega) (hx_E_s hEs z) (cx_EI_s hI hi) (m + 1) _ _ _ _ _ _ _ _ _ _ _ _ _ _ _ _ (by omega) hE' hce' (r1'.trans r1) (w1'.trans w1) K
    · have hi := gw_it (gone := hx_g E al) ha hF hs z
      have eg := gw_yes (n := n) (st := st) (cs := cx_e) hs z
      rw [eg] at K
      refine xl_es hI (by omega) hi hce (fun fl' fp' fe' ra' wi' dg' hce' r1' w1' => ?_)
      refine br_f (by decide) (nm_r (nI_1 n) ?_)
      exact br_c (fun _ => (K fl' fp' fe' _ _ _ _ _ _ _ _ _ _ _ ra' wi' dg' it' (cx_EI_m (by omega) (cx_EI_s hI hi)) hce' (r1'.trans r1) (w1'.trans w1))) (fun _ => br_f (by decide) (K fl' fp' fe' _ _ _ _ _ _ _ _ _ _ _ ra' wi' dg' it' (cx_EI_m (by omega) (cx_EI_s hI hi)) hce' (r1'.trans r1) (w1'.trans w1)))
theorem xl_pre_45 {post : Int32 → SX → Prop} {lim al s sd : Nat} {L : List Nat} {x3 : Int32} (st : Nat × Nat × Nat) (hl : 2 ≤ lim) (hl5 : lim ≤ 15) (ha : al ≤ 8) (hs : s < al) (hsd : sd < 2)
    (X : XS lim sd L a_child a_tally a_contextNode a_depth a_recent a_stringCount) :
    ∀ M N, N ≤ M → N ≤ hx_top L + 1 → ∀ (n : Nat) (E : Nat → Bool), n + N ≤ 4 → E s = false →
    ∀ (fu : Nat) (ex cm cc sl ss se so sc sf : Int32) (it : Nat → Int32), N + 1 < fu → ex_ok al E ex →
    (∀ (wn ex ec cm cc ss se : Int32) (it : Nat → Int32),
      wX_predict_85 post x3 (nI (gw al (hx_F lim L) (gw_cs al s) gw_id N E (hx_g E al) n st).2.1) (nI al) f_countLimit f_arena f_capacity f_closed f_low f_pending f_emitted f_gap f_codeDigits f_encoded f_decodedCount (nI sd) wn ex ec cm cc (nI (lv (gw al (hx_F lim L) (gw_cs al s) gw_id N E (hx_g E al) n st).1)) ss se (nI (gw al (hx_F lim L) (gw_cs al s) gw_id N E (hx_g E al) n st).2.2.2.2.1) (nI (gw al (hx_F lim L) (gw_cs al s) gw_id N E (hx_g E al) n st).2.2.1) (nI (gw al (hx_F lim L) (gw_cs al s) gw_id N E (hx_g E al) n st).2.2.2.1) a_child a_tally a_contextNode a_depth a_recent a_stringCount a_restartCount a_range a_width a_digits a_decoded it) →
    wX_predict_45 post (nI s) x3 fu (nI n) 0 (nI n) (nI al) f_countLimit f_arena f_capacity f_closed f_low f_pending f_emitted f_gap f_codeDigits f_encoded f_decodedCount (nI sd) (kI N) ex (nI (hx_g E al)) cm cc sl ss se so sc sf a_child a_tally a_contextNode a_depth a_recent a_stringCount a_restartCount a_range a_width a_digits a_decoded it := by
  have hF := hx_F_le hl hl5 L
  intro M
  induction M with
  | zero =>
    intro N hNM hN n E hn hEs fu ex cm cc sl ss se so sc sf it hfu hE K
    obtain ⟨m, rfl⟩ : ∃ m, fu = m + 1 := ⟨fu - 1, by omega⟩
    obtain ⟨m, rfl⟩ : ∃ m', m = m' + 1 := ⟨m - 1, by omega⟩
    refine br_f (nI_ge (b := 5) (by omega) (by omega)) (br_t rfl ?_)
    refine xl_next hl hl5 ha hsd X hE hN (fun cm' it' hcm hit => ?_)
    refine xl_aim ha hs hit (hx_f_le (hF _)) (fun z => ?_) (fun z => ?_)
    · obtain ⟨k, _, hk, _⟩ := gw_no (n := n) (st := st) (cs := gw_id) hs hEs z
      omega
    · have eg := gw_yes (n := n) (st := st) (cs := gw_id) hs z
      rw [eg] at K
      refine br_f (by decide) (nm_r (nI_1 n) ?_)
      exact br_c (fun _ => (K _ _ _ _ _ _ _ it')) (fun _ => br_f (by decide) (K _ _ _ _ _ _ _ it'))
  | succ M ih =>
    intro N hNM hN n E hn hEs fu ex cm cc sl ss se so sc sf it hfu hE K
    obtain ⟨m, rfl⟩ : ∃ m, fu = m + 1 := ⟨fu - 1, by omega⟩
    obtain ⟨m, rfl⟩ : ∃ m', m = m' + 1 := ⟨m - 1, by omega⟩
    refine br_f (nI_ge (b := 5) (by omega) (by omega)) (br_t rfl ?_)
    refine xl_next hl hl5 ha hsd X hE hN (fun cm' it' hcm hit => ?_)
    refine xl_aim ha hs hit (hx_f_le (hF _)) (fun z => ?_) (fun z => ?_)
    · obtain ⟨k, hk, hkN, hm, hr, eg⟩ := gw_no (n := n) (st := st) (cs := gw_id) hs hEs z
      rw [hk] at z hcm hit ⊢
      rw [eg] at K
      refine br_t rfl (nm_r (nI_1 n) ?_)
      refine xl_excl ha hE hcm (fun ex' hE' => nm_r (nI_1 n) ?_)
      have eg2 : hx_g E al + gw_m al (hx_F lim L) E (k + 1) = hx_g (hx_E E (hx_f E (hx_F lim L (k + 1)))) al := (hx_g_E al).symm
      rw [eg2]
      exact ih k (by omega) (by omega) (n + 1) _ (by omega) (hx_E_s hEs z) (m + 1) _ _ _ _ _ _ _ _ _ _ (by omega) hE' K
    · have eg := gw_yes (n := n) (st := st) (cs := gw_id) hs z
      rw [eg] at K
      refine br_f (by decide) (nm_r (nI_1 n) ?_)
      exact br_c (fun _ => (K _ _ _ _ _ _ _ it')) (fun _ => br_f (by decide) (K _ _ _ _ _ _ _ it'))
end
end
section
/-! ===== X: the loop of decode ===== -/
section
variable {lim al : Nat} {L : List Nat} {E : Nat → Bool} {n N W : Nat} {st : Nat × Nat × Nat} {cs : Nat × Nat × Nat → Nat → Nat → Nat → Nat × Nat × Nat}
theorem gw_dm (hg : hx_g E al < al) : gw_m al (hx_F lim L) E (gw_n al (hx_F lim L) E N) ≠ 0 := by
  generalize hK : gw_n al (hx_F lim L) E N = K
  cases K with
  | zero =>
    have h := hx_g_flat (E := E) al
    show hx_pc (hx_f E (fun _ => 1)) al ≠ 0
    omega
  | succ k => exact gw_n_m al _ E N k hK
theorem gw_dyes (z : gw_cd al st (hx_f E (hx_F lim L (gw_n al (hx_F lim L) E N))) (gw_t al (hx_F lim L) E (hx_g E al) (gw_n al (hx_F lim L) E N)) < al) : gw al (hx_F lim L) (gw_cd al) cs N E (hx_g E al) n st = gw_end al (hx_F lim L) cs (gw_n al (hx_F lim L) E N) E (hx_g E al) n (gw_cd al st (hx_f E (hx_F lim L (gw_n al (hx_F lim L) E N))) (gw_t al (hx_F lim L) E (hx_g E al) (gw_n al (hx_F lim L) E N))) st := by
  rw [gw_n_gw]
  generalize hK : gw_n al (hx_F lim L) E N = K at z
  cases K with
  | zero => rfl
  | succ k => rw [gw_l (gw_n_m al _ E N k hK) z]
theorem gw_dno (ha : al ≤ 8) (hF : ∀ K t, hx_F lim L K t ≤ 15) (hg : hx_g E al < al) (z : ¬ gw_cd al st (hx_f E (hx_F lim L (gw_n al (hx_F lim L) E N))) (gw_t al (hx_F lim L) E (hx_g E al) (gw_n al (hx_F lim L) E N)) < al) : ∃ k, gw_n al (hx_F lim L) E N = k + 1 ∧ k < N ∧ gw_m al (hx_F lim L) E (k + 1) ≠ 0 ∧ hx_g E al + gw_m al (hx_F lim L) E (k + 1) < al ∧
    gw al (hx_F lim L) (gw_cd al) cs N E (hx_g E al) n st = gw al (hx_F lim L) (gw_cd al) cs k (hx_E E (hx_f E (hx_F lim L (k + 1)))) (hx_g (hx_E E (hx_f E (hx_F lim L (k + 1)))) al) (n + 1) (cs st (gw_s al (hx_F lim L) E (k + 1)) (hx_es al (hx_g E al) (gw_m al (hx_F lim L) E (k + 1))) (gw_t al (hx_F lim L) E (hx_g E al) (k + 1))) := by
  have le := gw_n_le al (hx_F lim L) E N
  have hd := (gw_de ha hF (gw_dm hg) z).1
  rw [gw_n_gw]
  generalize hK : gw_n al (hx_F lim L) E N = K at z le hd
  cases K with
  | zero =>
    have h := hx_g_flat (E := E) al
    have hd' : hx_g E al + hx_pc (hx_f E (fun _ => 1)) al < al := hd
    omega
  | succ k =>
    have hm := gw_n_m al (hx_F lim L) E N k hK
    refine ⟨k, rfl, by omega, hm, hd, ?_⟩
    rw [gw_x hm z, hx_g_E]
    rfl
end
section
variable {f_alphabet f_countLimit f_arena f_capacity f_closed f_low f_pending f_emitted f_gap f_codeDigits f_encoded f_decodedCount f_walkSide f_walkNext f_excluded f_excludedCount f_candidates f_candidateCount f_stepLevel f_stepSum f_stepEscape f_stepTotal f_stepCum f_stepFreq : Int32} {a_child a_tally a_contextNode a_depth a_recent a_stringCount a_restartCount a_range a_width a_digits a_decoded a_itemFreq : Nat → Int32}
theorem xl_dec_42 {post : Int32 → SX → Prop} {lim al W cd : Nat} {dg : Nat → Nat} {L : List Nat} {ra0 wi0 : Nat → Int32} (hl : 2 ≤ lim) (hl5 : lim ≤ 15) (ha : al ≤ 8) (hW : W ≤ 3800) (hc : cd_ok cd dg f_codeDigits a_digits)
    (X : XS lim 1 L a_child a_tally a_contextNode a_depth a_recent a_stringCount) :
    ∀ M N, N ≤ M → N ≤ hx_top L + 1 → ∀ (n : Nat) (E : Nat → Bool) (st : Nat × Nat × Nat), n + N ≤ 4 → hx_g E al < al → cx_DI W n st →
    ∀ (fu : Nat) (ex cm cc sl ss se so sc sf : Int32) (ra wi it : Nat → Int32), N + 1 < fu → ex_ok al E ex → ra 1 = nI st.2.1 → wi 1 = nI st.2.2 → ra 0 = ra0 0 → wi 0 = wi0 0 →
    (∀ (wn ex ec cm cc sl ss se so sc sf : Int32) (ra wi it : Nat → Int32), cx_DI W 5 (gw al (hx_F lim L) (gw_cd al) (cx_d dg) N E (hx_g E al) n st).2.2.2.2.2.2 → (gw al (hx_F lim L) (gw_cd al) (cx_d dg) N E (hx_g E al) n st).2.2.2.2.2.1 < al → ra 1 = nI (gw al (hx_F lim L) (gw_cd al) (cx_d dg) N E (hx_g E al) n st).2.2.2.2.2.2.2.1 → wi 1 = nI (gw al (hx_F lim L) (gw_cd al) (cx_d dg) N E (hx_g E al) n st).2.2.2.2.2.2.2.2 → ra 0 = ra0 0 → wi 0 = wi0 0 →
      wX_decode_84 post (nI (gw al (hx_F lim L) (gw_cd al) (cx_d dg) N E (hx_g E al) n st).2.2.2.2.2.1) (nI al) f_countLimit f_arena f_capacity f_closed f_low f_pending f_emitted (nI (gw al (hx_F lim L) (gw_cd al) (cx_d dg) N E (hx_g E al) n st).2.2.2.2.2.2.1) f_codeDigits f_encoded f_decodedCount (nI 1) wn ex ec cm cc sl ss se so sc sf a_child a_tally a_contextNode a_depth a_recent a_stringCount a_restartCount ra wi a_digits a_decoded it) →
    wX_decode_42 post fu (-1) (nI n) (nI al) f_countLimit f_arena f_capacity f_closed f_low f_pending f_emitted (nI st.1) f_codeDigits f_encoded f_decodedCount (nI 1) (kI N) ex (nI (hx_g E al)) cm cc sl ss se so sc sf a_child a_tally a_contextNode a_depth a_recent a_stringCount a_restartCount ra wi a_digits a_decoded it := by
  have hF := hx_F_le hl hl5 L
  intro M
  induction M with
  | zero =>
    intro N hNM hN n E st hn hg hI fu ex cm cc sl ss se so sc sf ra wi it hfu hE r1 w1 r0 w0 K
    obtain ⟨m, rfl⟩ : ∃ m, fu = m + 1 := ⟨fu - 1, by omega⟩
    obtain ⟨m, rfl⟩ : ∃ m', m = m' + 1 := ⟨m - 1, by omega⟩
    have hm := gw_dm (lim := lim) (L := L) (N := N) hg
    have bt1 := gw_tot (al := al) (F := hx_F lim L) (E := E) (gone := hx_g E al) (K := gw_n al (hx_F lim L) E N) ha hF
    have bp : 0 < gw_t al (hx_F lim L) E (hx_g E al) (gw_n al (hx_F lim L) E N) := by have := gw_pos hm; unfold gw_t; omega
    refine br_f (nI_ge (b := 5) (by omega) (by omega)) (br_f (by decide) ?_)
    refine xl_next hl hl5 ha (by omega) X hE hN (fun cm' it' hcm hit => ?_)
    refine xl_gq (w := st.2.2) r1 hI.1 hI.2.1 hI.2.2.2.2 bp bt1.1 ?_
    have lq := gw_q_lt (st := st) bp
    refine xl_pick ha (Nat.lt_trans lq (lt31 bt1.1)) hit (hx_f_le (hF _)) (fun z => ?_) (fun z => ?_)
    · obtain ⟨k, _, hk, _⟩ := gw_dno (n := n) (cs := cx_d dg) ha hF hg z
      omega
    · obtain ⟨nz, hi, hdi⟩ := gw_dt ha hF hI hm rfl z
      have eg := gw_dyes (n := n) (cs := cx_d dg) z
      rw [eg] at K
      refine xl_ds hc hI (by omega) hi hdi r1 w1 (fun ra' wi' r1' w1' r0' w0' => ?_)
      refine br_t (nI_pos' (Nat.lt_trans z (by omega))) (nm_r (nI_1 n) ?_)
      exact br_c (fun _ => (K _ _ _ _ _ _ _ _ _ _ _ ra' wi' it' (cx_DI_m (by omega) (cx_DI_s hc.2.2.2.2 hI hi hdi)) z r1' w1' (r0'.trans r0) (w0'.trans w0))) (fun _ => br_t (nI_pos' (Nat.lt_trans z (by omega))) (K _ _ _ _ _ _ _ _ _ _ _ ra' wi' it' (cx_DI_m (by omega) (cx_DI_s hc.2.2.2.2 hI hi hdi)) z r1' w1' (r0'.trans r0) (w0'.trans w0)))
  | succ M ih =>
    intro N hNM hN n E st hn hg hI fu ex cm cc sl ss se so sc sf ra wi it hfu hE r1 w1 r0 w0 K
    obtain ⟨m, rfl⟩ : ∃ m, fu = m + 1 := ⟨fu - 1, by omega⟩
    obtain ⟨m, rfl⟩ : ∃ m', m = m' + 1 := ⟨m - 1, by omega⟩
    have hm := gw_dm (lim := lim) (L := L) (N := N) hg
    have bt1 := gw_tot (al := al) (F := hx_F lim L) (E := E) (gone := hx_g E al) (K := gw_n al (hx_F lim L) E N) ha hF
    have bp : 0 < gw_t al (hx_F lim L) E (hx_g E al) (gw_n al (hx_F lim L) E N) := by have := gw_pos hm; unfold gw_t; omega
    refine br_f (nI_ge (b := 5) (by omega) (by omega)) (br_f (by decide) ?_)
    refine xl_next hl hl5 ha (by omega) X hE hN (fun cm' it' hcm hit => ?_)
    refine xl_gq (w := st.2.2) r1 hI.1 hI.2.1 hI.2.2.2.2 bp bt1.1 ?_
    have lq := gw_q_lt (st := st) bp
    refine xl_pick ha (Nat.lt_trans lq (lt31 bt1.1)) hit (hx_f_le (hF _)) (fun z => ?_) (fun z => ?_)
    · obtain ⟨_, hi, hdi⟩ := gw_de ha hF hm z
      obtain ⟨k, hk, hkN, hm', hr, eg⟩ := gw_dno (n := n) (cs := cx_d dg) ha hF hg z
      rw [hk] at hi hdi hcm hit ⊢
      rw [eg] at K
      refine xl_ds hc hI (by omega) hi hdi r1 w1 (fun ra' wi' r1' w1' r0' w0' => ?_)
      refine br_f (by decide) ?_
      refine xl_excl ha hE hcm (fun ex' hE' => nm_r (nI_1 n) ?_)
      have eg2 : hx_g E al + gw_m al (hx_F lim L) E (k + 1) = hx_g (hx_E E (hx_f E (hx_F lim L (k + 1)))) al := (hx_g_E al).symm
      rw [eg2] at hr ⊢
      exact ih k (by omega) (by omega) (n + 1) _ _ (by omega) hr (cx_DI_s hc.2.2.2.2 hI hi hdi) (m + 1) _ _ _ _ _ _ _ _ _ _ _ _ (by omega) hE' r1' w1' (r0'.trans r0) (w0'.trans w0) K
    · obtain ⟨nz, hi, hdi⟩ := gw_dt ha hF hI hm rfl z
      have eg := gw_dyes (n := n) (cs := cx_d dg) z
      rw [eg] at K
      refine xl_ds hc hI (by omega) hi hdi r1 w1 (fun ra' wi' r1' w1' r0' w0' => ?_)
      refine br_t (nI_pos' (Nat.lt_trans z (by omega))) (nm_r (nI_1 n) ?_)
      exact br_c (fun _ => (K _ _ _ _ _ _ _ _ _ _ _ ra' wi' it' (cx_DI_m (by omega) (cx_DI_s hc.2.2.2.2 hI hi hdi)) z r1' w1' (r0'.trans r0) (w0'.trans w0))) (fun _ => br_t (nI_pos' (Nat.lt_trans z (by omega))) (K _ _ _ _ _ _ _ _ _ _ _ ra' wi' it' (cx_DI_m (by omega) (cx_DI_s hc.2.2.2.2 hI hi hdi)) z r1' w1' (r0'.trans r0) (w0'.trans w0)))
end
end
section
/-! ===== Y: the history ===== -/
def hs (g : Nat → Nat) (st : Nat) : Nat → List Nat
  | 0 => []
  | d + 1 => g (st + d) :: hs g st d
def cl : (Nat → Nat) → Nat → List Nat
  | _, 0 => []
  | c, n + 1 => c 0 :: cl (fun j => c (j + 1)) n
theorem hs_len (g : Nat → Nat) (st : Nat) : ∀ d, (hs g st d).length = d
  | 0 => rfl
  | d + 1 => by show (hs g st d).length + 1 = d + 1; rw [hs_len g st d]
theorem cl_len : ∀ (n : Nat) (c : Nat → Nat), (cl c n).length = n
  | 0, _ => rfl
  | n + 1, c => by show (cl (fun j => c (j + 1)) n).length + 1 = n + 1; rw [cl_len n]
theorem hs_congr {g g' : Nat → Nat} {st : Nat} : ∀ d, (∀ i, i < st + d → g i = g' i) → hs g st d = hs g' st d
  | 0, _ => rfl
  | d + 1, h => by
    show g (st + d) :: hs g st d = g' (st + d) :: hs g' st d
    rw [hs_congr d (fun i hi => h i (by omega)), h (st + d) (by omega)]
theorem hs_mem {g : Nat → Nat} {st b : Nat} : ∀ d, (∀ i, i < st + d → g i < b) → ∀ a, a ∈ hs g st d → a < b
  | 0, _, a, h => absurd h (List.not_mem_nil)
  | d + 1, hb, a, h => by
    rcases List.mem_cons.mp h with e | e
    · rw [e]; exact hb _ (by omega)
    · exact hs_mem d (fun i hi => hb i (by omega)) a e
theorem cl_pre (g : Nat → Nat) (st : Nat) : ∀ (n : Nat) (c : Nat → Nat) (d : Nat), cl c n <+: hs g st d ↔ (n ≤ d ∧ ∀ j, j < n → g (st + d - 1 - j) = c j)
  | 0, c, d => ⟨fun _ => ⟨Nat.zero_le _, fun j h => absurd h (Nat.not_lt_zero _)⟩, fun _ => List.nil_prefix⟩
  | n + 1, c, 0 => ⟨fun h => by have := h.length_le; rw [cl_len] at this; exact absurd this (by show ¬ n + 1 ≤ 0; omega), fun h => absurd h.1 (by omega)⟩
  | n + 1, c, d + 1 => by
    show c 0 :: cl (fun j => c (j + 1)) n <+: g (st + d) :: hs g st d ↔ _
    rw [List.cons_prefix_cons, cl_pre g st n _ d]
    constructor
    · intro h
      refine ⟨by omega, fun j hj => ?_⟩
      cases j with
      | zero => rw [show st + (d + 1) - 1 - 0 = st + d by omega]; exact h.1.symm
      | succ j => rw [show st + (d + 1) - 1 - (j + 1) = st + d - 1 - j by omega]; exact h.2.2 j (by omega)
    · intro h
      refine ⟨?_, by omega, fun j hj => ?_⟩
      · have := h.2 0 (by omega)
        rw [show st + (d + 1) - 1 - 0 = st + d by omega] at this
        exact this.symm
      · have := h.2 (j + 1) (by omega)
        rw [show st + (d + 1) - 1 - (j + 1) = st + d - 1 - j by omega] at this
        exact this
theorem cl_take (g : Nat → Nat) (st : Nat) : ∀ (n : Nat) (c : Nat → Nat) (d : Nat), n ≤ d → (∀ j, j < n → g (st + d - 1 - j) = c j) → cl c n = (hs g st d).take n := by
  intro n c d h1 h2
  have p := (cl_pre g st n c d).mpr ⟨h1, h2⟩
  have e := List.prefix_iff_eq_take.mp p
  rw [cl_len] at e
  exact e
/-- counted in the history: where -/
theorem hs_cnt {lim : Nat} {g : Nat → Nat} {st k s : Nat} {c : Nat → Nat} : ∀ d, 0 < hx_cnt lim (hs g st d) (cl c k) s ↔ ∃ j, k ≤ j ∧ j < d ∧ g (st + j) = s ∧ ∀ a, a < k → g (st + j - 1 - a) = c a
  | 0 => ⟨fun h => absurd h (Nat.lt_irrefl 0), fun ⟨j, _, h, _⟩ => absurd h (Nat.not_lt_zero _)⟩
  | d + 1 => by
    have ih := hs_cnt (lim := lim) (g := g) (st := st) (k := k) (s := s) (c := c) d
    show 0 < hx_cnt lim (g (st + d) :: hs g st d) (cl c k) s ↔ _
    by_cases p : cl c k <+: hs g st d
    · rw [hx_cnt_t p, hx_bump_pos, ih]
      have p' := (cl_pre g st k c d).mp p
      constructor
      · rintro (e | ⟨j, h1, h2, h3⟩)
        · exact ⟨d, p'.1, by omega, e.symm, p'.2⟩
        · exact ⟨j, h1, by omega, h3⟩
      · rintro ⟨j, h1, h2, h3⟩
        by_cases e : j = d
        · exact Or.inl (by rw [← e]; exact h3.1.symm)
        · exact Or.inr ⟨j, h1, by omega, h3⟩
    · rw [hx_cnt_f p, ih]
      constructor
      · rintro ⟨j, h1, h2, h3⟩
        exact ⟨j, h1, by omega, h3⟩
      · rintro ⟨j, h1, h2, h3⟩
        by_cases e : j = d
        · exact absurd ((cl_pre g st k c d).mpr ⟨by omega, by rw [← e]; exact h3.2⟩) p
        · exact ⟨j, h1, by omega, h3⟩
/-- the history of a side of Y -/
def ys_ok (sd st d : Nat) (g : Nat → Nat) (said done start : Nat → Int32) : Prop := st + d ≤ 96 ∧ start sd = nI st ∧ done sd = nI (st + d) ∧ ∀ i, i < st + d → said (96 * sd + i) = nI (g i) ∧ g i < 8
/-- symbol j of a packed context -/
def cp (p : Int32) (j : Nat) : Nat := (p >>> ((3 * nI j) &&& 31)).toBitVec.toNat % 8
theorem cp_eq (p : Int32) (j : Nat) : (p >>> ((3 * nI j) &&& 31)) &&& 7 = nI (cp p j) := pk_and _ 3 (by decide)
theorem cp_lt (p : Int32) (j : Nat) : cp p j < 8 := Nat.mod_lt _ (by decide)
section
variable {f_alphabet f_countLimit f_arena f_capacity f_shut f_gap f_codeLen f_lastLevel f_lastEscapes f_lastCum f_lastFreq f_lastTotal : Int32} {a_said a_done a_start a_again a_range a_width a_low a_high a_code a_n a_out : Nat → Int32}
theorem yl_t144 {post : SY → Prop} {J : Int32 → (Nat → Int32) → (Nat → Int32) → (Nat → Int32) → (Nat → Int32) → (Nat → Int32) → (Nat → Int32) → (Nat → Int32) → (Nat → Int32) → (Nat → Int32) → (Nat → Int32) → (Nat → Int32) → Prop} {x1 x2 x3 x4 : Int32} {i : Nat} {c : Nat → Nat} (hc : ∀ t, c t ≤ 16)
    (K : ∀ nn : Nat → Int32, (∀ t, t < 8 → nn t = nI ((c t + 1) / 2)) → J (nI (i + 1)) a_said a_done a_start a_again a_range a_width a_low a_high a_code nn a_out) :
    ∀ d t, t + d = 8 → ∀ n, d < n → ∀ nn : Nat → Int32, (∀ u, u < t → nn u = nI ((c u + 1) / 2)) → (∀ u, t ≤ u → u < 8 → nn u = nI (c u)) → wY_tally_144 post J x1 x2 x3 x4 (nI i) f_alphabet f_countLimit f_arena f_capacity f_shut f_gap f_codeLen f_lastLevel f_lastEscapes f_lastCum f_lastFreq f_lastTotal n (nI t) a_said a_done a_start a_again a_range a_width a_low a_high a_code nn a_out := by
  intro d
  induction d with
  | zero =>
    intro t ht n hn nn h1 h2
    obtain ⟨m, rfl⟩ : ∃ m, n = m + 1 := ⟨n - 1, by omega⟩
    have e : t = 8 := by omega
    subst e
    exact br_t (nI_le (a := 8) (b := 8) (by omega) (by omega)) (nm_r (nI_1 i) (K nn h1))
  | succ d ih =>
    intro t ht n hn nn h1 h2
    obtain ⟨m, rfl⟩ : ∃ m, n = m + 1 := ⟨n - 1, by omega⟩
    have b := hc t
    have e2 : nI (c t + 1) / 2 = nI ((c t + 1) / 2) := pk_div (d := 2) (by omega) (by omega) (by omega)
    refine br_f (nI_ge (b := 8) (by omega) (by omega)) ⟨pk_in t 8 (by omega), by decide, pk_in t 8 (by omega), nm_r (e' := upd nn t (nI ((c t + 1) / 2))) (by rw [nI_clamp (by omega), h2 t (by omega) (by omega), nI_1, e2]) (nm_r (nI_1 t) ?_)⟩
    refine ih (t + 1) (by omega) m (by omega) _ (fun u hu => ?_) (fun u h3 h4 => ?_)
    · by_cases e : u = t
      · rw [e]; exact pk_us
      · rw [pk_un e]; exact h1 u (by omega)
    · rw [pk_un (by omega)]; exact h2 u (by omega) h4
/-- one place of the history -/
theorem yl_t57 {post : SY → Prop} {J : Int32 → (Nat → Int32) → (Nat → Int32) → (Nat → Int32) → (Nat → Int32) → (Nat → Int32) → (Nat → Int32) → (Nat → Int32) → (Nat → Int32) → (Nat → Int32) → (Nat → Int32) → (Nat → Int32) → Prop} {p : Int32} {lim sd st d g len i : _} {cc : Nat → Nat} (hl : 2 ≤ lim) (hl5 : lim ≤ 15) (hs2 : sd < 2) (hlen : len ≤ 3) (Y : ys_ok sd st d g a_said a_done a_start) (hi : st + len ≤ i) (hid : i < st + d) (hcc : ∀ t, cc t ≤ lim) (hn : ∀ t, t < 8 → a_n t = nI (cc t))
    (K : ∀ nn : Nat → Int32, (∀ t, t < 8 → nn t = nI ((if (∀ j, j < len → g (i - 1 - j) = cp p j) then hx_bump lim cc (g i) else cc) t)) → J (nI (i + 1)) a_said a_done a_start a_again a_range a_width a_low a_high a_code nn a_out) :
    ∀ e j, j + e = len → ∀ n, e < n → ∀ x6 : Int32, ((x6 = 1 ∧ ∀ a, a < j → g (i - 1 - a) = cp p a) ∨ (x6 = 0 ∧ ¬ ∀ a, a < j → g (i - 1 - a) = cp p a)) → wY_tally_57 post J (nI sd) (nI len) p (nI (96 * sd)) (nI i) f_alphabet (nI lim) f_arena f_capacity f_shut f_gap f_codeLen f_lastLevel f_lastEscapes f_lastCum f_lastFreq f_lastTotal a_said a_done a_start a_again a_range a_width a_low a_high a_code a_n a_out n x6 (nI (j + 1)) := by
  obtain ⟨y1, y2, y3, y4⟩ := Y
  intro e
  induction e with
  | zero =>
    intro j hj n hn' x6 hx
    obtain ⟨m, rfl⟩ : ∃ m, n = m + 1 := ⟨n - 1, by omega⟩
    have ej : j = len := by omega
    subst ej
    refine br_t (nI_lt (by omega) (by omega)) ?_
    rcases hx with ⟨rfl, hx⟩ | ⟨rfl, hx⟩
    · have gi := y4 i hid
      have b := hcc (g i)
      rw [if_pos hx] at K
      refine br_f (by decide) ⟨pk_in (96 * sd + i) 192 (by omega) (nI_add _ _), nm_r (e' := nI (g i)) (by rw [nI_add, nI_clamp (by omega)]; exact gi.1) ⟨pk_in (g i) 8 gi.2, pk_in (g i) 8 gi.2, nm_r (e' := upd a_n (g i) (nI (cc (g i) + 1))) (by rw [nI_clamp (by omega), hn _ gi.2, nI_1]) ⟨pk_in (g i) 8 gi.2, ?_⟩⟩⟩
      have e1 : upd a_n (g i) (nI (cc (g i) + 1)) (nI (g i)).toNatClampNeg = nI (cc (g i) + 1) := by rw [nI_clamp (by omega), pk_us]
      have e2 : ∀ t, t < 8 → upd a_n (g i) (nI (cc (g i) + 1)) t = nI (if t = g i then cc (g i) + 1 else cc t) := by
        intro t ht
        by_cases e : t = g i
        · rw [e, pk_us, if_pos rfl]
        · rw [pk_un e, if_neg e]; exact hn t ht
      rw [e1]
      refine pk_le (cc (g i) + 1) lim (fun z => nm_r (nI_1 i) (K _ (fun t ht => ?_))) (fun z => ⟨9, ?_⟩)
      · rw [e2 t ht]
        unfold hx_bump
        rw [if_neg (Nat.not_lt.mpr z)]
      · refine yl_t144 (c := fun t => if t = g i then cc (g i) + 1 else cc t) (fun t => ?_) (fun nn h => K nn (fun t ht => ?_)) 8 0 rfl 9 (by omega) _ (fun u h => absurd h (Nat.not_lt_zero _)) (fun u _ hu => e2 u hu)
        · have := hcc t
          show (if t = g i then cc (g i) + 1 else cc t) ≤ 16
          split <;> omega
        · rw [h t ht]
          unfold hx_bump
          rw [if_pos z]
    · rw [if_neg hx] at K
      exact br_t rfl (nm_r (nI_1 i) (K a_n hn))
  | succ e ih =>
    intro j hj n hn' x6 hx
    obtain ⟨m, rfl⟩ : ∃ m, n = m + 1 := ⟨n - 1, by omega⟩
    have gi := y4 (i - 1 - j) (by omega)
    have ei : nI (96 * sd) + nI i - nI (j + 1) = nI (96 * sd + (i - 1 - j)) := by
      rw [nI_add, pk_sub (by omega)]
      exact congrArg nI (by omega)
    refine br_f (nI_nlt (by omega) (by omega)) ⟨pk_in (96 * sd + (i - 1 - j)) 192 (by omega) ei, ?_⟩
    have es : a_said (nI (96 * sd) + nI i - nI (j + 1)).toNatClampNeg = nI (g (i - 1 - j)) := by rw [ei, nI_clamp (by omega)]; exact gi.1
    have ep : (p >>> ((3 * (nI (j + 1) - 1)) &&& 31)) &&& 7 = nI (cp p j) := by rw [nI_pred]; exact cp_eq p j
    have b := cp_lt p j
    rw [es, ep]
    refine pk_eq (g (i - 1 - j)) (cp p j) (fun z => nm_r (nI_1 (j + 1)) (ih (j + 1) (by omega) m (by omega) x6 ?_)) (fun z => nm_r (nI_1 (j + 1)) (ih (j + 1) (by omega) m (by omega) 0 (Or.inr ⟨rfl, fun q => z (q j (by omega))⟩)))
    rcases hx with ⟨e1, hx⟩ | ⟨e1, hx⟩
    · refine Or.inl ⟨e1, fun a ha => ?_⟩
      by_cases q : a = j
      · rw [q]; exact z
      · exact hx a (by omega)
    · exact Or.inr ⟨e1, fun q => hx (fun a ha => q a (by omega))⟩
theorem yl_t40 {post : SY → Prop} {p : Int32} {lim sd st d g len : _} (hl : 2 ≤ lim) (hl5 : lim ≤ 15) (hs2 : sd < 2) (hlen : len ≤ 3) (Y : ys_ok sd st d g a_said a_done a_start)
    (K : ∀ nn : Nat → Int32, (∀ t, t < 8 → nn t = nI (hx_cnt lim (hs g st d) (cl (cp p) len) t)) → post (f_alphabet, nI lim, f_arena, f_capacity, f_shut, f_gap, f_codeLen, f_lastLevel, f_lastEscapes, f_lastCum, f_lastFreq, f_lastTotal, a_said, a_done, a_start, a_again, a_range, a_width, a_low, a_high, a_code, nn, a_out)) :
    ∀ e i, i + e = d → len ≤ i → ∀ n, e < n → ∀ nn : Nat → Int32, (∀ t, t < 8 → nn t = nI (hx_cnt lim (hs g st i) (cl (cp p) len) t)) → wY_tally_40 post (nI sd) (nI len) p (nI (96 * sd)) f_alphabet (nI lim) f_arena f_capacity f_shut f_gap f_codeLen f_lastLevel f_lastEscapes f_lastCum f_lastFreq f_lastTotal n (nI (st + i)) a_said a_done a_start a_again a_range a_width a_low a_high a_code nn a_out := by
  have Y' := Y
  obtain ⟨y1, y2, y3, y4⟩ := Y'
  have ed : a_done (nI sd).toNatClampNeg = nI (st + d) := by rw [nI_clamp (by omega)]; exact y3
  intro e
  induction e with
  | zero =>
    intro i hi hli n hn nn h
    obtain ⟨m, rfl⟩ : ∃ m, n = m + 1 := ⟨n - 1, by omega⟩
    have ej : i = d := by omega
    subst ej
    refine ⟨pk_in sd 2 hs2, br_t ?_ (K nn h)⟩
    rw [ed]; exact nI_le (Nat.le_refl _) (by omega)
  | succ e ih =>
    intro i hi hli n hn nn h
    obtain ⟨m, rfl⟩ : ∃ m, n = m + 1 := ⟨n - 1, by omega⟩
    refine ⟨pk_in sd 2 hs2, br_f ?_ ⟨len + 1, ?_⟩⟩
    · rw [ed]; exact nI_ge (by omega) (by omega)
    · refine yl_t57 (i := st + i) (cc := hx_cnt lim (hs g st i) (cl (cp p) len)) hl hl5 hs2 hlen Y (by omega) (by omega) (hx_cnt_le hl _ _) h (fun nn' h' => ?_) len 0 (by omega) (len + 1) (by omega) 1 (Or.inl ⟨rfl, fun a ha => absurd ha (Nat.not_lt_zero _)⟩)
      refine ih (i + 1) (by omega) (by omega) m (by omega) nn' (fun t ht => ?_)
      rw [h' t ht]
      show _ = nI (hx_cnt lim (g (st + i) :: hs g st i) (cl (cp p) len) t)
      by_cases q : cl (cp p) len <+: hs g st i
      · rw [hx_cnt_t q, if_pos ((cl_pre g st len (cp p) i).mp q).2]
      · rw [hx_cnt_f q, if_neg (fun z => q ((cl_pre g st len (cp p) i).mpr ⟨hli, z⟩))]
theorem yl_tally {post : SY → Prop} {p : Int32} {lim sd st d g len : _} (hl : 2 ≤ lim) (hl5 : lim ≤ 15) (hs2 : sd < 2) (hlen : len ≤ 3) (Y : ys_ok sd st d g a_said a_done a_start)
    (K : ∀ nn : Nat → Int32, (∀ t, t < 8 → nn t = nI (hx_cnt lim (hs g st d) (cl (cp p) len) t)) → post (f_alphabet, nI lim, f_arena, f_capacity, f_shut, f_gap, f_codeLen, f_lastLevel, f_lastEscapes, f_lastCum, f_lastFreq, f_lastTotal, a_said, a_done, a_start, a_again, a_range, a_width, a_low, a_high, a_code, nn, a_out)) :
    wpY_tally post (f_alphabet, nI lim, f_arena, f_capacity, f_shut, f_gap, f_codeLen, f_lastLevel, f_lastEscapes, f_lastCum, f_lastFreq, f_lastTotal, a_said, a_done, a_start, a_again, a_range, a_width, a_low, a_high, a_code, a_n, a_out) (nI sd) (nI len) p := by
  have y2 := Y.2.1
  have y3 := Y.2.2.1
  have y1 := Y.1
  have ed : a_done (nI sd).toNatClampNeg = nI (st + d) := by rw [nI_clamp (by omega)]; exact y3
  have main : ∀ e t, t + e = 8 → ∀ n, e < n → ∀ nn : Nat → Int32, (∀ u, u < t → nn u = 0) → wY_tally_9 post (nI sd) (nI len) p (nI (96 * sd)) f_alphabet (nI lim) f_arena f_capacity f_shut f_gap f_codeLen f_lastLevel f_lastEscapes f_lastCum f_lastFreq f_lastTotal n (nI t) a_said a_done a_start a_again a_range a_width a_low a_high a_code nn a_out := by
    intro e
    induction e with
    | zero =>
      intro t ht n hn nn h
      obtain ⟨m, rfl⟩ : ∃ m, n = m + 1 := ⟨n - 1, by omega⟩
      have ej : t = 8 := by omega
      subst ej
      refine br_t (nI_le (a := 8) (b := 8) (by omega) (by omega)) ⟨pk_in sd 2 hs2, nm_r (e' := nI (st + len)) (by rw [nI_clamp (by omega), y2, nI_add]) ?_⟩
      by_cases z : len ≤ d
      · refine ⟨d - len + 1, yl_t40 hl hl5 hs2 hlen Y K (d - len) len (by omega) (Nat.le_refl _) (d - len + 1) (by omega) nn (fun t ht => ?_)⟩
        rw [hx_cnt_short _ _ (by rw [hs_len, cl_len]; exact Nat.le_refl _), h t ht]
        rfl
      · refine ⟨1, pk_in sd 2 hs2, br_t ?_ (K nn (fun t ht => ?_))⟩
        · rw [ed]; exact nI_le (by omega) (by omega)
        · rw [hx_cnt_short _ _ (by rw [hs_len, cl_len]; omega), h t ht]
          rfl
    | succ e ih =>
      intro t ht n hn nn h
      obtain ⟨m, rfl⟩ : ∃ m, n = m + 1 := ⟨n - 1, by omega⟩
      refine br_f (nI_ge (b := 8) (by omega) (by omega)) ⟨pk_in t 8 (by omega), nm_r (e' := upd nn t 0) (by rw [nI_clamp (by omega)]) (nm_r (nI_1 t) (ih (t + 1) (by omega) m (by omega) _ (fun u hu => ?_)))⟩
      by_cases q : u = t
      · rw [q]; exact pk_us
      · rw [pk_un q]; exact h u (by omega)
  exact nm_r (ix_96 sd) ⟨9, main 8 0 rfl 9 (by omega) a_n (fun u h => absurd h (Nat.not_lt_zero _))⟩
end
end
section
/-! ===== Y: order, recent, strings ===== -/
def pk8 (c : Nat → Nat) : Nat → Nat
  | 0 => 0
  | k + 1 => pk8 c k + c k * 8 ^ k
theorem hs_top (g : Nat → Nat) (st d : Nat) : hx_top (hs g st d) = if d < 3 then d else 3 := by unfold hx_top; rw [hs_len]
theorem sh3 : ∀ j, j < 3 → (((3 * nI j) &&& 31).toBitVec.smod 32).toNat = 3 * j := by decide +kernel
theorem pk8_lt {c : Nat → Nat} (hc : ∀ j, j < 3 → c j < 8) : ∀ k, k ≤ 3 → pk8 c k < 8 ^ k := by
  intro k hk
  have c0 := hc 0 (by omega)
  have c1 := hc 1 (by omega)
  have c2 := hc 2 (by omega)
  rcases (by omega : k = 0 ∨ k = 1 ∨ k = 2 ∨ k = 3) with rfl | rfl | rfl | rfl
  · show 0 < 1; decide
  · show 0 + c 0 * 1 < 8; omega
  · show 0 + c 0 * 1 + c 1 * 8 < 64; omega
  · show 0 + c 0 * 1 + c 1 * 8 + c 2 * 64 < 512; omega
theorem pk8_dig {c : Nat → Nat} {k : Nat} (hk : k ≤ 3) (hc : ∀ j, j < k → c j < 8) (j : Nat) (hj : j < k) : pk8 c k / 2 ^ (3 * j) % 8 = c j := by
  rcases (by omega : k = 1 ∨ k = 2 ∨ k = 3) with rfl | rfl | rfl
  · have c0 := hc 0 (by omega)
    have : j = 0 := by omega
    subst this
    show (0 + c 0 * 1) / 1 % 8 = c 0
    omega
  · have c0 := hc 0 (by omega)
    have c1 := hc 1 (by omega)
    rcases (by omega : j = 0 ∨ j = 1) with rfl | rfl
    · show (0 + c 0 * 1 + c 1 * 8) / 1 % 8 = c 0; omega
    · show (0 + c 0 * 1 + c 1 * 8) / 8 % 8 = c 1; omega
  · have c0 := hc 0 (by omega)
    have c1 := hc 1 (by omega)
    have c2 := hc 2 (by omega)
    rcases (by omega : j = 0 ∨ j = 1 ∨ j = 2) with rfl | rfl | rfl
    · show (0 + c 0 * 1 + c 1 * 8 + c 2 * 64) / 1 % 8 = c 0; omega
    · show (0 + c 0 * 1 + c 1 * 8 + c 2 * 64) / 8 % 8 = c 1; omega
    · show (0 + c 0 * 1 + c 1 * 8 + c 2 * 64) / 64 % 8 = c 2; omega
theorem cp_nI {P j : Nat} (hP : P < 2 ^ 31) (hj : j < 3) : cp (nI P) j = P / 2 ^ (3 * j) % 8 := by
  unfold cp
  have h2 : P / 2 ^ (3 * j) ≤ P := Nat.div_le_self _ _
  rw [pk_shrN hP _ (3 * j) (sh3 j hj), pk_tn (by omega)]
theorem pack_dig {g : Nat → Nat} {st : Nat} : ∀ (j d : Nat), j < 3 → j < d → (∀ i, i < st + d → g i < 8) → hx_pack (hs g st d) / 2 ^ (3 * j) % 8 = g (st + d - 1 - j)
  | 0, d + 1, _, _, hb => by
    show (hx_pack (hs g st d) * 8 + g (st + d)) % 512 / 1 % 8 = _
    have := hb (st + d) (by omega)
    rw [show st + (d + 1) - 1 - 0 = st + d by omega]
    omega
  | j + 1, d + 1, h3, hj, hb => by
    have ih := pack_dig (g := g) (st := st) j d (by omega) (by omega) (fun i hi => hb i (by omega))
    have := hb (st + d) (by omega)
    rw [show st + (d + 1) - 1 - (j + 1) = st + d - 1 - j by omega, ← ih]
    show (hx_pack (hs g st d) * 8 + g (st + d)) % 512 / 2 ^ (3 * (j + 1)) % 8 = _
    rcases (by omega : j = 0 ∨ j = 1) with rfl | rfl
    · show (hx_pack (hs g st d) * 8 + g (st + d)) % 512 / 8 % 8 = hx_pack (hs g st d) / 1 % 8; omega
    · show (hx_pack (hs g st d) * 8 + g (st + d)) % 512 / 64 % 8 = hx_pack (hs g st d) / 8 % 8; omega
section
variable {f_alphabet f_countLimit f_arena f_capacity f_shut f_gap f_codeLen f_lastLevel f_lastEscapes f_lastCum f_lastFreq f_lastTotal : Int32} {a_said a_done a_start a_again a_range a_width a_low a_high a_code a_n a_out : Nat → Int32}
theorem yl_order {post : Int32 → Prop} {sd st d g : _} (hs2 : sd < 2) (Y : ys_ok sd st d g a_said a_done a_start) (K : post (nI (hx_top (hs g st d)))) : wpY_order post (f_alphabet, f_countLimit, f_arena, f_capacity, f_shut, f_gap, f_codeLen, f_lastLevel, f_lastEscapes, f_lastCum, f_lastFreq, f_lastTotal, a_said, a_done, a_start, a_again, a_range, a_width, a_low, a_high, a_code, a_n, a_out) (nI sd) := by
  obtain ⟨y1, y2, y3, y4⟩ := Y
  rw [hs_top] at K
  refine ⟨pk_in sd 2 hs2, pk_in sd 2 hs2, nm_r (e' := nI d) ?_ (pk_le 3 d (fun z => ?_) (fun z => ?_))⟩
  · rw [nI_clamp (by omega), y2, y3, pk_sub (by omega)]
    exact congrArg nI (by omega)
  · rw [if_neg (by omega)] at K; exact K
  · rw [if_pos z] at K; exact K
/-- the packed context of Y: its symbols are those of the history -/
theorem yl_recent {post : Int32 → Prop} {sd st d g : _} (hs2 : sd < 2) (Y : ys_ok sd st d g a_said a_done a_start) (K : ∀ p : Int32, (∀ j, j < hx_top (hs g st d) → cp p j = g (st + d - 1 - j)) → post p) : wpY_recent post (f_alphabet, f_countLimit, f_arena, f_capacity, f_shut, f_gap, f_codeLen, f_lastLevel, f_lastEscapes, f_lastCum, f_lastFreq, f_lastTotal, a_said, a_done, a_start, a_again, a_range, a_width, a_low, a_high, a_code, a_n, a_out) (nI sd) := by
  have Y' := Y
  obtain ⟨y1, y2, y3, y4⟩ := Y'
  have ht := hx_top_le (hs g st d)
  have htl := hx_top_len (hs g st d)
  rw [hs_len] at htl
  have ed : a_done (nI sd).toNatClampNeg = nI (st + d) := by rw [nI_clamp (by omega)]; exact y3
  unfold wpY_recent
  refine yl_order hs2 Y ⟨hx_top (hs g st d) + 1, ?_⟩
  have hc : ∀ k, k ≤ hx_top (hs g st d) → ∀ j, j < k → g (st + d - 1 - j) < 8 := fun k hk j hj => (y4 _ (by omega)).2
  have main : ∀ e k, k + e = hx_top (hs g st d) → ∀ n, e < n → wY_recent_11 post (nI sd) (nI (hx_top (hs g st d))) f_alphabet f_countLimit f_arena f_capacity f_shut f_gap f_codeLen f_lastLevel f_lastEscapes f_lastCum f_lastFreq f_lastTotal a_said a_done a_start a_again a_range a_width a_low a_high a_code a_n a_out n (nI (pk8 (fun j => g (st + d - 1 - j)) k)) (nI (k + 1)) := by
    intro e
    induction e with
    | zero =>
      intro k hk n hn
      obtain ⟨m, rfl⟩ : ∃ m, n = m + 1 := ⟨n - 1, by omega⟩
      have ek : k = hx_top (hs g st d) := by omega
      refine br_t (nI_lt (by omega) (by omega)) (K _ (fun j hj => ?_))
      have lt : pk8 (fun j => g (st + d - 1 - j)) k < 2 ^ 31 := by
        have h1 : pk8 (fun j => g (st + d - 1 - j)) k < 512 := by
          have h0 : ∀ j, j < k → g (st + d - 1 - j) < 8 := hc k (by omega)

          rcases (by omega : k = 0 ∨ k = 1 ∨ k = 2 ∨ k = 3) with q | q | q | q
          · rw [q]; show 0 < 512; decide
          · rw [q]; rw [q] at h0
            have c0 := h0 0 (by omega)
            show 0 + g (st + d - 1 - 0) * 1 < 512; omega
          · rw [q]; rw [q] at h0
            have c0 := h0 0 (by omega)
            have c1 := h0 1 (by omega)
            show 0 + g (st + d - 1 - 0) * 1 + g (st + d - 1 - 1) * 8 < 512; omega
          · rw [q]; rw [q] at h0
            have c0 := h0 0 (by omega)
            have c1 := h0 1 (by omega)
            have c2 := h0 2 (by omega)
            show 0 + g (st + d - 1 - 0) * 1 + g (st + d - 1 - 1) * 8 + g (st + d - 1 - 2) * 64 < 512; omega
        omega
      rw [cp_nI lt (by omega)]
      exact pk8_dig (c := fun j => g (st + d - 1 - j)) (by omega) (hc k (by omega)) j (by omega)
    | succ e ih =>
      intro k hk n hn
      obtain ⟨m, rfl⟩ : ∃ m, n = m + 1 := ⟨n - 1, by omega⟩
      have gi := y4 (st + d - 1 - k) (by omega)
      have ei : 96 * nI sd + a_done (nI sd).toNatClampNeg - nI (k + 1) = nI (96 * sd + (st + d - 1 - k)) := by
        rw [ed, ix_96, nI_add, pk_sub (by omega)]
        exact congrArg nI (by omega)
      have es : a_said (96 * nI sd + a_done (nI sd).toNatClampNeg - nI (k + 1)).toNatClampNeg = nI (g (st + d - 1 - k)) := by rw [ei, nI_clamp (by omega)]; exact gi.1
      have e8 : 2 ^ (3 * k) = 8 ^ k := by rw [Nat.pow_mul]
      have b8 : 8 ^ k ≤ 8 ^ 2 := Nat.pow_le_pow_right (by omega) (by omega)
      refine br_f (nI_nlt (by omega) (by omega)) ⟨pk_in sd 2 hs2, pk_in (96 * sd + (st + d - 1 - k)) 192 (by omega) ei, nm_r (e' := nI (pk8 (fun j => g (st + d - 1 - j)) (k + 1))) ?_ (nm_r (nI_1 (k + 1)) (ih (k + 1) (by omega) m (by omega)))⟩
      rw [es, nI_pred, pk_shlN _ (3 * k) (sh3 k (by omega)) ?_, nI_add, e8]
      · rfl
      · rw [e8]
        have h1 : g (st + d - 1 - k) * 8 ^ k ≤ 8 * 8 ^ 2 := Nat.mul_le_mul (by omega) b8
        omega
  exact main (hx_top (hs g st d)) 0 (by omega) (hx_top (hs g st d) + 1) (by omega)
/-- one place j compared with place i over k + 1 symbols -/
theorem yl_s92 {post : Int32 → Prop} {J26 J40 J74 : Int32 → Int32 → Prop} {x3 : Int32} {sd st d g i j k : _} (hs2 : sd < 2) (hk : k ≤ 3) (Y : ys_ok sd st d g a_said a_done a_start) (hi : i < st + d) (hj : j < i) (hjk : st + k ≤ j)
    (K : ∀ x6 : Int32, ((x6 = 1 ∧ ∀ a, a ≤ k → g (j - a) = g (i - a)) ∨ (x6 = 0 ∧ ¬ ∀ a, a ≤ k → g (j - a) = g (i - a))) → J74 x6 (nI (j + 1))) :
    ∀ e a, a + e = k + 1 → ∀ n, e < n → ∀ x6 : Int32, ((x6 = 1 ∧ ∀ b, b < a → g (j - b) = g (i - b)) ∨ (x6 = 0 ∧ ¬ ∀ b, b < a → g (j - b) = g (i - b))) → wY_strings_92 post J26 J40 J74 (nI sd) (nI (96 * sd)) x3 (nI i) (nI k) (nI j) f_alphabet f_countLimit f_arena f_capacity f_shut f_gap f_codeLen f_lastLevel f_lastEscapes f_lastCum f_lastFreq f_lastTotal a_said a_done a_start a_again a_range a_width a_low a_high a_code a_n a_out n x6 (nI a) := by
  obtain ⟨y1, y2, y3, y4⟩ := Y
  intro e
  induction e with
  | zero =>
    intro a ha n hn x6 hx
    obtain ⟨m, rfl⟩ : ∃ m, n = m + 1 := ⟨n - 1, by omega⟩
    refine br_t (nI_lt (by omega) (by omega)) (nm_r (nI_1 j) (K x6 ?_))
    have ea : a = k + 1 := by omega
    subst ea
    rcases hx with ⟨e1, hx⟩ | ⟨e1, hx⟩
    · exact Or.inl ⟨e1, fun b hb => hx b (by omega)⟩
    · exact Or.inr ⟨e1, fun q => hx (fun b hb => q b (by omega))⟩
  | succ e ih =>
    intro a ha n hn x6 hx
    obtain ⟨m, rfl⟩ : ∃ m, n = m + 1 := ⟨n - 1, by omega⟩
    have e1 : nI (96 * sd) + nI j - nI a = nI (96 * sd + (j - a)) := by
      rw [nI_add, pk_sub (by omega)]
      exact congrArg nI (by omega)
    have e2 : nI (96 * sd) + nI i - nI a = nI (96 * sd + (i - a)) := by
      rw [nI_add, pk_sub (by omega)]
      exact congrArg nI (by omega)
    have g1 := y4 (j - a) (by omega)
    have g2 := y4 (i - a) (by omega)
    have s1 : a_said (nI (96 * sd) + nI j - nI a).toNatClampNeg = nI (g (j - a)) := by rw [e1, nI_clamp (by omega)]; exact g1.1
    have s2 : a_said (nI (96 * sd) + nI i - nI a).toNatClampNeg = nI (g (i - a)) := by rw [e2, nI_clamp (by omega)]; exact g2.1
    refine br_f (nI_nlt (by omega) (by omega)) ⟨pk_in (96 * sd + (j - a)) 192 (by omega) e1, pk_in (96 * sd + (i - a)) 192 (by omega) e2, ?_⟩
    rw [s1, s2]
    refine pk_eq (g (j - a)) (g (i - a)) (fun z => nm_r (nI_1 a) (ih (a + 1) (by omega) m (by omega) x6 ?_)) (fun z => nm_r (nI_1 a) (ih (a + 1) (by omega) m (by omega) 0 (Or.inr ⟨rfl, fun q => z (q a (by omega))⟩)))
    rcases hx with ⟨e1, hx⟩ | ⟨e1, hx⟩
    · refine Or.inl ⟨e1, fun b hb => ?_⟩
      by_cases q : b = a
      · rw [q]; exact z
      · exact hx b (by omega)
    · exact Or.inr ⟨e1, fun q => hx (fun b hb => q b (by omega))⟩
theorem yl_s74 {post : Int32 → Prop} {J26 J40 : Int32 → Int32 → Prop} {f : Nat} {sd st d g i k : _} (hs2 : sd < 2) (hk : k ≤ 3) (Y : ys_ok sd st d g a_said a_done a_start) (hi : i < st + d) (hik : st + k ≤ i)
    (K1 : (∃ j, st + k ≤ j ∧ j < i ∧ ∀ a, a ≤ k → g (j - a) = g (i - a)) → J40 (nI f) (nI (k + 1))) (K0 : (¬ ∃ j, st + k ≤ j ∧ j < i ∧ ∀ a, a ≤ k → g (j - a) = g (i - a)) → J40 (nI (f + 1)) (nI (k + 1))) :
    ∀ e j, j + e = i → st + k ≤ j → ∀ n, e < n → ∀ x6 : Int32, ((x6 = 1 ∧ ∃ j', st + k ≤ j' ∧ j' < j ∧ ∀ a, a ≤ k → g (j' - a) = g (i - a)) ∨ (x6 = 0 ∧ ¬ ∃ j', st + k ≤ j' ∧ j' < j ∧ ∀ a, a ≤ k → g (j' - a) = g (i - a))) → wY_strings_74 post J26 J40 (nI sd) (nI (96 * sd)) (nI f) (nI i) (nI k) f_alphabet f_countLimit f_arena f_capacity f_shut f_gap f_codeLen f_lastLevel f_lastEscapes f_lastCum f_lastFreq f_lastTotal a_said a_done a_start a_again a_range a_width a_low a_high a_code a_n a_out n x6 (nI j) := by
  have y1 := Y.1
  have c1 : ∀ j, j ≤ i → (∃ j', st + k ≤ j' ∧ j' < j ∧ ∀ a, a ≤ k → g (j' - a) = g (i - a)) → wY_strings_141 post J26 J40 (nI sd) (nI (96 * sd)) (nI f) (nI i) (nI k) 1 f_alphabet f_countLimit f_arena f_capacity f_shut f_gap f_codeLen f_lastLevel f_lastEscapes f_lastCum f_lastFreq f_lastTotal a_said a_done a_start a_again a_range a_width a_low a_high a_code a_n a_out := by
    intro j hj ⟨j', q1, q2, q3⟩
    exact br_f (by decide) (nm_r (nI_1 k) (K1 ⟨j', q1, by omega, q3⟩))
  intro e
  induction e with
  | zero =>
    intro j hj hjk n hn x6 hx
    obtain ⟨m, rfl⟩ : ∃ m, n = m + 1 := ⟨n - 1, by omega⟩
    have ej : j = i := by omega
    subst ej
    refine br_t (nI_le (Nat.le_refl _) (by omega)) ?_
    rcases hx with ⟨rfl, hx⟩ | ⟨rfl, hx⟩
    · exact c1 j (Nat.le_refl _) hx
    · exact br_t rfl (nm_r (nI_1 f) (nm_r (nI_1 k) (K0 hx)))
  | succ e ih =>
    intro j hj hjk n hn x6 hx
    obtain ⟨m, rfl⟩ : ∃ m, n = m + 1 := ⟨n - 1, by omega⟩
    refine br_f (nI_ge (by omega) (by omega)) ?_
    rcases hx with ⟨rfl, hx⟩ | ⟨rfl, hx⟩
    · exact br_f (by decide) (c1 j (by omega) hx)
    · refine br_t rfl ⟨k + 2, ?_⟩
      refine yl_s92 hs2 hk Y hi (by omega) hjk (fun x6 h6 => ih (j + 1) (by omega) (by omega) m (by omega) x6 ?_) (k + 1) 0 (by omega) (k + 2) (by omega) 1 (Or.inl ⟨rfl, fun b hb => absurd hb (Nat.not_lt_zero _)⟩)
      rcases h6 with ⟨e6, h6⟩ | ⟨e6, h6⟩
      · exact Or.inl ⟨e6, j, hjk, by omega, h6⟩
      · refine Or.inr ⟨e6, fun ⟨j', q1, q2, q3⟩ => ?_⟩
        by_cases q : j' = j
        · rw [q] at q3; exact h6 q3
        · exact hx ⟨j', q1, by omega, q3⟩
/-- the string of k + 1 symbols at place i stands in the history before -/
theorem hs_seen {lim : Nat} {g : Nat → Nat} {st i k : Nat} (hk : st + k ≤ i) : (∃ j, st + k ≤ j ∧ j < i ∧ ∀ a, a ≤ k → g (j - a) = g (i - a)) ↔ 0 < hx_cnt lim (hs g st (i - st)) ((hs g st (i - st)).take k) (g i) := by
  have e := cl_take g st k (fun a => g (i - 1 - a)) (i - st) (by omega) (fun j hj => by rw [show st + (i - st) - 1 - j = i - 1 - j by omega])
  rw [← e, hs_cnt]
  constructor
  · rintro ⟨j, h1, h2, h3⟩
    refine ⟨j - st, by omega, by omega, ?_, fun a ha => ?_⟩
    · rw [show st + (j - st) = j by omega]
      exact h3 0 (by omega)
    · have := h3 (a + 1) (by omega)
      rw [show st + (j - st) - 1 - a = j - (a + 1) by omega]
      rw [this, show i - (a + 1) = i - 1 - a by omega]
  · rintro ⟨j, h1, h2, h3, h4⟩
    refine ⟨st + j, by omega, by omega, fun a ha => ?_⟩
    cases a with
    | zero => exact h3
    | succ a =>
      have := h4 a (by omega)
      rw [show st + j - (a + 1) = st + j - 1 - a by omega, this, show i - (a + 1) = i - 1 - a by omega]
theorem yl_s40 {post : Int32 → Prop} {J26 : Int32 → Int32 → Prop} {lim f : Nat} {sd st d g i : _} (hs2 : sd < 2) (Y : ys_ok sd st d g a_said a_done a_start) (hi : i < d)
    (K : J26 (nI (f + hx_fresh lim (hs g st i) (g (st + i)))) (nI (st + i + 1))) :
    ∀ e k, k + e = hx_top (hs g st i) + 1 → ∀ n, e < n → wY_strings_40 post J26 (nI sd) (nI (96 * sd)) (nI (st + i)) f_alphabet f_countLimit f_arena f_capacity f_shut f_gap f_codeLen f_lastLevel f_lastEscapes f_lastCum f_lastFreq f_lastTotal a_said a_done a_start a_again a_range a_width a_low a_high a_code a_n a_out n (nI (f + hx_fr lim (hs g st i) (g (st + i)) k)) (nI k) := by
  have y1 := Y.1
  have y2 := Y.2.1
  have ht := hx_top_le (hs g st i)
  have ht2 := hs_top g st i
  have es : nI (st + i) - a_start (nI sd).toNatClampNeg = nI i := by
    rw [nI_clamp (by omega), y2, pk_sub (by omega)]
    exact congrArg nI (by omega)
  intro e
  induction e with
  | zero =>
    intro k hk n hn
    obtain ⟨m, rfl⟩ : ∃ m, n = m + 1 := ⟨n - 1, by omega⟩
    have ek : k = hx_top (hs g st i) + 1 := by omega
    refine pk_lt 3 k (fun z => nm_r (nI_1 _) ?_) (fun z => ⟨pk_in sd 2 hs2, br_t ?_ (nm_r (nI_1 _) ?_)⟩)
    · rw [ek]; exact K
    · rw [es]
      refine nI_lt ?_ (by omega)
      by_cases q : i < 3
      · rw [if_pos q] at ht2; omega
      · rw [if_neg q] at ht2; omega
    · rw [ek]; exact K
  | succ e ih =>
    intro k hk n hn
    obtain ⟨m, rfl⟩ : ∃ m, n = m + 1 := ⟨n - 1, by omega⟩
    have hki : k ≤ i := by
      by_cases q : i < 3
      · rw [if_pos q] at ht2; omega
      · rw [if_neg q] at ht2; omega
    have fb := hx_fr_le lim (hs g st i) (g (st + i)) k
    refine br_f (nI_nlt (b := k) (a := 3) (by omega) (by omega)) ⟨pk_in sd 2 hs2, br_f ?_ ⟨pk_in sd 2 hs2, nm_r (e' := nI (st + k)) (by rw [nI_clamp (by omega), y2, nI_add]) ⟨i - k + 1, ?_⟩⟩⟩
    · rw [es]; exact nI_nlt hki (by omega)
    · have sn := hs_seen (lim := lim) (g := g) (st := st) (i := st + i) (k := k) (by omega)
      rw [show st + i - st = i by omega] at sn
      have k2 := ih (k + 1) (by omega) m (by omega)
      refine yl_s74 hs2 (by omega) Y (by omega) (by omega) (fun q => ?_) (fun q => ?_) (i - k) (st + k) (by omega) (Nat.le_refl _) (i - k + 1) (by omega) 0 (Or.inr ⟨rfl, fun ⟨j', q1, q2, _⟩ => by omega⟩)
      · have z := sn.mp q
        have e2 : hx_fr lim (hs g st i) (g (st + i)) (k + 1) = hx_fr lim (hs g st i) (g (st + i)) k := by
          show hx_fr lim (hs g st i) (g (st + i)) k + (if hx_cnt lim (hs g st i) ((hs g st i).take k) (g (st + i)) = 0 then 1 else 0) = _
          rw [if_neg (by omega)]; rfl
        rw [e2] at k2
        exact k2
      · have z : ¬ 0 < hx_cnt lim (hs g st i) ((hs g st i).take k) (g (st + i)) := fun y => q (sn.mpr y)
        have e2 : hx_fr lim (hs g st i) (g (st + i)) (k + 1) = hx_fr lim (hs g st i) (g (st + i)) k + 1 := by
          show hx_fr lim (hs g st i) (g (st + i)) k + (if hx_cnt lim (hs g st i) ((hs g st i).take k) (g (st + i)) = 0 then 1 else 0) = _
          rw [if_pos (by omega)]
        rw [e2] at k2
        exact k2
theorem yl_strings {post : Int32 → Prop} {lim : Nat} {sd st d g : _} (hs2 : sd < 2) (Y : ys_ok sd st d g a_said a_done a_start) (K : post (nI (hx_strs lim (hs g st d)))) : wpY_strings post (f_alphabet, f_countLimit, f_arena, f_capacity, f_shut, f_gap, f_codeLen, f_lastLevel, f_lastEscapes, f_lastCum, f_lastFreq, f_lastTotal, a_said, a_done, a_start, a_again, a_range, a_width, a_low, a_high, a_code, a_n, a_out) (nI sd) := by
  have y1 := Y.1
  have y2 := Y.2.1
  have y3 := Y.2.2.1
  have ed : a_done (nI sd).toNatClampNeg = nI (st + d) := by rw [nI_clamp (by omega)]; exact y3
  have main : ∀ e i, i + e = d → ∀ n, e < n → wY_strings_26 post (nI sd) (nI (96 * sd)) f_alphabet f_countLimit f_arena f_capacity f_shut f_gap f_codeLen f_lastLevel f_lastEscapes f_lastCum f_lastFreq f_lastTotal a_said a_done a_start a_again a_range a_width a_low a_high a_code a_n a_out n (nI (hx_strs lim (hs g st i))) (nI (st + i)) := by
    intro e
    induction e with
    | zero =>
      intro i hi n hn
      obtain ⟨m, rfl⟩ : ∃ m, n = m + 1 := ⟨n - 1, by omega⟩
      have ei : i = d := by omega
      subst ei
      refine ⟨pk_in sd 2 hs2, br_t ?_ K⟩
      rw [ed]; exact nI_le (Nat.le_refl _) (by omega)
    | succ e ih =>
      intro i hi n hn
      obtain ⟨m, rfl⟩ : ∃ m, n = m + 1 := ⟨n - 1, by omega⟩
      refine ⟨pk_in sd 2 hs2, br_f ?_ ⟨hx_top (hs g st i) + 2, ?_⟩⟩
      · rw [ed]; exact nI_ge (by omega) (by omega)
      · exact yl_s40 (lim := lim) (f := hx_strs lim (hs g st i)) hs2 Y (by omega) (ih (i + 1) (by omega) m (by omega)) (hx_top (hs g st i) + 1) 0 (by omega) (hx_top (hs g st i) + 2) (by omega)
  have fin : wY_strings_11 post (nI sd) f_alphabet f_countLimit f_arena f_capacity f_shut f_gap f_codeLen f_lastLevel f_lastEscapes f_lastCum f_lastFreq f_lastTotal a_said a_done a_start a_again a_range a_width a_low a_high a_code a_n a_out := nm_r (ix_96 sd) ⟨pk_in sd 2 hs2, nm_r (e' := nI st) (by rw [nI_clamp (by omega)]; exact y2) ⟨d + 1, main d 0 (by omega) (d + 1) (by omega)⟩⟩
  rcases (by omega : sd = 0 ∨ sd = 1) with q | q
  · subst q; exact br_t rfl fin
  · subst q; exact br_f (by decide) (br_t rfl fin)
end
end
section
/-! ===== Y: learning ===== -/
def YS (sd : Nat) (L : List Nat) (al : Nat) (said done start : Nat → Int32) (dn : Nat) : Prop := ∃ st d g, st + d = dn ∧ ys_ok sd st d g said done start ∧ L = hs g st d ∧ ∀ i, i < dn → g i < al
def ys_g (g : Nat → Nat) (k s : Nat) : Nat → Nat := fun i => if i = k then s else g i
theorem ys_gs {g : Nat → Nat} {k s : Nat} : ys_g g k s k = s := if_pos rfl
theorem ys_gn {g : Nat → Nat} {k s i : Nat} (h : i ≠ k) : ys_g g k s i = g i := if_neg h
theorem ys_snoc {sd st d s : Nat} {g : Nat → Nat} {said done start : Nat → Int32} (Y : ys_ok sd st d g said done start) (h8 : s < 8) (hd : st + d < 96) : ys_ok sd st (d + 1) (ys_g g (st + d) s) (upd said (96 * sd + (st + d)) (nI s)) (upd done sd (nI (st + d + 1))) start := by
  obtain ⟨y1, y2, y3, y4⟩ := Y
  refine ⟨by omega, y2, pk_us, fun i hi => ?_⟩
  by_cases e : i = st + d
  · subst e
    exact ⟨by rw [pk_us, ys_gs], by rw [ys_gs]; exact h8⟩
  · have := y4 i (by omega)
    exact ⟨by rw [pk_un (by omega), ys_gn e]; exact this.1, by rw [ys_gn e]; exact this.2⟩
section
variable {f_alphabet f_countLimit f_arena f_capacity f_shut f_gap f_codeLen f_lastLevel f_lastEscapes f_lastCum f_lastFreq f_lastTotal : Int32} {a_said a_done a_start a_again a_range a_width a_low a_high a_code a_n a_out : Nat → Int32}
theorem yl_l93 {post : SY → Prop} {al sd st d s : Nat} {g : Nat → Nat} (hs2 : sd < 2) (ha : al ≤ 8) (hsa : s < al) (Y : ys_ok sd st d g a_said a_done a_start) (hg : ∀ i, i < st + d → g i < al) (hd : st + d < 96)
    (K : YS sd (s :: hs g st d) al (upd a_said (96 * sd + (st + d)) (nI s)) (upd a_done sd (nI (st + d + 1))) a_start (st + d + 1) → post (f_alphabet, f_countLimit, f_arena, f_capacity, f_shut, f_gap, f_codeLen, f_lastLevel, f_lastEscapes, f_lastCum, f_lastFreq, f_lastTotal, upd a_said (96 * sd + (st + d)) (nI s), upd a_done sd (nI (st + d + 1)), a_start, a_again, a_range, a_width, a_low, a_high, a_code, a_n, a_out)) : wY_learn_93 post (nI sd) (nI s) f_alphabet f_countLimit f_arena f_capacity f_shut f_gap f_codeLen f_lastLevel f_lastEscapes f_lastCum f_lastFreq f_lastTotal a_said a_done a_start a_again a_range a_width a_low a_high a_code a_n a_out := by
  have y3 := Y.2.2.1
  have ed : a_done (nI sd).toNatClampNeg = nI (st + d) := by rw [nI_clamp (by omega)]; exact y3
  refine ⟨pk_in sd 2 hs2, pk_in (96 * sd + (st + d)) 192 (by omega) (by rw [ed, ix_96, nI_add]), nm_r (e' := upd a_said (96 * sd + (st + d)) (nI s)) (by rw [ed, ix_96, nI_add, nI_clamp (by omega)]) ⟨pk_in sd 2 hs2, pk_in sd 2 hs2, nm_r (e' := upd a_done sd (nI (st + d + 1))) (by rw [ed, nI_1, nI_clamp (by omega)]) (K ?_)⟩⟩
  refine ⟨st, d + 1, _, rfl, ys_snoc Y (by omega) hd, ?_, fun i hi => ?_⟩
  · show _ = ys_g g (st + d) s (st + d) :: hs _ st d
    rw [ys_gs]
    exact congrArg (s :: ·) (hs_congr d (fun i hi => (ys_gn (by omega)).symm))
  · by_cases e : i = st + d
    · rw [e, ys_gs]; exact hsa
    · rw [ys_gn e]; exact hg i (by omega)
theorem yl_l19 {post : SY → Prop} {lim al ar sd st d s : Nat} {g : Nat → Nat} {p : Int32} (hl : 2 ≤ lim) (hl5 : lim ≤ 15) (hs2 : sd < 2) (ha : al ≤ 8) (hsa : s < al) (har : ar ≤ 120) (Y : ys_ok sd st d g a_said a_done a_start) (hg : ∀ i, i < st + d → g i < al) (hd : st + d < 96) (hst : hx_strs lim (hs g st d) ≤ 120) (hp : ∀ j, j < hx_top (hs g st d) → cp p j = g (st + d - 1 - j))
    (K : ∀ (nn : Nat → Int32) (start : Nat → Int32), (∀ sd', sd' ≠ sd → start sd' = a_start sd') → YS sd (hx_next lim ar (hs g st d) s) al (upd a_said (96 * sd + (st + d)) (nI s)) (upd a_done sd (nI (st + d + 1))) start (st + d + 1) → post (f_alphabet, nI lim, nI ar, f_capacity, f_shut, f_gap, f_codeLen, f_lastLevel, f_lastEscapes, f_lastCum, f_lastFreq, f_lastTotal, upd a_said (96 * sd + (st + d)) (nI s), upd a_done sd (nI (st + d + 1)), start, if hx_strs lim (hs g st d) + hx_fresh lim (hs g st d) s ≤ ar then a_again else upd a_again sd (a_again sd + 1), a_range, a_width, a_low, a_high, a_code, nn, a_out)) :
    ∀ e k, k + e = hx_top (hs g st d) + 1 → ∀ n, e < n → ∀ nn : Nat → Int32, wY_learn_19 post (nI sd) (nI s) (nI (hx_top (hs g st d))) p n (nI (hx_fr lim (hs g st d) s k)) (nI k) f_alphabet (nI lim) (nI ar) f_capacity f_shut f_gap f_codeLen f_lastLevel f_lastEscapes f_lastCum f_lastFreq f_lastTotal a_said a_done a_start a_again a_range a_width a_low a_high a_code nn a_out := by
  have ht := hx_top_le (hs g st d)
  have htl := hx_top_len (hs g st d)
  rw [hs_len] at htl
  intro e
  induction e with
  | zero =>
    intro k hk n hn nn
    obtain ⟨m, rfl⟩ : ∃ m, n = m + 1 := ⟨n - 1, by omega⟩
    have ek : k = hx_top (hs g st d) + 1 := by omega
    subst ek
    refine br_t (nI_lt (by omega) (by omega)) ?_
    have ff : hx_fr lim (hs g st d) s (hx_top (hs g st d) + 1) = hx_fresh lim (hs g st d) s := rfl
    have fb := hx_fr_le lim (hs g st d) s (hx_top (hs g st d) + 1)
    rw [ff] at fb ⊢
    refine yl_strings (lim := lim) hs2 Y ?_
    rw [nI_add]
    refine pk_le (hx_strs lim (hs g st d) + hx_fresh lim (hs g st d) s) ar (fun z => ?_) (fun z => ?_)
    · have e2 : hx_next lim ar (hs g st d) s = s :: hs g st d := if_pos z
      rw [e2, if_pos z] at K
      exact yl_l93 hs2 ha hsa Y hg hd (fun h => K nn a_start (fun _ _ => rfl) h)
    · have e2 : hx_next lim ar (hs g st d) s = [s] := if_neg (by omega)
      rw [e2, if_neg (by omega)] at K
      obtain ⟨y1, y2, y3, y4⟩ := Y
      have ed : a_done (nI sd).toNatClampNeg = nI (st + d) := by rw [nI_clamp (by omega)]; exact y3
      refine ⟨pk_in sd 2 hs2, pk_in sd 2 hs2, nm_r (e' := upd a_start sd (nI (st + d))) (by rw [ed, nI_clamp (by omega)]) ⟨pk_in sd 2 hs2, pk_in sd 2 hs2, nm_r (e' := upd a_again sd (a_again sd + 1)) (by rw [nI_clamp (by omega)]) ?_⟩⟩
      exact yl_l93 (st := st + d) (d := 0) (g := g) hs2 ha hsa ⟨by omega, pk_us, y3, y4⟩ hg hd (fun h => K nn _ (fun _ q => pk_un q) h)
  | succ e ih =>
    intro k hk n hn nn
    obtain ⟨m, rfl⟩ : ∃ m, n = m + 1 := ⟨n - 1, by omega⟩
    refine br_f (nI_nlt (by omega) (by omega)) ?_
    refine yl_tally hl hl5 hs2 (by omega) Y (fun nn' h => ⟨pk_in s 8 (by omega), ?_⟩)
    have ec : cl (cp p) k = (hs g st d).take k := cl_take g st k (cp p) d (by omega) (fun j hj => (hp j (by omega)).symm)
    have en : nn' (nI s).toNatClampNeg = nI (hx_cnt lim (hs g st d) ((hs g st d).take k) s) := by rw [nI_clamp (by omega), h s (by omega), ec]
    have b := hx_cnt_le hl (hs g st d) ((hs g st d).take k) s
    have k2 := ih (k + 1) (by omega) m (by omega) nn'
    rw [en]
    refine pk_eq (hx_cnt lim (hs g st d) ((hs g st d).take k) s) 0 (fun z => nm_r (nI_1 _) (nm_r (nI_1 k) ?_)) (fun z => nm_r (nI_1 k) ?_)
    · have e2 : hx_fr lim (hs g st d) s (k + 1) = hx_fr lim (hs g st d) s k + 1 := by
        show hx_fr lim (hs g st d) s k + (if hx_cnt lim (hs g st d) ((hs g st d).take k) s = 0 then 1 else 0) = _
        rw [if_pos z]
      rw [e2] at k2
      exact k2
    · have e2 : hx_fr lim (hs g st d) s (k + 1) = hx_fr lim (hs g st d) s k := by
        show hx_fr lim (hs g st d) s k + (if hx_cnt lim (hs g st d) ((hs g st d).take k) s = 0 then 1 else 0) = _
        rw [if_neg z]; rfl
      rw [e2] at k2
      exact k2
theorem yl_learn {post : SY → Prop} {lim al ar sd s dn : Nat} {L : List Nat} (hl : 2 ≤ lim) (hl5 : lim ≤ 15) (hs2 : sd < 2) (ha : al ≤ 8) (hsa : s < al) (har : ar ≤ 120) (Y : YS sd L al a_said a_done a_start dn) (hd : dn < 96) (hst : hx_strs lim L ≤ 120)
    (K : ∀ (nn : Nat → Int32) (start : Nat → Int32), (∀ sd', sd' ≠ sd → start sd' = a_start sd') → YS sd (hx_next lim ar L s) al (upd a_said (96 * sd + dn) (nI s)) (upd a_done sd (nI (dn + 1))) start (dn + 1) → post (f_alphabet, nI lim, nI ar, f_capacity, f_shut, f_gap, f_codeLen, f_lastLevel, f_lastEscapes, f_lastCum, f_lastFreq, f_lastTotal, upd a_said (96 * sd + dn) (nI s), upd a_done sd (nI (dn + 1)), start, if hx_strs lim L + hx_fresh lim L s ≤ ar then a_again else upd a_again sd (a_again sd + 1), a_range, a_width, a_low, a_high, a_code, nn, a_out)) :
    wpY_learn post (f_alphabet, nI lim, nI ar, f_capacity, f_shut, f_gap, f_codeLen, f_lastLevel, f_lastEscapes, f_lastCum, f_lastFreq, f_lastTotal, a_said, a_done, a_start, a_again, a_range, a_width, a_low, a_high, a_code, a_n, a_out) (nI sd) (nI s) := by
  obtain ⟨st, d, g, rfl, Y, rfl, hg⟩ := Y
  unfold wpY_learn
  refine yl_order hs2 Y (yl_recent hs2 Y (fun p hp => ⟨hx_top (hs g st d) + 2, ?_⟩))
  exact yl_l19 hl hl5 hs2 ha hsa har Y hg hd hst hp K (hx_top (hs g st d) + 1) 0 (by omega) (hx_top (hs g st d) + 2) (by omega) a_n
end
end
section
/-! ===== Y: the coder ===== -/
/-- LOW as a row of w digits -/
def ey_ok (V w : Nat) (a : Nat → Int32) : Prop := ∀ j, j < w → a j = nI (V / 2 ^ (w - 1 - j) % 2)
def cy_ok (st : Nat × Nat × Nat) (ra wi lw : Nat → Int32) : Prop := ra 0 = nI st.2.1 ∧ wi 0 = nI st.2.2 ∧ ey_ok st.1 st.2.2 lw
theorem ey_shift {V w : Nat} {a : Nat → Int32} (h : ey_ok V w a) : ey_ok (2 * V + 0) (w + 1) (upd a w 0) := by
  intro j hj
  by_cases z : j = w
  · rw [z, pk_us, show w + 1 - 1 - w = 0 by omega, Nat.pow_zero, Nat.div_one, show (2 * V + 0) % 2 = 0 by omega]
    rfl
  · rw [pk_un z, h j (by omega), show w + 1 - 1 - j = (w - 1 - j) + 1 by omega, Nat.pow_succ, Nat.mul_comm (2 ^ _) 2, ← Nat.div_div_eq_div_mul, show (2 * V + 0) / 2 = V by omega]
/-- one digit of the sum -/
theorem ey_step {V sh w d c : Nat} (hd : d < w) (hc : V / 2 ^ (w - (d + 1)) + c = (V + sh) / 2 ^ (w - (d + 1))) : (V / 2 ^ (w - 1 - d) % 2 + c) % 2 = (V + sh) / 2 ^ (w - 1 - d) % 2 ∧ V / 2 ^ (w - d) + (V / 2 ^ (w - 1 - d) % 2 + c) / 2 = (V + sh) / 2 ^ (w - d) := by
  rw [show w - (d + 1) = w - 1 - d by omega] at hc
  rw [show w - d = (w - 1 - d) + 1 by omega, Nat.pow_succ, ← Nat.div_div_eq_div_mul, ← Nat.div_div_eq_div_mul]
  generalize V / 2 ^ (w - 1 - d) = A at hc ⊢
  generalize (V + sh) / 2 ^ (w - 1 - d) = B at hc ⊢
  omega
theorem an1 {n : Nat} (h : n < 2 ^ 31) : nI n &&& 1 = nI (n % 2) := pk_andN (by omega) 1 (by decide)
theorem shr1 {n : Nat} (h : n < 2 ^ 31) : nI n >>> ((1 : Int32) &&& 31) = nI (n / 2) := pk_shrN h _ 1 (by decide)
section
variable {f_alphabet f_countLimit f_arena f_capacity f_shut f_gap f_codeLen f_lastLevel f_lastEscapes f_lastCum f_lastFreq f_lastTotal : Int32} {a_said a_done a_start a_again a_range a_width a_low a_high a_code a_n a_out : Nat → Int32}
theorem yl_n40 {post : SY → Prop} {x1 x2 x3 x4 x5 : Int32} {V sh w : Nat} (hw : w ≤ 4096) (hl : ey_ok V w a_low) (K : ∀ lw : Nat → Int32, ey_ok (V + sh) w lw → wY_narrow_96 post x1 x2 x3 x4 x5 f_alphabet f_countLimit f_arena f_capacity f_shut f_gap f_codeLen f_lastLevel f_lastEscapes f_lastCum f_lastFreq f_lastTotal a_said a_done a_start a_again a_range a_width lw a_high a_code a_n a_out) :
    ∀ d, d ≤ w → ∀ n, d < n → ∀ (c : Nat) (lw : Nat → Int32), c ≤ 131072 → V / 2 ^ (w - d) + c = (V + sh) / 2 ^ (w - d) → (∀ j, j < d → lw j = a_low j) → (∀ j, d ≤ j → j < w → lw j = nI ((V + sh) / 2 ^ (w - 1 - j) % 2)) → wY_narrow_40 post x1 x2 x3 x4 x5 f_alphabet f_countLimit f_arena f_capacity f_shut f_gap f_codeLen f_lastLevel f_lastEscapes f_lastCum f_lastFreq f_lastTotal n (nI c) (kI d) a_said a_done a_start a_again a_range a_width lw a_high a_code a_n a_out := by
  intro d
  induction d with
  | zero =>
    intro hd n hn c lw hc1 hc2 h1 h2
    obtain ⟨m, rfl⟩ : ∃ m, n = m + 1 := ⟨n - 1, by omega⟩
    exact br_t (show (-1 : Int32) < 0 by decide) (K lw (fun j hj => h2 j (by omega) hj))
  | succ d ih =>
    intro hd n hn c lw hc1 hc2 h1 h2
    obtain ⟨m, rfl⟩ : ∃ m, n = m + 1 := ⟨n - 1, by omega⟩
    have st := ey_step (V := V) (sh := sh) (w := w) (d := d) (c := c) (by omega) hc2
    have b : V / 2 ^ (w - 1 - d) % 2 < 2 := Nat.mod_lt _ (by decide)
    have el : lw d = nI (V / 2 ^ (w - 1 - d) % 2) := by rw [h1 d (by omega)]; exact hl d (by omega)
    refine br_f (nI_pos (n := d) (by omega)) ⟨pk_in d 4096 (by omega), nm_r (e' := nI (V / 2 ^ (w - 1 - d) % 2 + c)) (by rw [show kI (d + 1) = nI d from rfl, nI_clamp (by omega), el, nI_add]) ⟨pk_in d 4096 (by omega), nm_r (e' := upd lw d (nI ((V + sh) / 2 ^ (w - 1 - d) % 2))) (by rw [show kI (d + 1) = nI d from rfl, nI_clamp (by omega), an1 (by omega), st.1]) (nm_r (shr1 (by omega)) (nm_r (kI_m d) ?_))⟩⟩
    refine ih (by omega) m (by omega) _ _ (by omega) st.2 (fun j hj => ?_) (fun j h3 h4 => ?_)
    · rw [pk_un (by omega)]; exact h1 j (by omega)
    · by_cases e : j = d
      · rw [e]; exact pk_us
      · rw [pk_un e]; exact h2 j (by omega) h4
theorem yl_n96 {post : SY → Prop} {sd rg cum fq tot : Nat} (hs : sd < 2) (hr : a_range sd = nI rg) (h1 : 32768 ≤ rg) (h2 : rg ≤ 65536) (hi : cx_it cum fq tot) (K : ∃ n, wY_narrow_137 post (nI sd) f_alphabet f_countLimit f_arena f_capacity f_shut f_codeLen f_lastLevel f_lastEscapes f_lastCum f_lastFreq f_lastTotal n 0 f_gap a_said a_done a_start a_again (upd a_range sd (nI (cx_rg rg cum fq tot))) a_width a_low a_high a_code a_n a_out) :
    wY_narrow_96 post (nI sd) (nI cum) (nI fq) (nI tot) (nI (rg / tot)) f_alphabet f_countLimit f_arena f_capacity f_shut f_gap f_codeLen f_lastLevel f_lastEscapes f_lastCum f_lastFreq f_lastTotal a_said a_done a_start a_again a_range a_width a_low a_high a_code a_n a_out := by
  obtain ⟨i1, i2, i3⟩ := hi
  have r2 : rg / tot * tot ≤ rg := Nat.div_mul_le_self rg tot
  have r3 : rg / tot * cum ≤ rg / tot * tot := Nat.mul_le_mul_left _ (by omega)
  have ec : nI cum + nI fq = nI (cum + fq) := nI_add _ _
  unfold wY_narrow_96
  rw [ec]
  refine pk_eq (cum + fq) tot (fun z => ⟨pk_in sd 2 hs, pk_in sd 2 hs, nm_r (e' := upd a_range sd (nI (cx_rg rg cum fq tot))) ?_ K⟩) (fun z => ⟨pk_in sd 2 hs, nm_r (e' := upd a_range sd (nI (cx_rg rg cum fq tot))) ?_ K⟩)
  · rw [nI_clamp (by omega), hr, pk_mul, pk_sub (by omega)]
    have e : cx_rg rg cum fq tot = rg - rg / tot * cum := if_pos z
    rw [e]
  · rw [nI_clamp (by omega), pk_mul]
    have e : cx_rg rg cum fq tot = rg / tot * fq := if_neg z
    rw [e]
theorem ix_2m (a : Nat) : 2 * nI a = nI (2 * a) := by rw [show (2 : Int32) = nI 2 from rfl, pk_mul]
theorem yl_n137e {post : SY → Prop} {ra0 wi0 : Nat → Int32} : ∀ d i, i + d = 16 → ∀ n, d < n → ∀ (V rg w : Nat) (ra wi lw : Nat → Int32), ey_ok V w lw → rg ≤ 65536 → w + d ≤ 4000 → ra 0 = nI rg → ra 1 = ra0 1 → wi 0 = nI w → wi 1 = wi0 1 →
    (∀ (ra wi lw : Nat → Int32), cy_ok (cx_nrm (fun _ => 0) d V rg w) ra wi lw → ra 1 = ra0 1 → wi 1 = wi0 1 → post (f_alphabet, f_countLimit, f_arena, f_capacity, f_shut, f_gap, f_codeLen, f_lastLevel, f_lastEscapes, f_lastCum, f_lastFreq, f_lastTotal, a_said, a_done, a_start, a_again, ra, wi, lw, a_high, a_code, a_n, a_out)) →
    wY_narrow_137 post (nI 0) f_alphabet f_countLimit f_arena f_capacity f_shut f_codeLen f_lastLevel f_lastEscapes f_lastCum f_lastFreq f_lastTotal n (nI i) f_gap a_said a_done a_start a_again ra wi lw a_high a_code a_n a_out := by
  intro d
  induction d with
  | zero =>
    intro i hi n hn V rg w ra wi lw hl h2 hw r0 r1 w0 w1 K
    obtain ⟨m, rfl⟩ : ∃ m, n = m + 1 := ⟨n - 1, by omega⟩
    have e : i = 16 := by omega
    subst e
    exact br_t (nI_le (a := 16) (b := 16) (by omega) (by omega)) (K ra wi lw ⟨r0, w0, hl⟩ r1 w1)
  | succ d ih =>
    intro i hi n hn V rg w ra wi lw hl h2 hw r0 r1 w0 w1 K
    obtain ⟨m, rfl⟩ : ∃ m, n = m + 1 := ⟨n - 1, by omega⟩
    have c0 : (nI 0).toNatClampNeg = 0 := nI_clamp (by omega)
    refine br_f (nI_ge (b := 16) (by omega) (by omega)) ⟨pk_in 0 2 (by omega), ?_⟩
    rw [c0, r0, w0]
    refine pk_le 32768 rg (fun z => ?_) (fun z => ?_)
    · rw [cx_nrm_f (by omega)] at K
      exact K ra wi lw ⟨r0, w0, hl⟩ r1 w1
    · rw [cx_nrm_t z] at K
      refine ⟨pk_in 0 2 (by omega), br_f (nI_ge (b := 4096) (by omega) (by omega)) ⟨pk_in 0 2 (by omega), pk_in 0 2 (by omega), nm_r (e' := upd ra 0 (nI (2 * rg))) (by rw [ix_2m]) (br_t rfl ⟨pk_in w 4096 (by omega), nm_r (e' := upd lw w 0) (by rw [nI_clamp (by omega)]) ?_⟩)⟩⟩
      refine ⟨pk_in 0 2 (by omega), pk_in 0 2 (by omega), nm_r (e' := upd wi 0 (nI (w + 1))) (by rw [c0, w0, nI_1]) (nm_r (nI_1 i) ?_)⟩
      exact ih (i + 1) (by omega) m (by omega) (2 * V + 0) (2 * rg) (w + 1) _ _ _ (ey_shift hl) (by omega) (by omega) pk_us (by rw [pk_un (by decide)]; exact r1) pk_us (by rw [pk_un (by decide)]; exact w1) K
theorem yl_ne {post : SY → Prop} {W n cum fq tot : Nat} {st : Nat × Nat × Nat} (hI : cx_EI W n st) (hW : W + 7 * n ≤ 3900) (hi : cx_it cum fq tot) (h : cy_ok st a_range a_width a_low)
    (K : ∀ (ra wi lw : Nat → Int32), cy_ok (cx_e st cum fq tot) ra wi lw → ra 1 = a_range 1 → wi 1 = a_width 1 → post (f_alphabet, f_countLimit, f_arena, f_capacity, f_shut, f_gap, f_codeLen, f_lastLevel, f_lastEscapes, f_lastCum, f_lastFreq, f_lastTotal, a_said, a_done, a_start, a_again, ra, wi, lw, a_high, a_code, a_n, a_out)) :
    wpY_narrow post (f_alphabet, f_countLimit, f_arena, f_capacity, f_shut, f_gap, f_codeLen, f_lastLevel, f_lastEscapes, f_lastCum, f_lastFreq, f_lastTotal, a_said, a_done, a_start, a_again, a_range, a_width, a_low, a_high, a_code, a_n, a_out) (nI 0) (nI cum) (nI fq) (nI tot) := by
  obtain ⟨V, rg, w⟩ := st
  obtain ⟨r0, w0, hl⟩ := h
  obtain ⟨b1, b2, b3, b4, b5⟩ := hI
  dsimp only at r0 w0 hl b1 b2 b3 b4 b5
  obtain ⟨q1, q2⟩ := cx_rg_b hi b1
  have i1 := hi.1
  have i2 := hi.2.1
  have i3 := hi.2.2
  have c0 : (nI 0).toNatClampNeg = 0 := nI_clamp (by omega)
  refine br_f (nI_nle (by omega) (by omega)) ⟨pk_in 0 2 (by omega), nI_ne0 (by omega) (by omega), ?_⟩
  rw [c0, r0, pk_div (by omega) (by omega) (by omega)]
  refine br_t rfl (nm_r (pk_mul _ _) (nm_r (e' := kI w) (by rw [w0]; exact kI_s w) ⟨w + 1, ?_⟩))
  refine yl_n40 (V := V) (sh := rg / tot * cum) (by omega) hl (fun lw hlw => ?_) w (Nat.le_refl _) (w + 1) (by omega) (rg / tot * cum) a_low (by omega) (by rw [Nat.sub_self, Nat.pow_zero, Nat.div_one, Nat.div_one]) (fun _ _ => rfl) (fun j h1 h2 => by omega)
  refine yl_n96 (sd := 0) (by omega) r0 b1 b2 hi ⟨17, ?_⟩
  exact yl_n137e (ra0 := a_range) (wi0 := a_width) 16 0 rfl 17 (by omega) (V + rg / tot * cum) (cx_rg rg cum fq tot) w _ a_width lw hlw (by omega) (by omega) pk_us (pk_un (by decide)) w0 rfl K
theorem yl_digit {post : Int32 → Prop} {cd i : Nat} {dg : Nat → Nat} (hc : cd_ok cd dg f_codeLen a_code) (hi : i < 2 ^ 31) (K : post (nI (dg i))) : wpY_digit post (f_alphabet, f_countLimit, f_arena, f_capacity, f_shut, f_gap, f_codeLen, f_lastLevel, f_lastEscapes, f_lastCum, f_lastFreq, f_lastTotal, a_said, a_done, a_start, a_again, a_range, a_width, a_low, a_high, a_code, a_n, a_out) (nI i) := by
  obtain ⟨rfl, h2, h3, h4, h5⟩ := hc
  refine br_f (nI_pos hi) (pk_le cd i (fun z => ?_) (fun z => ⟨pk_in i 4096 (by omega), ?_⟩) rfl rfl (by omega) hi)
  · rw [h4 i z] at K; exact K
  · rw [nI_clamp hi, h3 i z]; exact K
theorem yl_n137d {post : SY → Prop} {ra0 wi0 : Nat → Int32} {cd : Nat} {dg : Nat → Nat} (hc : cd_ok cd dg f_codeLen a_code) : ∀ d i, i + d = 16 → ∀ n, d < n → ∀ (g rg w : Nat) (ra wi : Nat → Int32), rg ≤ 65536 → w + d ≤ 4000 → ra 1 = nI rg → ra 0 = ra0 0 → wi 1 = nI w → wi 0 = wi0 0 →
    (∀ (ra wi : Nat → Int32), ra 1 = nI (cx_nrm dg d g rg w).2.1 → wi 1 = nI (cx_nrm dg d g rg w).2.2 → ra 0 = ra0 0 → wi 0 = wi0 0 → post (f_alphabet, f_countLimit, f_arena, f_capacity, f_shut, nI (cx_nrm dg d g rg w).1, f_codeLen, f_lastLevel, f_lastEscapes, f_lastCum, f_lastFreq, f_lastTotal, a_said, a_done, a_start, a_again, ra, wi, a_low, a_high, a_code, a_n, a_out)) →
    wY_narrow_137 post (nI 1) f_alphabet f_countLimit f_arena f_capacity f_shut f_codeLen f_lastLevel f_lastEscapes f_lastCum f_lastFreq f_lastTotal n (nI i) (nI g) a_said a_done a_start a_again ra wi a_low a_high a_code a_n a_out := by
  intro d
  induction d with
  | zero =>
    intro i hi n hn g rg w ra wi h2 hw r0 r1 w0 w1 K
    obtain ⟨m, rfl⟩ : ∃ m, n = m + 1 := ⟨n - 1, by omega⟩
    have e : i = 16 := by omega
    subst e
    exact br_t (nI_le (a := 16) (b := 16) (by omega) (by omega)) (K ra wi r0 w0 r1 w1)
  | succ d ih =>
    intro i hi n hn g rg w ra wi h2 hw r0 r1 w0 w1 K
    obtain ⟨m, rfl⟩ : ∃ m, n = m + 1 := ⟨n - 1, by omega⟩
    have c1 : (nI 1).toNatClampNeg = 1 := nI_clamp (by omega)
    refine br_f (nI_ge (b := 16) (by omega) (by omega)) ⟨pk_in 1 2 (by omega), ?_⟩
    rw [c1, r0, w0]
    refine pk_le 32768 rg (fun z => ?_) (fun z => ?_)
    · rw [cx_nrm_f (by omega)] at K
      exact K ra wi r0 w0 r1 w1
    · rw [cx_nrm_t z] at K
      refine ⟨pk_in 1 2 (by omega), br_f (nI_ge (b := 4096) (by omega) (by omega)) ⟨pk_in 1 2 (by omega), pk_in 1 2 (by omega), nm_r (e' := upd ra 1 (nI (2 * rg))) (by rw [ix_2m]) (br_f (by decide) ?_)⟩⟩
      refine yl_digit hc (by omega) (nm_r (ix_2 _ _) ?_)
      refine ⟨pk_in 1 2 (by omega), pk_in 1 2 (by omega), nm_r (e' := upd wi 1 (nI (w + 1))) (by rw [c1, w0, nI_1]) (nm_r (nI_1 i) ?_)⟩
      exact ih (i + 1) (by omega) m (by omega) (2 * g + dg w) (2 * rg) (w + 1) _ _ (by omega) (by omega) pk_us (by rw [pk_un (by decide)]; exact r1) pk_us (by rw [pk_un (by decide)]; exact w1) K
theorem yl_nd {post : SY → Prop} {W n cum fq tot cd : Nat} {dg : Nat → Nat} {st : Nat × Nat × Nat} (hc : cd_ok cd dg f_codeLen a_code) (hI : cx_DI W n st) (hW : W + 7 * n ≤ 3900) (hi : cx_it cum fq tot) (hg : cx_di st cum fq tot) (r0 : a_range 1 = nI st.2.1) (w0 : a_width 1 = nI st.2.2)
    (K : ∀ (ra wi : Nat → Int32), ra 1 = nI (cx_d dg st cum fq tot).2.1 → wi 1 = nI (cx_d dg st cum fq tot).2.2 → ra 0 = a_range 0 → wi 0 = a_width 0 → post (f_alphabet, f_countLimit, f_arena, f_capacity, f_shut, nI (cx_d dg st cum fq tot).1, f_codeLen, f_lastLevel, f_lastEscapes, f_lastCum, f_lastFreq, f_lastTotal, a_said, a_done, a_start, a_again, ra, wi, a_low, a_high, a_code, a_n, a_out)) :
    wpY_narrow post (f_alphabet, f_countLimit, f_arena, f_capacity, f_shut, nI st.1, f_codeLen, f_lastLevel, f_lastEscapes, f_lastCum, f_lastFreq, f_lastTotal, a_said, a_done, a_start, a_again, a_range, a_width, a_low, a_high, a_code, a_n, a_out) (nI 1) (nI cum) (nI fq) (nI tot) := by
  obtain ⟨g, rg, w⟩ := st
  obtain ⟨b1, b2, b3, b4, b5⟩ := hI
  dsimp only at r0 w0 b1 b2 b3 b4 b5
  obtain ⟨q1, q2⟩ := cx_rg_b hi b1
  have i1 := hi.1
  have i2 := hi.2.1
  have i3 := hi.2.2
  have c1 : (nI 1).toNatClampNeg = 1 := nI_clamp (by omega)
  refine br_f (nI_nle (by omega) (by omega)) ⟨pk_in 1 2 (by omega), nI_ne0 (by omega) (by omega), ?_⟩
  rw [c1, r0, pk_div (by omega) (by omega) (by omega)]
  refine br_f (by decide) (nm_r (e' := nI (g - rg / tot * cum)) (by rw [pk_mul]; exact pk_sub hg.1) ?_)
  refine yl_n96 (sd := 1) (by omega) r0 b1 b2 hi ⟨17, ?_⟩
  exact yl_n137d (ra0 := a_range) (wi0 := a_width) hc 16 0 rfl 17 (by omega) (g - rg / tot * cum) (cx_rg rg cum fq tot) w _ a_width (by omega) (by omega) pk_us (pk_un (by decide)) w0 rfl K
end
end
section
/-! ===== Y: one level of the walk ===== -/
def yo_ok (al : Nat) (E : Nat → Bool) (a : Nat → Int32) : Prop := ∀ t, t < al → a t = nI (if E t = true then 1 else 0)
def yn_ok (al : Nat) (f : Nat → Nat) (a : Nat → Int32) : Prop := ∀ t, t < al → a t = nI (f t)
section
variable {f_alphabet f_countLimit f_arena f_capacity f_shut f_gap f_codeLen f_lastLevel f_lastEscapes f_lastCum f_lastFreq f_lastTotal : Int32} {a_said a_done a_start a_again a_range a_width a_low a_high a_code a_n a_out : Nat → Int32}
theorem yl_ch50 {post : Int32 → Prop} {al q : Nat} {f : Nat → Nat} (ha : al ≤ 8) (hq : q < 2 ^ 31) (hf : yn_ok al f a_n) (hb : ∀ t, f t ≤ 15) (K : post (if gw_pk f q al < al then nI (gw_pk f q al) else -1)) :
    ∀ d t, t + d = al → ∀ n, d < n → wY_choose_50 post (nI q) (nI al) f_countLimit f_arena f_capacity f_shut f_gap f_codeLen f_lastLevel f_lastEscapes f_lastCum f_lastFreq f_lastTotal a_said a_done a_start a_again a_range a_width a_low a_high a_code a_n a_out n (if gw_pk f q t < t then nI (gw_pk f q t) else -1) (nI (hx_ps f t)) (nI t) := by
  intro d
  induction d with
  | zero =>
    intro t ht n hn
    obtain ⟨m, rfl⟩ : ∃ m, n = m + 1 := ⟨n - 1, by omega⟩
    have e : t = al := by omega
    subst e
    exact br_t (nI_le (Nat.le_refl t) (by omega)) K
  | succ d ih =>
    intro t ht n hn
    obtain ⟨m, rfl⟩ : ∃ m, n = m + 1 := ⟨n - 1, by omega⟩
    have b := hx_ps_le hb (t + 1)
    have b0 := hx_ps_mono f (n := t) (m := t + 1) (by omega)
    have le := gw_pk_le f q t
    have sp := gw_pk_sp f q t
    have en : a_n (nI t).toNatClampNeg = nI (f t) := by rw [nI_clamp (by omega)]; exact hf t (by omega)
    have e2 : nI (hx_ps f t) + nI (f t) = nI (hx_ps f (t + 1)) := nI_add _ _
    have go : ∀ x4 : Int32, x4 = (if gw_pk f q (t + 1) < t + 1 then nI (gw_pk f q (t + 1)) else -1) → wY_choose_83 post (wY_choose_50 post (nI q) (nI al) f_countLimit f_arena f_capacity f_shut f_gap f_codeLen f_lastLevel f_lastEscapes f_lastCum f_lastFreq f_lastTotal a_said a_done a_start a_again a_range a_width a_low a_high a_code a_n a_out m) (nI q) x4 (nI (hx_ps f t)) (nI t) (nI al) f_countLimit f_arena f_capacity f_shut f_gap f_codeLen f_lastLevel f_lastEscapes f_lastCum f_lastFreq f_lastTotal a_said a_done a_start a_again a_range a_width a_low a_high a_code a_n a_out := by
      intro x4 h4
      subst h4
      exact ⟨pk_in t 8 (by omega), nm_r (e' := nI (hx_ps f (t + 1))) (by rw [en]; exact e2) (nm_r (nI_1 t) (ih (t + 1) (by omega) m (by omega)))⟩
    refine br_f (nI_ge (by omega) (by omega)) (pk_lt q (hx_ps f t) (fun z => go _ ?_) (fun z => ⟨pk_in t 8 (by omega), ?_⟩) rfl rfl hq (by omega))
    · have l : gw_pk f q t < t := by
        rcases Nat.lt_or_ge (gw_pk f q t) t with y | y
        · exact y
        · have y2 : gw_pk f q t = t := by omega
          rw [y2] at sp
          have := sp.1
          omega
      have e3 : gw_pk f q (t + 1) = gw_pk f q t := if_pos l
      rw [e3, if_pos l, if_pos (by omega)]
    · have l : ¬ gw_pk f q t < t := by
        intro y
        have h1 := sp.2 y
        have h2 := hx_ps_mono f (n := gw_pk f q t + 1) (m := t) y
        omega
      rw [en, e2]
      refine pk_le (hx_ps f (t + 1)) q (fun y => go _ ?_) (fun y => go _ ?_) rfl rfl (by omega) hq
      · have e3 : gw_pk f q (t + 1) = t + 1 := (if_neg l).trans (if_neg (by omega))
        rw [e3, if_neg l, if_neg (by omega)]
      · have e3 : gw_pk f q (t + 1) = t := (if_neg l).trans (if_pos y)
        rw [e3, if_pos (by omega)]
theorem yl_choose {post : Int32 → Prop} {al tot : Nat} {f : Nat → Nat} {st : Nat × Nat × Nat} (ha : al ≤ 8) (hf : yn_ok al f a_n) (hb : ∀ t, f t ≤ 15) (r1 : a_range 1 = nI st.2.1) (h1 : 32768 ≤ st.2.1) (h2 : st.2.1 ≤ 65536) (hg : st.1 < st.2.1) (ht : 0 < tot) (htb : tot ≤ 128) (K : post (if gw_cd al st f tot < al then nI (gw_cd al st f tot) else -1)) : wpY_choose post (nI al, f_countLimit, f_arena, f_capacity, f_shut, nI st.1, f_codeLen, f_lastLevel, f_lastEscapes, f_lastCum, f_lastFreq, f_lastTotal, a_said, a_done, a_start, a_again, a_range, a_width, a_low, a_high, a_code, a_n, a_out) (nI tot) := by
  obtain ⟨gp, rg, w⟩ := st
  dsimp only at r1 h1 h2 hg
  have q1 : 256 ≤ rg / tot := (Nat.le_div_iff_mul_le ht).mpr (Nat.le_trans (Nat.mul_le_mul_left 256 htb) h1)
  have q2 : rg / tot ≤ rg := Nat.div_le_self _ _
  have q3 : gp / (rg / tot) ≤ gp := Nat.div_le_self _ _
  have lq := gw_q_lt (st := (gp, rg, w)) ht
  have K2 : wY_choose_50 post (nI (gw_q (gp, rg, w) tot)) (nI al) f_countLimit f_arena f_capacity f_shut (nI gp) f_codeLen f_lastLevel f_lastEscapes f_lastCum f_lastFreq f_lastTotal a_said a_done a_start a_again a_range a_width a_low a_high a_code a_n a_out (al + 1) (-1) (nI 0) (nI 0) := yl_ch50 (q := gw_q (gp, rg, w) tot) ha (by omega) hf hb K al 0 (by omega) (al + 1) (by omega)
  refine br_f (nI_nle ht (by omega)) ⟨nI_ne0 ht (by omega), ?_⟩
  rw [r1, pk_div (by omega) ht (by omega)]
  refine br_f (nI_nle (by omega) (by omega)) ⟨nI_ne0 (by omega) (by omega), ?_⟩
  show wY_choose_31 post (nI tot) (nI gp / nI (rg / tot)) _ _ _ _ _ _ _ _ _ _ _ _ _ _ _ _ _ _ _ _ _ _ _
  rw [pk_div (by omega) (by omega) (by omega)]
  refine pk_lt (gp / (rg / tot)) tot (fun z => ⟨al + 1, ?_⟩) (fun z => nm_r (e' := nI (tot - 1)) (pk_sub (b := 1) ht) ⟨al + 1, ?_⟩)
  · have e : gw_q (gp, rg, w) tot = gp / (rg / tot) := if_pos z
    rw [e] at K2; exact K2
  · have e : gw_q (gp, rg, w) tot = tot - 1 := if_neg (by show ¬ gp / (rg / tot) < tot; omega)
    rw [e] at K2; exact K2
end
section
variable {f_alphabet f_countLimit f_arena f_capacity f_shut f_gap f_codeLen f_lastLevel f_lastEscapes f_lastCum f_lastFreq f_lastTotal : Int32} {a_said a_done a_start a_again a_range a_width a_low a_high a_code a_n a_out : Nat → Int32}
variable {post : Int32 → SY → Prop} {J : Int32 → Int32 → Int32 → Int32 → Int32 → Int32 → Int32 → Int32 → Int32 → Int32 → Int32 → Int32 → Int32 → Int32 → (Nat → Int32) → (Nat → Int32) → (Nat → Int32) → (Nat → Int32) → (Nat → Int32) → (Nat → Int32) → (Nat → Int32) → (Nat → Int32) → (Nat → Int32) → (Nat → Int32) → (Nat → Int32) → Prop} {x1 x2 x3 x4 : Int32}
/-- the counts of a level, the excluded ones taken out -/
theorem yl_w79 {al gone N : Nat} {F : Nat → Nat} {E : Nat → Bool} (ha : al ≤ 8) (hg : gone ≤ 8) (hF : ∀ t, F t ≤ 15) (hN : N = 0 → ∀ t, F t = 1) (hNb : N ≤ 4) (hE : yo_ok al E a_out)
    (K0 : hx_pc (hx_f E F) al = 0 → ∀ nn : Nat → Int32, J (nI gone) (kI N + (-1)) (nI al) f_countLimit f_arena f_capacity f_shut f_gap f_codeLen f_lastLevel f_lastEscapes f_lastCum f_lastFreq f_lastTotal a_said a_done a_start a_again a_range a_width a_low a_high a_code nn a_out)
    (K1 : hx_pc (hx_f E F) al ≠ 0 → ∀ nn : Nat → Int32, yn_ok al (hx_f E F) nn → wY_walk_173 post J x1 x2 x3 x4 (nI gone) (kI N) (nI (hx_pc (hx_f E F) al)) (nI (hx_ps (hx_f E F) al)) (nI (hx_es al gone (hx_pc (hx_f E F) al))) (nI al) f_countLimit f_arena f_capacity f_shut f_gap f_codeLen f_lastLevel f_lastEscapes f_lastCum f_lastFreq f_lastTotal a_said a_done a_start a_again a_range a_width a_low a_high a_code nn a_out) :
    ∀ d t, t + d = al → ∀ n, d < n → ∀ nn : Nat → Int32, (∀ u, u < t → nn u = nI (hx_f E F u)) → (N ≠ 0 → ∀ u, t ≤ u → u < al → nn u = nI (F u)) → wY_walk_79 post J x1 x2 x3 x4 (nI gone) (kI N) (nI al) f_countLimit f_arena f_capacity f_shut f_gap f_codeLen f_lastLevel f_lastEscapes f_lastCum f_lastFreq f_lastTotal n (nI (hx_pc (hx_f E F) t)) (nI (hx_ps (hx_f E F) t)) (nI t) a_said a_done a_start a_again a_range a_width a_low a_high a_code nn a_out := by
  intro d
  induction d with
  | zero =>
    intro t ht n hn nn h1 h2
    obtain ⟨m, rfl⟩ : ∃ m, n = m + 1 := ⟨n - 1, by omega⟩
    have e : t = al := by omega
    subst e
    have b := hx_pc_le (hx_f E F) t
    have ea : nI gone + nI (hx_pc (hx_f E F) t) = nI (gone + hx_pc (hx_f E F) t) := nI_add _ _
    refine br_t (nI_le (Nat.le_refl t) (by omega)) (pk_le (hx_pc (hx_f E F) t) 0 (fun z => nm_e (K0 (by omega) nn)) (fun z => ?_))
    have k := K1 (by omega) nn h1
    rw [ea]
    refine pk_le t (gone + hx_pc (hx_f E F) t) (fun y => ?_) (fun y => ?_)
    · have e : hx_es t gone (hx_pc (hx_f E F) t) = 0 := if_neg (by omega)
      rw [e] at k; exact k
    · have e : hx_es t gone (hx_pc (hx_f E F) t) = hx_pc (hx_f E F) t := if_pos y
      rw [e] at k; exact k
  | succ d ih =>
    intro t ht n hn nn h1 h2
    obtain ⟨m, rfl⟩ : ∃ m, n = m + 1 := ⟨n - 1, by omega⟩
    have b15 := hx_f_le (E := E) hF t
    have ct : (nI t).toNatClampNeg = t := nI_clamp (by omega)
    have k119 : ∀ nn : Nat → Int32, (∀ u, u < t + 1 → nn u = nI (hx_f E F u)) → (N ≠ 0 → ∀ u, t + 1 ≤ u → u < al → nn u = nI (F u)) → wY_walk_119 post J (wY_walk_79 post J x1 x2 x3 x4 (nI gone) (kI N) (nI al) f_countLimit f_arena f_capacity f_shut f_gap f_codeLen f_lastLevel f_lastEscapes f_lastCum f_lastFreq f_lastTotal m) x1 x2 x3 x4 (nI gone) (kI N) (nI (hx_pc (hx_f E F) t)) (nI (hx_ps (hx_f E F) t)) (nI t) (nI al) f_countLimit f_arena f_capacity f_shut f_gap f_codeLen f_lastLevel f_lastEscapes f_lastCum f_lastFreq f_lastTotal a_said a_done a_start a_again a_range a_width a_low a_high a_code nn a_out := by
      intro nn h3 h4
      have en : nn (nI t).toNatClampNeg = nI (hx_f E F t) := by rw [ct]; exact h3 t (by omega)
      have k := ih (t + 1) (by omega) m (by omega) nn h3 h4
      have es : nI (hx_ps (hx_f E F) t) + nn (nI t).toNatClampNeg = nI (hx_ps (hx_f E F) (t + 1)) := by rw [en]; exact nI_add _ _
      refine ⟨pk_in t 8 (by omega), ?_⟩
      rw [en]
      refine pk_le (hx_f E F t) 0 (fun z => ⟨pk_in t 8 (by omega), nm_r es (nm_r (nI_1 t) ?_)⟩) (fun z => nm_r (nI_1 _) ⟨pk_in t 8 (by omega), nm_r es (nm_r (nI_1 t) ?_)⟩)
      · have e1 : hx_pc (hx_f E F) (t + 1) = hx_pc (hx_f E F) t := by show hx_pc (hx_f E F) t + (if hx_f E F t = 0 then 0 else 1) = _; rw [if_pos (by omega)]; rfl
        rw [e1] at k; exact k
      · have e1 : hx_pc (hx_f E F) (t + 1) = hx_pc (hx_f E F) t + 1 := by show hx_pc (hx_f E F) t + (if hx_f E F t = 0 then 0 else 1) = _; rw [if_neg (by omega)]
        rw [e1] at k; exact k
    have k101 : ∀ nn : Nat → Int32, (∀ u, u < t → nn u = nI (hx_f E F u)) → nn t = nI (F t) → (N ≠ 0 → ∀ u, t + 1 ≤ u → u < al → nn u = nI (F u)) → wY_walk_101 post J (wY_walk_79 post J x1 x2 x3 x4 (nI gone) (kI N) (nI al) f_countLimit f_arena f_capacity f_shut f_gap f_codeLen f_lastLevel f_lastEscapes f_lastCum f_lastFreq f_lastTotal m) x1 x2 x3 x4 (nI gone) (kI N) (nI (hx_pc (hx_f E F) t)) (nI (hx_ps (hx_f E F) t)) (nI t) (nI al) f_countLimit f_arena f_capacity f_shut f_gap f_codeLen f_lastLevel f_lastEscapes f_lastCum f_lastFreq f_lastTotal a_said a_done a_start a_again a_range a_width a_low a_high a_code nn a_out := by
      intro nn h3 h4 h5
      have eo : a_out (nI t).toNatClampNeg = nI (if E t = true then 1 else 0) := by rw [ct]; exact hE t (by omega)
      refine ⟨pk_in t 8 (by omega), ?_⟩
      rw [eo]
      cases y : E t with
      | true =>
        refine br_f (by decide) ⟨pk_in t 8 (by omega), nm_r (e' := upd nn t 0) (by rw [ct]) (k119 _ (fun u hu => ?_) (fun q u h6 h7 => ?_))⟩
        · by_cases e : u = t
          · rw [e, pk_us, hx_f_E y]; rfl
          · rw [pk_un e]; exact h3 u (by omega)
        · rw [pk_un (by omega)]; exact h5 q u h6 h7
      | false =>
        refine br_t rfl (k119 _ (fun u hu => ?_) h5)
        by_cases e : u = t
        · rw [e, hx_f_n y]; exact h4
        · exact h3 u (by omega)
    refine br_f (nI_ge (by omega) (by omega)) ?_
    cases N with
    | zero =>
      refine br_f (by decide) ⟨pk_in t 8 (by omega), nm_r (e' := upd nn t 1) (by rw [ct]) (k101 _ (fun u hu => ?_) ?_ (fun q => absurd rfl q))⟩
      · rw [pk_un (by omega)]; exact h1 u hu
      · rw [pk_us, hN rfl]; rfl
    | succ k =>
      exact br_t (nI_pos' (n := k) (by omega)) (k101 nn h1 (h2 (by omega) t (Nat.le_refl _) (by omega)) (fun q u h6 h7 => h2 q u (by omega) h7))
variable {al gone N m : Nat} {f : Nat → Nat} {E : Nat → Bool} {x5 x7 x8 x9 x10 x11 x13 : Int32}
theorem yl_w238 {s : Nat} (ha : al ≤ 8) (hs : s < al) (hf : yn_ok al f a_n) (K : wY_walk_272 post J x1 x2 x3 x4 x5 x7 x8 x11 (nI s) x13 (nI (hx_ps f s)) (nI (f s)) f_alphabet f_countLimit f_arena f_capacity f_shut f_gap f_codeLen f_lastLevel f_lastEscapes f_lastCum f_lastFreq f_lastTotal a_said a_done a_start a_again a_range a_width a_low a_high a_code a_n a_out) :
    ∀ d t, t + d = s → ∀ n, d < n → wY_walk_238 post J x1 x2 x3 x4 x5 x7 x8 x11 (nI s) x13 f_alphabet f_countLimit f_arena f_capacity f_shut f_gap f_codeLen f_lastLevel f_lastEscapes f_lastCum f_lastFreq f_lastTotal a_said a_done a_start a_again a_range a_width a_low a_high a_code a_n a_out n (nI (hx_ps f t)) (nI t) := by
  intro d
  induction d with
  | zero =>
    intro t ht n hn
    obtain ⟨m, rfl⟩ : ∃ m, n = m + 1 := ⟨n - 1, by omega⟩
    have e : t = s := by omega
    subst e
    exact br_t (nI_le (Nat.le_refl t) (by omega)) ⟨pk_in t 8 (by omega), nm_r (e' := nI (f t)) (by rw [nI_clamp (by omega)]; exact hf t hs) K⟩
  | succ d ih =>
    intro t ht n hn
    obtain ⟨m, rfl⟩ : ∃ m, n = m + 1 := ⟨n - 1, by omega⟩
    exact br_f (nI_ge (by omega) (by omega)) ⟨pk_in t 8 (by omega), nm_r (e' := nI (hx_ps f (t + 1))) (by rw [nI_clamp (by omega), hf t (by omega), nI_add]; rfl) (nm_r (nI_1 t) (ih (t + 1) (by omega) m (by omega)))⟩
/-- a symbol of the candidates -/
theorem yl_w197y {s : Nat} (ha : al ≤ 8) (hs : s < al) (hf : yn_ok al f a_n) (hb : ∀ t, f t ≤ 15) (z : f s ≠ 0) (K : wY_walk_272 post J x1 x2 x3 x4 x5 x7 x8 x11 (nI s) 1 (nI (hx_ps f s)) (nI (f s)) f_alphabet f_countLimit f_arena f_capacity f_shut f_gap f_codeLen f_lastLevel f_lastEscapes f_lastCum f_lastFreq f_lastTotal a_said a_done a_start a_again a_range a_width a_low a_high a_code a_n a_out) :
    wY_walk_197 post J x1 x2 x3 x4 x5 x7 x8 x9 x10 x11 (nI s) f_alphabet f_countLimit f_arena f_capacity f_shut f_gap f_codeLen f_lastLevel f_lastEscapes f_lastCum f_lastFreq f_lastTotal a_said a_done a_start a_again a_range a_width a_low a_high a_code a_n a_out := by
  have b := hb s
  refine br_f (nI_pos (by omega)) ⟨pk_in s 8 (by omega), br_f ?_ (br_f (by decide) ⟨s + 1, yl_w238 ha hs hf K s 0 (by omega) (s + 1) (by omega)⟩)⟩
  rw [nI_clamp (by omega), hf s hs]
  exact nI_nle (by omega) (by omega)
theorem yl_w197n {s : Nat} (ha : al ≤ 8) (hs : s < al) (hf : yn_ok al f a_n) (z : f s = 0) (K : wY_walk_272 post J x1 x2 x3 x4 x5 x7 x8 x11 (nI s) 0 x9 x10 f_alphabet f_countLimit f_arena f_capacity f_shut f_gap f_codeLen f_lastLevel f_lastEscapes f_lastCum f_lastFreq f_lastTotal a_said a_done a_start a_again a_range a_width a_low a_high a_code a_n a_out) :
    wY_walk_197 post J x1 x2 x3 x4 x5 x7 x8 x9 x10 x11 (nI s) f_alphabet f_countLimit f_arena f_capacity f_shut f_gap f_codeLen f_lastLevel f_lastEscapes f_lastCum f_lastFreq f_lastTotal a_said a_done a_start a_again a_range a_width a_low a_high a_code a_n a_out := by
  refine br_f (nI_pos (by omega)) ⟨pk_in s 8 (by omega), br_t ?_ (br_t rfl K)⟩
  rw [nI_clamp (by omega), hf s hs, z]
  decide
theorem yl_w197m (K : wY_walk_272 post J x1 x2 x3 x4 x5 x7 x8 x11 (-1) 0 x9 x10 f_alphabet f_countLimit f_arena f_capacity f_shut f_gap f_codeLen f_lastLevel f_lastEscapes f_lastCum f_lastFreq f_lastTotal a_said a_done a_start a_again a_range a_width a_low a_high a_code a_n a_out) :
    wY_walk_197 post J x1 x2 x3 x4 x5 x7 x8 x9 x10 x11 (-1) f_alphabet f_countLimit f_arena f_capacity f_shut f_gap f_codeLen f_lastLevel f_lastEscapes f_lastCum f_lastFreq f_lastTotal a_said a_done a_start a_again a_range a_width a_low a_high a_code a_n a_out := br_t (by decide) (br_t rfl K)
/-- the candidates are excluded -/
theorem yl_w348 {k : Nat} (ha : al ≤ 8) (hf : yn_ok al f a_n) (hb : ∀ t, f t ≤ 15) (hE : yo_ok al E a_out)
    (K : ∀ out : Nat → Int32, yo_ok al (hx_E E f) out → J x5 (kI k) (nI al) f_countLimit f_arena f_capacity f_shut f_gap f_codeLen f_lastLevel f_lastEscapes f_lastCum f_lastFreq f_lastTotal a_said a_done a_start a_again a_range a_width a_low a_high a_code a_n out) :
    ∀ d t, t + d = al → ∀ n, d < n → ∀ out : Nat → Int32, (∀ u, u < t → out u = nI (if hx_E E f u = true then 1 else 0)) → (∀ u, t ≤ u → u < al → out u = a_out u) → wY_walk_348 post J x1 x2 x3 x4 x5 (kI (k + 1)) (nI al) f_countLimit f_arena f_capacity f_shut f_gap f_codeLen f_lastLevel f_lastEscapes f_lastCum f_lastFreq f_lastTotal n (nI t) a_said a_done a_start a_again a_range a_width a_low a_high a_code a_n out := by
  intro d
  induction d with
  | zero =>
    intro t ht n hn out h1 h2
    obtain ⟨m, rfl⟩ : ∃ m, n = m + 1 := ⟨n - 1, by omega⟩
    have e : t = al := by omega
    subst e
    exact br_t (nI_le (Nat.le_refl t) (by omega)) (nm_r (kI_m k) (K out h1))
  | succ d ih =>
    intro t ht n hn out h1 h2
    obtain ⟨m, rfl⟩ : ∃ m, n = m + 1 := ⟨n - 1, by omega⟩
    have b := hb t
    have en : a_n (nI t).toNatClampNeg = nI (f t) := by rw [nI_clamp (by omega)]; exact hf t (by omega)
    refine br_f (nI_ge (by omega) (by omega)) ⟨pk_in t 8 (by omega), ?_⟩
    rw [en]
    refine pk_le (f t) 0 (fun z => nm_r (nI_1 t) (ih (t + 1) (by omega) m (by omega) out (fun u hu => ?_) (fun u h3 h4 => h2 u (by omega) h4))) (fun z => ⟨pk_in t 8 (by omega), nm_r (e' := upd out t 1) (by rw [nI_clamp (by omega), nar_bool1]) (nm_r (nI_1 t) (ih (t + 1) (by omega) m (by omega) _ (fun u hu => ?_) (fun u h3 h4 => ?_)))⟩)
    · by_cases e : u = t
      · subst e
        rw [h2 u (Nat.le_refl _) (by omega), hE u (by omega)]
        have e1 : hx_E E f u = E u := by unfold hx_E; rw [decide_eq_false (by omega), Bool.or_false]
        rw [e1]
      · exact h1 u (by omega)
    · by_cases e : u = t
      · subst e
        have e1 : hx_E E f u = true := by unfold hx_E; rw [decide_eq_true (by omega), Bool.or_true]
        rw [pk_us, e1]; rfl
      · rw [pk_un e]; exact h1 u (by omega)
    · rw [pk_un (by omega)]; exact h2 u (by omega) h4
theorem yl_w287n {k n : Nat} (ha : al ≤ 8) (hf : yn_ok al f a_n) (hb : ∀ t, f t ≤ 15) (hE : yo_ok al E a_out) {x12 x14 x15 : Int32}
    (K : ∀ out : Nat → Int32, yo_ok al (hx_E E f) out → J (nI (gone + m)) (kI k) (nI al) f_countLimit f_arena f_capacity f_shut f_gap f_codeLen f_lastLevel (nI (n + 1)) f_lastCum f_lastFreq f_lastTotal a_said a_done a_start a_again a_range a_width a_low a_high a_code a_n out) :
    wY_walk_287 post J x1 x2 x3 x4 (nI gone) (kI (k + 1)) (nI m) x11 x12 0 x14 x15 (nI al) f_countLimit f_arena f_capacity f_shut f_gap f_codeLen f_lastLevel (nI n) f_lastCum f_lastFreq f_lastTotal a_said a_done a_start a_again a_range a_width a_low a_high a_code a_n a_out :=
  br_t rfl (nm_r (nI_1 n) (nm_r (nI_add gone m) ⟨al + 1, yl_w348 ha hf hb hE K al 0 (by omega) (al + 1) (by omega) a_out (fun u h => absurd h (Nat.not_lt_zero _)) (fun _ _ _ => rfl)⟩))
theorem yl_w287y {x12 x14 x15 : Int32} (hN : N ≤ 4) (K : post x12 (f_alphabet, f_countLimit, f_arena, f_capacity, f_shut, f_gap, f_codeLen, nI (lv N), f_lastEscapes, x14, x15, x11, a_said, a_done, a_start, a_again, a_range, a_width, a_low, a_high, a_code, a_n, a_out)) :
    wY_walk_287 post J x1 x2 x3 x4 x5 (kI N) x8 x11 x12 1 x14 x15 f_alphabet f_countLimit f_arena f_capacity f_shut f_gap f_codeLen f_lastLevel f_lastEscapes f_lastCum f_lastFreq f_lastTotal a_said a_done a_start a_again a_range a_width a_low a_high a_code a_n a_out := by
  refine br_f (by decide) ?_
  cases N with
  | zero => exact br_f (by decide) K
  | succ k => exact br_t (nI_pos' (n := k) (by omega)) K
end
end
section
/-! ===== Y: the walk ===== -/
section
variable {lim al s : Nat} {L : List Nat} {E : Nat → Bool} {n N k W : Nat} {st : Nat × Nat × Nat} {cs : Nat × Nat × Nat → Nat → Nat → Nat → Nat × Nat × Nat}
theorem gw_y1 (hs : s < al) (z : hx_f E (hx_F lim L N) s ≠ 0) : gw al (hx_F lim L) (gw_cs al s) cs N E (hx_g E al) n st = gw_end al (hx_F lim L) cs N E (hx_g E al) n s st := by
  have hc : ∀ t, gw_cs al s st (hx_f E (hx_F lim L N)) t = s := fun t => if_neg z
  cases N with
  | zero =>
    show gw_end al (hx_F lim L) cs 0 E (hx_g E al) n (gw_cs al s st (hx_f E (hx_F lim L 0)) (gw_t al (hx_F lim L) E (hx_g E al) 0)) st = _
    rw [hc]
  | succ k =>
    have hm : gw_m al (hx_F lim L) E (k + 1) ≠ 0 := by have := hx_pc_pos hs z; unfold gw_m; omega
    rw [gw_l hm (by rw [hc]; exact hs), hc]
theorem gw_y0 (hm : gw_m al (hx_F lim L) E (k + 1) ≠ 0) (z : hx_f E (hx_F lim L (k + 1)) s = 0) : gw al (hx_F lim L) (gw_cs al s) cs (k + 1) E (hx_g E al) n st = gw al (hx_F lim L) (gw_cs al s) cs k (hx_E E (hx_f E (hx_F lim L (k + 1)))) (hx_g (hx_E E (hx_f E (hx_F lim L (k + 1)))) al) (n + 1) (cs st (gw_s al (hx_F lim L) E (k + 1)) (hx_es al (hx_g E al) (gw_m al (hx_F lim L) E (k + 1))) (gw_t al (hx_F lim L) E (hx_g E al) (k + 1))) := by
  have hc : ∀ t, gw_cs al s st (hx_f E (hx_F lim L (k + 1))) t = al := fun t => if_pos z
  rw [gw_x hm (by rw [hc]; omega), hx_g_E]
  rfl
theorem gw_e1 (hm : gw_m al (hx_F lim L) E N ≠ 0) (z : gw_cd al st (hx_f E (hx_F lim L N)) (gw_t al (hx_F lim L) E (hx_g E al) N) < al) : gw al (hx_F lim L) (gw_cd al) cs N E (hx_g E al) n st = gw_end al (hx_F lim L) cs N E (hx_g E al) n (gw_cd al st (hx_f E (hx_F lim L N)) (gw_t al (hx_F lim L) E (hx_g E al) N)) st := by
  cases N with
  | zero => rfl
  | succ k => rw [gw_l hm z]
theorem gw_e0 (hm : gw_m al (hx_F lim L) E (k + 1) ≠ 0) (z : ¬ gw_cd al st (hx_f E (hx_F lim L (k + 1))) (gw_t al (hx_F lim L) E (hx_g E al) (k + 1)) < al) : gw al (hx_F lim L) (gw_cd al) cs (k + 1) E (hx_g E al) n st = gw al (hx_F lim L) (gw_cd al) cs k (hx_E E (hx_f E (hx_F lim L (k + 1)))) (hx_g (hx_E E (hx_f E (hx_F lim L (k + 1)))) al) (n + 1) (cs st (gw_s al (hx_F lim L) E (k + 1)) (hx_es al (hx_g E al) (gw_m al (hx_F lim L) E (k + 1))) (gw_t al (hx_F lim L) E (hx_g E al) (k + 1))) := by
  rw [gw_x hm z, hx_g_E]
  rfl
theorem gw_m0 (hg : hx_g E al < al) : gw_m al (hx_F lim L) E 0 ≠ 0 := by
  have h := hx_g_flat (E := E) al
  show hx_pc (hx_f E (fun _ => 1)) al ≠ 0
  omega
theorem gw_gs (hs : s < al) (hE : E s = false) : hx_g E al < al := by
  have h := hx_g_flat (E := E) al
  have p := hx_pc_pos (f := hx_f E (fun _ => 1)) hs (by rw [hx_f_n hE]; decide)
  omega
end
section
variable {f_alphabet f_countLimit f_arena f_capacity f_shut f_gap f_codeLen f_lastLevel f_lastEscapes f_lastCum f_lastFreq f_lastTotal : Int32} {a_said a_done a_start a_again a_range a_width a_low a_high a_code a_n a_out : Nat → Int32}
variable {post : Int32 → SY → Prop}
/-- a level of the walk -/
theorem yl_w50 {x2 x3 p : Int32} {lim al N sd st d m : Nat} {g : Nat → Nat} {E : Nat → Bool} (hl : 2 ≤ lim) (hl5 : lim ≤ 15) (ha : al ≤ 8) (hs2 : sd < 2) (Y : ys_ok sd st d g a_said a_done a_start) (hp : ∀ j, j < hx_top (hs g st d) → cp p j = g (st + d - 1 - j)) (hN : N ≤ hx_top (hs g st d) + 1) (hE : yo_ok al E a_out)
    (K0 : gw_m al (hx_F lim (hs g st d)) E N = 0 → ∀ nn : Nat → Int32, wY_walk_50 post (nI sd) x2 x3 p m (nI (hx_g E al)) (kI N + (-1)) (nI al) (nI lim) f_arena f_capacity f_shut f_gap f_codeLen f_lastLevel f_lastEscapes f_lastCum f_lastFreq f_lastTotal a_said a_done a_start a_again a_range a_width a_low a_high a_code nn a_out)
    (K1 : gw_m al (hx_F lim (hs g st d)) E N ≠ 0 → ∀ nn : Nat → Int32, yn_ok al (hx_f E (hx_F lim (hs g st d) N)) nn → wY_walk_173 post (wY_walk_50 post (nI sd) x2 x3 p m) (nI sd) x2 x3 p (nI (hx_g E al)) (kI N) (nI (gw_m al (hx_F lim (hs g st d)) E N)) (nI (gw_s al (hx_F lim (hs g st d)) E N)) (nI (hx_es al (hx_g E al) (gw_m al (hx_F lim (hs g st d)) E N))) (nI al) (nI lim) f_arena f_capacity f_shut f_gap f_codeLen f_lastLevel f_lastEscapes f_lastCum f_lastFreq f_lastTotal a_said a_done a_start a_again a_range a_width a_low a_high a_code nn a_out) :
    wY_walk_50 post (nI sd) x2 x3 p (m + 1) (nI (hx_g E al)) (kI N) (nI al) (nI lim) f_arena f_capacity f_shut f_gap f_codeLen f_lastLevel f_lastEscapes f_lastCum f_lastFreq f_lastTotal a_said a_done a_start a_again a_range a_width a_low a_high a_code a_n a_out := by
  have ht := hx_top_le (hs g st d)
  have htl := hx_top_len (hs g st d)
  rw [hs_len] at htl
  have hF := hx_F_le hl hl5 (hs g st d)
  have hg8 : hx_g E al ≤ 8 := Nat.le_trans (hx_g_le E al) ha
  cases N with
  | zero =>
    refine br_f (show ¬ (-1 : Int32) < (-1) by decide) (br_t (show (-1 : Int32) < 0 by decide) ⟨al + 1, ?_⟩)
    exact yl_w79 (N := 0) (F := hx_F lim (hs g st d) 0) ha hg8 (hF 0) (fun _ t => rfl) (by omega) hE K0 K1 al 0 (by omega) (al + 1) (by omega) a_n (fun u h => absurd h (Nat.not_lt_zero _)) (fun q => absurd rfl q)
  | succ k =>
    have nk : ¬ nI k < (-1 : Int32) := by
      rw [Int32.lt_iff_toInt_lt, nI_toInt (by omega), show (-1 : Int32).toInt = -1 by decide]
      omega
    refine br_f nk (br_f (nI_pos (n := k) (by omega)) ?_)
    refine yl_tally (len := k) hl hl5 hs2 (by omega) Y (fun nn h => ⟨al + 1, ?_⟩)
    have ec : cl (cp p) k = (hs g st d).take k := cl_take g st k (cp p) d (by omega) (fun j hj => (hp j (by omega)).symm)
    rw [ec] at h
    exact yl_w79 (N := k + 1) (F := hx_F lim (hs g st d) (k + 1)) ha hg8 (hF (k + 1)) (fun q => by omega) (by omega) hE K0 K1 al 0 (by omega) (al + 1) (by omega) nn (fun u h => absurd h (Nat.not_lt_zero _)) (fun _ u _ hu => h u (by omega))
theorem yl_we {lim al s W st d : Nat} {g : Nat → Nat} {p : Int32} {ra0 wi0 : Nat → Int32} (hl : 2 ≤ lim) (hl5 : lim ≤ 15) (ha : al ≤ 8) (hsa : s < al) (hW : W ≤ 3800) (Y : ys_ok 0 st d g a_said a_done a_start) (hp : ∀ j, j < hx_top (hs g st d) → cp p j = g (st + d - 1 - j)) :
    ∀ N, N ≤ hx_top (hs g st d) + 1 → ∀ (n : Nat) (E : Nat → Bool) (q : Nat × Nat × Nat), n + N ≤ 4 → E s = false → cx_EI W n q →
    ∀ (fu : Nat) (ra wi lw nn out : Nat → Int32), N < fu → yo_ok al E out → cy_ok q ra wi lw → ra 1 = ra0 1 → wi 1 = wi0 1 →
    (∀ (ll le lc lf lt : Int32) (ra wi lw nn out : Nat → Int32), cy_ok (gw al (hx_F lim (hs g st d)) (gw_cs al s) cx_e N E (hx_g E al) n q).2.2.2.2.2.2 ra wi lw → ra 1 = ra0 1 → wi 1 = wi0 1 →
      post (nI s) (nI al, nI lim, f_arena, f_capacity, f_shut, f_gap, f_codeLen, ll, le, lc, lf, lt, a_said, a_done, a_start, a_again, ra, wi, lw, a_high, a_code, nn, out)) →
    wY_walk_50 post (nI 0) (nI s) 1 p fu (nI (hx_g E al)) (kI N) (nI al) (nI lim) f_arena f_capacity f_shut f_gap f_codeLen f_lastLevel (nI n) f_lastCum f_lastFreq f_lastTotal a_said a_done a_start a_again ra wi lw a_high a_code nn out := by
  have hF := hx_F_le hl hl5 (hs g st d)
  have ht := hx_top_le (hs g st d)
  intro N
  induction N with
  | zero =>
    intro hN n E q hn hEs hI fu ra wi lw nn out hfu hE hcy r1 w1 K
    obtain ⟨m, rfl⟩ : ∃ m, fu = m + 1 := ⟨fu - 1, by omega⟩
    refine yl_w50 hl hl5 ha (by omega) Y hp hN hE (fun z => absurd z (gw_m0 (gw_gs hsa hEs))) (fun hm nn' hn' => ?_)
    have z : hx_f E (hx_F lim (hs g st d) 0) s ≠ 0 := by rw [hx_f_n hEs]; show 1 ≠ 0; decide
    have hi := gw_it (gone := hx_g E al) ha hF hsa z
    rw [gw_y1 hsa z] at K
    refine nm_r (nI_add _ _) (br_t (nI_pos' (by omega)) ?_)
    refine yl_w197y ha hsa hn' (hx_f_le (hF 0)) z (br_f (by decide) ?_)
    refine yl_ne hI (by omega) hi hcy (fun ra' wi' lw' hcy' r1' w1' => ?_)
    exact yl_w287y (N := 0) (by omega) (K _ _ _ _ _ ra' wi' lw' nn' out hcy' (r1'.trans r1) (w1'.trans w1))
  | succ k ih =>
    intro hN n E q hn hEs hI fu ra wi lw nn out hfu hE hcy r1 w1 K
    obtain ⟨m, rfl⟩ : ∃ m, fu = m + 1 := ⟨fu - 1, by omega⟩
    refine yl_w50 hl hl5 ha (by omega) Y hp hN hE (fun z nn' => ?_) (fun hm nn' hn' => ?_)
    · rw [gw_z z] at K
      rw [show kI (k + 1) + (-1) = kI k from kI_m k]
      exact ih (by omega) n E q (by omega) hEs hI m ra wi lw nn' out (by omega) hE hcy r1 w1 K
    · refine nm_r (nI_add _ _) (br_t (nI_pos' (by omega)) ?_)
      by_cases z : hx_f E (hx_F lim (hs g st d) (k + 1)) s = 0
      · rw [gw_y0 hm z] at K
        have hr := hx_room hsa hEs z
        have hi := gw_ie (gone := hx_g E al) ha hF hm hr
        refine yl_w197n ha hsa hn' z (br_f (by decide) ?_)
        refine yl_ne hI (by omega) hi hcy (fun ra' wi' lw' hcy' r1' w1' => ?_)
        refine yl_w287n ha hn' (hx_f_le (hF (k + 1))) hE (fun out' ho' => ?_)
        have eg2 : hx_g E al + gw_m al (hx_F lim (hs g st d)) E (k + 1) = hx_g (hx_E E (hx_f E (hx_F lim (hs g st d) (k + 1)))) al := (hx_g_E al).symm
        rw [eg2]
        exact ih (by omega) (n + 1) _ _ (by omega) (hx_E_s hEs z) (cx_EI_s hI hi) m ra' wi' lw' nn' out' (by omega) ho' hcy' (r1'.trans r1) (w1'.trans w1) K
      · have hi := gw_it (gone := hx_g E al) ha hF hsa z
        rw [gw_y1 hsa z] at K
        refine yl_w197y ha hsa hn' (hx_f_le (hF (k + 1))) z (br_f (by decide) ?_)
        refine yl_ne hI (by omega) hi hcy (fun ra' wi' lw' hcy' r1' w1' => ?_)
        exact yl_w287y (N := k + 1) (by omega) (K _ _ _ _ _ ra' wi' lw' nn' out hcy' (r1'.trans r1) (w1'.trans w1))
theorem yl_wp {lim al s sd st d : Nat} {g : Nat → Nat} {p : Int32} (q : Nat × Nat × Nat) (hl : 2 ≤ lim) (hl5 : lim ≤ 15) (ha : al ≤ 8) (hsa : s < al) (hs2 : sd < 2) (Y : ys_ok sd st d g a_said a_done a_start) (hp : ∀ j, j < hx_top (hs g st d) → cp p j = g (st + d - 1 - j)) :
    ∀ N, N ≤ hx_top (hs g st d) + 1 → ∀ (n : Nat) (E : Nat → Bool), n + N ≤ 4 → E s = false →
    ∀ (fu : Nat) (nn out : Nat → Int32), N < fu → yo_ok al E out →
    (∀ (nn out : Nat → Int32),
      post (nI s) (nI al, nI lim, f_arena, f_capacity, f_shut, f_gap, f_codeLen, nI (lv (gw al (hx_F lim (hs g st d)) (gw_cs al s) gw_id N E (hx_g E al) n q).1), nI (gw al (hx_F lim (hs g st d)) (gw_cs al s) gw_id N E (hx_g E al) n q).2.1, nI (gw al (hx_F lim (hs g st d)) (gw_cs al s) gw_id N E (hx_g E al) n q).2.2.1, nI (gw al (hx_F lim (hs g st d)) (gw_cs al s) gw_id N E (hx_g E al) n q).2.2.2.1, nI (gw al (hx_F lim (hs g st d)) (gw_cs al s) gw_id N E (hx_g E al) n q).2.2.2.2.1, a_said, a_done, a_start, a_again, a_range, a_width, a_low, a_high, a_code, nn, out)) →
    wY_walk_50 post (nI sd) (nI s) 0 p fu (nI (hx_g E al)) (kI N) (nI al) (nI lim) f_arena f_capacity f_shut f_gap f_codeLen f_lastLevel (nI n) f_lastCum f_lastFreq f_lastTotal a_said a_done a_start a_again a_range a_width a_low a_high a_code nn out := by
  have hF := hx_F_le hl hl5 (hs g st d)
  have ht := hx_top_le (hs g st d)
  intro N
  induction N with
  | zero =>
    intro hN n E hn hEs fu nn out hfu hE K
    obtain ⟨m, rfl⟩ : ∃ m, fu = m + 1 := ⟨fu - 1, by omega⟩
    refine yl_w50 hl hl5 ha hs2 Y hp hN hE (fun z => absurd z (gw_m0 (gw_gs hsa hEs))) (fun hm nn' hn' => ?_)
    have z : hx_f E (hx_F lim (hs g st d) 0) s ≠ 0 := by rw [hx_f_n hEs]; show 1 ≠ 0; decide
    rw [gw_y1 hsa z] at K
    refine nm_r (nI_add _ _) (br_t (nI_pos' (by omega)) ?_)
    refine yl_w197y ha hsa hn' (hx_f_le (hF 0)) z (br_t rfl ?_)
    exact yl_w287y (N := 0) (by omega) (K nn' out)
  | succ k ih =>
    intro hN n E hn hEs fu nn out hfu hE K
    obtain ⟨m, rfl⟩ : ∃ m, fu = m + 1 := ⟨fu - 1, by omega⟩
    refine yl_w50 hl hl5 ha hs2 Y hp hN hE (fun z nn' => ?_) (fun hm nn' hn' => ?_)
    · rw [gw_z z] at K
      rw [show kI (k + 1) + (-1) = kI k from kI_m k]
      exact ih (by omega) n E (by omega) hEs m nn' out (by omega) hE K
    · refine nm_r (nI_add _ _) (br_t (nI_pos' (by omega)) ?_)
      by_cases z : hx_f E (hx_F lim (hs g st d) (k + 1)) s = 0
      · rw [gw_y0 hm z] at K
        refine yl_w197n ha hsa hn' z (br_t rfl ?_)
        refine yl_w287n ha hn' (hx_f_le (hF (k + 1))) hE (fun out' ho' => ?_)
        have eg2 : hx_g E al + gw_m al (hx_F lim (hs g st d)) E (k + 1) = hx_g (hx_E E (hx_f E (hx_F lim (hs g st d) (k + 1)))) al := (hx_g_E al).symm
        rw [eg2]
        exact ih (by omega) (n + 1) _ (by omega) (hx_E_s hEs z) m nn' out' (by omega) ho' K
      · rw [gw_y1 hsa z] at K
        refine yl_w197y ha hsa hn' (hx_f_le (hF (k + 1))) z (br_t rfl ?_)
        exact yl_w287y (N := k + 1) (by omega) (K nn' out)
theorem yl_wd {lim al W st d cd : Nat} {dg : Nat → Nat} {g : Nat → Nat} {p : Int32} {ra0 wi0 : Nat → Int32} (hl : 2 ≤ lim) (hl5 : lim ≤ 15) (ha : al ≤ 8) (hW : W ≤ 3800) (hc : cd_ok cd dg f_codeLen a_code) (Y : ys_ok 1 st d g a_said a_done a_start) (hp : ∀ j, j < hx_top (hs g st d) → cp p j = g (st + d - 1 - j)) :
    ∀ N, N ≤ hx_top (hs g st d) + 1 → ∀ (n : Nat) (E : Nat → Bool) (q : Nat × Nat × Nat), n + N ≤ 4 → hx_g E al < al → cx_DI W n q →
    ∀ (fu : Nat) (ra wi nn out : Nat → Int32), N < fu → yo_ok al E out → ra 1 = nI q.2.1 → wi 1 = nI q.2.2 → ra 0 = ra0 0 → wi 0 = wi0 0 →
    (∀ (ll le lc lf lt : Int32) (ra wi nn out : Nat → Int32), ra 1 = nI (gw al (hx_F lim (hs g st d)) (gw_cd al) (cx_d dg) N E (hx_g E al) n q).2.2.2.2.2.2.2.1 → wi 1 = nI (gw al (hx_F lim (hs g st d)) (gw_cd al) (cx_d dg) N E (hx_g E al) n q).2.2.2.2.2.2.2.2 → ra 0 = ra0 0 → wi 0 = wi0 0 →
      post (nI (gw al (hx_F lim (hs g st d)) (gw_cd al) (cx_d dg) N E (hx_g E al) n q).2.2.2.2.2.1) (nI al, nI lim, f_arena, f_capacity, f_shut, nI (gw al (hx_F lim (hs g st d)) (gw_cd al) (cx_d dg) N E (hx_g E al) n q).2.2.2.2.2.2.1, f_codeLen, ll, le, lc, lf, lt, a_said, a_done, a_start, a_again, ra, wi, a_low, a_high, a_code, nn, out)) →
    wY_walk_50 post (nI 1) (-1) 1 p fu (nI (hx_g E al)) (kI N) (nI al) (nI lim) f_arena f_capacity f_shut (nI q.1) f_codeLen f_lastLevel (nI n) f_lastCum f_lastFreq f_lastTotal a_said a_done a_start a_again ra wi a_low a_high a_code nn out := by
  have hF := hx_F_le hl hl5 (hs g st d)
  have ht := hx_top_le (hs g st d)
  intro N
  induction N with
  | zero =>
    intro hN n E q hn hg hI fu ra wi nn out hfu hE r1 w1 r0 w0 K
    obtain ⟨m, rfl⟩ : ∃ m, fu = m + 1 := ⟨fu - 1, by omega⟩
    refine yl_w50 hl hl5 ha (by omega) Y hp hN hE (fun z => absurd z (gw_m0 hg)) (fun hm nn' hn' => ?_)
    have bt1 := gw_tot (al := al) (F := hx_F lim (hs g st d)) (E := E) (gone := hx_g E al) (K := 0) ha hF
    have bp : 0 < gw_t al (hx_F lim (hs g st d)) E (hx_g E al) 0 := by have := gw_pos hm; unfold gw_t; omega
    have z : gw_cd al q (hx_f E (hx_F lim (hs g st d) 0)) (gw_t al (hx_F lim (hs g st d)) E (hx_g E al) 0) < al := by
      rcases Nat.lt_or_ge (gw_cd al q (hx_f E (hx_F lim (hs g st d) 0)) (gw_t al (hx_F lim (hs g st d)) E (hx_g E al) 0)) al with y | y
      · exact y
      · have h1 := (gw_de ha hF hm (Nat.not_lt.mpr y)).1
        have h2 := hx_g_flat (E := E) al
        have h3 : hx_g E al + hx_pc (hx_f E (fun _ => 1)) al < al := h1
        omega
    obtain ⟨nz, hi, hdi⟩ := gw_dt ha hF hI hm rfl z
    rw [gw_e1 hm z] at K
    refine nm_r (e' := nI (gw_t al (hx_F lim (hs g st d)) E (hx_g E al) 0)) (nI_add _ _) (br_f (by decide) ?_)
    refine yl_choose ha hn' (hx_f_le (hF 0)) r1 hI.1 hI.2.1 hI.2.2.2.2 bp bt1.1 ?_
    rw [if_pos z]
    refine yl_w197y ha z hn' (hx_f_le (hF 0)) nz (br_f (by decide) ?_)
    refine yl_nd hc hI (by omega) hi hdi r1 w1 (fun ra' wi' r1' w1' r0' w0' => ?_)
    exact yl_w287y (N := 0) (by omega) (K _ _ _ _ _ ra' wi' nn' out r1' w1' (r0'.trans r0) (w0'.trans w0))
  | succ k ih =>
    intro hN n E q hn hg hI fu ra wi nn out hfu hE r1 w1 r0 w0 K
    obtain ⟨m, rfl⟩ : ∃ m, fu = m + 1 := ⟨fu - 1, by omega⟩
    refine yl_w50 hl hl5 ha (by omega) Y hp hN hE (fun z nn' => ?_) (fun hm nn' hn' => ?_)
    · rw [gw_z z] at K
      rw [show kI (k + 1) + (-1) = kI k from kI_m k]
      exact ih (by omega) n E q (by omega) hg hI m ra wi nn' out (by omega) hE r1 w1 r0 w0 K
    · have bt1 := gw_tot (al := al) (F := hx_F lim (hs g st d)) (E := E) (gone := hx_g E al) (K := k + 1) ha hF
      have bp : 0 < gw_t al (hx_F lim (hs g st d)) E (hx_g E al) (k + 1) := by have := gw_pos hm; unfold gw_t; omega
      refine nm_r (e' := nI (gw_t al (hx_F lim (hs g st d)) E (hx_g E al) (k + 1))) (nI_add _ _) (br_f (by decide) ?_)
      refine yl_choose ha hn' (hx_f_le (hF (k + 1))) r1 hI.1 hI.2.1 hI.2.2.2.2 bp bt1.1 ?_
      by_cases z : gw_cd al q (hx_f E (hx_F lim (hs g st d) (k + 1))) (gw_t al (hx_F lim (hs g st d)) E (hx_g E al) (k + 1)) < al
      · obtain ⟨nz, hi, hdi⟩ := gw_dt ha hF hI hm rfl z
        rw [gw_e1 hm z] at K
        rw [if_pos z]
        refine yl_w197y ha z hn' (hx_f_le (hF (k + 1))) nz (br_f (by decide) ?_)
        refine yl_nd hc hI (by omega) hi hdi r1 w1 (fun ra' wi' r1' w1' r0' w0' => ?_)
        exact yl_w287y (N := k + 1) (by omega) (K _ _ _ _ _ ra' wi' nn' out r1' w1' (r0'.trans r0) (w0'.trans w0))
      · obtain ⟨hr, hi, hdi⟩ := gw_de ha hF hm z
        rw [gw_e0 hm z] at K
        rw [if_neg z]
        refine yl_w197m (br_f (by decide) ?_)
        refine yl_nd hc hI (by omega) hi hdi r1 w1 (fun ra' wi' r1' w1' r0' w0' => ?_)
        refine yl_w287n ha hn' (hx_f_le (hF (k + 1))) hE (fun out' ho' => ?_)
        have eg2 : hx_g E al + gw_m al (hx_F lim (hs g st d)) E (k + 1) = hx_g (hx_E E (hx_f E (hx_F lim (hs g st d) (k + 1)))) al := (hx_g_E al).symm
        rw [eg2] at hr ⊢
        exact ih (by omega) (n + 1) _ _ (by omega) hr (cx_DI_s hc.2.2.2.2 hI hi hdi) m ra' wi' nn' out' (by omega) ho' r1' w1' (r0'.trans r0) (w0'.trans w0) K
theorem hx_g_none : ∀ n, hx_g (fun _ => false) n = 0
  | 0 => rfl
  | n + 1 => by show hx_g (fun _ => false) n + 0 = 0; rw [hx_g_none n]
theorem yl_walk0 {x2 x3 : Int32} {al sd st d : Nat} {g : Nat → Nat} (ha : al ≤ 8) (hs2 : sd < 2) (Y : ys_ok sd st d g a_said a_done a_start)
    (K : ∀ (p : Int32) (out : Nat → Int32), (∀ j, j < hx_top (hs g st d) → cp p j = g (st + d - 1 - j)) → yo_ok al (fun _ => false) out → ∃ fu, wY_walk_50 post (nI sd) x2 x3 p fu (nI (hx_g (fun _ => false) al)) (kI (hx_top (hs g st d) + 1)) f_alphabet f_countLimit f_arena f_capacity f_shut f_gap f_codeLen f_lastLevel (nI 0) f_lastCum f_lastFreq f_lastTotal a_said a_done a_start a_again a_range a_width a_low a_high a_code a_n out) :
    wpY_walk post (f_alphabet, f_countLimit, f_arena, f_capacity, f_shut, f_gap, f_codeLen, f_lastLevel, f_lastEscapes, f_lastCum, f_lastFreq, f_lastTotal, a_said, a_done, a_start, a_again, a_range, a_width, a_low, a_high, a_code, a_n, a_out) (nI sd) x2 x3 := by
  unfold wpY_walk
  refine yl_recent hs2 Y (fun p hp => yl_order hs2 Y ⟨9, ?_⟩)
  have main : ∀ e t, t + e = 8 → ∀ n, e < n → ∀ out : Nat → Int32, (∀ u, u < t → out u = 0) → wY_walk_25 post (nI sd) x2 x3 p 0 (nI (hx_top (hs g st d))) f_alphabet f_countLimit f_arena f_capacity f_shut f_gap f_codeLen f_lastLevel 0 f_lastCum f_lastFreq f_lastTotal n (nI t) a_said a_done a_start a_again a_range a_width a_low a_high a_code a_n out := by
    intro e
    induction e with
    | zero =>
      intro t ht n hn out h
      obtain ⟨m, rfl⟩ : ∃ m, n = m + 1 := ⟨n - 1, by omega⟩
      have ej : t = 8 := by omega
      subst ej
      have k := K p out hp (fun u hu => by rw [h u (by omega)]; rfl)
      rw [hx_g_none] at k
      exact br_t (nI_le (a := 8) (b := 8) (by omega) (by omega)) k
    | succ e ih =>
      intro t ht n hn out h
      obtain ⟨m, rfl⟩ : ∃ m, n = m + 1 := ⟨n - 1, by omega⟩
      refine br_f (nI_ge (b := 8) (by omega) (by omega)) ⟨pk_in t 8 (by omega), nm_r (e' := upd out t 0) (by rw [nI_clamp (by omega), nar_bool0]) (nm_r (nI_1 t) (ih (t + 1) (by omega) m (by omega) _ (fun u hu => ?_)))⟩
      by_cases q : u = t
      · rw [q]; exact pk_us
      · rw [pk_un q]; exact h u (by omega)
  exact main 8 0 rfl 9 (by omega) a_out (fun u h => absurd h (Nat.not_lt_zero _))
end
end
section
/-! ===== pure: the settled digits ===== -/
def sv (lo p e rg : Nat) : Nat := if p = 0 ∧ (32768 ≤ lo ∨ lo + rg ≤ 32768) then e + 1 else e
theorem dv_split {D R a b : Nat} (h : R < 2 ^ a) : (D * 2 ^ a + R) / 2 ^ (a + b) = D / 2 ^ b := by
  rw [Nat.pow_add, ← Nat.div_div_eq_div_mul, Nat.mul_comm D, Nat.mul_add_div (Nat.two_pow_pos a), Nat.div_eq_of_lt h, Nat.add_zero]
/-- the part of LOW behind the settled digits -/
theorem cx_tail {V rg w lo p e D : Nat} (hr : rg ≤ 65536) (h1 : 1 ≤ rg) (h : cx_ok V rg w lo p e D) : ∃ R, V = D * 2 ^ (p + 16) + R ∧ R + (rg - 1) < 2 ^ (p + 16) ∧ R = (2 ^ (p - 1) - 1) * 65536 + lo := by
  obtain ⟨c1, c2, c3, c4, c5⟩ := h
  refine ⟨(2 ^ (p - 1) - 1) * 65536 + lo, ?_, ?_, rfl⟩
  · rw [c2, Nat.pow_add, ← Nat.mul_assoc, Nat.add_mul]
    show D * 2 ^ p * 65536 + _ + lo = D * 2 ^ p * 65536 + _
    omega
  · rw [Nat.pow_add]
    show _ < 2 ^ p * 65536
    rcases Nat.eq_zero_or_pos p with z | z
    · subst z
      have := c4 rfl
      show (1 - 1) * 65536 + lo + (rg - 1) < 1 * 65536
      omega
    · have pp : 2 ^ p = 2 ^ (p - 1) * 2 := by rw [← Nat.pow_succ]; exact congrArg (2 ^ ·) (by omega)
      have p1 := Nat.two_pow_pos (p - 1)
      rw [pp]
      omega
theorem cx_dig {V rg w lo p e D : Nat} (hr : rg ≤ 65536) (h1 : 1 ≤ rg) (h : cx_ok V rg w lo p e D) (i : Nat) (hi : i < e) : V / 2 ^ (w - 1 - i) % 2 = D / 2 ^ (e - 1 - i) % 2 ∧ (V + (rg - 1)) / 2 ^ (w - 1 - i) % 2 = D / 2 ^ (e - 1 - i) % 2 := by
  obtain ⟨R, e1, e2, _⟩ := cx_tail hr h1 h
  have ew : w - 1 - i = p + 16 + (e - 1 - i) := by have := h.1; omega
  rw [ew, e1, Nat.add_assoc (D * _), dv_split e2, dv_split (by omega)]
  exact ⟨rfl, rfl⟩
theorem sv_ok {V rg w lo p e D : Nat} (h0 : 32768 ≤ rg) (hr : rg ≤ 65536) (h : cx_ok V rg w lo p e D) : sv lo p e rg < w ∧ (∀ i, i < sv lo p e rg → V / 2 ^ (w - 1 - i) % 2 = (V + (rg - 1)) / 2 ^ (w - 1 - i) % 2) ∧ V / 2 ^ (w - 1 - sv lo p e rg) % 2 ≠ (V + (rg - 1)) / 2 ^ (w - 1 - sv lo p e rg) % 2 := by
  have dig := cx_dig hr (by omega) h
  obtain ⟨R, e1, e2, e3⟩ := cx_tail hr (by omega) h
  obtain ⟨c1, c2, c3, c4, c5⟩ := h
  by_cases z : p = 0 ∧ (32768 ≤ lo ∨ lo + rg ≤ 32768)
  · have es : sv lo p e rg = e + 1 := if_pos z
    obtain ⟨p0, z⟩ := z
    subst p0
    have c4 := c4 rfl
    have eR : R = lo := by rw [e3]; show (1 - 1) * 65536 + lo = lo; omega
    subst eR
    have e1' : V = D * 65536 + R := e1
    rw [es]
    refine ⟨by omega, fun i hi => ?_, ?_⟩
    · rcases Nat.lt_or_ge i e with y | y
      · rw [(dig i y).1, (dig i y).2]
      · rw [show w - 1 - i = 15 by omega, e1']
        show _ / 32768 % 2 = _ / 32768 % 2
        omega
    · rw [show w - 1 - (e + 1) = 14 by omega, e1']
      show _ / 16384 % 2 ≠ _ / 16384 % 2
      omega
  · have es : sv lo p e rg = e := if_neg z
    rw [es]
    refine ⟨by omega, fun i hi => by rw [(dig i hi).1, (dig i hi).2], ?_⟩
    rcases Nat.eq_zero_or_pos p with p0 | p0
    · subst p0
      have c4 := c4 rfl
      have eR : R = lo := by rw [e3]; show (1 - 1) * 65536 + lo = lo; omega
      subst eR
      have e1' : V = D * 65536 + R := e1
      rw [show w - 1 - e = 15 by omega, e1']
      show _ / 32768 % 2 ≠ _ / 32768 % 2
      omega
    · have c5 := c5 p0
      have pp : 2 ^ (p + 16) = 2 ^ (p + 15) * 2 := by rw [← Nat.pow_succ]
      have p15 : 2 ^ (p + 15) = 2 ^ (p - 1) * 65536 := by
        rw [show p + 15 = (p - 1) + 16 by omega, Nat.pow_add]
      have p1 := Nat.two_pow_pos (p - 1)
      rw [show w - 1 - e = p + 15 by omega, e1, pp]
      rw [pp] at e2
      have q1 : R < 2 ^ (p + 15) := by rw [e3, p15]; omega
      have q2 : 2 ^ (p + 15) ≤ R + (rg - 1) := by rw [e3, p15]; omega
      have f1 : (D * (2 ^ (p + 15) * 2) + R) / 2 ^ (p + 15) = D * 2 := by
        rw [show D * (2 ^ (p + 15) * 2) = 2 ^ (p + 15) * (D * 2) by rw [Nat.mul_left_comm]]
        rw [Nat.mul_add_div (Nat.two_pow_pos _), Nat.div_eq_of_lt q1, Nat.add_zero]
      have f2 : (D * (2 ^ (p + 15) * 2) + R + (rg - 1)) / 2 ^ (p + 15) = D * 2 + 1 := by
        rw [show D * (2 ^ (p + 15) * 2) = 2 ^ (p + 15) * (D * 2) by rw [Nat.mul_left_comm], Nat.add_assoc]
        rw [Nat.mul_add_div (Nat.two_pow_pos _)]
        have : (R + (rg - 1)) / 2 ^ (p + 15) = 1 := Nat.div_eq_of_lt_le (by omega) (by omega)
        rw [this]
      rw [f1, f2]
      omega
/-- the digit in the window -/
theorem cx_win {V rg w lo e D : Nat} (h : cx_ok V rg w lo 0 e D) : V / 2 ^ (w - 1 - e) % 2 = lo / 32768 := by
  obtain ⟨c1, c2, c3, c4, c5⟩ := h
  have e1 : V = D * 65536 + lo := by rw [c2]; show (D * 1 + (1 - 1)) * 65536 + lo = _; omega
  rw [show w - 1 - e = 15 by omega, e1]
  show _ / 32768 % 2 = _
  omega
theorem cx_low {V rg w lo p e D : Nat} (h : cx_ok V rg w lo p e D) : V % 65536 = lo := by
  obtain ⟨c1, c2, c3, c4, c5⟩ := h
  rw [c2]
  omega
section
variable {f_alphabet f_countLimit f_arena f_capacity f_closed f_low f_pending f_emitted f_gap f_codeDigits f_encoded f_decodedCount f_walkSide f_walkNext f_excluded f_excludedCount f_candidates f_candidateCount f_stepLevel f_stepSum f_stepEscape f_stepTotal f_stepCum f_stepFreq : Int32} {a_child a_tally a_contextNode a_depth a_recent a_stringCount a_restartCount a_range a_width a_digits a_decoded a_itemFreq : Nat → Int32}
theorem xl_settled {post : Int32 → Prop} {lo p e rg : Nat} (hlo : lo < 65536) (hp : p < 5000) (he : e < 5000) (hr : a_range 0 = nI rg) (hrb : rg ≤ 65536) (K : post (nI (sv lo p e rg))) : wpX_settled post (f_alphabet, f_countLimit, f_arena, f_capacity, f_closed, nI lo, nI p, nI e, f_gap, f_codeDigits, f_encoded, f_decodedCount, f_walkSide, f_walkNext, f_excluded, f_excludedCount, f_candidates, f_candidateCount, f_stepLevel, f_stepSum, f_stepEscape, f_stepTotal, f_stepCum, f_stepFreq, a_child, a_tally, a_contextNode, a_depth, a_recent, a_stringCount, a_restartCount, a_range, a_width, a_digits, a_decoded, a_itemFreq) := by
  have er : nI lo + a_range 0 = nI (lo + rg) := by rw [hr, nI_add]
  refine pk_eq p 0 (fun z => pk_le 32768 lo (fun y => ?_) (fun y => ?_)) (fun z => ?_)
  · have es : sv lo p e rg = e + 1 := if_pos ⟨z, Or.inl y⟩
    rw [es] at K
    rw [nI_1]; exact K
  · rw [er]
    refine pk_lt 32768 (lo + rg) (fun x => ?_) (fun x => ?_)
    · have es : sv lo p e rg = e := if_neg (fun q => by omega)
      rw [es] at K; exact K
    · have es : sv lo p e rg = e + 1 := if_pos ⟨z, Or.inr x⟩
      rw [es] at K
      rw [nI_1]; exact K
  · have es : sv lo p e rg = e := if_neg (fun q => z q.1)
    rw [es] at K; exact K
end
section
variable {f_alphabet f_countLimit f_arena f_capacity f_shut f_gap f_codeLen f_lastLevel f_lastEscapes f_lastCum f_lastFreq f_lastTotal : Int32} {a_said a_done a_start a_again a_range a_width a_low a_high a_code a_n a_out : Nat → Int32}
theorem yl_settled {post : Int32 → SY → Prop} {V rg w lo p e D : Nat} (h0 : 32768 ≤ rg) (hrb : rg ≤ 65536) (hw : w ≤ 4000) (hr : a_range 0 = nI rg) (hwi : a_width 0 = nI w) (hl : ey_ok V w a_low) (h : cx_ok V rg w lo p e D) (K : ∀ hi : Nat → Int32, post (nI (sv lo p e rg)) (f_alphabet, f_countLimit, f_arena, f_capacity, f_shut, f_gap, f_codeLen, f_lastLevel, f_lastEscapes, f_lastCum, f_lastFreq, f_lastTotal, a_said, a_done, a_start, a_again, a_range, a_width, a_low, hi, a_code, a_n, a_out)) : wpY_settled post (f_alphabet, f_countLimit, f_arena, f_capacity, f_shut, f_gap, f_codeLen, f_lastLevel, f_lastEscapes, f_lastCum, f_lastFreq, f_lastTotal, a_said, a_done, a_start, a_again, a_range, a_width, a_low, a_high, a_code, a_n, a_out) := by
  have S := sv_ok h0 hrb h
  have scan : ∀ hi : Nat → Int32, ey_ok (V + (rg - 1)) w hi → ∀ d i, i + d = sv lo p e rg → ∀ n, d < n → wY_settled_52 post f_alphabet f_countLimit f_arena f_capacity f_shut f_gap f_codeLen f_lastLevel f_lastEscapes f_lastCum f_lastFreq f_lastTotal a_said a_done a_start a_again a_range a_width a_low hi a_code a_n a_out n (nI i) := by
    intro hi hh d
    induction d with
    | zero =>
      intro i hi' n hn
      obtain ⟨m, rfl⟩ : ∃ m, n = m + 1 := ⟨n - 1, by omega⟩
      have ei : i = sv lo p e rg := by omega
      refine br_f (by rw [hwi]; exact nI_ge (by omega) (by omega)) ⟨pk_in i 4096 (by omega), pk_in i 4096 (by omega), ?_⟩
      rw [nI_clamp (by omega), hl i (by omega), hh i (by omega)]
      have b1 : V / 2 ^ (w - 1 - i) % 2 < 2 := Nat.mod_lt _ (by decide)
      have b2 : (V + (rg - 1)) / 2 ^ (w - 1 - i) % 2 < 2 := Nat.mod_lt _ (by decide)
      refine br_f ?_ (by rw [ei]; exact K hi)
      rw [nI_eq (by omega) (by omega), ei]
      exact S.2.2
    | succ d ih =>
      intro i hi' n hn
      obtain ⟨m, rfl⟩ : ∃ m, n = m + 1 := ⟨n - 1, by omega⟩
      refine br_f (by rw [hwi]; exact nI_ge (by omega) (by omega)) ⟨pk_in i 4096 (by omega), pk_in i 4096 (by omega), ?_⟩
      rw [nI_clamp (by omega), hl i (by omega), hh i (by omega), S.2.1 i (by omega)]
      exact br_t rfl (nm_r (nI_1 i) (ih (i + 1) (by omega) m (by omega)))
  have main : ∀ d, d ≤ w → ∀ n, d < n → ∀ (c : Nat) (hi : Nat → Int32), c ≤ 131072 → V / 2 ^ (w - d) + c = (V + (rg - 1)) / 2 ^ (w - d) → (∀ j, d ≤ j → j < w → hi j = nI ((V + (rg - 1)) / 2 ^ (w - 1 - j) % 2)) → wY_settled_18 post f_alphabet f_countLimit f_arena f_capacity f_shut f_gap f_codeLen f_lastLevel f_lastEscapes f_lastCum f_lastFreq f_lastTotal n (nI c) (kI d) a_said a_done a_start a_again a_range a_width a_low hi a_code a_n a_out := by
    intro d
    induction d with
    | zero =>
      intro hd n hn c hi hc1 hc2 h2
      obtain ⟨m, rfl⟩ : ∃ m, n = m + 1 := ⟨n - 1, by omega⟩
      exact br_t (show (-1 : Int32) < 0 by decide) ⟨sv lo p e rg + 1, scan hi (fun j hj => h2 j (by omega) hj) (sv lo p e rg) 0 (by omega) (sv lo p e rg + 1) (by omega)⟩
    | succ d ih =>
      intro hd n hn c hi hc1 hc2 h2
      obtain ⟨m, rfl⟩ : ∃ m, n = m + 1 := ⟨n - 1, by omega⟩
      have st := ey_step (V := V) (sh := rg - 1) (w := w) (d := d) (c := c) (by omega) hc2
      have b : V / 2 ^ (w - 1 - d) % 2 < 2 := Nat.mod_lt _ (by decide)
      refine br_f (nI_pos (n := d) (by omega)) ⟨pk_in d 4096 (by omega), nm_r (e' := nI (V / 2 ^ (w - 1 - d) % 2 + c)) (by rw [show kI (d + 1) = nI d from rfl, nI_clamp (by omega), hl d (by omega), nI_add]) ⟨pk_in d 4096 (by omega), nm_r (e' := upd hi d (nI ((V + (rg - 1)) / 2 ^ (w - 1 - d) % 2))) (by rw [show kI (d + 1) = nI d from rfl, nI_clamp (by omega), an1 (by omega), st.1]) (nm_r (shr1 (by omega)) (nm_r (kI_m d) ?_))⟩⟩
      refine ih (by omega) m (by omega) _ _ (by omega) st.2 (fun j h3 h4 => ?_)
      by_cases q : j = d
      · rw [q]; exact pk_us
      · rw [pk_un q]; exact h2 j (by omega) h4
  refine nm_r (e' := nI (rg - 1)) (by rw [hr]; exact pk_sub (b := 1) (by omega)) (nm_r (e' := kI w) (by rw [hwi]; exact kI_s w) ⟨w + 1, ?_⟩)
  exact main w (Nat.le_refl _) (w + 1) (by omega) (rg - 1) a_high (by omega) (by rw [Nat.sub_self, Nat.pow_zero, Nat.div_one, Nat.div_one]) (fun j h1 h2 => by omega)
theorem yl_point {post : Int32 → Prop} {V w : Nat} (hw : w ≤ 4000) (hw16 : 16 ≤ w) (hwi : a_width 0 = nI w) (hl : ey_ok V w a_low) (K : post (nI (V % 65536))) : ∀ i, i ≤ 16 → ∀ n, i < n → wY_coder_57 post f_alphabet f_countLimit f_arena f_capacity f_shut f_gap f_codeLen f_lastLevel f_lastEscapes f_lastCum f_lastFreq f_lastTotal a_said a_done a_start a_again a_range a_width a_low a_high a_code a_n a_out n (nI (V / 2 ^ i % 2 ^ (16 - i))) (nI i) := by
  intro i
  induction i with
  | zero =>
    intro hi n hn
    obtain ⟨m, rfl⟩ : ∃ m, n = m + 1 := ⟨n - 1, by omega⟩
    refine br_t (show (0 : Int32) < 1 by decide) ?_
    rw [Nat.pow_zero, Nat.div_one]
    exact K
  | succ i ih =>
    intro hi n hn
    obtain ⟨m, rfl⟩ : ∃ m, n = m + 1 := ⟨n - 1, by omega⟩
    have ei : a_width 0 - nI (i + 1) = nI (w - (i + 1)) := by rw [hwi]; exact pk_sub (by omega)
    refine br_f (nI_nlt (b := 1) (a := i + 1) (by omega) (by omega)) ⟨pk_in (w - (i + 1)) 4096 (by omega) ei, nm_r (e' := nI (V / 2 ^ i % 2 ^ (16 - i))) ?_ (nm_r (pk_m1 i) (ih (by omega) m (by omega)))⟩
    rw [ei, nI_clamp (by omega), hl _ (by omega), ix_2, show w - 1 - (w - (i + 1)) = i by omega, show 16 - i = (16 - (i + 1)) + 1 by omega, Nat.pow_succ 2 (16 - (i + 1)), Nat.mul_comm (2 ^ (16 - (i + 1))) 2, Nat.mod_mul, Nat.pow_succ, ← Nat.div_div_eq_div_mul]
    exact congrArg nI (by omega)
end
end
section
/-! ===== Y: starting ===== -/
section
variable {f_alphabet f_countLimit f_arena f_capacity f_shut f_gap f_codeLen f_lastLevel f_lastEscapes f_lastCum f_lastFreq f_lastTotal : Int32} {a_said a_done a_start a_again a_range a_width a_low a_high a_code a_n a_out : Nat → Int32}
theorem yl_side {post : SY → Prop} {sd : Nat} (hs2 : sd < 2) (K : post (f_alphabet, f_countLimit, f_arena, f_capacity, f_shut, f_gap, f_codeLen, f_lastLevel, f_lastEscapes, f_lastCum, f_lastFreq, f_lastTotal, a_said, upd a_done sd 0, upd a_start sd 0, upd a_again sd 0, upd a_range sd 65536, upd a_width sd 16, a_low, a_high, a_code, a_n, a_out)) : wpY_startSide post (f_alphabet, f_countLimit, f_arena, f_capacity, f_shut, f_gap, f_codeLen, f_lastLevel, f_lastEscapes, f_lastCum, f_lastFreq, f_lastTotal, a_said, a_done, a_start, a_again, a_range, a_width, a_low, a_high, a_code, a_n, a_out) (nI sd) :=
  ⟨pk_in sd 2 hs2, nm_r (e' := upd a_done sd 0) (by rw [nI_clamp (by omega)]) ⟨pk_in sd 2 hs2, nm_r (e' := upd a_start sd 0) (by rw [nI_clamp (by omega)]) ⟨pk_in sd 2 hs2, nm_r (e' := upd a_again sd 0) (by rw [nI_clamp (by omega)]) ⟨pk_in sd 2 hs2, nm_r (e' := upd a_range sd 65536) (by rw [nI_clamp (by omega)]) ⟨pk_in sd 2 hs2, nm_r (e' := upd a_width sd 16) (by rw [nI_clamp (by omega)]) K⟩⟩⟩⟩⟩
theorem yl_dec_12 {post : SY → Prop} {cd : Nat} {dg : Nat → Nat} (hc : cd_ok cd dg f_codeLen a_code) (K : post (f_alphabet, f_countLimit, f_arena, f_capacity, f_shut, nI (cd_g dg 16), f_codeLen, f_lastLevel, f_lastEscapes, f_lastCum, f_lastFreq, f_lastTotal, a_said, a_done, a_start, a_again, a_range, a_width, a_low, a_high, a_code, a_n, a_out)) :
    ∀ d i, i + d = 16 → ∀ n, d < n → wY_startDecoder_12 post f_alphabet f_countLimit f_arena f_capacity f_shut f_codeLen f_lastLevel f_lastEscapes f_lastCum f_lastFreq f_lastTotal a_said a_done a_start a_again a_range a_width a_low a_high a_code a_n a_out n (nI i) (nI (cd_g dg i)) := by
  intro d
  induction d with
  | zero =>
    intro i hi n hn
    obtain ⟨m, rfl⟩ : ∃ m, n = m + 1 := ⟨n - 1, by omega⟩
    have e : i = 16 := by omega
    subst e
    exact br_t (nI_le (a := 16) (b := 16) (by omega) (by omega)) K
  | succ d ih =>
    intro i hi n hn
    obtain ⟨m, rfl⟩ : ∃ m, n = m + 1 := ⟨n - 1, by omega⟩
    refine br_f (nI_ge (b := 16) (by omega) (by omega)) ?_
    refine yl_digit hc (by omega) ?_
    exact nm_r (ix_2 _ _) (nm_r (nI_1 i) (ih (i + 1) (by omega) m (by omega)))
theorem yl_dec {post : SY → Prop} {cd : Nat} {dg : Nat → Nat} (hc : cd_ok cd dg f_codeLen a_code) (K : post (f_alphabet, f_countLimit, f_arena, f_capacity, f_shut, nI (cd_g dg 16), f_codeLen, f_lastLevel, f_lastEscapes, f_lastCum, f_lastFreq, f_lastTotal, a_said, upd a_done 1 0, upd a_start 1 0, upd a_again 1 0, upd a_range 1 65536, upd a_width 1 16, a_low, a_high, a_code, a_n, a_out)) : wpY_startDecoder post (f_alphabet, f_countLimit, f_arena, f_capacity, f_shut, f_gap, f_codeLen, f_lastLevel, f_lastEscapes, f_lastCum, f_lastFreq, f_lastTotal, a_said, a_done, a_start, a_again, a_range, a_width, a_low, a_high, a_code, a_n, a_out) := by
  unfold wpY_startDecoder
  refine yl_side (sd := 1) (by omega) ⟨17, ?_⟩
  exact yl_dec_12 hc K 16 0 rfl 17 (by omega)
theorem yl_clear {post : SY → Prop} (K : ∀ lw : Nat → Int32, (∀ j, j < 16 → lw j = 0) → post (f_alphabet, f_countLimit, f_arena, f_capacity, 0, 0, 0, f_lastLevel, f_lastEscapes, f_lastCum, f_lastFreq, f_lastTotal, a_said, upd (upd a_done 0 0) 1 0, upd (upd a_start 0 0) 1 0, upd (upd a_again 0 0) 1 0, upd (upd a_range 0 65536) 1 65536, upd (upd a_width 0 16) 1 16, lw, a_high, a_code, a_n, a_out)) : wpY_clear post (f_alphabet, f_countLimit, f_arena, f_capacity, f_shut, f_gap, f_codeLen, f_lastLevel, f_lastEscapes, f_lastCum, f_lastFreq, f_lastTotal, a_said, a_done, a_start, a_again, a_range, a_width, a_low, a_high, a_code, a_n, a_out) := by
  unfold wpY_clear
  refine yl_side (sd := 0) (by omega) ⟨17, ?_⟩
  have main : ∀ d i, i + d = 16 → ∀ n, d < n → ∀ lw : Nat → Int32, (∀ j, j < i → lw j = 0) → wY_clear_17 post f_alphabet f_countLimit f_arena f_capacity 0 f_gap 0 f_lastLevel f_lastEscapes f_lastCum f_lastFreq f_lastTotal n (nI i) a_said (upd a_done 0 0) (upd a_start 0 0) (upd a_again 0 0) (upd a_range 0 65536) (upd a_width 0 16) lw a_high a_code a_n a_out := by
    intro d
    induction d with
    | zero =>
      intro i hi n hn lw h
      obtain ⟨m, rfl⟩ : ∃ m, n = m + 1 := ⟨n - 1, by omega⟩
      have e : i = 16 := by omega
      subst e
      refine br_t (nI_le (a := 16) (b := 16) (by omega) (by omega)) ?_
      refine yl_dec (cd_zero _) ?_
      rw [cd_g_zero]
      exact K lw h
    | succ d ih =>
      intro i hi n hn lw h
      obtain ⟨m, rfl⟩ : ∃ m, n = m + 1 := ⟨n - 1, by omega⟩
      refine br_f (nI_ge (b := 16) (by omega) (by omega)) ⟨pk_in i 4096 (by omega), nm_r (e' := upd lw i 0) (by rw [nI_clamp (by omega)]) (nm_r (nI_1 i) (ih (i + 1) (by omega) m (by omega) _ (fun j hj => ?_)))⟩
      by_cases q : j = i
      · rw [q]; exact pk_us
      · rw [pk_un q]; exact h j (by omega)
  exact main 16 0 rfl 17 (by omega) a_low (fun j h => absurd h (Nat.not_lt_zero _))
end
/-! ===== the code that seal makes ===== -/
def sl_dg (V w r : Nat) : Nat → Nat := fun i => if i < r then V / 2 ^ (w - 1 - i) % 2 else if i = r then 1 else 0
theorem sl_lo {V w r i : Nat} (h : i < r) : sl_dg V w r i = V / 2 ^ (w - 1 - i) % 2 := if_pos h
theorem sl_at {V w r : Nat} : sl_dg V w r r = 1 := (if_neg (Nat.lt_irrefl r)).trans (if_pos rfl)
theorem sl_ok {V w r : Nat} {a : Nat → Int32} (hr : r < 4096) (h1 : ∀ i, i < r → a i = nI (V / 2 ^ (w - 1 - i) % 2)) (h2 : a r = 1) : cd_ok (r + 1) (sl_dg V w r) (nI (r + 1)) a := by
  refine ⟨rfl, by omega, fun i hi => ?_, fun i hi => ?_, fun i => ?_⟩
  · by_cases e : i = r
    · rw [e, sl_at]; exact h2
    · rw [sl_lo (by omega)]; exact h1 i (by omega)
  · exact (if_neg (by omega)).trans (if_neg (by omega))
  · unfold sl_dg
    split
    · have : V / 2 ^ (w - 1 - i) % 2 < 2 := Nat.mod_lt _ (by decide)
      omega
    · split <;> omega
theorem sh15 {n : Nat} (h : n < 2 ^ 31) : nI n >>> ((15 : Int32) &&& 31) = nI (n / 32768) := pk_shrN h _ 15 (by decide)
section
variable {f_alphabet f_countLimit f_arena f_capacity f_closed f_low f_pending f_emitted f_gap f_codeDigits f_encoded f_decodedCount f_walkSide f_walkNext f_excluded f_excludedCount f_candidates f_candidateCount f_stepLevel f_stepSum f_stepEscape f_stepTotal f_stepCum f_stepFreq : Int32} {a_child a_tally a_contextNode a_depth a_recent a_stringCount a_restartCount a_range a_width a_digits a_decoded a_itemFreq : Nat → Int32}
theorem xl_seal {post : Int32 → SX → Prop} {V rg w lo p e D lim : Nat} (h0 : 32768 ≤ rg) (hrb : rg ≤ 65536) (hw : w ≤ 4000) (hr : a_range 0 = nI rg) (h : cx_ok V rg w lo p e D) (hd : dx_ok D e a_digits)
    (K : ∀ ch ta cn dp rc sc dg : Nat → Int32, cd_ok (sv lo p e rg + 1) (sl_dg V w (sv lo p e rg)) (nI (sv lo p e rg + 1)) dg → XS lim 1 [] ch ta cn dp rc sc → xs_ag 0 a_child a_tally a_contextNode a_depth a_recent a_stringCount ch ta cn dp rc sc →
      post (nI (sv lo p e rg + 1)) (f_alphabet, f_countLimit, f_arena, f_capacity, 1, nI lo, nI p, nI e, nI (cd_g (sl_dg V w (sv lo p e rg)) 16), nI (sv lo p e rg + 1), f_encoded, 0, f_walkSide, f_walkNext, f_excluded, f_excludedCount, f_candidates, f_candidateCount, f_stepLevel, f_stepSum, f_stepEscape, f_stepTotal, f_stepCum, f_stepFreq, ch, ta, cn, dp, rc, sc, upd a_restartCount 1 0, upd a_range 1 65536, upd a_width 1 16, dg, a_decoded, a_itemFreq)) :
    wpX_seal post (f_alphabet, f_countLimit, f_arena, f_capacity, 0, nI lo, nI p, nI e, f_gap, f_codeDigits, f_encoded, f_decodedCount, f_walkSide, f_walkNext, f_excluded, f_excludedCount, f_candidates, f_candidateCount, f_stepLevel, f_stepSum, f_stepEscape, f_stepTotal, f_stepCum, f_stepFreq, a_child, a_tally, a_contextNode, a_depth, a_recent, a_stringCount, a_restartCount, a_range, a_width, a_digits, a_decoded, a_itemFreq) := by
  have S := sv_ok h0 hrb h
  have dig := cx_dig hrb (by omega) h
  have c1 := h.1
  have c3 := h.2.2.1
  have fin : ∀ dg : Nat → Int32, (∀ i, i < sv lo p e rg → dg i = nI (V / 2 ^ (w - 1 - i) % 2)) → wX_seal_38 post (nI (sv lo p e rg)) f_alphabet f_countLimit f_arena f_capacity 0 (nI lo) (nI p) (nI e) f_gap f_codeDigits f_encoded f_decodedCount f_walkSide f_walkNext f_excluded f_excludedCount f_candidates f_candidateCount f_stepLevel f_stepSum f_stepEscape f_stepTotal f_stepCum f_stepFreq a_child a_tally a_contextNode a_depth a_recent a_stringCount a_restartCount a_range a_width dg a_decoded a_itemFreq := by
    intro dg hdg
    unfold wX_seal_38
    refine xl_put (d := 1) (by omega) (by omega) (nm_r (nI_1 _) ?_)
    have ok : cd_ok (sv lo p e rg + 1) (sl_dg V w (sv lo p e rg)) (nI (sv lo p e rg + 1)) (upd dg (sv lo p e rg) (nI 1)) := sl_ok (by omega) (fun i hi => by rw [pk_un (by omega)]; exact hdg i hi) pk_us
    exact xl_dec lim ok (fun ch ta cn dp rc sc X ag => K ch ta cn dp rc sc _ ok X ag)
  refine br_t rfl ?_
  refine xl_settled c3 (by omega) (by omega) hr hrb ?_
  by_cases z : p = 0 ∧ (32768 ≤ lo ∨ lo + rg ≤ 32768)
  · have es : sv lo p e rg = e + 1 := if_pos z
    have p0 := z.1
    subst p0
    refine br_f (by rw [es]; exact nI_ge (by omega) (by omega)) ?_
    rw [sh15 (by omega)]
    refine xl_put (by omega) (by omega) (fin _ (fun i hi => ?_))
    rw [es] at hi
    by_cases q : i = e
    · rw [q, pk_us, cx_win h]
    · rw [pk_un q, (dig i (by omega)).1]
      exact hd i (by omega)
  · have es : sv lo p e rg = e := if_neg z
    refine br_t (by rw [es]; exact nI_le (Nat.le_refl _) (by omega)) (fin _ (fun i hi => ?_))
    rw [es] at hi
    rw [(dig i hi).1]
    exact hd i hi
end
section
variable {f_alphabet f_countLimit f_arena f_capacity f_shut f_gap f_codeLen f_lastLevel f_lastEscapes f_lastCum f_lastFreq f_lastTotal : Int32} {a_said a_done a_start a_again a_range a_width a_low a_high a_code a_n a_out : Nat → Int32}
theorem yl_seal {post : Int32 → SY → Prop} {V rg w lo p e D : Nat} (h0 : 32768 ≤ rg) (hrb : rg ≤ 65536) (hw : w ≤ 4000) (hr : a_range 0 = nI rg) (hwi : a_width 0 = nI w) (hl : ey_ok V w a_low) (h : cx_ok V rg w lo p e D)
    (K : ∀ hi cod : Nat → Int32, cd_ok (sv lo p e rg + 1) (sl_dg V w (sv lo p e rg)) (nI (sv lo p e rg + 1)) cod → post (nI (sv lo p e rg + 1)) (f_alphabet, f_countLimit, f_arena, f_capacity, 1, nI (cd_g (sl_dg V w (sv lo p e rg)) 16), nI (sv lo p e rg + 1), f_lastLevel, f_lastEscapes, f_lastCum, f_lastFreq, f_lastTotal, a_said, upd a_done 1 0, upd a_start 1 0, upd a_again 1 0, upd a_range 1 65536, upd a_width 1 16, a_low, hi, cod, a_n, a_out)) :
    wpY_seal post (f_alphabet, f_countLimit, f_arena, f_capacity, 0, f_gap, f_codeLen, f_lastLevel, f_lastEscapes, f_lastCum, f_lastFreq, f_lastTotal, a_said, a_done, a_start, a_again, a_range, a_width, a_low, a_high, a_code, a_n, a_out) := by
  have S := sv_ok h0 hrb h
  refine br_t rfl ?_
  refine yl_settled h0 hrb hw hr hwi hl h (fun hi => ⟨sv lo p e rg + 1, ?_⟩)
  have main : ∀ d i, i + d = sv lo p e rg → ∀ n, d < n → ∀ cod : Nat → Int32, (∀ j, j < i → cod j = nI (V / 2 ^ (w - 1 - j) % 2)) → wY_seal_17 post (nI (sv lo p e rg)) f_alphabet f_countLimit f_arena f_capacity 0 f_gap f_codeLen f_lastLevel f_lastEscapes f_lastCum f_lastFreq f_lastTotal n (nI i) a_said a_done a_start a_again a_range a_width a_low hi cod a_n a_out := by
    intro d
    induction d with
    | zero =>
      intro i hi' n hn cod hc
      obtain ⟨m, rfl⟩ : ∃ m, n = m + 1 := ⟨n - 1, by omega⟩
      have ei : i = sv lo p e rg := by omega
      subst ei
      have ok : cd_ok (sv lo p e rg + 1) (sl_dg V w (sv lo p e rg)) (nI (sv lo p e rg + 1)) (upd cod (sv lo p e rg) 1) := sl_ok (by omega) (fun i hi => by rw [pk_un (by omega)]; exact hc i hi) pk_us
      refine br_t (nI_le (Nat.le_refl _) (by omega)) ⟨pk_in (sv lo p e rg) 4096 (by omega), nm_r (e' := upd cod (sv lo p e rg) 1) (by rw [nI_clamp (by omega)]) (nm_r (nI_1 _) ?_)⟩
      exact yl_dec ok (K hi _ ok)
    | succ d ih =>
      intro i hi' n hn cod hc
      obtain ⟨m, rfl⟩ : ∃ m, n = m + 1 := ⟨n - 1, by omega⟩
      refine br_f (nI_ge (by omega) (by omega)) ⟨pk_in i 4096 (by omega), pk_in i 4096 (by omega), nm_r (e' := upd cod i (nI (V / 2 ^ (w - 1 - i) % 2))) (by rw [nI_clamp (by omega), hl i (by omega)]) (nm_r (nI_1 i) (ih (i + 1) (by omega) m (by omega) _ (fun j hj => ?_)))⟩
      by_cases q : j = i
      · rw [q]; exact pk_us
      · rw [pk_un q]; exact hc j (by omega)
  exact main (sv lo p e rg) 0 (by omega) (sv lo p e rg + 1) (by omega) a_code (fun j h => absurd h (Nat.not_lt_zero _))
end
end
section
/-! ===== the relation ===== -/
def rl_ok (al lim ar cq dn0 dn1 V rg w lo p e D gp rg1 w1 cd : Nat) (dg : Nat → Nat) (L0 L1 : List Nat) (cz : Int32) (xch xta xcn xdp xrc xsc xre xra xwi xdg xde : Nat → Int32) (ysa ydo yst yag yra ywi ylo yco : Nat → Int32) : Prop :=
  (2 ≤ al ∧ al ≤ 8 ∧ 2 ≤ lim ∧ lim ≤ 15 ∧ 8 ≤ ar ∧ ar ≤ 120 ∧ 4 ≤ cq ∧ cq ≤ 96 ∧ dn0 ≤ cq ∧ dn1 ≤ dn0) ∧
  ((cz = 0 ∧ cd = 0 ∧ dn1 = 0 ∧ dx_ok D e xdg) ∨ cz = 1) ∧
  (cx_ok V rg w lo p e D ∧ cx_EI (16 + 35 * dn0) 0 (V, rg, w) ∧ ey_ok V w ylo ∧ xra 0 = nI rg ∧ xwi 0 = nI w ∧ yra 0 = nI rg ∧ ywi 0 = nI w) ∧
  (cx_DI (16 + 35 * dn1) 0 (gp, rg1, w1) ∧ xra 1 = nI rg1 ∧ xwi 1 = nI w1 ∧ yra 1 = nI rg1 ∧ ywi 1 = nI w1) ∧
  (cd_ok cd dg (nI cd) xdg ∧ cd_ok cd dg (nI cd) yco) ∧
  (XS lim 0 L0 xch xta xcn xdp xrc xsc ∧ XS lim 1 L1 xch xta xcn xdp xrc xsc ∧ YS 0 L0 al ysa ydo yst dn0 ∧ YS 1 L1 al ysa ydo yst dn1) ∧
  (xre 0 = yag 0 ∧ xre 1 = yag 1 ∧ ∀ i, i < dn1 → xde i = ysa (96 + i))
def i_Rel (k : Nat) (u : SX) (v : SY) : Prop := match u, v with
  | (f_alphabet, f_countLimit, f_arena, f_capacity, f_closed, f_low, f_pending, f_emitted, f_gap, f_codeDigits, f_encoded, f_decodedCount, f_walkSide, f_walkNext, f_excluded, f_excludedCount, f_candidates, f_candidateCount, f_stepLevel, f_stepSum, f_stepEscape, f_stepTotal, f_stepCum, f_stepFreq, a_child, a_tally, a_contextNode, a_depth, a_recent, a_stringCount, a_restartCount, a_range, a_width, a_digits, a_decoded, a_itemFreq), (f_alphabety, f_countLimity, f_arenay, f_capacityy, f_shuty, f_gapy, f_codeLeny, f_lastLevely, f_lastEscapesy, f_lastCumy, f_lastFreqy, f_lastTotaly, a_saidy, a_doney, a_starty, a_againy, a_rangey, a_widthy, a_lowy, a_highy, a_codey, a_ny, a_outy) => ∃ (al lim ar cq dn0 dn1 V rg w lo p e D gp rg1 w1 cd : Nat) (dg : Nat → Nat) (L0 L1 : List Nat) (cz : Int32),
    (f_alphabet = nI al ∧ f_countLimit = nI lim ∧ f_arena = nI ar ∧ f_capacity = nI cq ∧ f_closed = cz ∧ f_low = nI lo ∧ f_pending = nI p ∧ f_emitted = nI e ∧ f_gap = nI gp ∧ f_codeDigits = nI cd ∧ f_encoded = nI dn0 ∧ f_decodedCount = nI dn1 ∧
      f_alphabety = nI al ∧ f_countLimity = nI lim ∧ f_arenay = nI ar ∧ f_capacityy = nI cq ∧ f_shuty = cz ∧ f_gapy = nI gp ∧ f_codeLeny = nI cd) ∧
    rl_ok al lim ar cq dn0 dn1 V rg w lo p e D gp rg1 w1 cd dg L0 L1 cz a_child a_tally a_contextNode a_depth a_recent a_stringCount a_restartCount a_range a_width a_digits a_decoded a_saidy a_doney a_starty a_againy a_rangey a_widthy a_lowy a_codey
theorem i_up {k : Nat} {u : SX} {v : SY} (h : i_Rel k u v) : i_Rel (k + 5) u v := h
section
variable {f_walkSide f_walkNext f_excluded f_excludedCount f_candidates f_candidateCount f_stepLevel f_stepSum f_stepEscape f_stepTotal f_stepCum f_stepFreq : Int32} {a_child a_tally a_contextNode a_depth a_recent a_stringCount a_restartCount a_range a_width a_digits a_decoded a_itemFreq : Nat → Int32}
variable {f_lastLevely f_lastEscapesy f_lastCumy f_lastFreqy f_lastTotaly : Int32} {a_saidy a_doney a_starty a_againy a_rangey a_widthy a_lowy a_highy a_codey a_ny a_outy : Nat → Int32}
variable {al lim ar cq dn0 dn1 V rg w lo p e D gp rg1 w1 cd : Nat} {dg : Nat → Nat} {L0 L1 : List Nat} {cz : Int32}
theorem rl_mk {k : Nat} (R : rl_ok al lim ar cq dn0 dn1 V rg w lo p e D gp rg1 w1 cd dg L0 L1 cz a_child a_tally a_contextNode a_depth a_recent a_stringCount a_restartCount a_range a_width a_digits a_decoded a_saidy a_doney a_starty a_againy a_rangey a_widthy a_lowy a_codey) :
    i_Rel k (nI al, nI lim, nI ar, nI cq, cz, nI lo, nI p, nI e, nI gp, nI cd, nI dn0, nI dn1, f_walkSide, f_walkNext, f_excluded, f_excludedCount, f_candidates, f_candidateCount, f_stepLevel, f_stepSum, f_stepEscape, f_stepTotal, f_stepCum, f_stepFreq, a_child, a_tally, a_contextNode, a_depth, a_recent, a_stringCount, a_restartCount, a_range, a_width, a_digits, a_decoded, a_itemFreq) (nI al, nI lim, nI ar, nI cq, cz, nI gp, nI cd, f_lastLevely, f_lastEscapesy, f_lastCumy, f_lastFreqy, f_lastTotaly, a_saidy, a_doney, a_starty, a_againy, a_rangey, a_widthy, a_lowy, a_highy, a_codey, a_ny, a_outy) :=
  ⟨al, lim, ar, cq, dn0, dn1, V, rg, w, lo, p, e, D, gp, rg1, w1, cd, dg, L0, L1, cz, ⟨rfl, rfl, rfl, rfl, rfl, rfl, rfl, rfl, rfl, rfl, rfl, rfl, rfl, rfl, rfl, rfl, rfl, rfl, rfl⟩, R⟩
end
theorem zz_el {k : Nat} {u : SX} {v : SY} {P : SX → SY → Prop} (h : ∀ (f_walkSide f_walkNext f_excluded f_excludedCount f_candidates f_candidateCount f_stepLevel f_stepSum f_stepEscape f_stepTotal f_stepCum f_stepFreq : Int32) (a_child a_tally a_contextNode a_depth a_recent a_stringCount a_restartCount a_range a_width a_digits a_decoded a_itemFreq : Nat → Int32)
    (f_lastLevely f_lastEscapesy f_lastCumy f_lastFreqy f_lastTotaly : Int32) (a_saidy a_doney a_starty a_againy a_rangey a_widthy a_lowy a_highy a_codey a_ny a_outy : Nat → Int32)
    (al lim ar cq dn0 dn1 V rg w lo p e D gp rg1 w1 cd : Nat) (dg : Nat → Nat) (L0 L1 : List Nat) (cz : Int32),
    rl_ok al lim ar cq dn0 dn1 V rg w lo p e D gp rg1 w1 cd dg L0 L1 cz a_child a_tally a_contextNode a_depth a_recent a_stringCount a_restartCount a_range a_width a_digits a_decoded a_saidy a_doney a_starty a_againy a_rangey a_widthy a_lowy a_codey →
    i_Rel (k + 5) (nI al, nI lim, nI ar, nI cq, cz, nI lo, nI p, nI e, nI gp, nI cd, nI dn0, nI dn1, f_walkSide, f_walkNext, f_excluded, f_excludedCount, f_candidates, f_candidateCount, f_stepLevel, f_stepSum, f_stepEscape, f_stepTotal, f_stepCum, f_stepFreq, a_child, a_tally, a_contextNode, a_depth, a_recent, a_stringCount, a_restartCount, a_range, a_width, a_digits, a_decoded, a_itemFreq) (nI al, nI lim, nI ar, nI cq, cz, nI gp, nI cd, f_lastLevely, f_lastEscapesy, f_lastCumy, f_lastFreqy, f_lastTotaly, a_saidy, a_doney, a_starty, a_againy, a_rangey, a_widthy, a_lowy, a_highy, a_codey, a_ny, a_outy) →
    P (nI al, nI lim, nI ar, nI cq, cz, nI lo, nI p, nI e, nI gp, nI cd, nI dn0, nI dn1, f_walkSide, f_walkNext, f_excluded, f_excludedCount, f_candidates, f_candidateCount, f_stepLevel, f_stepSum, f_stepEscape, f_stepTotal, f_stepCum, f_stepFreq, a_child, a_tally, a_contextNode, a_depth, a_recent, a_stringCount, a_restartCount, a_range, a_width, a_digits, a_decoded, a_itemFreq) (nI al, nI lim, nI ar, nI cq, cz, nI gp, nI cd, f_lastLevely, f_lastEscapesy, f_lastCumy, f_lastFreqy, f_lastTotaly, a_saidy, a_doney, a_starty, a_againy, a_rangey, a_widthy, a_lowy, a_highy, a_codey, a_ny, a_outy)) (I : i_Rel k u v) : P u v := by
  obtain ⟨f_alphabet, f_countLimit, f_arena, f_capacity, f_closed, f_low, f_pending, f_emitted, f_gap, f_codeDigits, f_encoded, f_decodedCount, f_walkSide, f_walkNext, f_excluded, f_excludedCount, f_candidates, f_candidateCount, f_stepLevel, f_stepSum, f_stepEscape, f_stepTotal, f_stepCum, f_stepFreq, a_child, a_tally, a_contextNode, a_depth, a_recent, a_stringCount, a_restartCount, a_range, a_width, a_digits, a_decoded, a_itemFreq⟩ := u
  obtain ⟨f_alphabety, f_countLimity, f_arenay, f_capacityy, f_shuty, f_gapy, f_codeLeny, f_lastLevely, f_lastEscapesy, f_lastCumy, f_lastFreqy, f_lastTotaly, a_saidy, a_doney, a_starty, a_againy, a_rangey, a_widthy, a_lowy, a_highy, a_codey, a_ny, a_outy⟩ := v
  obtain ⟨al, lim, ar, cq, dn0, dn1, V, rg, w, lo, p, e, D, gp, rg1, w1, cd, dg, L0, L1, cz, ⟨rfl, rfl, rfl, rfl, rfl, rfl, rfl, rfl, rfl, rfl, rfl, rfl, rfl, rfl, rfl, rfl, rfl, rfl, rfl⟩, R⟩ := I
  exact h _ _ _ _ _ _ _ _ _ _ _ _ _ _ _ _ _ _ _ _ _ _ _ _ _ _ _ _ _ _ _ _ _ _ _ _ _ _ _ _ _ _ _ _ _ _ _ _ _ _ _ _ _ _ _ _ _ dg L0 L1 _ R (rl_mk R)
end
section
/-! ===== the calls that only ask ===== -/
theorem YS_dn {sd dn al : Nat} {L : List Nat} {said done start : Nat → Int32} (h : YS sd L al said done start dn) : done sd = nI dn ∧ dn ≤ 96 := by
  obtain ⟨st, d, g, rfl, Y, rfl, hg⟩ := h
  exact ⟨Y.2.2.1, Y.1⟩
theorem sd_or (q : Int32) : (∃ sd, sd < 2 ∧ q = nI sd) ∨ (q ≠ 0 ∧ q ≠ 1) := by
  by_cases h0 : q = 0
  · exact Or.inl ⟨0, by omega, h0⟩
  · by_cases h1 : q = 1
    · exact Or.inl ⟨1, by omega, h1⟩
    · exact Or.inr ⟨h0, h1⟩
theorem y_sd {sd : Nat} {A B : Prop} (h : sd < 2) (a : A) : (nI sd = 0 → A) ∧ (¬ nI sd = 0 → ((nI sd = 1 → A) ∧ (¬ nI sd = 1 → B))) := by
  rcases (by omega : sd = 0 ∨ sd = 1) with q | q
  · subst q; exact br_t rfl a
  · subst q; exact br_f (by decide) (br_t rfl a)
theorem y_no {q : Int32} {A A' B : Prop} (h0 : q ≠ 0) (h1 : q ≠ 1) (b : B) : (q = 0 → A) ∧ (¬ q = 0 → ((q = 1 → A') ∧ (¬ q = 1 → B))) := br_f h0 (br_f h1 b)
section
variable {f_alphabet f_countLimit f_arena f_capacity f_closed f_low f_pending f_emitted f_gap f_codeDigits f_encoded f_decodedCount f_walkSide f_walkNext f_excluded f_excludedCount f_candidates f_candidateCount f_stepLevel f_stepSum f_stepEscape f_stepTotal f_stepCum f_stepFreq : Int32} {a_child a_tally a_contextNode a_depth a_recent a_stringCount a_restartCount a_range a_width a_digits a_decoded a_itemFreq : Nat → Int32}
theorem xl_is1 {post : Int32 → Prop} {sd : Nat} (h : sd < 2) (K : post 1) : wpX_isSide post (f_alphabet, f_countLimit, f_arena, f_capacity, f_closed, f_low, f_pending, f_emitted, f_gap, f_codeDigits, f_encoded, f_decodedCount, f_walkSide, f_walkNext, f_excluded, f_excludedCount, f_candidates, f_candidateCount, f_stepLevel, f_stepSum, f_stepEscape, f_stepTotal, f_stepCum, f_stepFreq, a_child, a_tally, a_contextNode, a_depth, a_recent, a_stringCount, a_restartCount, a_range, a_width, a_digits, a_decoded, a_itemFreq) (nI sd) := y_sd h K
theorem xl_is0 {post : Int32 → Prop} {q : Int32} (h0 : q ≠ 0) (h1 : q ≠ 1) (K : post 0) : wpX_isSide post (f_alphabet, f_countLimit, f_arena, f_capacity, f_closed, f_low, f_pending, f_emitted, f_gap, f_codeDigits, f_encoded, f_decodedCount, f_walkSide, f_walkNext, f_excluded, f_excludedCount, f_candidates, f_candidateCount, f_stepLevel, f_stepSum, f_stepEscape, f_stepTotal, f_stepCum, f_stepFreq, a_child, a_tally, a_contextNode, a_depth, a_recent, a_stringCount, a_restartCount, a_range, a_width, a_digits, a_decoded, a_itemFreq) q := y_no h0 h1 K
theorem xl_sym {post : Int32 → Prop} {al : Nat} {q : Int32} (ha : al ≤ 8) (K1 : ∀ s, s < al → q = nI s → post 1) (K0 : (q < 0 ∨ ¬ q < 0 ∧ ¬ q < nI al) → post 0) : wpX_isSymbol post (nI al, f_countLimit, f_arena, f_capacity, f_closed, f_low, f_pending, f_emitted, f_gap, f_codeDigits, f_encoded, f_decodedCount, f_walkSide, f_walkNext, f_excluded, f_excludedCount, f_candidates, f_candidateCount, f_stepLevel, f_stepSum, f_stepEscape, f_stepTotal, f_stepCum, f_stepFreq, a_child, a_tally, a_contextNode, a_depth, a_recent, a_stringCount, a_restartCount, a_range, a_width, a_digits, a_decoded, a_itemFreq) q := by
  rcases pk_ix q (n := al) (by omega) with h | h | ⟨j, hj, h⟩
  · exact br_t h (K0 (Or.inl h))
  · have h0 : ¬ q < 0 := Int32.not_lt.mpr (Int32.le_trans (nI_pos' (by omega)) h)
    exact br_f h0 (br_t h (K0 (Or.inr ⟨h0, Int32.not_lt.mpr h⟩)))
  · have k := K1 j hj h
    subst h
    exact br_f (nI_pos (by omega)) (br_f (nI_ge hj (by omega)) k)
end
section
variable {f_alphabet f_countLimit f_arena f_capacity f_shut f_gap f_codeLen f_lastLevel f_lastEscapes f_lastCum f_lastFreq f_lastTotal : Int32} {a_said a_done a_start a_again a_range a_width a_low a_high a_code a_n a_out : Nat → Int32}
theorem yl_pt {post : Int32 → Prop} {V w : Nat} (hw : w ≤ 4000) (hw16 : 16 ≤ w) (hwi : a_width 0 = nI w) (hl : ey_ok V w a_low) (K : post (nI (V % 65536))) : ∃ n, wY_coder_57 post f_alphabet f_countLimit f_arena f_capacity f_shut f_gap f_codeLen f_lastLevel f_lastEscapes f_lastCum f_lastFreq f_lastTotal a_said a_done a_start a_again a_range a_width a_low a_high a_code a_n a_out n 0 16 := by
  have k : wY_coder_57 post f_alphabet f_countLimit f_arena f_capacity f_shut f_gap f_codeLen f_lastLevel f_lastEscapes f_lastCum f_lastFreq f_lastTotal a_said a_done a_start a_again a_range a_width a_low a_high a_code a_n a_out 17 (nI (V / 2 ^ 16 % 2 ^ (16 - 16))) (nI 16) := yl_point hw hw16 hwi hl K 16 (by omega) 17 (by omega)
  rw [Nat.sub_self, Nat.pow_zero, Nat.mod_one] at k
  exact ⟨17, k⟩
end
theorem i_vc_parameter {k : Nat} {u : SX} {v : SY} (I : i_Rel k u v) (hk : k + 5 ≤ 2564) (v1 : Int32) : wpX_parameter (fun r => wpY_parameter (fun r' => r' = r ∧ i_Rel (k + 5) u v) v v1) u v1 := by
  refine zz_el (P := fun u v => wpX_parameter (fun r => wpY_parameter (fun r' => r' = r ∧ i_Rel (k + 5) u v) v v1) u v1) ?_ I
  intro f_walkSide f_walkNext f_excluded f_excludedCount f_candidates f_candidateCount f_stepLevel f_stepSum f_stepEscape f_stepTotal f_stepCum f_stepFreq a_child a_tally a_contextNode a_depth a_recent a_stringCount a_restartCount a_range a_width a_digits a_decoded a_itemFreq f_lastLevely f_lastEscapesy f_lastCumy f_lastFreqy f_lastTotaly a_saidy a_doney a_starty a_againy a_rangey a_widthy a_lowy a_highy a_codey a_ny a_outy al lim ar cq dn0 dn1 V rg w lo p e D gp rg1 w1 cd dg L0 L1 cz R I5
  by_cases h0 : v1 = 0
  · exact br_t h0 (br_t h0 ⟨rfl, I5⟩)
  by_cases h1 : v1 = 1
  · exact br_f h0 (br_t h1 (br_f h0 (br_t h1 ⟨rfl, I5⟩)))
  by_cases h2 : v1 = 2
  · exact br_f h0 (br_f h1 (br_t h2 (br_f h0 (br_f h1 (br_t h2 ⟨rfl, I5⟩)))))
  by_cases h3 : v1 = 3
  · exact br_f h0 (br_f h1 (br_f h2 (br_t h3 (br_f h0 (br_f h1 (br_f h2 (br_t h3 ⟨rfl, I5⟩)))))))
  exact br_f h0 (br_f h1 (br_f h2 (br_f h3 (br_f h0 (br_f h1 (br_f h2 (br_f h3 ⟨rfl, I5⟩)))))))
theorem i_vc_isSealed {k : Nat} {u : SX} {v : SY} (I : i_Rel k u v) (hk : k + 5 ≤ 2564) : wpX_isSealed (fun r => wpY_isSealed (fun r' => r' = r ∧ i_Rel (k + 5) u v) v) u := by
  refine zz_el (P := fun u v => wpX_isSealed (fun r => wpY_isSealed (fun r' => r' = r ∧ i_Rel (k + 5) u v) v) u) ?_ I
  intro f_walkSide f_walkNext f_excluded f_excludedCount f_candidates f_candidateCount f_stepLevel f_stepSum f_stepEscape f_stepTotal f_stepCum f_stepFreq a_child a_tally a_contextNode a_depth a_recent a_stringCount a_restartCount a_range a_width a_digits a_decoded a_itemFreq f_lastLevely f_lastEscapesy f_lastCumy f_lastFreqy f_lastTotaly a_saidy a_doney a_starty a_againy a_rangey a_widthy a_lowy a_highy a_codey a_ny a_outy al lim ar cq dn0 dn1 V rg w lo p e D gp rg1 w1 cd dg L0 L1 cz R I5
  have h : narrow .boolean (.int cz) = .int cz := by
    rcases R.2.1 with h | h
    · rw [h.1]; rfl
    · rw [h]; rfl
  exact ⟨h, h, rfl, I5⟩
theorem i_vc_codeLength {k : Nat} {u : SX} {v : SY} (I : i_Rel k u v) (hk : k + 5 ≤ 2564) : wpX_codeLength (fun r => wpY_codeLength (fun r' => r' = r ∧ i_Rel (k + 5) u v) v) u := by
  refine zz_el (P := fun u v => wpX_codeLength (fun r => wpY_codeLength (fun r' => r' = r ∧ i_Rel (k + 5) u v) v) u) ?_ I
  intro f_walkSide f_walkNext f_excluded f_excludedCount f_candidates f_candidateCount f_stepLevel f_stepSum f_stepEscape f_stepTotal f_stepCum f_stepFreq a_child a_tally a_contextNode a_depth a_recent a_stringCount a_restartCount a_range a_width a_digits a_decoded a_itemFreq f_lastLevely f_lastEscapesy f_lastCumy f_lastFreqy f_lastTotaly a_saidy a_doney a_starty a_againy a_rangey a_widthy a_lowy a_highy a_codey a_ny a_outy al lim ar cq dn0 dn1 V rg w lo p e D gp rg1 w1 cd dg L0 L1 cz R I5
  exact ⟨rfl, I5⟩
theorem i_vc_length {k : Nat} {u : SX} {v : SY} (I : i_Rel k u v) (hk : k + 5 ≤ 2564) (v1 : Int32) : wpX_length (fun r => wpY_length (fun r' => r' = r ∧ i_Rel (k + 5) u v) v v1) u v1 := by
  refine zz_el (P := fun u v => wpX_length (fun r => wpY_length (fun r' => r' = r ∧ i_Rel (k + 5) u v) v v1) u v1) ?_ I
  intro f_walkSide f_walkNext f_excluded f_excludedCount f_candidates f_candidateCount f_stepLevel f_stepSum f_stepEscape f_stepTotal f_stepCum f_stepFreq a_child a_tally a_contextNode a_depth a_recent a_stringCount a_restartCount a_range a_width a_digits a_decoded a_itemFreq f_lastLevely f_lastEscapesy f_lastCumy f_lastFreqy f_lastTotaly a_saidy a_doney a_starty a_againy a_rangey a_widthy a_lowy a_highy a_codey a_ny a_outy al lim ar cq dn0 dn1 V rg w lo p e D gp rg1 w1 cd dg L0 L1 cz R I5
  have R0 := R
  obtain ⟨⟨p1, p2, p3, p4, p5, p6, p7, p8, p9, p10⟩, hcz, ⟨e1, e2, e3, e4, e5, e6, e7⟩, ⟨d1, d2, d3, d4, d5⟩, ⟨c1, c2⟩, ⟨s1, s2, s3, s4⟩, ⟨r1, r2, r3⟩⟩ := R
  have h0 := YS_dn s3
  have h1 := YS_dn s4
  rcases sd_or v1 with ⟨sd, hsd, rfl⟩ | ⟨n0, n1⟩
  · rcases (by omega : sd = 0 ∨ sd = 1) with q | q
    · subst q
      exact br_t rfl (br_t rfl ⟨pk_in 0 2 (by omega), h0.1, I5⟩)
    · subst q
      exact br_f (by decide) (br_t rfl (br_f (by decide) (br_t rfl ⟨pk_in 1 2 (by omega), h1.1, I5⟩)))
  · exact y_no n0 n1 (y_no n0 n1 ⟨rfl, I5⟩)
theorem i_vc_restarts {k : Nat} {u : SX} {v : SY} (I : i_Rel k u v) (hk : k + 5 ≤ 2564) (v1 : Int32) : wpX_restarts (fun r => wpY_restarts (fun r' => r' = r ∧ i_Rel (k + 5) u v) v v1) u v1 := by
  refine zz_el (P := fun u v => wpX_restarts (fun r => wpY_restarts (fun r' => r' = r ∧ i_Rel (k + 5) u v) v v1) u v1) ?_ I
  intro f_walkSide f_walkNext f_excluded f_excludedCount f_candidates f_candidateCount f_stepLevel f_stepSum f_stepEscape f_stepTotal f_stepCum f_stepFreq a_child a_tally a_contextNode a_depth a_recent a_stringCount a_restartCount a_range a_width a_digits a_decoded a_itemFreq f_lastLevely f_lastEscapesy f_lastCumy f_lastFreqy f_lastTotaly a_saidy a_doney a_starty a_againy a_rangey a_widthy a_lowy a_highy a_codey a_ny a_outy al lim ar cq dn0 dn1 V rg w lo p e D gp rg1 w1 cd dg L0 L1 cz R I5
  have R0 := R
  obtain ⟨⟨p1, p2, p3, p4, p5, p6, p7, p8, p9, p10⟩, hcz, ⟨e1, e2, e3, e4, e5, e6, e7⟩, ⟨d1, d2, d3, d4, d5⟩, ⟨c1, c2⟩, ⟨s1, s2, s3, s4⟩, ⟨r1, r2, r3⟩⟩ := R
  unfold wpX_restarts
  rcases sd_or v1 with ⟨sd, hsd, rfl⟩ | ⟨n0, n1⟩
  · refine xl_is1 hsd (br_f (by decide) ⟨pk_in sd 2 hsd, y_sd hsd ⟨pk_in sd 2 hsd, ?_, I5⟩⟩)
    rw [nI_clamp (by omega)]
    rcases (by omega : sd = 0 ∨ sd = 1) with q | q
    · rw [q]; exact r1.symm
    · rw [q]; exact r2.symm
  · exact xl_is0 n0 n1 (br_t rfl (y_no n0 n1 ⟨rfl, I5⟩))
theorem i_vc_strings {k : Nat} {u : SX} {v : SY} (I : i_Rel k u v) (hk : k + 5 ≤ 2564) (v1 : Int32) : wpX_strings (fun r => wpY_strings (fun r' => r' = r ∧ i_Rel (k + 5) u v) v v1) u v1 := by
  refine zz_el (P := fun u v => wpX_strings (fun r => wpY_strings (fun r' => r' = r ∧ i_Rel (k + 5) u v) v v1) u v1) ?_ I
  intro f_walkSide f_walkNext f_excluded f_excludedCount f_candidates f_candidateCount f_stepLevel f_stepSum f_stepEscape f_stepTotal f_stepCum f_stepFreq a_child a_tally a_contextNode a_depth a_recent a_stringCount a_restartCount a_range a_width a_digits a_decoded a_itemFreq f_lastLevely f_lastEscapesy f_lastCumy f_lastFreqy f_lastTotaly a_saidy a_doney a_starty a_againy a_rangey a_widthy a_lowy a_highy a_codey a_ny a_outy al lim ar cq dn0 dn1 V rg w lo p e D gp rg1 w1 cd dg L0 L1 cz R I5
  have R0 := R
  obtain ⟨⟨p1, p2, p3, p4, p5, p6, p7, p8, p9, p10⟩, hcz, ⟨e1, e2, e3, e4, e5, e6, e7⟩, ⟨d1, d2, d3, d4, d5⟩, ⟨c1, c2⟩, ⟨s1, s2, s3, s4⟩, ⟨r1, r2, r3⟩⟩ := R
  unfold wpX_strings
  have side : ∀ sd L, sd < 2 → XS lim sd L a_child a_tally a_contextNode a_depth a_recent a_stringCount → (∃ dn, YS sd L al a_saidy a_doney a_starty dn) → a_stringCount (nI sd).toNatClampNeg = nI (hx_strs lim L) ∧ ∃ st d g, ys_ok sd st d g a_saidy a_doney a_starty ∧ L = hs g st d := by
    intro sd L hsd ⟨nd, X⟩ ⟨dn, st, d, g, _, Y, e, _⟩
    exact ⟨by rw [nI_clamp (by omega)]; exact X.2.1, st, d, g, Y, e⟩
  rcases sd_or v1 with ⟨sd, hsd, rfl⟩ | ⟨n0, n1⟩
  · have k : ∃ L, a_stringCount (nI sd).toNatClampNeg = nI (hx_strs lim L) ∧ ∃ st d g, ys_ok sd st d g a_saidy a_doney a_starty ∧ L = hs g st d := by
      rcases (by omega : sd = 0 ∨ sd = 1) with q | q
      · subst q; exact ⟨L0, side 0 L0 hsd s1 ⟨_, s3⟩⟩
      · subst q; exact ⟨L1, side 1 L1 hsd s2 ⟨_, s4⟩⟩
    obtain ⟨L, k1, st, d, g, Y, rfl⟩ := k
    refine xl_is1 hsd (br_f (by decide) ⟨pk_in sd 2 hsd, ?_⟩)
    rw [k1]
    exact yl_strings hsd Y ⟨rfl, I5⟩
  · exact xl_is0 n0 n1 (br_t rfl (y_no n0 n1 ⟨rfl, I5⟩))
theorem i_vc_decodedAt {k : Nat} {u : SX} {v : SY} (I : i_Rel k u v) (hk : k + 5 ≤ 2564) (v1 : Int32) : wpX_decodedAt (fun r => wpY_decodedAt (fun r' => r' = r ∧ i_Rel (k + 5) u v) v v1) u v1 := by
  refine zz_el (P := fun u v => wpX_decodedAt (fun r => wpY_decodedAt (fun r' => r' = r ∧ i_Rel (k + 5) u v) v v1) u v1) ?_ I
  intro f_walkSide f_walkNext f_excluded f_excludedCount f_candidates f_candidateCount f_stepLevel f_stepSum f_stepEscape f_stepTotal f_stepCum f_stepFreq a_child a_tally a_contextNode a_depth a_recent a_stringCount a_restartCount a_range a_width a_digits a_decoded a_itemFreq f_lastLevely f_lastEscapesy f_lastCumy f_lastFreqy f_lastTotaly a_saidy a_doney a_starty a_againy a_rangey a_widthy a_lowy a_highy a_codey a_ny a_outy al lim ar cq dn0 dn1 V rg w lo p e D gp rg1 w1 cd dg L0 L1 cz R I5
  have R0 := R
  obtain ⟨⟨p1, p2, p3, p4, p5, p6, p7, p8, p9, p10⟩, hcz, ⟨e1, e2, e3, e4, e5, e6, e7⟩, ⟨d1, d2, d3, d4, d5⟩, ⟨c1, c2⟩, ⟨s1, s2, s3, s4⟩, ⟨r1, r2, r3⟩⟩ := R
  have h1 := YS_dn s4
  rcases pk_ix v1 (n := dn1) (by omega) with h | h | ⟨j, hj, h⟩
  · exact br_t h (br_t h ⟨rfl, I5⟩)
  · have h0 : ¬ v1 < 0 := Int32.not_lt.mpr (Int32.le_trans (nI_pos' (by omega)) h)
    refine br_f h0 (br_f (Int32.not_lt.mpr h) (br_f h0 (br_t ?_ ⟨rfl, I5⟩)))
    rw [h1.1]; exact h
  · subst h
    have e96 : 96 + nI j = nI (96 + j) := nI_add 96 j
    refine br_f (nI_pos (by omega)) (br_t (nI_lt hj (by omega)) ⟨pk_in j 96 (by omega), br_f (nI_pos (by omega)) (br_f ?_ ⟨pk_in (96 + j) 192 (by omega) e96, ?_, I5⟩)⟩)
    · rw [h1.1]; exact nI_ge hj (by omega)
    · rw [e96, nI_clamp (by omega), nI_clamp (by omega)]
      exact (r3 j hj).symm
theorem i_vc_settled {k : Nat} {u : SX} {v : SY} (I : i_Rel k u v) (hk : k + 5 ≤ 2564) : wpX_settled (fun r => wpY_settled (fun r' v' => r' = r ∧ i_Rel (k + 5) u v') v) u := by
  refine zz_el (P := fun u v => wpX_settled (fun r => wpY_settled (fun r' v' => r' = r ∧ i_Rel (k + 5) u v') v) u) ?_ I
  intro f_walkSide f_walkNext f_excluded f_excludedCount f_candidates f_candidateCount f_stepLevel f_stepSum f_stepEscape f_stepTotal f_stepCum f_stepFreq a_child a_tally a_contextNode a_depth a_recent a_stringCount a_restartCount a_range a_width a_digits a_decoded a_itemFreq f_lastLevely f_lastEscapesy f_lastCumy f_lastFreqy f_lastTotaly a_saidy a_doney a_starty a_againy a_rangey a_widthy a_lowy a_highy a_codey a_ny a_outy al lim ar cq dn0 dn1 V rg w lo p e D gp rg1 w1 cd dg L0 L1 cz R I5
  have R0 := R
  obtain ⟨⟨p1, p2, p3, p4, p5, p6, p7, p8, p9, p10⟩, hcz, ⟨e1, e2, e3, e4, e5, e6, e7⟩, ⟨d1, d2, d3, d4, d5⟩, ⟨c1, c2⟩, ⟨s1, s2, s3, s4⟩, ⟨r1, r2, r3⟩⟩ := R
  obtain ⟨i1, i2, i3, i4, i5⟩ := e2
  dsimp only at i1 i2 i3 i4 i5
  have q1 := e1.1
  have q3 := e1.2.2.1
  refine xl_settled q3 (by omega) (by omega) e4 i2 ?_
  exact yl_settled i1 i2 (by omega) e6 e7 e3 e1 (fun hi => ⟨rfl, rl_mk R0⟩)
theorem i_vc_coder {k : Nat} {u : SX} {v : SY} (I : i_Rel k u v) (hk : k + 5 ≤ 2564) (v1 : Int32) (v2 : Int32) : wpX_coder (fun r => wpY_coder (fun r' => r' = r ∧ i_Rel (k + 5) u v) v v1 v2) u v1 v2 := by
  refine zz_el (P := fun u v => wpX_coder (fun r => wpY_coder (fun r' => r' = r ∧ i_Rel (k + 5) u v) v v1 v2) u v1 v2) ?_ I
  intro f_walkSide f_walkNext f_excluded f_excludedCount f_candidates f_candidateCount f_stepLevel f_stepSum f_stepEscape f_stepTotal f_stepCum f_stepFreq a_child a_tally a_contextNode a_depth a_recent a_stringCount a_restartCount a_range a_width a_digits a_decoded a_itemFreq f_lastLevely f_lastEscapesy f_lastCumy f_lastFreqy f_lastTotaly a_saidy a_doney a_starty a_againy a_rangey a_widthy a_lowy a_highy a_codey a_ny a_outy al lim ar cq dn0 dn1 V rg w lo p e D gp rg1 w1 cd dg L0 L1 cz R I5
  have R0 := R
  obtain ⟨⟨p1, p2, p3, p4, p5, p6, p7, p8, p9, p10⟩, hcz, ⟨e1, e2, e3, e4, e5, e6, e7⟩, ⟨d1, d2, d3, d4, d5⟩, ⟨c1, c2⟩, ⟨s1, s2, s3, s4⟩, ⟨r1, r2, r3⟩⟩ := R
  obtain ⟨i1, i2, i3, i4, i5⟩ := e2
  dsimp only at i1 i2 i3 i4 i5
  unfold wpX_coder
  rcases sd_or v1 with ⟨sd, hsd, rfl⟩ | ⟨n0, n1⟩
  · refine xl_is1 hsd (br_f (by decide) ?_)
    have er : a_rangey (nI sd).toNatClampNeg = a_range (nI sd).toNatClampNeg := by
      rw [nI_clamp (by omega)]
      rcases (by omega : sd = 0 ∨ sd = 1) with q | q
      · rw [q, e4, e6]
      · rw [q, d2, d4]
    have ew : a_widthy (nI sd).toNatClampNeg = a_width (nI sd).toNatClampNeg := by
      rw [nI_clamp (by omega)]
      rcases (by omega : sd = 0 ∨ sd = 1) with q | q
      · rw [q, e5, e7]
      · rw [q, d3, d5]
    by_cases h0 : v2 = 0
    · exact br_t h0 ⟨pk_in sd 2 hsd, y_sd hsd (br_t h0 ⟨pk_in sd 2 hsd, er, I5⟩)⟩
    by_cases h1 : v2 = 1
    · exact br_f h0 (br_t h1 ⟨pk_in sd 2 hsd, y_sd hsd (br_f h0 (br_t h1 ⟨pk_in sd 2 hsd, ew, I5⟩))⟩)
    by_cases h2 : v2 = 2
    · refine br_f h0 (br_f h1 (br_t h2 ?_))
      rcases (by omega : sd = 0 ∨ sd = 1) with q | q
      · subst q
        exact br_t rfl (br_t rfl (br_f h0 (br_f h1 (br_t h2 (br_f (by decide) (yl_pt (V := V) (w := w) (by omega) (by omega) e7 e3 ⟨congrArg nI (cx_low e1), I5⟩))))))
      · subst q
        exact br_f (by decide) (br_f (by decide) (br_t rfl (br_f h0 (br_f h1 (br_t h2 (br_t rfl ⟨rfl, I5⟩))))))
    · exact br_f h0 (br_f h1 (br_f h2 (y_sd hsd (br_f h0 (br_f h1 (br_f h2 ⟨rfl, I5⟩))))))
  · exact xl_is0 n0 n1 (br_t rfl (y_no n0 n1 ⟨rfl, I5⟩))
end
section
/-! ===== bit, context, count ===== -/
theorem i_vc_bit {k : Nat} {u : SX} {v : SY} (I : i_Rel k u v) (hk : k + 5 ≤ 2564) (v1 : Int32) : wpX_bit (fun r => wpY_bit (fun r' v' => r' = r ∧ i_Rel (k + 5) u v') v v1) u v1 := by
  refine zz_el (P := fun u v => wpX_bit (fun r => wpY_bit (fun r' v' => r' = r ∧ i_Rel (k + 5) u v') v v1) u v1) ?_ I
  intro f_walkSide f_walkNext f_excluded f_excludedCount f_candidates f_candidateCount f_stepLevel f_stepSum f_stepEscape f_stepTotal f_stepCum f_stepFreq a_child a_tally a_contextNode a_depth a_recent a_stringCount a_restartCount a_range a_width a_digits a_decoded a_itemFreq f_lastLevely f_lastEscapesy f_lastCumy f_lastFreqy f_lastTotaly a_saidy a_doney a_starty a_againy a_rangey a_widthy a_lowy a_highy a_codey a_ny a_outy al lim ar cq dn0 dn1 V rg w lo p e D gp rg1 w1 cd dg L0 L1 cz R I5
  have R0 := R
  obtain ⟨⟨p1, p2, p3, p4, p5, p6, p7, p8, p9, p10⟩, hcz, ⟨e1, e2, e3, e4, e5, e6, e7⟩, ⟨d1, d2, d3, d4, d5⟩, ⟨c1, c2⟩, ⟨s1, s2, s3, s4⟩, ⟨r1, r2, r3⟩⟩ := R
  obtain ⟨i1, i2, i3, i4, i5⟩ := e2
  dsimp only at i1 i2 i3 i4 i5
  have q1 := e1.1
  have q3 := e1.2.2.1
  rcases hcz with ⟨rfl, hc0, _, hdx⟩ | rfl
  · have S := sv_ok i1 i2 e1
    have dig := cx_dig i2 (by omega) e1
    refine br_t rfl (xl_settled q3 (by omega) (by omega) e4 i2 ?_)
    rcases pk_ix v1 (n := sv lo p e rg) (by omega) with h | h | ⟨j, hj, h⟩
    · exact br_t h (br_t rfl (yl_settled i1 i2 (by omega) e6 e7 e3 e1 (fun hi => br_t h ⟨rfl, rl_mk R0⟩)))
    · have h0 : ¬ v1 < 0 := Int32.not_lt.mpr (Int32.le_trans (nI_pos' (by omega)) h)
      exact br_f h0 (br_f (Int32.not_lt.mpr h) (br_t rfl (yl_settled i1 i2 (by omega) e6 e7 e3 e1 (fun hi => br_f h0 (br_f (Int32.not_lt.mpr h) ⟨rfl, rl_mk R0⟩)))))
    · subst h
      refine br_f (nI_pos (by omega)) (br_t (nI_lt hj (by omega)) (br_t rfl (pk_lt j e (fun z => ⟨pk_in j 4096 (by omega), br_t rfl (yl_settled i1 i2 (by omega) e6 e7 e3 e1 (fun hi => br_f (nI_pos (by omega)) (br_t (nI_lt hj (by omega)) (br_t rfl ⟨pk_in j 4096 (by omega), ?_, rl_mk R0⟩))))⟩) (fun z => br_t rfl (yl_settled i1 i2 (by omega) e6 e7 e3 e1 (fun hi => br_f (nI_pos (by omega)) (br_t (nI_lt hj (by omega)) (br_t rfl ⟨pk_in j 4096 (by omega), ?_, rl_mk R0⟩))))))))
      · rw [nI_clamp (by omega), e3 j (by omega), hdx j z, (dig j z).1]
      · have hz : p = 0 ∧ (32768 ≤ lo ∨ lo + rg ≤ 32768) := by
          by_cases y : p = 0 ∧ (32768 ≤ lo ∨ lo + rg ≤ 32768)
          · exact y
          · have es : sv lo p e rg = e := if_neg y
            omega
        have es : sv lo p e rg = e + 1 := if_pos hz
        have p0 := hz.1
        have je : j = e := by omega
        have win : V / 2 ^ (w - 1 - e) % 2 = lo / 32768 := by
          rw [p0] at e1
          exact cx_win e1
        rw [nI_clamp (by omega), e3 j (by omega), sh15 (by omega), je, win]
  · obtain ⟨_, b1, b2, _, _⟩ := c1
    obtain ⟨_, _, b3, _, _⟩ := c2
    refine br_f (by decide) ?_
    rcases pk_ix v1 (n := cd) (by omega) with h | h | ⟨j, hj, h⟩
    · exact br_t h (br_f (by decide) (br_t h ⟨rfl, rl_mk R0⟩))
    · have h0 : ¬ v1 < 0 := Int32.not_lt.mpr (Int32.le_trans (nI_pos' (by omega)) h)
      exact br_f h0 (br_f (Int32.not_lt.mpr h) (br_f (by decide) (br_f h0 (br_f (Int32.not_lt.mpr h) ⟨rfl, rl_mk R0⟩))))
    · subst h
      refine br_f (nI_pos (by omega)) (br_t (nI_lt hj (by omega)) (br_f (by decide) ⟨pk_in j 4096 (by omega), br_f (by decide) (br_f (nI_pos (by omega)) (br_t (nI_lt hj (by omega)) (br_f (by decide) ⟨pk_in j 4096 (by omega), ?_, rl_mk R0⟩)))⟩))
      rw [nI_clamp (by omega), b2 j hj, b3 j hj]
/-- both pictures of a side -/
theorem sides {lim al dn0 dn1 sd : Nat} {L0 L1 : List Nat} {xch xta xcn xdp xrc xsc ysa ydo yst : Nat → Int32} (hsd : sd < 2) (s1 : XS lim 0 L0 xch xta xcn xdp xrc xsc) (s2 : XS lim 1 L1 xch xta xcn xdp xrc xsc) (s3 : YS 0 L0 al ysa ydo yst dn0) (s4 : YS 1 L1 al ysa ydo yst dn1) :
    ∃ (st d : Nat) (g : Nat → Nat), XS lim sd (hs g st d) xch xta xcn xdp xrc xsc ∧ ys_ok sd st d g ysa ydo yst := by
  rcases (by omega : sd = 0 ∨ sd = 1) with q | q
  · subst q
    obtain ⟨st, d, g, _, Y, rfl, _⟩ := s3
    exact ⟨st, d, g, s1, Y⟩
  · subst q
    obtain ⟨st, d, g, _, Y, rfl, _⟩ := s4
    exact ⟨st, d, g, s2, Y⟩
theorem i_vc_context {k : Nat} {u : SX} {v : SY} (I : i_Rel k u v) (hk : k + 5 ≤ 2564) (v1 : Int32) (v2 : Int32) : wpX_context (fun r => wpY_context (fun r' => r' = r ∧ i_Rel (k + 5) u v) v v1 v2) u v1 v2 := by
  refine zz_el (P := fun u v => wpX_context (fun r => wpY_context (fun r' => r' = r ∧ i_Rel (k + 5) u v) v v1 v2) u v1 v2) ?_ I
  intro f_walkSide f_walkNext f_excluded f_excludedCount f_candidates f_candidateCount f_stepLevel f_stepSum f_stepEscape f_stepTotal f_stepCum f_stepFreq a_child a_tally a_contextNode a_depth a_recent a_stringCount a_restartCount a_range a_width a_digits a_decoded a_itemFreq f_lastLevely f_lastEscapesy f_lastCumy f_lastFreqy f_lastTotaly a_saidy a_doney a_starty a_againy a_rangey a_widthy a_lowy a_highy a_codey a_ny a_outy al lim ar cq dn0 dn1 V rg w lo p e D gp rg1 w1 cd dg L0 L1 cz R I5
  have R0 := R
  obtain ⟨⟨p1, p2, p3, p4, p5, p6, p7, p8, p9, p10⟩, hcz, ⟨e1, e2, e3, e4, e5, e6, e7⟩, ⟨d1, d2, d3, d4, d5⟩, ⟨c1, c2⟩, ⟨s1, s2, s3, s4⟩, ⟨r1, r2, r3⟩⟩ := R
  unfold wpX_context
  rcases sd_or v1 with ⟨sd, hsd, rfl⟩ | ⟨n0, n1⟩
  · obtain ⟨st, d, g, ⟨nd, X⟩, Y⟩ := sides hsd s1 s2 s3 s4
    obtain ⟨x1, x2, x3, x4, x5, x6⟩ := X
    obtain ⟨y1, y2, y3, y4⟩ := Y
    have ht := hs_top g st d
    have hp := hx_pack_lt (hs g st d)
    refine xl_is1 hsd (br_f (by decide) ?_)
    by_cases h1 : v2 < 1
    · exact br_t h1 (y_sd hsd (br_t h1 ⟨rfl, I5⟩))
    by_cases h3 : v2 ≤ 3
    · have n3 : ¬ (3 : Int32) < v2 := Int32.not_lt.mpr h3
      have l1 : (1 : Int32) ≤ v2 := Int32.not_lt.mp h1
      obtain ⟨b, hb, rfl⟩ := nI_of2 (M := 3) (n := 3) (by decide) (Int32.not_lt.mpr (Int32.le_trans (by decide) l1)) h3
      have b1 : 1 ≤ b := (nI_leI (a := 1) (by omega) (by omega)).mp l1
      obtain ⟨j, rfl⟩ : ∃ j, b = j + 1 := ⟨b - 1, by omega⟩
      have ed : a_doney (nI sd).toNatClampNeg - a_starty (nI sd).toNatClampNeg = nI d := by
        rw [nI_clamp (by omega), y2, y3, pk_sub (by omega)]
        exact congrArg nI (by omega)
      have edx : a_depth (nI sd).toNatClampNeg = nI (hx_top (hs g st d)) := by rw [nI_clamp (by omega)]; exact x4
      have tj : hx_top (hs g st d) ≤ 3 := hx_top_le _
      refine br_f h1 (br_f n3 ⟨pk_in sd 2 hsd, ?_⟩)
      rw [edx]
      refine pk_le (j + 1) (hx_top (hs g st d)) (fun z => ⟨pk_in sd 2 hsd, y_sd hsd (br_f h1 (br_t h3 ⟨pk_in sd 2 hsd, pk_in sd 2 hsd, ?_⟩))⟩) (fun z => y_sd hsd (br_f h1 (br_t h3 ⟨pk_in sd 2 hsd, pk_in sd 2 hsd, ?_⟩)))
      · have jd : j < d := by
          by_cases q : d < 3
          · rw [if_pos q] at ht; omega
          · omega
        rw [ed]
        have ei : 96 * nI sd + a_doney (nI sd).toNatClampNeg - nI (j + 1) = nI (96 * sd + (st + d - 1 - j)) := by
          rw [nI_clamp (by omega), y3, ix_96, nI_add, pk_sub (by omega)]
          exact congrArg nI (by omega)
        refine br_t (nI_le (by omega) (by omega)) ⟨pk_in sd 2 hsd, pk_in (96 * sd + (st + d - 1 - j)) 192 (by omega) ei, ?_, I5⟩
        rw [ei, nI_clamp (by omega), (y4 _ (by omega)).1, nI_clamp (by omega), x6, nI_pred, cp_eq, cp_nI (by omega) (by omega), pack_dig j d (by omega) jd (fun i hi => (y4 i hi).2)]
      · rw [ed]
        have jd : d < j + 1 := by
          by_cases q : d < 3
          · rw [if_pos q] at ht; omega
          · rw [if_neg q] at ht; omega
        exact br_f (nI_ge (by omega) (by omega)) ⟨rfl, I5⟩
    · have n3 : (3 : Int32) < v2 := Int32.not_le.mp h3
      exact br_f h1 (br_t n3 (y_sd hsd (br_f h1 (br_f h3 ⟨rfl, I5⟩))))
  · exact xl_is0 n0 n1 (br_t rfl (y_no n0 n1 ⟨rfl, I5⟩))
theorem cl_drop : ∀ (n : Nat) (c : Nat → Nat) (k : Nat), k < n → (cl c n).drop k = c k :: (cl c n).drop (k + 1)
  | 0, _, k, h => absurd h (Nat.not_lt_zero _)
  | n + 1, c, 0, _ => rfl
  | n + 1, c, k + 1, h => by
    show (c 0 :: cl (fun j => c (j + 1)) n).drop (k + 1) = c (k + 1) :: (c 0 :: cl (fun j => c (j + 1)) n).drop (k + 1 + 1)
    rw [List.drop_succ_cons, List.drop_succ_cons]
    exact cl_drop n (fun j => c (j + 1)) k (by omega)
section
variable {f_alphabet f_countLimit f_arena f_capacity f_closed f_low f_pending f_emitted f_gap f_codeDigits f_encoded f_decodedCount f_walkSide f_walkNext f_excluded f_excludedCount f_candidates f_candidateCount f_stepLevel f_stepSum f_stepEscape f_stepTotal f_stepCum f_stepFreq : Int32} {a_child a_tally a_contextNode a_depth a_recent a_stringCount a_restartCount a_range a_width a_digits a_decoded a_itemFreq : Nat → Int32}
theorem xl_count {post : Int32 → Prop} {lim sd s len : Nat} {L : List Nat} {q : Int32} (hl : 2 ≤ lim) (hl5 : lim ≤ 15) (hsd : sd < 2) (h8 : s < 8) (hlen : len ≤ 3) (X : XS lim sd L a_child a_tally a_contextNode a_depth a_recent a_stringCount) (K : post (nI (hx_cnt lim L (cl (cp q) len) s))) :
    ∃ n, wX_count_44 post q (nI s) f_alphabet f_countLimit f_arena f_capacity f_closed f_low f_pending f_emitted f_gap f_codeDigits f_encoded f_decodedCount f_walkSide f_walkNext f_excluded f_excludedCount f_candidates f_candidateCount f_stepLevel f_stepSum f_stepEscape f_stepTotal f_stepCum f_stepFreq a_child a_tally a_contextNode a_depth a_recent a_stringCount a_restartCount a_range a_width a_digits a_decoded a_itemFreq n (nI (sd * 128)) (kI len) := by
  obtain ⟨nd, x1, x2, x3, x4, x5, x6⟩ := X
  have lw : (cl (cp q) len).length = len := cl_len len (cp q)
  have main : ∀ N, N ≤ len → hx_oc (hx_cnt lim L) ((cl (cp q) len).drop N) → ∀ n, N < n → wX_count_44 post q (nI s) f_alphabet f_countLimit f_arena f_capacity f_closed f_low f_pending f_emitted f_gap f_codeDigits f_encoded f_decodedCount f_walkSide f_walkNext f_excluded f_excludedCount f_candidates f_candidateCount f_stepLevel f_stepSum f_stepEscape f_stepTotal f_stepCum f_stepFreq a_child a_tally a_contextNode a_depth a_recent a_stringCount a_restartCount a_range a_width a_digits a_decoded a_itemFreq n (nI (nd ((cl (cp q) len).drop N))) (kI N) := by
    intro N
    induction N with
    | zero =>
      intro hN oc n hn
      obtain ⟨m, rfl⟩ : ∃ m, n = m + 1 := ⟨n - 1, by omega⟩
      rw [List.drop_zero] at oc ⊢
      have r := tr_rng x1 (by omega) oc
      have cc := tr_child x1 (by omega) oc h8
      refine br_t (show (-1 : Int32) < 0 by decide) ⟨pk_in (nd (cl (cp q) len) * 8 + s) 2048 (by omega) (ix_8 _ _), ?_⟩
      by_cases z : 0 < hx_cnt lim L (cl (cp q) len) s
      · have r2 := x1.2.2.1 _ s (by omega) z
        refine nm_r (e' := nI (nd (s :: cl (cp q) len))) (by rw [ix_8, nI_clamp (by omega), cc, if_pos z]) (br_f (nI_ne0 (by omega) (by omega)) ⟨pk_in (nd (s :: cl (cp q) len)) 256 (by omega), ?_⟩)
        rw [nI_clamp (by omega), tr_tally x1 (by omega) z]
        exact K
      · refine nm_r (e' := 0) (by rw [ix_8, nI_clamp (by omega), cc, if_neg z]) (br_t rfl ?_)
        rw [show hx_cnt lim L (cl (cp q) len) s = 0 by omega] at K
        exact K
    | succ k ih =>
      intro hN oc n hn
      obtain ⟨m, rfl⟩ : ∃ m, n = m + 1 := ⟨n - 1, by omega⟩
      have ld : ((cl (cp q) len).drop (k + 1)).length ≤ 3 := by rw [List.length_drop]; omega
      have r := tr_rng x1 (by omega) oc
      have b := cp_lt q k
      have cc := tr_child x1 ld oc b
      have ed := cl_drop len (cp q) k (by omega)
      refine br_f (nI_pos (n := k) (by omega)) (nm_r (e' := nI (cp q k)) (cp_eq q k) ⟨pk_in (nd ((cl (cp q) len).drop (k + 1)) * 8 + cp q k) 2048 (by omega) (ix_8 _ _), ?_⟩)
      by_cases z : 0 < hx_cnt lim L ((cl (cp q) len).drop (k + 1)) (cp q k)
      · have r2 := x1.2.2.1 _ _ ld z
        refine nm_r (e' := nI (nd ((cl (cp q) len).drop k))) (by rw [ix_8, nI_clamp (by omega), cc, if_pos z, ed]) (br_f ?_ (nm_r (kI_m k) (ih (by omega) (by rw [ed]; exact z) m (by omega))))
        rw [ed]
        exact nI_ne0 (by omega) (by omega)
      · refine nm_r (e' := 0) (by rw [ix_8, nI_clamp (by omega), cc, if_neg z]) (br_t rfl ?_)
        have c0 : hx_cnt lim L (cl (cp q) len) s = 0 := by
          rcases Nat.eq_zero_or_pos (hx_cnt lim L (cl (cp q) len) s) with y | y
          · exact y
          · have o1 : hx_oc (hx_cnt lim L) (s :: cl (cp q) len) := y
            have o2 := hx_oc_drop _ o1 (k + 1)
            rw [List.drop_succ_cons, ed] at o2
            exact absurd o2 z
        rw [c0] at K
        exact K
  have e0 : (cl (cp q) len).drop len = [] := List.drop_eq_nil_of_le (by omega)
  have k := main len (Nat.le_refl _) (by rw [e0]; trivial) (len + 1) (by omega)
  rw [e0, x1.1] at k
  exact ⟨len + 1, k⟩
end
theorem i_vc_count {k : Nat} {u : SX} {v : SY} (I : i_Rel k u v) (hk : k + 5 ≤ 2564) (v1 : Int32) (v2 : Int32) (v3 : Int32) (v4 : Int32) : wpX_count (fun r => wpY_count (fun r' v' => r' = r ∧ i_Rel (k + 5) u v') v v1 v2 v3 v4) u v1 v2 v3 v4 := by
  refine zz_el (P := fun u v => wpX_count (fun r => wpY_count (fun r' v' => r' = r ∧ i_Rel (k + 5) u v') v v1 v2 v3 v4) u v1 v2 v3 v4) ?_ I
  intro f_walkSide f_walkNext f_excluded f_excludedCount f_candidates f_candidateCount f_stepLevel f_stepSum f_stepEscape f_stepTotal f_stepCum f_stepFreq a_child a_tally a_contextNode a_depth a_recent a_stringCount a_restartCount a_range a_width a_digits a_decoded a_itemFreq f_lastLevely f_lastEscapesy f_lastCumy f_lastFreqy f_lastTotaly a_saidy a_doney a_starty a_againy a_rangey a_widthy a_lowy a_highy a_codey a_ny a_outy al lim ar cq dn0 dn1 V rg w lo p e D gp rg1 w1 cd dg L0 L1 cz R I5
  have R0 := R
  obtain ⟨⟨p1, p2, p3, p4, p5, p6, p7, p8, p9, p10⟩, hcz, ⟨e1, e2, e3, e4, e5, e6, e7⟩, ⟨d1, d2, d3, d4, d5⟩, ⟨c1, c2⟩, ⟨s1, s2, s3, s4⟩, ⟨r1, r2, r3⟩⟩ := R
  unfold wpX_count
  rcases sd_or v1 with ⟨sd, hsd, rfl⟩ | ⟨n0, n1⟩
  · obtain ⟨st, d, g, X, Y⟩ := sides hsd s1 s2 s3 s4
    refine xl_is1 hsd (br_f (by decide) ?_)
    by_cases h0 : v2 < 0
    · exact br_t h0 (y_sd hsd (br_t h0 ⟨rfl, I5⟩))
    by_cases h3 : v2 ≤ 3
    · obtain ⟨len, hlen, rfl⟩ := nI_of2 (M := 3) (n := 3) (by decide) h0 h3
      refine br_f h0 (br_t h3 (xl_sym p2 (fun s hs' es => ?_) (fun z => br_t rfl (y_sd hsd (br_f h0 (br_t h3 ?_))))))
      · subst es
        refine br_f (by decide) (nm_r (ix_128 sd) (nm_r (kI_s len) ?_))
        refine xl_count p3 p4 hsd (by omega) hlen X ?_
        refine y_sd hsd (br_f h0 (br_t h3 (br_f (nI_pos (by omega)) (br_t (nI_lt hs' (by omega)) ?_))))
        refine yl_tally p3 p4 hsd hlen Y (fun nn h => ⟨pk_in s 8 (by omega), ?_, rl_mk R0⟩)
        rw [nI_clamp (by omega)]
        exact h s (by omega)
      · rcases z with z | ⟨z1, z2⟩
        · exact br_t z ⟨rfl, I5⟩
        · exact br_f z1 (br_f z2 ⟨rfl, I5⟩)
    · exact br_f h0 (br_f h3 (y_sd hsd (br_f h0 (br_f h3 ⟨rfl, I5⟩))))
  · exact xl_is0 n0 n1 (br_t rfl (y_no n0 n1 ⟨rfl, I5⟩))
end
section
/-! ===== the walks from their start ===== -/
theorem ex_none (al : Nat) : ex_ok al (fun _ => false) 0 := fun t _ => b_0 t
theorem g_none (al : Nat) : nI (hx_g (fun _ => false) al) = 0 := by rw [hx_g_none]; rfl
def oP (al lim : Nat) (L : List Nat) (s : Nat) := gw al (hx_F lim L) (gw_cs al s) gw_id (hx_top L + 1) (fun _ => false) (hx_g (fun _ => false) al) 0 (0, 0, 0)
def oE (al lim : Nat) (L : List Nat) (s : Nat) (st : Nat × Nat × Nat) := (gw al (hx_F lim L) (gw_cs al s) cx_e (hx_top L + 1) (fun _ => false) (hx_g (fun _ => false) al) 0 st).2.2.2.2.2.2
def oD (al lim : Nat) (L : List Nat) (dg : Nat → Nat) (st : Nat × Nat × Nat) := (gw al (hx_F lim L) (gw_cd al) (cx_d dg) (hx_top L + 1) (fun _ => false) (hx_g (fun _ => false) al) 0 st).2.2.2.2.2
section
variable {f_alphabet f_countLimit f_arena f_capacity f_closed f_low f_pending f_emitted f_gap f_codeDigits f_encoded f_decodedCount f_walkSide f_walkNext f_excluded f_excludedCount f_candidates f_candidateCount f_stepLevel f_stepSum f_stepEscape f_stepTotal f_stepCum f_stepFreq : Int32} {a_child a_tally a_contextNode a_depth a_recent a_stringCount a_restartCount a_range a_width a_digits a_decoded a_itemFreq : Nat → Int32}
theorem xl_start {post : SX → Prop} {sd t : Nat} (hs : sd < 2) (hd : a_depth sd = nI t) (K : post (f_alphabet, f_countLimit, f_arena, f_capacity, f_closed, f_low, f_pending, f_emitted, f_gap, f_codeDigits, f_encoded, f_decodedCount, nI sd, kI (t + 1), 0, 0, f_candidates, f_candidateCount, f_stepLevel, f_stepSum, f_stepEscape, f_stepTotal, f_stepCum, f_stepFreq, a_child, a_tally, a_contextNode, a_depth, a_recent, a_stringCount, a_restartCount, a_range, a_width, a_digits, a_decoded, a_itemFreq)) : wpX_startWalk post (f_alphabet, f_countLimit, f_arena, f_capacity, f_closed, f_low, f_pending, f_emitted, f_gap, f_codeDigits, f_encoded, f_decodedCount, f_walkSide, f_walkNext, f_excluded, f_excludedCount, f_candidates, f_candidateCount, f_stepLevel, f_stepSum, f_stepEscape, f_stepTotal, f_stepCum, f_stepFreq, a_child, a_tally, a_contextNode, a_depth, a_recent, a_stringCount, a_restartCount, a_range, a_width, a_digits, a_decoded, a_itemFreq) (nI sd) :=
  ⟨pk_in sd 2 hs, nm_r (e' := kI (t + 1)) (by rw [nI_clamp (by omega)]; exact hd) K⟩
theorem xl_pre0 {post : Int32 → SX → Prop} {lim al s sd : Nat} {L : List Nat} {x3 : Int32} (hl : 2 ≤ lim) (hl5 : lim ≤ 15) (ha : al ≤ 8) (hs : s < al) (hsd : sd < 2)
    (X : XS lim sd L a_child a_tally a_contextNode a_depth a_recent a_stringCount)
    (K : ∀ (wn ex ec cm cc ss se : Int32) (it : Nat → Int32), wX_predict_85 post x3 (nI (oP al lim L s).2.1) (nI al) f_countLimit f_arena f_capacity f_closed f_low f_pending f_emitted f_gap f_codeDigits f_encoded f_decodedCount (nI sd) wn ex ec cm cc (nI (lv (oP al lim L s).1)) ss se (nI (oP al lim L s).2.2.2.2.1) (nI (oP al lim L s).2.2.1) (nI (oP al lim L s).2.2.2.1) a_child a_tally a_contextNode a_depth a_recent a_stringCount a_restartCount a_range a_width a_digits a_decoded it) :
    ∃ n, wX_predict_45 post (nI s) x3 n 0 0 0 (nI al) f_countLimit f_arena f_capacity f_closed f_low f_pending f_emitted f_gap f_codeDigits f_encoded f_decodedCount (nI sd) (kI (hx_top L + 1)) 0 0 f_candidates f_candidateCount f_stepLevel f_stepSum f_stepEscape f_stepTotal f_stepCum f_stepFreq a_child a_tally a_contextNode a_depth a_recent a_stringCount a_restartCount a_range a_width a_digits a_decoded a_itemFreq := by
  have ht := hx_top_le L
  have k : wX_predict_45 post (nI s) x3 (hx_top L + 3) (nI 0) 0 (nI 0) (nI al) f_countLimit f_arena f_capacity f_closed f_low f_pending f_emitted f_gap f_codeDigits f_encoded f_decodedCount (nI sd) (kI (hx_top L + 1)) 0 (nI (hx_g (fun _ => false) al)) f_candidates f_candidateCount f_stepLevel f_stepSum f_stepEscape f_stepTotal f_stepCum f_stepFreq a_child a_tally a_contextNode a_depth a_recent a_stringCount a_restartCount a_range a_width a_digits a_decoded a_itemFreq :=
    xl_pre_45 (0, 0, 0) hl hl5 ha hs hsd X (hx_top L + 1) (hx_top L + 1) (Nat.le_refl _) (Nat.le_refl _) 0 (fun _ => false) (by omega) rfl (hx_top L + 3) _ _ _ _ _ _ _ _ _ _ (by omega) (ex_none al) K
  rw [g_none] at k
  exact ⟨_, k⟩
theorem xl_enc0 {post : Int32 → SX → Prop} {lim al s W : Nat} {L : List Nat} {x2 : Int32} {st : Nat × Nat × Nat} (hl : 2 ≤ lim) (hl5 : lim ≤ 15) (ha : al ≤ 8) (hs : s < al) (hW : W ≤ 3800)
    (X : XS lim 0 L a_child a_tally a_contextNode a_depth a_recent a_stringCount) (hI : cx_EI W 0 st) (hc : ce_ok st f_low f_pending f_emitted a_range a_width a_digits)
    (K : ∀ (fl fp fe wn ex ec cm cc sl ss se so sc sf : Int32) (ra wi dg it : Nat → Int32), cx_EI W 5 (oE al lim L s st) → ce_ok (oE al lim L s st) fl fp fe ra wi dg → ra 1 = a_range 1 → wi 1 = a_width 1 →
      wX_encode_89 post (nI s) x2 (nI al) f_countLimit f_arena f_capacity f_closed fl fp fe f_gap f_codeDigits f_encoded f_decodedCount (nI 0) wn ex ec cm cc sl ss se so sc sf a_child a_tally a_contextNode a_depth a_recent a_stringCount a_restartCount ra wi dg a_decoded it) :
    ∃ n, wX_encode_51 post (nI s) x2 n 0 0 (nI al) f_countLimit f_arena f_capacity f_closed f_low f_pending f_emitted f_gap f_codeDigits f_encoded f_decodedCount (nI 0) (kI (hx_top L + 1)) 0 0 f_candidates f_candidateCount f_stepLevel f_stepSum f_stepEscape f_stepTotal f_stepCum f_stepFreq a_child a_tally a_contextNode a_depth a_recent a_stringCount a_restartCount a_range a_width a_digits a_decoded a_itemFreq := by
  have ht := hx_top_le L
  have k : wX_encode_51 post (nI s) x2 (hx_top L + 3) 0 (nI 0) (nI al) f_countLimit f_arena f_capacity f_closed f_low f_pending f_emitted f_gap f_codeDigits f_encoded f_decodedCount (nI 0) (kI (hx_top L + 1)) 0 (nI (hx_g (fun _ => false) al)) f_candidates f_candidateCount f_stepLevel f_stepSum f_stepEscape f_stepTotal f_stepCum f_stepFreq a_child a_tally a_contextNode a_depth a_recent a_stringCount a_restartCount a_range a_width a_digits a_decoded a_itemFreq :=
    xl_enc_51 (ra0 := a_range) (wi0 := a_width) hl hl5 ha hs hW X (hx_top L + 1) (hx_top L + 1) (Nat.le_refl _) (Nat.le_refl _) 0 (fun _ => false) st (by omega) rfl hI (hx_top L + 3) _ _ _ _ _ _ _ _ _ _ _ _ _ _ _ _ (by omega) (ex_none al) hc rfl rfl K
  rw [g_none] at k
  exact ⟨_, k⟩
theorem xl_dec0 {post : Int32 → SX → Prop} {lim al W cd : Nat} {dg : Nat → Nat} {L : List Nat} {st : Nat × Nat × Nat} (hl : 2 ≤ lim) (hl5 : lim ≤ 15) (ha : al ≤ 8) (ha2 : 0 < al) (hW : W ≤ 3800) (hc : cd_ok cd dg f_codeDigits a_digits)
    (X : XS lim 1 L a_child a_tally a_contextNode a_depth a_recent a_stringCount) (hI : cx_DI W 0 st) (r1 : a_range 1 = nI st.2.1) (w1 : a_width 1 = nI st.2.2)
    (K : ∀ (wn ex ec cm cc sl ss se so sc sf : Int32) (ra wi it : Nat → Int32), cx_DI W 5 (oD al lim L dg st).2 → (oD al lim L dg st).1 < al → ra 1 = nI (oD al lim L dg st).2.2.1 → wi 1 = nI (oD al lim L dg st).2.2.2 → ra 0 = a_range 0 → wi 0 = a_width 0 →
      wX_decode_84 post (nI (oD al lim L dg st).1) (nI al) f_countLimit f_arena f_capacity f_closed f_low f_pending f_emitted (nI (oD al lim L dg st).2.1) f_codeDigits f_encoded f_decodedCount (nI 1) wn ex ec cm cc sl ss se so sc sf a_child a_tally a_contextNode a_depth a_recent a_stringCount a_restartCount ra wi a_digits a_decoded it) :
    ∃ n, wX_decode_42 post n (-1) 0 (nI al) f_countLimit f_arena f_capacity f_closed f_low f_pending f_emitted (nI st.1) f_codeDigits f_encoded f_decodedCount (nI 1) (kI (hx_top L + 1)) 0 0 f_candidates f_candidateCount f_stepLevel f_stepSum f_stepEscape f_stepTotal f_stepCum f_stepFreq a_child a_tally a_contextNode a_depth a_recent a_stringCount a_restartCount a_range a_width a_digits a_decoded a_itemFreq := by
  have ht := hx_top_le L
  have k : wX_decode_42 post (hx_top L + 3) (-1) (nI 0) (nI al) f_countLimit f_arena f_capacity f_closed f_low f_pending f_emitted (nI st.1) f_codeDigits f_encoded f_decodedCount (nI 1) (kI (hx_top L + 1)) 0 (nI (hx_g (fun _ => false) al)) f_candidates f_candidateCount f_stepLevel f_stepSum f_stepEscape f_stepTotal f_stepCum f_stepFreq a_child a_tally a_contextNode a_depth a_recent a_stringCount a_restartCount a_range a_width a_digits a_decoded a_itemFreq :=
    xl_dec_42 (ra0 := a_range) (wi0 := a_width) hl hl5 ha hW hc X (hx_top L + 1) (hx_top L + 1) (Nat.le_refl _) (Nat.le_refl _) 0 (fun _ => false) st (by omega) (by rw [hx_g_none]; exact ha2) hI (hx_top L + 3) _ _ _ _ _ _ _ _ _ _ _ _ (by omega) (ex_none al) r1 w1 rfl rfl K
  rw [g_none] at k
  exact ⟨_, k⟩
end
section
variable {f_alphabet f_countLimit f_arena f_capacity f_shut f_gap f_codeLen f_lastLevel f_lastEscapes f_lastCum f_lastFreq f_lastTotal : Int32} {a_said a_done a_start a_again a_range a_width a_low a_high a_code a_n a_out : Nat → Int32}
theorem yl_pre0 {post : Int32 → SY → Prop} {lim al s sd st d : Nat} {g : Nat → Nat} (hl : 2 ≤ lim) (hl5 : lim ≤ 15) (ha : al ≤ 8) (hsa : s < al) (hs2 : sd < 2) (Y : ys_ok sd st d g a_said a_done a_start)
    (K : ∀ (nn out : Nat → Int32), post (nI s) (nI al, nI lim, f_arena, f_capacity, f_shut, f_gap, f_codeLen, nI (lv (oP al lim (hs g st d) s).1), nI (oP al lim (hs g st d) s).2.1, nI (oP al lim (hs g st d) s).2.2.1, nI (oP al lim (hs g st d) s).2.2.2.1, nI (oP al lim (hs g st d) s).2.2.2.2.1, a_said, a_done, a_start, a_again, a_range, a_width, a_low, a_high, a_code, nn, out)) :
    wpY_walk post (nI al, nI lim, f_arena, f_capacity, f_shut, f_gap, f_codeLen, f_lastLevel, f_lastEscapes, f_lastCum, f_lastFreq, f_lastTotal, a_said, a_done, a_start, a_again, a_range, a_width, a_low, a_high, a_code, a_n, a_out) (nI sd) (nI s) 0 := by
  have ht := hx_top_le (hs g st d)
  exact yl_walk0 ha hs2 Y (fun p out hp ho => ⟨hx_top (hs g st d) + 2, yl_wp (0, 0, 0) hl hl5 ha hsa hs2 Y hp (hx_top (hs g st d) + 1) (Nat.le_refl _) 0 (fun _ => false) (by omega) rfl (hx_top (hs g st d) + 2) _ out (by omega) ho K⟩)
theorem yl_enc0 {post : Int32 → SY → Prop} {lim al s W : Nat} {L : List Nat} {dn : Nat} {q : Nat × Nat × Nat} (hl : 2 ≤ lim) (hl5 : lim ≤ 15) (ha : al ≤ 8) (hsa : s < al) (hW : W ≤ 3800) (Y : YS 0 L al a_said a_done a_start dn) (hI : cx_EI W 0 q) (hc : cy_ok q a_range a_width a_low)
    (K : ∀ (ll le lc lf lt : Int32) (ra wi lw nn out : Nat → Int32), cy_ok (oE al lim L s q) ra wi lw → ra 1 = a_range 1 → wi 1 = a_width 1 → post (nI s) (nI al, nI lim, f_arena, f_capacity, f_shut, f_gap, f_codeLen, ll, le, lc, lf, lt, a_said, a_done, a_start, a_again, ra, wi, lw, a_high, a_code, nn, out)) :
    wpY_walk post (nI al, nI lim, f_arena, f_capacity, f_shut, f_gap, f_codeLen, f_lastLevel, f_lastEscapes, f_lastCum, f_lastFreq, f_lastTotal, a_said, a_done, a_start, a_again, a_range, a_width, a_low, a_high, a_code, a_n, a_out) (nI 0) (nI s) 1 := by
  obtain ⟨st, d, g, rfl, Y, rfl, hg⟩ := Y
  have ht := hx_top_le (hs g st d)
  exact yl_walk0 ha (by omega) Y (fun p out hp ho => ⟨hx_top (hs g st d) + 2, yl_we (ra0 := a_range) (wi0 := a_width) hl hl5 ha hsa hW Y hp (hx_top (hs g st d) + 1) (Nat.le_refl _) 0 (fun _ => false) q (by omega) rfl hI (hx_top (hs g st d) + 2) _ _ _ _ out (by omega) ho hc rfl rfl K⟩)
theorem yl_dec0 {post : Int32 → SY → Prop} {lim al W cd : Nat} {dg : Nat → Nat} {L : List Nat} {dn : Nat} {q : Nat × Nat × Nat} (hl : 2 ≤ lim) (hl5 : lim ≤ 15) (ha : al ≤ 8) (ha2 : 0 < al) (hW : W ≤ 3800) (hc : cd_ok cd dg f_codeLen a_code) (Y : YS 1 L al a_said a_done a_start dn) (hI : cx_DI W 0 q) (r1 : a_range 1 = nI q.2.1) (w1 : a_width 1 = nI q.2.2)
    (K : ∀ (ll le lc lf lt : Int32) (ra wi nn out : Nat → Int32), ra 1 = nI (oD al lim L dg q).2.2.1 → wi 1 = nI (oD al lim L dg q).2.2.2 → ra 0 = a_range 0 → wi 0 = a_width 0 → post (nI (oD al lim L dg q).1) (nI al, nI lim, f_arena, f_capacity, f_shut, nI (oD al lim L dg q).2.1, f_codeLen, ll, le, lc, lf, lt, a_said, a_done, a_start, a_again, ra, wi, a_low, a_high, a_code, nn, out)) :
    wpY_walk post (nI al, nI lim, f_arena, f_capacity, f_shut, nI q.1, f_codeLen, f_lastLevel, f_lastEscapes, f_lastCum, f_lastFreq, f_lastTotal, a_said, a_done, a_start, a_again, a_range, a_width, a_low, a_high, a_code, a_n, a_out) (nI 1) (-1) 1 := by
  obtain ⟨st, d, g, rfl, Y, rfl, hg⟩ := Y
  have ht := hx_top_le (hs g st d)
  exact yl_walk0 ha (by omega) Y (fun p out hp ho => ⟨hx_top (hs g st d) + 2, yl_wd (ra0 := a_range) (wi0 := a_width) hl hl5 ha hW hc Y hp (hx_top (hs g st d) + 1) (Nat.le_refl _) 0 (fun _ => false) q (by omega) (by rw [hx_g_none]; exact ha2) hI (hx_top (hs g st d) + 2) _ _ _ out (by omega) ho r1 w1 rfl rfl K⟩)
end
theorem i_vc_predict {k : Nat} {u : SX} {v : SY} (I : i_Rel k u v) (hk : k + 5 ≤ 2564) (v1 : Int32) (v2 : Int32) (v3 : Int32) : wpX_predict (fun r u' => wpY_predict (fun r' v' => r' = r ∧ i_Rel (k + 5) u' v') v v1 v2 v3) u v1 v2 v3 := by
  refine zz_el (P := fun u v => wpX_predict (fun r u' => wpY_predict (fun r' v' => r' = r ∧ i_Rel (k + 5) u' v') v v1 v2 v3) u v1 v2 v3) ?_ I
  intro f_walkSide f_walkNext f_excluded f_excludedCount f_candidates f_candidateCount f_stepLevel f_stepSum f_stepEscape f_stepTotal f_stepCum f_stepFreq a_child a_tally a_contextNode a_depth a_recent a_stringCount a_restartCount a_range a_width a_digits a_decoded a_itemFreq f_lastLevely f_lastEscapesy f_lastCumy f_lastFreqy f_lastTotaly a_saidy a_doney a_starty a_againy a_rangey a_widthy a_lowy a_highy a_codey a_ny a_outy al lim ar cq dn0 dn1 V rg w lo p e D gp rg1 w1 cd dg L0 L1 cz R I5
  have R0 := R
  obtain ⟨⟨p1, p2, p3, p4, p5, p6, p7, p8, p9, p10⟩, hcz, ⟨e1, e2, e3, e4, e5, e6, e7⟩, ⟨d1, d2, d3, d4, d5⟩, ⟨c1, c2⟩, ⟨s1, s2, s3, s4⟩, ⟨r1, r2, r3⟩⟩ := R
  unfold wpX_predict
  rcases sd_or v1 with ⟨sd, hsd, rfl⟩ | ⟨n0, n1⟩
  · obtain ⟨st, d, g, X, Y⟩ := sides hsd s1 s2 s3 s4
    refine xl_is1 hsd (br_f (by decide) ?_)
    refine xl_sym p2 (fun s hs' es => ?_) (fun z => br_t rfl (y_sd hsd ?_))
    · subst es
      have h8 : s < 2 ^ 31 := by omega
      refine br_f (by decide) ?_
      by_cases h0 : v3 < 0
      · exact br_t h0 (y_sd hsd (br_f (nI_pos h8) (br_t (nI_lt hs' (by omega)) (br_t h0 ⟨rfl, I5⟩))))
      by_cases h4 : v3 ≤ 4
      · have xd : a_depth sd = nI (hx_top (hs g st d)) := by
          obtain ⟨nd, X⟩ := X
          exact X.2.2.2.1
        refine br_f h0 (br_t h4 (xl_start hsd xd (xl_pre0 p3 p4 p2 hs' hsd X (fun wn ex ec cm cc ss se it => ?_))))
        have yy : ∀ (r : Int32) (xx : SX), (∀ nn out : Nat → Int32, ((v3 = 0 → nI (lv (oP al lim (hs g st d) s).1) = r ∧ i_Rel (k + 5) xx (nI al, nI lim, nI ar, nI cq, cz, nI gp, nI cd, nI (lv (oP al lim (hs g st d) s).1), nI (oP al lim (hs g st d) s).2.1, nI (oP al lim (hs g st d) s).2.2.1, nI (oP al lim (hs g st d) s).2.2.2.1, nI (oP al lim (hs g st d) s).2.2.2.2.1, a_saidy, a_doney, a_starty, a_againy, a_rangey, a_widthy, a_lowy, a_highy, a_codey, nn, out)) ∧ (¬ v3 = 0 → (v3 = 1 → nI (oP al lim (hs g st d) s).2.1 = r ∧ i_Rel (k + 5) xx (nI al, nI lim, nI ar, nI cq, cz, nI gp, nI cd, nI (lv (oP al lim (hs g st d) s).1), nI (oP al lim (hs g st d) s).2.1, nI (oP al lim (hs g st d) s).2.2.1, nI (oP al lim (hs g st d) s).2.2.2.1, nI (oP al lim (hs g st d) s).2.2.2.2.1, a_saidy, a_doney, a_starty, a_againy, a_rangey, a_widthy, a_lowy, a_highy, a_codey, nn, out)) ∧ (¬ v3 = 1 → (v3 = 2 → nI (oP al lim (hs g st d) s).2.2.1 = r ∧ i_Rel (k + 5) xx (nI al, nI lim, nI ar, nI cq, cz, nI gp, nI cd, nI (lv (oP al lim (hs g st d) s).1), nI (oP al lim (hs g st d) s).2.1, nI (oP al lim (hs g st d) s).2.2.1, nI (oP al lim (hs g st d) s).2.2.2.1, nI (oP al lim (hs g st d) s).2.2.2.2.1, a_saidy, a_doney, a_starty, a_againy, a_rangey, a_widthy, a_lowy, a_highy, a_codey, nn, out)) ∧ (¬ v3 = 2 → (v3 = 3 → nI (oP al lim (hs g st d) s).2.2.2.1 = r ∧ i_Rel (k + 5) xx (nI al, nI lim, nI ar, nI cq, cz, nI gp, nI cd, nI (lv (oP al lim (hs g st d) s).1), nI (oP al lim (hs g st d) s).2.1, nI (oP al lim (hs g st d) s).2.2.1, nI (oP al lim (hs g st d) s).2.2.2.1, nI (oP al lim (hs g st d) s).2.2.2.2.1, a_saidy, a_doney, a_starty, a_againy, a_rangey, a_widthy, a_lowy, a_highy, a_codey, nn, out)) ∧ (¬ v3 = 3 → nI (oP al lim (hs g st d) s).2.2.2.2.1 = r ∧ i_Rel (k + 5) xx (nI al, nI lim, nI ar, nI cq, cz, nI gp, nI cd, nI (lv (oP al lim (hs g st d) s).1), nI (oP al lim (hs g st d) s).2.1, nI (oP al lim (hs g st d) s).2.2.1, nI (oP al lim (hs g st d) s).2.2.2.1, nI (oP al lim (hs g st d) s).2.2.2.2.1, a_saidy, a_doney, a_starty, a_againy, a_rangey, a_widthy, a_lowy, a_highy, a_codey, nn, out))))))) → wpY_predict (fun r' v' => r' = r ∧ i_Rel (k + 5) xx v') (nI al, nI lim, nI ar, nI cq, cz, nI gp, nI cd, f_lastLevely, f_lastEscapesy, f_lastCumy, f_lastFreqy, f_lastTotaly, a_saidy, a_doney, a_starty, a_againy, a_rangey, a_widthy, a_lowy, a_highy, a_codey, a_ny, a_outy) (nI sd) (nI s) v3 := by
          intro r xx h
          refine y_sd hsd (br_f (nI_pos h8) (br_t (nI_lt hs' (by omega)) (br_f h0 (br_t h4 ?_))))
          exact yl_pre0 p3 p4 p2 hs' hsd Y (fun nn out => h nn out)
        by_cases g0 : v3 = 0
        · exact br_t g0 (yy _ _ (fun nn out => br_t g0 ⟨rfl, rl_mk R0⟩))
        by_cases g1 : v3 = 1
        · exact br_f g0 (br_t g1 (yy _ _ (fun nn out => br_f g0 (br_t g1 ⟨rfl, rl_mk R0⟩))))
        by_cases g2 : v3 = 2
        · exact br_f g0 (br_f g1 (br_t g2 (yy _ _ (fun nn out => br_f g0 (br_f g1 (br_t g2 ⟨rfl, rl_mk R0⟩))))))
        by_cases g3 : v3 = 3
        · exact br_f g0 (br_f g1 (br_f g2 (br_t g3 (yy _ _ (fun nn out => br_f g0 (br_f g1 (br_f g2 (br_t g3 ⟨rfl, rl_mk R0⟩))))))))
        · exact br_f g0 (br_f g1 (br_f g2 (br_f g3 (yy _ _ (fun nn out => br_f g0 (br_f g1 (br_f g2 (br_f g3 ⟨rfl, rl_mk R0⟩))))))))
      · exact br_f h0 (br_f h4 (y_sd hsd (br_f (nI_pos h8) (br_t (nI_lt hs' (by omega)) (br_f h0 (br_f h4 ⟨rfl, I5⟩))))))
    · rcases z with z | ⟨z1, z2⟩
      · exact br_t z ⟨rfl, I5⟩
      · exact br_f z1 (br_f z2 ⟨rfl, I5⟩)
  · exact xl_is0 n0 n1 (br_t rfl (y_no n0 n1 ⟨rfl, I5⟩))
end
section
/-! ===== init, clear, rewind, seal, flip ===== -/
theorem YS_fr {sd dn al : Nat} {L : List Nat} {said done start said' done' start' : Nat → Int32} (h : YS sd L al said done start dn) (h1 : ∀ i, i < dn → said' (96 * sd + i) = said (96 * sd + i)) (h2 : done' sd = done sd) (h3 : start' sd = start sd) : YS sd L al said' done' start' dn := by
  obtain ⟨st, d, g, rfl, ⟨y1, y2, y3, y4⟩, e, hg⟩ := h
  exact ⟨st, d, g, rfl, ⟨y1, h3.trans y2, h2.trans y3, fun i hi => ⟨(h1 i hi).trans (y4 i hi).1, (y4 i hi).2⟩⟩, e, hg⟩
theorem YS_nil {sd al : Nat} {said done start : Nat → Int32} (h1 : done sd = 0) (h2 : start sd = 0) : YS sd [] al said done start 0 :=
  ⟨0, 0, fun _ => 0, rfl, ⟨by omega, h2, h1, fun i h => absurd h (Nat.not_lt_zero _)⟩, rfl, fun i h => absurd h (Nat.not_lt_zero _)⟩
theorem rl_new {al lim ar cq : Nat} (b : 2 ≤ al ∧ al ≤ 8 ∧ 2 ≤ lim ∧ lim ≤ 15 ∧ 8 ≤ ar ∧ ar ≤ 120 ∧ 4 ≤ cq ∧ cq ≤ 96) {xch xta xcn xdp xrc xsc xre xra xwi xdg xde ysa ydo yst yag yra ywi ylo yco : Nat → Int32} (X0 : XS lim 0 [] xch xta xcn xdp xrc xsc) (X1 : XS lim 1 [] xch xta xcn xdp xrc xsc) (hl : ∀ j, j < 16 → ylo j = 0) :
    rl_ok al lim ar cq 0 0 0 65536 16 0 0 0 0 0 65536 16 0 (fun _ => 0) [] [] 0 xch xta xcn xdp xrc xsc (upd (upd xre 0 0) 1 0) (upd (upd xra 0 65536) 1 65536) (upd (upd xwi 0 16) 1 16) xdg xde ysa (upd (upd ydo 0 0) 1 0) (upd (upd yst 0 0) 1 0) (upd (upd yag 0 0) 1 0) (upd (upd yra 0 65536) 1 65536) (upd (upd ywi 0 16) 1 16) ylo yco := by
  obtain ⟨b1, b2, b3, b4, b5, b6, b7, b8⟩ := b
  refine ⟨⟨b1, b2, b3, b4, b5, b6, b7, b8, by omega, by omega⟩, Or.inl ⟨rfl, rfl, rfl, fun j h => absurd h (Nat.not_lt_zero _)⟩, ⟨⟨rfl, rfl, by omega, fun _ => by omega, fun h => absurd h (Nat.lt_irrefl 0)⟩, ⟨by decide, by decide, by decide, by decide, by decide⟩, fun j hj => ?_, ?_, ?_, ?_, ?_⟩, ⟨⟨by decide, by decide, by decide, by decide, by decide⟩, pk_us, pk_us, pk_us, pk_us⟩, ⟨cd_zero _, cd_zero _⟩, ⟨X0, X1, YS_nil ?_ ?_, YS_nil pk_us pk_us⟩, ?_, ?_, fun i h => absurd h (Nat.not_lt_zero _)⟩
  · rw [hl j hj, Nat.zero_div]; rfl
  · rw [pk_un (by decide)]; exact pk_us
  · rw [pk_un (by decide)]; exact pk_us
  · rw [pk_un (by decide)]; exact pk_us
  · rw [pk_un (by decide)]; exact pk_us
  · rw [pk_un (by decide)]; exact pk_us
  · rw [pk_un (by decide)]; exact pk_us
  · rw [pk_un (by decide), pk_us, pk_un (by decide), pk_us]
  · rw [pk_us, pk_us]
/-- the decoder at its start -/
theorem rl_dec {al lim ar cq dn0 dn1 V rg w lo p e D gp rg1 w1 cd cd' : Nat} {dg dg' : Nat → Nat} {L0 L1 : List Nat} {cz : Int32} {xch xta xcn xdp xrc xsc xre xra xwi xdg xde ysa ydo yst yag yra ywi ylo yco ch ta cn dp rc sc xdg' yco' : Nat → Int32}
    (R : rl_ok al lim ar cq dn0 dn1 V rg w lo p e D gp rg1 w1 cd dg L0 L1 cz xch xta xcn xdp xrc xsc xre xra xwi xdg xde ysa ydo yst yag yra ywi ylo yco) (X1 : XS lim 1 [] ch ta cn dp rc sc) (ag : xs_ag 0 xch xta xcn xdp xrc xsc ch ta cn dp rc sc) (k1 : cd_ok cd' dg' (nI cd') xdg') (k2 : cd_ok cd' dg' (nI cd') yco') :
    rl_ok al lim ar cq dn0 0 V rg w lo p e D (cd_g dg' 16) 65536 16 cd' dg' L0 [] 1 ch ta cn dp rc sc (upd xre 1 0) (upd xra 1 65536) (upd xwi 1 16) xdg' xde ysa (upd ydo 1 0) (upd yst 1 0) (upd yag 1 0) (upd yra 1 65536) (upd ywi 1 16) ylo yco' := by
  have R0 := R
  obtain ⟨⟨p1, p2, p3, p4, p5, p6, p7, p8, p9, p10⟩, hcz, ⟨e1, e2, e3, e4, e5, e6, e7⟩, ⟨d1, d2, d3, d4, d5⟩, ⟨c1, c2⟩, ⟨s1, s2, s3, s4⟩, ⟨r1, r2, r3⟩⟩ := R
  have lt := cd_g_lt k1.2.2.2.2 16
  have di : cx_DI (16 + 35 * 0) 0 (cd_g dg' 16, 65536, 16) := ⟨(by decide : 32768 ≤ 65536), (by decide : 65536 ≤ 65536), (by decide : 16 ≤ 16 + 35 * 0 + 7 * 0), (by decide : 16 ≤ 16), lt⟩
  refine ⟨⟨p1, p2, p3, p4, p5, p6, p7, p8, p9, by omega⟩, Or.inr rfl, ⟨e1, e2, e3, ?_, ?_, ?_, ?_⟩, ⟨di, pk_us, pk_us, pk_us, pk_us⟩, ⟨k1, k2⟩, ⟨XS_ag s1 ag, X1, YS_fr s3 (fun _ _ => rfl) (pk_un (by decide)) (pk_un (by decide)), YS_nil pk_us pk_us⟩, ?_, ?_, fun i h => absurd h (Nat.not_lt_zero _)⟩
  · rw [pk_un (by decide)]; exact e4
  · rw [pk_un (by decide)]; exact e5
  · rw [pk_un (by decide)]; exact e6
  · rw [pk_un (by decide)]; exact e7
  · rw [pk_un (by decide), pk_un (by decide)]; exact r1
  · rw [pk_us, pk_us]
section
variable {f_alphabet f_countLimit f_arena f_capacity f_closed f_low f_pending f_emitted f_gap f_codeDigits f_encoded f_decodedCount f_walkSide f_walkNext f_excluded f_excludedCount f_candidates f_candidateCount f_stepLevel f_stepSum f_stepEscape f_stepTotal f_stepCum f_stepFreq : Int32} {a_child a_tally a_contextNode a_depth a_recent a_stringCount a_restartCount a_range a_width a_digits a_decoded a_itemFreq : Nat → Int32}
theorem xl_clamp {post : Int32 → Prop} {v : Int32} {lo hi : Nat} {a : Nat} (h : (nI lo ≤ v ∧ v ≤ nI hi ∧ v = nI a) ∨ (nI lo ≤ v ∧ ¬ v ≤ nI hi ∧ a = hi) ∨ (¬ nI lo ≤ v ∧ a = lo)) (K : post (nI a)) : wpX_clamp post (f_alphabet, f_countLimit, f_arena, f_capacity, f_closed, f_low, f_pending, f_emitted, f_gap, f_codeDigits, f_encoded, f_decodedCount, f_walkSide, f_walkNext, f_excluded, f_excludedCount, f_candidates, f_candidateCount, f_stepLevel, f_stepSum, f_stepEscape, f_stepTotal, f_stepCum, f_stepFreq, a_child, a_tally, a_contextNode, a_depth, a_recent, a_stringCount, a_restartCount, a_range, a_width, a_digits, a_decoded, a_itemFreq) v (nI lo) (nI hi) := by
  rcases h with ⟨h1, h2, h3⟩ | ⟨h1, h2, h3⟩ | ⟨h1, h3⟩
  · exact br_t h1 (br_t h2 (by rw [h3]; exact K))
  · exact br_t h1 (br_f h2 (by rw [← h3]; exact K))
  · exact br_f h1 (by rw [← h3]; exact K)
end
section
variable {f_alphabet f_countLimit f_arena f_capacity f_shut f_gap f_codeLen f_lastLevel f_lastEscapes f_lastCum f_lastFreq f_lastTotal : Int32} {a_said a_done a_start a_again a_range a_width a_low a_high a_code a_n a_out : Nat → Int32}
theorem yl_clamp {post : Int32 → Prop} {v : Int32} {lo hi : Nat} {a : Nat} (h : (nI lo ≤ v ∧ v ≤ nI hi ∧ v = nI a) ∨ (nI lo ≤ v ∧ ¬ v ≤ nI hi ∧ a = hi) ∨ (¬ nI lo ≤ v ∧ a = lo)) (K : post (nI a)) : wpY_clamp post (f_alphabet, f_countLimit, f_arena, f_capacity, f_shut, f_gap, f_codeLen, f_lastLevel, f_lastEscapes, f_lastCum, f_lastFreq, f_lastTotal, a_said, a_done, a_start, a_again, a_range, a_width, a_low, a_high, a_code, a_n, a_out) v (nI lo) (nI hi) := by
  rcases h with ⟨h1, h2, h3⟩ | ⟨h1, h2, h3⟩ | ⟨h1, h3⟩
  · exact br_t h1 (br_t h2 (by rw [h3]; exact K))
  · exact br_t h1 (br_f h2 (by rw [← h3]; exact K))
  · exact br_f h1 (by rw [← h3]; exact K)
end
theorem clampc (v : Int32) (lo hi : Nat) (h : lo ≤ hi) (hb : hi < 1000) : ∃ a, lo ≤ a ∧ a ≤ hi ∧ ((nI lo ≤ v ∧ v ≤ nI hi ∧ v = nI a) ∨ (nI lo ≤ v ∧ ¬ v ≤ nI hi ∧ a = hi) ∨ (¬ nI lo ≤ v ∧ a = lo)) := by
  by_cases h1 : nI lo ≤ v
  · by_cases h2 : v ≤ nI hi
    · obtain ⟨j, hj, e⟩ := nI_of2 (M := nI hi) (n := hi) (nI_toInt (by omega)) (Int32.not_lt.mpr (Int32.le_trans (nI_pos' (by omega)) h1)) h2
      have : lo ≤ j := by
        rw [e] at h1
        exact (nI_leI (by omega) (by omega)).mp h1
      exact ⟨j, this, hj, Or.inl ⟨h1, h2, e⟩⟩
    · exact ⟨hi, h, Nat.le_refl _, Or.inr (Or.inl ⟨h1, h2, rfl⟩)⟩
  · exact ⟨lo, Nat.le_refl _, h, Or.inr (Or.inr ⟨h1, rfl⟩)⟩
theorem i_vc0 (k0 : Int32) (k1 : Int32) (k2 : Int32) (k3 : Int32) : wpX_init (fun u => wpY_init (fun v => i_Rel 4 u v) k0 k1 k2 k3) k0 k1 k2 k3 := by
  obtain ⟨al, a1, a2, ha⟩ := clampc k0 2 8 (by omega) (by omega)
  obtain ⟨lim, l1, l2, hl⟩ := clampc k1 2 15 (by omega) (by omega)
  obtain ⟨ar, q1, q2, hr⟩ := clampc k2 8 120 (by omega) (by omega)
  obtain ⟨cq, c1, c2, hq⟩ := clampc k3 4 96 (by omega) (by omega)
  unfold wpX_init
  refine xl_clamp ha (xl_clamp hl (xl_clamp hr (xl_clamp hq (xl_all lim (fun ch ta cn dp rc sc X0 X1 => ?_)))))
  show wpY_init _ _ _ _ _
  unfold wpY_init
  refine yl_clamp ha (yl_clamp hl (yl_clamp hr (yl_clamp hq (yl_clear (fun lw h => ?_)))))
  exact rl_mk (rl_new ⟨a1, a2, l1, l2, q1, q2, c1, c2⟩ X0 X1 h)
theorem i_vc_clear {k : Nat} {u : SX} {v : SY} (I : i_Rel k u v) (hk : k + 5 ≤ 2564) : wpX_clear (fun u' => wpY_clear (fun v' => i_Rel (k + 5) u' v') v) u := by
  refine zz_el (P := fun u v => wpX_clear (fun u' => wpY_clear (fun v' => i_Rel (k + 5) u' v') v) u) ?_ I
  intro f_walkSide f_walkNext f_excluded f_excludedCount f_candidates f_candidateCount f_stepLevel f_stepSum f_stepEscape f_stepTotal f_stepCum f_stepFreq a_child a_tally a_contextNode a_depth a_recent a_stringCount a_restartCount a_range a_width a_digits a_decoded a_itemFreq f_lastLevely f_lastEscapesy f_lastCumy f_lastFreqy f_lastTotaly a_saidy a_doney a_starty a_againy a_rangey a_widthy a_lowy a_highy a_codey a_ny a_outy al lim ar cq dn0 dn1 V rg w lo p e D gp rg1 w1 cd dg L0 L1 cz R I5
  have R0 := R
  obtain ⟨⟨p1, p2, p3, p4, p5, p6, p7, p8, p9, p10⟩, hcz, ⟨e1, e2, e3, e4, e5, e6, e7⟩, ⟨d1, d2, d3, d4, d5⟩, ⟨c1, c2⟩, ⟨s1, s2, s3, s4⟩, ⟨r1, r2, r3⟩⟩ := R
  unfold wpX_clear
  refine xl_all lim (fun ch ta cn dp rc sc X0 X1 => ?_)
  refine yl_clear (fun lw h => ?_)
  exact rl_mk (rl_new ⟨p1, p2, p3, p4, p5, p6, p7, p8⟩ X0 X1 h)
theorem i_vc_rewind {k : Nat} {u : SX} {v : SY} (I : i_Rel k u v) (hk : k + 5 ≤ 2564) : wpX_rewind (fun u' => wpY_rewind (fun v' => i_Rel (k + 5) u' v') v) u := by
  refine zz_el (P := fun u v => wpX_rewind (fun u' => wpY_rewind (fun v' => i_Rel (k + 5) u' v') v) u) ?_ I
  intro f_walkSide f_walkNext f_excluded f_excludedCount f_candidates f_candidateCount f_stepLevel f_stepSum f_stepEscape f_stepTotal f_stepCum f_stepFreq a_child a_tally a_contextNode a_depth a_recent a_stringCount a_restartCount a_range a_width a_digits a_decoded a_itemFreq f_lastLevely f_lastEscapesy f_lastCumy f_lastFreqy f_lastTotaly a_saidy a_doney a_starty a_againy a_rangey a_widthy a_lowy a_highy a_codey a_ny a_outy al lim ar cq dn0 dn1 V rg w lo p e D gp rg1 w1 cd dg L0 L1 cz R I5
  have R0 := R
  obtain ⟨⟨p1, p2, p3, p4, p5, p6, p7, p8, p9, p10⟩, hcz, ⟨e1, e2, e3, e4, e5, e6, e7⟩, ⟨d1, d2, d3, d4, d5⟩, ⟨c1, c2⟩, ⟨s1, s2, s3, s4⟩, ⟨r1, r2, r3⟩⟩ := R
  rcases hcz with ⟨rfl, _⟩ | rfl
  · exact br_t rfl (br_t rfl I5)
  · refine br_f (by decide) (xl_dec lim c1 (fun ch ta cn dp rc sc X1 ag => br_f (by decide) (yl_dec c2 ?_)))
    exact rl_mk (rl_dec R0 X1 ag c1 c2)
theorem i_vc_seal {k : Nat} {u : SX} {v : SY} (I : i_Rel k u v) (hk : k + 5 ≤ 2564) : wpX_seal (fun r u' => wpY_seal (fun r' v' => r' = r ∧ i_Rel (k + 5) u' v') v) u := by
  refine zz_el (P := fun u v => wpX_seal (fun r u' => wpY_seal (fun r' v' => r' = r ∧ i_Rel (k + 5) u' v') v) u) ?_ I
  intro f_walkSide f_walkNext f_excluded f_excludedCount f_candidates f_candidateCount f_stepLevel f_stepSum f_stepEscape f_stepTotal f_stepCum f_stepFreq a_child a_tally a_contextNode a_depth a_recent a_stringCount a_restartCount a_range a_width a_digits a_decoded a_itemFreq f_lastLevely f_lastEscapesy f_lastCumy f_lastFreqy f_lastTotaly a_saidy a_doney a_starty a_againy a_rangey a_widthy a_lowy a_highy a_codey a_ny a_outy al lim ar cq dn0 dn1 V rg w lo p e D gp rg1 w1 cd dg L0 L1 cz R I5
  have R0 := R
  obtain ⟨⟨p1, p2, p3, p4, p5, p6, p7, p8, p9, p10⟩, hcz, ⟨e1, e2, e3, e4, e5, e6, e7⟩, ⟨d1, d2, d3, d4, d5⟩, ⟨c1, c2⟩, ⟨s1, s2, s3, s4⟩, ⟨r1, r2, r3⟩⟩ := R
  obtain ⟨i1, i2, i3, i4, i5⟩ := e2
  dsimp only at i1 i2 i3 i4 i5
  rcases hcz with ⟨rfl, _, _, hdx⟩ | rfl
  · refine xl_seal (lim := lim) i1 i2 (by omega) e4 e1 hdx (fun ch ta cn dp rc sc dg' ok X1 ag => ?_)
    refine yl_seal i1 i2 (by omega) e6 e7 e3 e1 (fun hi cod ok' => ⟨rfl, ?_⟩)
    exact rl_mk (rl_dec R0 X1 ag ok ok')
  · exact br_f (by decide) (br_f (by decide) ⟨rfl, I5⟩)
def fl_dg (dg : Nat → Nat) (j : Nat) : Nat → Nat := fun i => if i = j then 1 - dg j else dg i
theorem fl_ok {cd j : Nat} {dg : Nat → Nat} {a : Nat → Int32} (hj : j < cd) (h : cd_ok cd dg (nI cd) a) : cd_ok cd (fl_dg dg j) (nI cd) (upd a j (nI (1 - dg j))) := by
  obtain ⟨_, h2, h3, h4, h5⟩ := h
  have b := h5 j
  refine ⟨rfl, h2, fun i hi => ?_, fun i hi => ?_, fun i => ?_⟩
  · by_cases q : i = j
    · have e1 : fl_dg dg j i = 1 - dg j := if_pos q
      rw [e1, q, pk_us]
    · have e1 : fl_dg dg j i = dg i := if_neg q
      rw [e1, pk_un q]; exact h3 i hi
  · have e1 : fl_dg dg j i = dg i := if_neg (by omega)
    rw [e1]; exact h4 i hi
  · have bi := h5 i
    unfold fl_dg
    split <;> omega
theorem i_vc_flip {k : Nat} {u : SX} {v : SY} (I : i_Rel k u v) (hk : k + 5 ≤ 2564) (v1 : Int32) : wpX_flip (fun r u' => wpY_flip (fun r' v' => r' = r ∧ i_Rel (k + 5) u' v') v v1) u v1 := by
  refine zz_el (P := fun u v => wpX_flip (fun r u' => wpY_flip (fun r' v' => r' = r ∧ i_Rel (k + 5) u' v') v v1) u v1) ?_ I
  intro f_walkSide f_walkNext f_excluded f_excludedCount f_candidates f_candidateCount f_stepLevel f_stepSum f_stepEscape f_stepTotal f_stepCum f_stepFreq a_child a_tally a_contextNode a_depth a_recent a_stringCount a_restartCount a_range a_width a_digits a_decoded a_itemFreq f_lastLevely f_lastEscapesy f_lastCumy f_lastFreqy f_lastTotaly a_saidy a_doney a_starty a_againy a_rangey a_widthy a_lowy a_highy a_codey a_ny a_outy al lim ar cq dn0 dn1 V rg w lo p e D gp rg1 w1 cd dg L0 L1 cz R I5
  have R0 := R
  obtain ⟨⟨p1, p2, p3, p4, p5, p6, p7, p8, p9, p10⟩, hcz, ⟨e1, e2, e3, e4, e5, e6, e7⟩, ⟨d1, d2, d3, d4, d5⟩, ⟨c1, c2⟩, ⟨s1, s2, s3, s4⟩, ⟨r1, r2, r3⟩⟩ := R
  rcases hcz with ⟨rfl, _⟩ | rfl
  · exact br_t rfl (br_t rfl ⟨rfl, I5⟩)
  have b2 := c1.2.1
  rcases pk_ix v1 (n := cd) (by omega) with h | h | ⟨j, hj, h⟩
  · exact br_f (by decide) (br_t h (br_f (by decide) (br_t h ⟨rfl, I5⟩)))
  · have h0 : ¬ v1 < 0 := Int32.not_lt.mpr (Int32.le_trans (nI_pos' (by omega)) h)
    exact br_f (by decide) (br_f h0 (br_f (Int32.not_lt.mpr h) (br_f (by decide) (br_f h0 (br_f (Int32.not_lt.mpr h) ⟨rfl, I5⟩)))))
  · subst h
    have b := c1.2.2.2.2 j
    have ex : (1 : Int32) - a_digits (nI j).toNatClampNeg = nI (1 - dg j) := by rw [nI_clamp (by omega), c1.2.2.1 j hj]; exact pk_sub (a := 1) b
    have ey : (1 : Int32) - a_codey (nI j).toNatClampNeg = nI (1 - dg j) := by rw [nI_clamp (by omega), c2.2.2.1 j hj]; exact pk_sub (a := 1) b
    refine br_f (by decide) (br_f (nI_pos (by omega)) (br_t (nI_lt hj (by omega)) ⟨pk_in j 4096 (by omega), nm_r ex (xl_put (by omega) (by omega) (xl_dec lim (fl_ok hj c1) (fun ch ta cn dp rc sc X1 ag => ?_)))⟩))
    refine br_f (by decide) (br_f (nI_pos (by omega)) (br_t (nI_lt hj (by omega)) ⟨pk_in j 4096 (by omega), pk_in j 4096 (by omega), nm_r (e' := upd a_codey j (nI (1 - dg j))) (by rw [ey, nI_clamp (by omega)]) (yl_dec (fl_ok hj c2) ⟨pk_in j 4096 (by omega), ?_, ?_⟩)⟩))
    · rw [nI_clamp (by omega), pk_us]
    · exact rl_mk (rl_dec R0 X1 ag (fl_ok hj c1) (fl_ok hj c2))
end
section
/-! ===== encode, decode ===== -/
theorem YS_mem {sd dn al : Nat} {L : List Nat} {said done start : Nat → Int32} (ha : al ≤ 8) (h : YS sd L al said done start dn) : ∀ a, a ∈ L → a < 8 := by
  obtain ⟨st, d, g, rfl, Y, rfl, hg⟩ := h
  exact hs_mem d (fun i hi => by have := hg i hi; omega)
theorem XS_dp {lim sd : Nat} {L : List Nat} {ch ta cn dp rc sc : Nat → Int32} (h : XS lim sd L ch ta cn dp rc sc) : dp sd = nI (hx_top L) ∧ hx_strs lim L ≤ 120 := by
  obtain ⟨nd, X⟩ := h
  exact ⟨X.2.2.2.1, X.2.2.1⟩
theorem re_if {a b sd : Nat} {f g : Nat → Int32} (hs : sd < 2) (h0 : f 0 = g 0) (h1 : f 1 = g 1) : (if a ≤ b then f else upd f sd (f sd + 1)) 0 = (if a ≤ b then g else upd g sd (g sd + 1)) 0 ∧ (if a ≤ b then f else upd f sd (f sd + 1)) 1 = (if a ≤ b then g else upd g sd (g sd + 1)) 1 := by
  by_cases z : a ≤ b
  · rw [if_pos z, if_pos z]; exact ⟨h0, h1⟩
  · rw [if_neg z, if_neg z]
    rcases (by omega : sd = 0 ∨ sd = 1) with q | q
    · subst q
      rw [pk_us, pk_us, pk_un (by decide), pk_un (by decide), h0]
      exact ⟨rfl, h1⟩
    · subst q
      rw [pk_us, pk_us, pk_un (by decide), pk_un (by decide), h1]
      exact ⟨h0, rfl⟩
theorem cd_none {dg : Nat → Nat} {a b : Nat → Int32} (h : cd_ok 0 dg (nI 0) a) : cd_ok 0 dg (nI 0) b := ⟨rfl, h.2.1, fun i q => absurd q (Nat.not_lt_zero _), h.2.2.2.1, h.2.2.2.2⟩
theorem EI_5 {n : Nat} {st : Nat × Nat × Nat} (h : cx_EI (16 + 35 * n) 5 st) : cx_EI (16 + 35 * (n + 1)) 0 (st.1, st.2.1, st.2.2) := ⟨h.1, h.2.1, by have := h.2.2.1; show st.2.2 ≤ _; omega, h.2.2.2.1, h.2.2.2.2⟩
theorem DI_5 {n : Nat} {st : Nat × Nat × Nat} (h : cx_DI (16 + 35 * n) 5 st) : cx_DI (16 + 35 * (n + 1)) 0 (st.1, st.2.1, st.2.2) := ⟨h.1, h.2.1, by have := h.2.2.1; show st.2.2 ≤ _; omega, h.2.2.2.1, h.2.2.2.2⟩
theorem i_vc_encode {k : Nat} {u : SX} {v : SY} (I : i_Rel k u v) (hk : k + 5 ≤ 2564) (v1 : Int32) : wpX_encode (fun r u' => wpY_encode (fun r' v' => r' = r ∧ i_Rel (k + 5) u' v') v v1) u v1 := by
  refine zz_el (P := fun u v => wpX_encode (fun r u' => wpY_encode (fun r' v' => r' = r ∧ i_Rel (k + 5) u' v') v v1) u v1) ?_ I
  intro f_walkSide f_walkNext f_excluded f_excludedCount f_candidates f_candidateCount f_stepLevel f_stepSum f_stepEscape f_stepTotal f_stepCum f_stepFreq a_child a_tally a_contextNode a_depth a_recent a_stringCount a_restartCount a_range a_width a_digits a_decoded a_itemFreq f_lastLevely f_lastEscapesy f_lastCumy f_lastFreqy f_lastTotaly a_saidy a_doney a_starty a_againy a_rangey a_widthy a_lowy a_highy a_codey a_ny a_outy al lim ar cq dn0 dn1 V rg w lo p e D gp rg1 w1 cd dg L0 L1 cz R I5
  have R0 := R
  obtain ⟨⟨p1, p2, p3, p4, p5, p6, p7, p8, p9, p10⟩, hcz, ⟨e1, e2, e3, e4, e5, e6, e7⟩, ⟨d1, d2, d3, d4, d5⟩, ⟨c1, c2⟩, ⟨s1, s2, s3, s4⟩, ⟨r1, r2, r3⟩⟩ := R
  have yd := YS_dn s3
  have xd := XS_dp s1
  have hL8 := YS_mem p2 s3
  rcases hcz with ⟨rfl, rfl, hd1, hdx⟩ | rfl
  · refine br_t rfl (xl_sym p2 (fun s hs' es => ?_) (fun z => br_t rfl (br_t rfl ?_)))
    · subst es
      have ps : s < 2 ^ 31 := by omega
      refine br_f (by decide) (pk_lt dn0 cq (fun z => ?_) (fun z => ?_))
      · refine nm_e (xl_start (sd := 0) (by omega) xd.1 (xl_enc0 (W := 16 + 35 * dn0) (st := (V, rg, w)) p3 p4 p2 hs' (by omega) s1 e2 ⟨lo, p, e, D, rfl, rfl, rfl, e4, e5, e1, hdx⟩ (fun fl fp fe wn ex ec cm cc sl ss se so sc sf ra wi dg' it hI' hce r1' w1' => ?_)))
        obtain ⟨lo', p', e', D', rfl, rfl, rfl, r0', w0', hc', hd'⟩ := hce
        unfold wX_encode_89
        refine xl_learn (sd := 0) p3 p4 (by omega) (by omega) hL8 p6 p5 s1 (fun ch ta cn dp rc sc X' ag => nm_r (nI_1 dn0) ?_)
        refine br_t rfl (br_f (nI_pos ps) (br_t (nI_lt hs' (by omega)) (br_t ?_ (nm_e ?_))))
        · rw [yd.1]; exact nI_lt z (by omega)
        refine yl_enc0 (W := 16 + 35 * dn0) (q := (V, rg, w)) p3 p4 p2 hs' (by omega) s3 e2 ⟨e6, e7, e3⟩ (fun ll le lc lf lt ra2 wi2 lw nn out hcy r12 w12 => ?_)
        refine yl_learn (sd := 0) p3 p4 (by omega) p2 hs' p6 s3 (by omega) xd.2 (fun nn2 start hst' Y' => ⟨?_, ?_⟩)
        · rw [w0', hcy.2.1, e5, e7]
        · have re := re_if (a := hx_strs lim L0 + hx_fresh lim L0 s) (b := ar) (sd := 0) (by omega) r1 r2
          refine rl_mk (V := (oE al lim L0 s (V, rg, w)).1) (rg := (oE al lim L0 s (V, rg, w)).2.1) (w := (oE al lim L0 s (V, rg, w)).2.2) (D := D') (L0 := hx_next lim ar L0 s) (L1 := L1) (dg := dg) ⟨⟨p1, p2, p3, p4, p5, p6, p7, p8, by omega, by omega⟩, Or.inl ⟨rfl, rfl, hd1, hd'⟩, ⟨hc', EI_5 hI', hcy.2.2, r0', w0', hcy.1, hcy.2.1⟩, ⟨d1, r1'.trans d2, w1'.trans d3, r12.trans d4, w12.trans d5⟩, ⟨cd_none c1, c2⟩, ⟨X', XS_ag s2 (ag 1 (by omega) (by omega)), Y', YS_fr s4 (fun i hi => pk_un (by omega)) (pk_un (by decide)) (hst' 1 (by decide))⟩, re.1, re.2, fun i hi => ?_⟩
          rw [pk_un (by omega)]
          exact r3 i hi
      · refine br_t rfl (br_f (nI_pos ps) (br_t (nI_lt hs' (by omega)) (br_f ?_ ⟨rfl, I5⟩)))
        rw [yd.1]; exact nI_nlt z (by omega)
    · rcases z with z | ⟨z1, z2⟩
      · exact br_t z ⟨rfl, I5⟩
      · exact br_f z1 (br_f z2 ⟨rfl, I5⟩)
  · exact br_f (by decide) (br_f (by decide) ⟨rfl, I5⟩)
theorem i_vc_decode {k : Nat} {u : SX} {v : SY} (I : i_Rel k u v) (hk : k + 5 ≤ 2564) : wpX_decode (fun r u' => wpY_decode (fun r' v' => r' = r ∧ i_Rel (k + 5) u' v') v) u := by
  refine zz_el (P := fun u v => wpX_decode (fun r u' => wpY_decode (fun r' v' => r' = r ∧ i_Rel (k + 5) u' v') v) u) ?_ I
  intro f_walkSide f_walkNext f_excluded f_excludedCount f_candidates f_candidateCount f_stepLevel f_stepSum f_stepEscape f_stepTotal f_stepCum f_stepFreq a_child a_tally a_contextNode a_depth a_recent a_stringCount a_restartCount a_range a_width a_digits a_decoded a_itemFreq f_lastLevely f_lastEscapesy f_lastCumy f_lastFreqy f_lastTotaly a_saidy a_doney a_starty a_againy a_rangey a_widthy a_lowy a_highy a_codey a_ny a_outy al lim ar cq dn0 dn1 V rg w lo p e D gp rg1 w1 cd dg L0 L1 cz R I5
  have R0 := R
  obtain ⟨⟨p1, p2, p3, p4, p5, p6, p7, p8, p9, p10⟩, hcz, ⟨e1, e2, e3, e4, e5, e6, e7⟩, ⟨d1, d2, d3, d4, d5⟩, ⟨c1, c2⟩, ⟨s1, s2, s3, s4⟩, ⟨r1, r2, r3⟩⟩ := R
  have yd0 := YS_dn s3
  have yd := YS_dn s4
  have xd := XS_dp s2
  have hL8 := YS_mem p2 s4
  rcases hcz with ⟨rfl, _⟩ | rfl
  · exact br_t rfl (br_t rfl ⟨rfl, I5⟩)
  refine br_f (by decide) (pk_le dn0 dn1 (fun z => br_f (by decide) (br_f ?_ ⟨rfl, I5⟩)) (fun z => br_t (nI_lt (b := 96) (by omega) (by omega)) ?_))
  · rw [yd0.1, yd.1]; exact nI_nlt z (by omega)
  refine xl_start (sd := 1) (by omega) xd.1 (xl_dec0 (W := 16 + 35 * dn1) (st := (gp, rg1, w1)) p3 p4 p2 (by omega) (by omega) c1 s2 d1 d2 d3 (fun wn ex ec cm cc sl ss se so sc sf ra wi it hI' hs' r1' w1' r0' w0' => ?_))
  have ps : (oD al lim L1 dg (gp, rg1, w1)).1 < 2 ^ 31 := by omega
  refine br_t (nI_pos' ps) ?_
  unfold wX_decode_90
  refine xl_learn (sd := 1) p3 p4 (by omega) (by omega) hL8 p6 p5 s2 (fun ch ta cn dp rc sc X' ag => ⟨pk_in dn1 96 (by omega), nm_r (e' := upd a_decoded dn1 (nI (oD al lim L1 dg (gp, rg1, w1)).1)) (by rw [nI_clamp (by omega), nar_b (by omega)]) (nm_r (nI_1 dn1) ?_)⟩)
  refine br_f (by decide) (br_t ?_ ?_)
  · rw [yd0.1, yd.1]; exact nI_lt z (by omega)
  refine yl_dec0 (W := 16 + 35 * dn1) (q := (gp, rg1, w1)) p3 p4 p2 (by omega) (by omega) c2 s4 d1 d4 d5 (fun ll le lc lf lt ra2 wi2 nn out r12 w12 r02 w02 => ?_)
  refine yl_learn (sd := 1) p3 p4 (by omega) p2 hs' p6 s4 (by omega) xd.2 (fun nn2 start hst' Y' => ⟨rfl, ?_⟩)
  have re := re_if (a := hx_strs lim L1 + hx_fresh lim L1 (oD al lim L1 dg (gp, rg1, w1)).1) (b := ar) (sd := 1) (by omega) r1 r2
  refine rl_mk (V := V) (rg := rg) (w := w) (D := D) (rg1 := (oD al lim L1 dg (gp, rg1, w1)).2.2.1) (w1 := (oD al lim L1 dg (gp, rg1, w1)).2.2.2) (L0 := L0) (L1 := hx_next lim ar L1 (oD al lim L1 dg (gp, rg1, w1)).1) (dg := dg) ⟨⟨p1, p2, p3, p4, p5, p6, p7, p8, p9, by omega⟩, Or.inr rfl, ⟨e1, e2, e3, r0'.trans e4, w0'.trans e5, r02.trans e6, w02.trans e7⟩, ⟨DI_5 hI', r1', w1', r12, w12⟩, ⟨c1, c2⟩, ⟨XS_ag s1 (ag 0 (by omega) (by omega)), X', YS_fr s3 (fun i hi => pk_un (by omega)) (pk_un (by decide)) (hst' 0 (by decide)), Y'⟩, re.1, re.2, fun i hi => ?_⟩
  by_cases q : i = dn1
  · rw [q, pk_us]
    exact pk_us.symm
  · rw [pk_un q, pk_un (by omega)]
    exact r3 i (by omega)
end
