section
/-! pure rows to paste: stores, nI and lN arithmetic, masks, shifts, narrowing, branches by naturals (pk_le, pk_lt, pk_eq), loops (lp1 .. lp16: the measure of the state; rp1 ..: recursion), negatives. Take what you need -/
theorem pk_us {f : Nat → Int32} {k : Nat} {x : Int32} : upd f k x k = x := if_pos rfl
theorem pk_un {f : Nat → Int32} {k j : Nat} {x : Int32} (h : j ≠ k) : upd f k x j = f j := if_neg h
theorem pk_uLs {f : Nat → Int64} {k : Nat} {x : Int64} : vp_updL f k x k = x := if_pos rfl
theorem pk_uLn {f : Nat → Int64} {k j : Nat} {x : Int64} (h : j ≠ k) : vp_updL f k x j = f j := if_neg h
theorem pk_sub {a b : Nat} (h : b ≤ a) : nI a - nI b = nI (a - b) := by
  obtain ⟨c, rfl⟩ : ∃ c, a = c + b := ⟨a - b, by omega⟩
  rw [← nI_add, Int32.add_sub_cancel, Nat.add_sub_cancel]
theorem pk_m1 (n : Nat) : nI (n + 1) + (-1) = nI n := by
  rw [← nI_1, Int32.add_assoc, show (1 : Int32) + (-1) = 0 from rfl, Int32.add_zero]
theorem pk_mul (a b : Nat) : nI a * nI b = nI (a * b) := (Int32.ofNat_mul a b).symm
theorem pk_div {a d : Nat} (ha : a < 2 ^ 31) (h0 : 0 < d) (hd : d < 2 ^ 31) : nI a / nI d = nI (a / d) := by
  apply Int32.toInt_inj.mp
  rw [lg_idiv_nonneg (by rw [nI_toInt ha]; omega) (by rw [nI_toInt hd]; omega), nI_toInt ha, nI_toInt hd, nI_toInt (Nat.lt_of_le_of_lt (Nat.div_le_self a d) ha)]
  first | rfl | exact (Int.natCast_ediv _ _).symm
theorem pk_rem {a d : Nat} (ha : a < 2 ^ 31) (h0 : 0 < d) (hd : d < 2 ^ 31) : nI a - nI a / nI d * nI d = nI (a % d) := by
  rw [pk_div ha h0 hd, pk_mul, pk_sub (Nat.div_mul_le_self a d)]
  exact congrArg nI (by have := Nat.div_add_mod' a d; omega)
theorem pk_sub_toInt {a b : Nat} (ha : a < 2 ^ 30) (hb : b < 2 ^ 30) : (nI a - nI b).toInt = (a : Int) - b := by
  rw [Int32.toInt_sub, nI_toInt (by omega), nI_toInt (by omega)]
  exact Int.bmod_eq_of_le (by omega) (by omega)
theorem pk_sneg {a b : Nat} (hb : b < 2 ^ 30) (h : a < b) : nI a - nI b < 0 := by
  rw [Int32.lt_iff_toInt_lt, pk_sub_toInt (by omega) hb, show (0 : Int32).toInt = 0 from by decide]
  omega
theorem pk_ix (x : Int32) {n : Nat} (hn : n < 2 ^ 31) : x < 0 ∨ nI n ≤ x ∨ ∃ j : Nat, j < n ∧ x = nI j := by
  by_cases h : x < 0
  · exact Or.inl h
  · obtain ⟨j, hj, rfl⟩ := nI_of h
    by_cases h2 : j < n
    · exact Or.inr (Or.inr ⟨j, h2, rfl⟩)
    · exact Or.inr (Or.inl (nI_le (by omega) hj))
theorem pk_le {x y : Int32} {A B : Prop} (a b : Nat) (f : a ≤ b → A) (g : b < a → B) (hx : x = nI a := by rfl) (hy : y = nI b := by rfl) (ha : a < 2 ^ 31 := by omega) (hb : b < 2 ^ 31 := by omega) : (x ≤ y → A) ∧ (¬ x ≤ y → B) := by
  subst hx hy
  rw [nI_leI ha hb]
  exact ⟨f, fun z => g (by omega)⟩
theorem pk_lt {x y : Int32} {A B : Prop} (a b : Nat) (f : a < b → A) (g : b ≤ a → B) (hx : x = nI a := by rfl) (hy : y = nI b := by rfl) (ha : a < 2 ^ 31 := by omega) (hb : b < 2 ^ 31 := by omega) : (x < y → A) ∧ (¬ x < y → B) := by
  subst hx hy
  rw [nI_ltI ha hb]
  exact ⟨f, fun z => g (by omega)⟩
theorem pk_eq {x y : Int32} {A B : Prop} (a b : Nat) (f : a = b → A) (g : a ≠ b → B) (hx : x = nI a := by rfl) (hy : y = nI b := by rfl) (ha : a < 2 ^ 31 := by omega) (hb : b < 2 ^ 31 := by omega) : (x = y → A) ∧ (¬ x = y → B) := by
  subst hx hy
  rw [nI_eq ha hb]
  exact ⟨f, g⟩
theorem pk_in {x : Int32} (n N : Nat) (h : n < N) (hx : x = nI n := by rfl) (hN : N < 2 ^ 31 := by omega) : vp_in x N := by
  subst hx
  exact vp_in_nI h hN
theorem pk_cl {x : Int32} (n : Nat) (hx : x = nI n := by rfl) (h : n < 2 ^ 31 := by omega) : x.toNatClampNeg = n := by
  subst hx
  exact nI_clamp h
theorem pk_tn {n : Nat} (h : n < 2 ^ 32) : (nI n).toBitVec.toNat = n := Nat.mod_eq_of_lt h
theorem pk_and (x : Int32) {m : Int32} (k : Nat) (hm : m.toBitVec.toNat = 2 ^ k - 1) : x &&& m = nI (x.toBitVec.toNat % 2 ^ k) := by
  apply Int32.toBitVec_inj.mp
  apply BitVec.eq_of_toNat_eq
  rw [Int32.toBitVec_and, BitVec.toNat_and, hm, Nat.and_two_pow_sub_one_eq_mod]
  show _ = (BitVec.ofNat 32 _).toNat
  rw [BitVec.toNat_ofNat]
  exact (Nat.mod_eq_of_lt (Nat.lt_of_le_of_lt (Nat.mod_le _ _) x.toBitVec.isLt)).symm
theorem pk_andN {n : Nat} (h : n < 2 ^ 32) {m : Int32} (k : Nat) (hm : m.toBitVec.toNat = 2 ^ k - 1) : nI n &&& m = nI (n % 2 ^ k) := by
  rw [pk_and _ k hm, pk_tn h]
theorem pk_andE (x : Int32) {m : Int32} (k : Nat) (hm : m.toBitVec.toNat = 2 ^ k - 1) : ∃ j : Nat, j < 2 ^ k ∧ x &&& m = nI j := ⟨_, Nat.mod_lt _ (Nat.two_pow_pos k), pk_and x k hm⟩
theorem pk_andIn (x : Int32) {m : Int32} (k : Nat) (hm : m.toBitVec.toNat = 2 ^ k - 1) (hk : k ≤ 30) : vp_in (x &&& m) (2 ^ k) := by
  obtain ⟨j, hj, e⟩ := pk_andE x k hm
  rw [e]
  exact vp_in_nI hj (Nat.lt_of_le_of_lt (Nat.pow_le_pow_right (by decide) hk) (by decide))
theorem pk_shl (a s : Int32) (k : Nat) (hs : (s.toBitVec.smod 32).toNat = k) : (a <<< s).toBitVec.toNat = a.toBitVec.toNat * 2 ^ k % 2 ^ 32 := by
  show (a.toBitVec <<< (s.toBitVec.smod 32).toNat).toNat = _
  rw [hs, BitVec.toNat_shiftLeft, Nat.shiftLeft_eq]
theorem pk_shlN {n : Nat} (s : Int32) (k : Nat) (hs : (s.toBitVec.smod 32).toNat = k) (h : n * 2 ^ k < 2 ^ 32) : nI n <<< s = nI (n * 2 ^ k) := by
  apply Int32.toBitVec_inj.mp
  apply BitVec.eq_of_toNat_eq
  have hn : n < 2 ^ 32 := Nat.lt_of_le_of_lt (Nat.le_mul_of_pos_right n (Nat.two_pow_pos k)) h
  rw [pk_shl _ _ k hs, pk_tn hn, pk_tn h, Nat.mod_eq_of_lt h]
theorem pk_shr (a s : Int32) (k : Nat) (hs : (s.toBitVec.smod 32).toNat = k) : (a >>> s).toInt = a.toInt >>> k := by
  show (a.toBitVec.sshiftRight (s.toBitVec.smod 32).toNat).toInt = _
  rw [hs, BitVec.toInt_sshiftRight]
  rfl
theorem pk_shrN {n : Nat} (h : n < 2 ^ 31) (s : Int32) (k : Nat) (hs : (s.toBitVec.smod 32).toNat = k) : nI n >>> s = nI (n / 2 ^ k) := by
  apply Int32.toInt_inj.mp
  have h2 : n / 2 ^ k ≤ n := Nat.div_le_self _ _
  rw [pk_shr _ _ k hs, nI_toInt h, nI_toInt (by omega), Int.shiftRight_eq_div_pow]
  rfl
theorem pk_ushr (x s : Int32) (k : Nat) (hs : ((s.toUInt32 &&& Int32.toUInt32 31).toBitVec % 32).toNat = k) : (x.toUInt32 >>> (s.toUInt32 &&& Int32.toUInt32 31)).toInt32.toBitVec.toNat = x.toBitVec.toNat / 2 ^ k := by
  have e : (x.toUInt32 >>> (s.toUInt32 &&& Int32.toUInt32 31)).toInt32.toBitVec = x.toBitVec >>> k := by
    rw [← hs]
    exact UInt32.toBitVec_shiftRight _ _
  rw [e, BitVec.toNat_ushiftRight, Nat.shiftRight_eq_div_pow]
theorem pk_ushrN {n : Nat} (hn : n < 2 ^ 32) (s : Int32) (k : Nat) (hs : ((s.toUInt32 &&& Int32.toUInt32 31).toBitVec % 32).toNat = k) : ((nI n).toUInt32 >>> (s.toUInt32 &&& Int32.toUInt32 31)).toInt32 = nI (n / 2 ^ k) := by
  apply Int32.toBitVec_inj.mp
  apply BitVec.eq_of_toNat_eq
  rw [pk_ushr _ s k hs, pk_tn hn, pk_tn (Nat.lt_of_le_of_lt (Nat.div_le_self _ _) hn)]
theorem pk_nb (z : Int32) : narrow .byte (.int z.toInt8.toInt32) = .int z.toInt8.toInt32 := congrArg Value.int (by simp)
theorem pk_ns (z : Int32) : narrow .short (.int z.toInt16.toInt32) = .int z.toInt16.toInt32 := congrArg Value.int (by simp)
theorem pk_fb (r : Int32) : fits .byte (.int r.toInt8.toInt32) = true := by
  have ⟨a, b⟩ := lg_i2b_range r
  have h1 : (-128 : Int32).toInt = -128 := by decide
  have h2 : (127 : Int32).toInt = 127 := by decide
  simp only [fits, Bool.and_eq_true, decide_eq_true_eq, Int32.le_iff_toInt_le, h1, h2]
  omega
theorem pk_fs (r : Int32) : fits .short (.int r.toInt16.toInt32) = true := by
  have ⟨a, b⟩ := lg_i2s_range r
  have h1 : (-32768 : Int32).toInt = -32768 := by decide
  have h2 : (32767 : Int32).toInt = 32767 := by decide
  simp only [fits, Bool.and_eq_true, decide_eq_true_eq, Int32.le_iff_toInt_le, h1, h2]
  omega
theorem pk_charN {q : Nat} (hq : q < 65536) : narrow .char (.int (nI q)) = .int (nI q) ∧ fits .char (.int (nI q)) = true := by
  constructor
  · have e : (nI q).toUInt32.toUInt16.toUInt32.toInt32 = nI q := by
      apply Int32.toBitVec_inj.mp
      apply BitVec.eq_of_toNat_eq
      show (nI q).toUInt32.toUInt16.toUInt32.toNat = q % 2 ^ 32
      rw [UInt16.toNat_toUInt32, UInt32.toNat_toUInt16, show (nI q).toUInt32.toNat = q % 2 ^ 32 from rfl]
      omega
    exact congrArg Value.int e
  · have a : (0 : Int32) ≤ nI q := nI_pos' (by omega)
    have b : nI q ≤ 65535 := nI_le (b := 65535) (by omega) (by decide)
    show (decide ((0 : Int32) ≤ nI q) && decide (nI q ≤ 65535)) = true
    rw [decide_eq_true a, decide_eq_true b]
    rfl
theorem pk_char (x : Int32) : (x.toUInt32 % 65536).toInt32 = nI (x.toBitVec.toNat % 65536) := by
  apply Int32.toBitVec_inj.mp
  apply BitVec.eq_of_toNat_eq
  rw [pk_tn (by omega)]
  show (x.toUInt32 % 65536).toNat = _
  rw [UInt32.toNat_mod]
  rfl
theorem pk_nc (x : Int32) : narrow .char (.int (x.toUInt32 % 65536).toInt32) = .int (x.toUInt32 % 65536).toInt32 := by
  rw [pk_char]
  exact (pk_charN (Nat.mod_lt _ (by decide))).1
theorem pk_fc (x : Int32) : fits .char (.int (x.toUInt32 % 65536).toInt32) = true := by
  rw [pk_char]
  exact (pk_charN (Nat.mod_lt _ (by decide))).2
theorem pk_vb (z : Int32) : vp_nar .byte z.toInt8.toInt32 = z.toInt8.toInt32 := by rw [vp_nar_byte]; simp
theorem pk_vs (z : Int32) : vp_nar .short z.toInt16.toInt32 = z.toInt16.toInt32 := by rw [vp_nar_short]; simp
theorem pk_vc (z : Int32) : vp_nar .char (z.toUInt32 % 65536).toInt32 = (z.toUInt32 % 65536).toInt32 := Value.int.inj (pk_nc z)
theorem pk_lT {n : Nat} (h : n < 2 ^ 63) : (lN n).toInt = (n : Int) := lg_ofNat_toInt h
theorem pk_lLT {a b : Nat} (ha : a < 2 ^ 63) (hb : b < 2 ^ 63) : lN a < lN b ↔ a < b := by
  rw [Int64.lt_iff_toInt_lt, pk_lT ha, pk_lT hb]; omega
theorem pk_lLE {a b : Nat} (ha : a < 2 ^ 63) (hb : b < 2 ^ 63) : lN a ≤ lN b ↔ a ≤ b := by
  rw [Int64.le_iff_toInt_le, pk_lT ha, pk_lT hb]; omega
theorem pk_lEQ {a b : Nat} (ha : a < 2 ^ 63) (hb : b < 2 ^ 63) : lN a = lN b ↔ a = b := by
  rw [← Int64.toInt_inj, pk_lT ha, pk_lT hb]; omega
theorem pk_lOf {x : Int64} (h : ¬ x < 0) : ∃ k : Nat, k < 2 ^ 63 ∧ x = lN k := by
  rw [Int64.lt_iff_toInt_lt] at h
  have h0 : (0 : Int64).toInt = 0 := by decide
  have hx := Int64.toInt_lt x
  refine ⟨x.toInt.toNat, by omega, Int64.toInt_inj.mp ?_⟩
  rw [pk_lT (by omega)]
  omega
theorem pk_lDiv {a b : Nat} (ha : a < 2 ^ 63) (h0 : 0 < b) (hb : b < 2 ^ 63) : lN a / lN b = lN (a / b) := by
  apply Int64.toInt_inj.mp
  rw [lg_ldiv_nonneg (by rw [pk_lT ha]; omega) (by rw [pk_lT hb]; omega), pk_lT ha, pk_lT hb, pk_lT (Nat.lt_of_le_of_lt (Nat.div_le_self a b) ha)]
  rfl
theorem pk_lRem {a b : Nat} (ha : a < 2 ^ 63) (h0 : 0 < b) (hb : b < 2 ^ 63) : lN a - lN a / lN b * lN b = lN (a % b) := by
  rw [pk_lDiv ha h0 hb, lN_mul, lN_sub (Nat.div_mul_le_self a b)]
  exact congrArg lN (by have := Nat.div_add_mod' a b; omega)
theorem pk_loop {σ : Type} (W : Nat → Nat → σ → Prop) (I : Nat → σ → Prop) (e i0 : Nat) (s : σ) (hi : i0 ≤ e) (h0 : I i0 s) (hx : ∀ n s, I e s → W (n + 1) e s)
    (hs : ∀ n i s, i < e → I i s → (∀ s', I (i + 1) s' → W n (i + 1) s') → W (n + 1) i s) : ∃ n, W n i0 s :=
  ⟨e + 1, loop_i W I e hx hs (e + 1) i0 s hi (by omega) h0⟩
theorem pk_loopD {σ : Type} (W : Nat → Nat → σ → Prop) (I : Nat → σ → Prop) (hx : ∀ n s, I 0 s → W (n + 1) 0 s)
    (hs : ∀ n i s, I (i + 1) s → (∀ s', I i s' → W n i s') → W (n + 1) (i + 1) s) : ∀ (e : Nat) (s : σ), I e s → W (e + 1) e s := by
  intro e
  induction e with
  | zero => exact fun s h => hx 0 s h
  | succ e ih => exact fun s h => hs (e + 1) e s h (fun s' h' => ih s' h')
theorem lp1 {A1 : Type} (W : Nat → A1 → Prop) (I : A1 → Prop) (μ : A1 → Nat) (hs : ∀ (n : Nat) (a1 : A1), I a1 → (∀ (b1 : A1), I b1 → μ b1 < μ a1 → W n b1) → W (n + 1) a1) (a1 : A1) (h : I a1) : ∃ n, W n a1 :=
  loop_m (σ := A1) (fun n s => W n s) (fun s => I s) (fun s => μ s) (fun n s hI hk => hs n s hI (fun b1 h9 hm => hk b1 h9 hm)) a1 h
theorem lp2 {A1 A2 : Type} (W : Nat → A1 → A2 → Prop) (I : A1 → A2 → Prop) (μ : A1 → A2 → Nat) (hs : ∀ (n : Nat) (a1 : A1) (a2 : A2), I a1 a2 → (∀ (b1 : A1) (b2 : A2), I b1 b2 → μ b1 b2 < μ a1 a2 → W n b1 b2) → W (n + 1) a1 a2) (a1 : A1) (a2 : A2) (h : I a1 a2) : ∃ n, W n a1 a2 :=
  loop_m (σ := A1 × A2) (fun n s => W n s.1 s.2) (fun s => I s.1 s.2) (fun s => μ s.1 s.2) (fun n s hI hk => hs n s.1 s.2 hI (fun b1 b2 h9 hm => hk (b1, b2) h9 hm)) (a1, a2) h
theorem lp3 {A1 A2 A3 : Type} (W : Nat → A1 → A2 → A3 → Prop) (I : A1 → A2 → A3 → Prop) (μ : A1 → A2 → A3 → Nat) (hs : ∀ (n : Nat) (a1 : A1) (a2 : A2) (a3 : A3), I a1 a2 a3 → (∀ (b1 : A1) (b2 : A2) (b3 : A3), I b1 b2 b3 → μ b1 b2 b3 < μ a1 a2 a3 → W n b1 b2 b3) → W (n + 1) a1 a2 a3) (a1 : A1) (a2 : A2) (a3 : A3) (h : I a1 a2 a3) : ∃ n, W n a1 a2 a3 :=
  loop_m (σ := A1 × A2 × A3) (fun n s => W n s.1 s.2.1 s.2.2) (fun s => I s.1 s.2.1 s.2.2) (fun s => μ s.1 s.2.1 s.2.2) (fun n s hI hk => hs n s.1 s.2.1 s.2.2 hI (fun b1 b2 b3 h9 hm => hk (b1, b2, b3) h9 hm)) (a1, a2, a3) h
theorem lp4 {A1 A2 A3 A4 : Type} (W : Nat → A1 → A2 → A3 → A4 → Prop) (I : A1 → A2 → A3 → A4 → Prop) (μ : A1 → A2 → A3 → A4 → Nat) (hs : ∀ (n : Nat) (a1 : A1) (a2 : A2) (a3 : A3) (a4 : A4), I a1 a2 a3 a4 → (∀ (b1 : A1) (b2 : A2) (b3 : A3) (b4 : A4), I b1 b2 b3 b4 → μ b1 b2 b3 b4 < μ a1 a2 a3 a4 → W n b1 b2 b3 b4) → W (n + 1) a1 a2 a3 a4) (a1 : A1) (a2 : A2) (a3 : A3) (a4 : A4) (h : I a1 a2 a3 a4) : ∃ n, W n a1 a2 a3 a4 :=
  loop_m (σ := A1 × A2 × A3 × A4) (fun n s => W n s.1 s.2.1 s.2.2.1 s.2.2.2) (fun s => I s.1 s.2.1 s.2.2.1 s.2.2.2) (fun s => μ s.1 s.2.1 s.2.2.1 s.2.2.2) (fun n s hI hk => hs n s.1 s.2.1 s.2.2.1 s.2.2.2 hI (fun b1 b2 b3 b4 h9 hm => hk (b1, b2, b3, b4) h9 hm)) (a1, a2, a3, a4) h
theorem lp5 {A1 A2 A3 A4 A5 : Type} (W : Nat → A1 → A2 → A3 → A4 → A5 → Prop) (I : A1 → A2 → A3 → A4 → A5 → Prop) (μ : A1 → A2 → A3 → A4 → A5 → Nat) (hs : ∀ (n : Nat) (a1 : A1) (a2 : A2) (a3 : A3) (a4 : A4) (a5 : A5), I a1 a2 a3 a4 a5 → (∀ (b1 : A1) (b2 : A2) (b3 : A3) (b4 : A4) (b5 : A5), I b1 b2 b3 b4 b5 → μ b1 b2 b3 b4 b5 < μ a1 a2 a3 a4 a5 → W n b1 b2 b3 b4 b5) → W (n + 1) a1 a2 a3 a4 a5) (a1 : A1) (a2 : A2) (a3 : A3) (a4 : A4) (a5 : A5) (h : I a1 a2 a3 a4 a5) : ∃ n, W n a1 a2 a3 a4 a5 :=
  loop_m (σ := A1 × A2 × A3 × A4 × A5) (fun n s => W n s.1 s.2.1 s.2.2.1 s.2.2.2.1 s.2.2.2.2) (fun s => I s.1 s.2.1 s.2.2.1 s.2.2.2.1 s.2.2.2.2) (fun s => μ s.1 s.2.1 s.2.2.1 s.2.2.2.1 s.2.2.2.2) (fun n s hI hk => hs n s.1 s.2.1 s.2.2.1 s.2.2.2.1 s.2.2.2.2 hI (fun b1 b2 b3 b4 b5 h9 hm => hk (b1, b2, b3, b4, b5) h9 hm)) (a1, a2, a3, a4, a5) h
theorem lp6 {A1 A2 A3 A4 A5 A6 : Type} (W : Nat → A1 → A2 → A3 → A4 → A5 → A6 → Prop) (I : A1 → A2 → A3 → A4 → A5 → A6 → Prop) (μ : A1 → A2 → A3 → A4 → A5 → A6 → Nat) (hs : ∀ (n : Nat) (a1 : A1) (a2 : A2) (a3 : A3) (a4 : A4) (a5 : A5) (a6 : A6), I a1 a2 a3 a4 a5 a6 → (∀ (b1 : A1) (b2 : A2) (b3 : A3) (b4 : A4) (b5 : A5) (b6 : A6), I b1 b2 b3 b4 b5 b6 → μ b1 b2 b3 b4 b5 b6 < μ a1 a2 a3 a4 a5 a6 → W n b1 b2 b3 b4 b5 b6) → W (n + 1) a1 a2 a3 a4 a5 a6) (a1 : A1) (a2 : A2) (a3 : A3) (a4 : A4) (a5 : A5) (a6 : A6) (h : I a1 a2 a3 a4 a5 a6) : ∃ n, W n a1 a2 a3 a4 a5 a6 :=
  loop_m (σ := A1 × A2 × A3 × A4 × A5 × A6) (fun n s => W n s.1 s.2.1 s.2.2.1 s.2.2.2.1 s.2.2.2.2.1 s.2.2.2.2.2) (fun s => I s.1 s.2.1 s.2.2.1 s.2.2.2.1 s.2.2.2.2.1 s.2.2.2.2.2) (fun s => μ s.1 s.2.1 s.2.2.1 s.2.2.2.1 s.2.2.2.2.1 s.2.2.2.2.2) (fun n s hI hk => hs n s.1 s.2.1 s.2.2.1 s.2.2.2.1 s.2.2.2.2.1 s.2.2.2.2.2 hI (fun b1 b2 b3 b4 b5 b6 h9 hm => hk (b1, b2, b3, b4, b5, b6) h9 hm)) (a1, a2, a3, a4, a5, a6) h
theorem lp7 {A1 A2 A3 A4 A5 A6 A7 : Type} (W : Nat → A1 → A2 → A3 → A4 → A5 → A6 → A7 → Prop) (I : A1 → A2 → A3 → A4 → A5 → A6 → A7 → Prop) (μ : A1 → A2 → A3 → A4 → A5 → A6 → A7 → Nat) (hs : ∀ (n : Nat) (a1 : A1) (a2 : A2) (a3 : A3) (a4 : A4) (a5 : A5) (a6 : A6) (a7 : A7), I a1 a2 a3 a4 a5 a6 a7 → (∀ (b1 : A1) (b2 : A2) (b3 : A3) (b4 : A4) (b5 : A5) (b6 : A6) (b7 : A7), I b1 b2 b3 b4 b5 b6 b7 → μ b1 b2 b3 b4 b5 b6 b7 < μ a1 a2 a3 a4 a5 a6 a7 → W n b1 b2 b3 b4 b5 b6 b7) → W (n + 1) a1 a2 a3 a4 a5 a6 a7) (a1 : A1) (a2 : A2) (a3 : A3) (a4 : A4) (a5 : A5) (a6 : A6) (a7 : A7) (h : I a1 a2 a3 a4 a5 a6 a7) : ∃ n, W n a1 a2 a3 a4 a5 a6 a7 :=
  loop_m (σ := A1 × A2 × A3 × A4 × A5 × A6 × A7) (fun n s => W n s.1 s.2.1 s.2.2.1 s.2.2.2.1 s.2.2.2.2.1 s.2.2.2.2.2.1 s.2.2.2.2.2.2) (fun s => I s.1 s.2.1 s.2.2.1 s.2.2.2.1 s.2.2.2.2.1 s.2.2.2.2.2.1 s.2.2.2.2.2.2) (fun s => μ s.1 s.2.1 s.2.2.1 s.2.2.2.1 s.2.2.2.2.1 s.2.2.2.2.2.1 s.2.2.2.2.2.2) (fun n s hI hk => hs n s.1 s.2.1 s.2.2.1 s.2.2.2.1 s.2.2.2.2.1 s.2.2.2.2.2.1 s.2.2.2.2.2.2 hI (fun b1 b2 b3 b4 b5 b6 b7 h9 hm => hk (b1, b2, b3, b4, b5, b6, b7) h9 hm)) (a1, a2, a3, a4, a5, a6, a7) h
theorem lp8 {A1 A2 A3 A4 A5 A6 A7 A8 : Type} (W : Nat → A1 → A2 → A3 → A4 → A5 → A6 → A7 → A8 → Prop) (I : A1 → A2 → A3 → A4 → A5 → A6 → A7 → A8 → Prop) (μ : A1 → A2 → A3 → A4 → A5 → A6 → A7 → A8 → Nat) (hs : ∀ (n : Nat) (a1 : A1) (a2 : A2) (a3 : A3) (a4 : A4) (a5 : A5) (a6 : A6) (a7 : A7) (a8 : A8), I a1 a2 a3 a4 a5 a6 a7 a8 → (∀ (b1 : A1) (b2 : A2) (b3 : A3) (b4 : A4) (b5 : A5) (b6 : A6) (b7 : A7) (b8 : A8), I b1 b2 b3 b4 b5 b6 b7 b8 → μ b1 b2 b3 b4 b5 b6 b7 b8 < μ a1 a2 a3 a4 a5 a6 a7 a8 → W n b1 b2 b3 b4 b5 b6 b7 b8) → W (n + 1) a1 a2 a3 a4 a5 a6 a7 a8) (a1 : A1) (a2 : A2) (a3 : A3) (a4 : A4) (a5 : A5) (a6 : A6) (a7 : A7) (a8 : A8) (h : I a1 a2 a3 a4 a5 a6 a7 a8) : ∃ n, W n a1 a2 a3 a4 a5 a6 a7 a8 :=
  loop_m (σ := A1 × A2 × A3 × A4 × A5 × A6 × A7 × A8) (fun n s => W n s.1 s.2.1 s.2.2.1 s.2.2.2.1 s.2.2.2.2.1 s.2.2.2.2.2.1 s.2.2.2.2.2.2.1 s.2.2.2.2.2.2.2) (fun s => I s.1 s.2.1 s.2.2.1 s.2.2.2.1 s.2.2.2.2.1 s.2.2.2.2.2.1 s.2.2.2.2.2.2.1 s.2.2.2.2.2.2.2) (fun s => μ s.1 s.2.1 s.2.2.1 s.2.2.2.1 s.2.2.2.2.1 s.2.2.2.2.2.1 s.2.2.2.2.2.2.1 s.2.2.2.2.2.2.2) (fun n s hI hk => hs n s.1 s.2.1 s.2.2.1 s.2.2.2.1 s.2.2.2.2.1 s.2.2.2.2.2.1 s.2.2.2.2.2.2.1 s.2.2.2.2.2.2.2 hI (fun b1 b2 b3 b4 b5 b6 b7 b8 h9 hm => hk (b1, b2, b3, b4, b5, b6, b7, b8) h9 hm)) (a1, a2, a3, a4, a5, a6, a7, a8) h
theorem lp9 {A1 A2 A3 A4 A5 A6 A7 A8 A9 : Type} (W : Nat → A1 → A2 → A3 → A4 → A5 → A6 → A7 → A8 → A9 → Prop) (I : A1 → A2 → A3 → A4 → A5 → A6 → A7 → A8 → A9 → Prop) (μ : A1 → A2 → A3 → A4 → A5 → A6 → A7 → A8 → A9 → Nat) (hs : ∀ (n : Nat) (a1 : A1) (a2 : A2) (a3 : A3) (a4 : A4) (a5 : A5) (a6 : A6) (a7 : A7) (a8 : A8) (a9 : A9), I a1 a2 a3 a4 a5 a6 a7 a8 a9 → (∀ (b1 : A1) (b2 : A2) (b3 : A3) (b4 : A4) (b5 : A5) (b6 : A6) (b7 : A7) (b8 : A8) (b9 : A9), I b1 b2 b3 b4 b5 b6 b7 b8 b9 → μ b1 b2 b3 b4 b5 b6 b7 b8 b9 < μ a1 a2 a3 a4 a5 a6 a7 a8 a9 → W n b1 b2 b3 b4 b5 b6 b7 b8 b9) → W (n + 1) a1 a2 a3 a4 a5 a6 a7 a8 a9) (a1 : A1) (a2 : A2) (a3 : A3) (a4 : A4) (a5 : A5) (a6 : A6) (a7 : A7) (a8 : A8) (a9 : A9) (h : I a1 a2 a3 a4 a5 a6 a7 a8 a9) : ∃ n, W n a1 a2 a3 a4 a5 a6 a7 a8 a9 :=
  loop_m (σ := A1 × A2 × A3 × A4 × A5 × A6 × A7 × A8 × A9) (fun n s => W n s.1 s.2.1 s.2.2.1 s.2.2.2.1 s.2.2.2.2.1 s.2.2.2.2.2.1 s.2.2.2.2.2.2.1 s.2.2.2.2.2.2.2.1 s.2.2.2.2.2.2.2.2) (fun s => I s.1 s.2.1 s.2.2.1 s.2.2.2.1 s.2.2.2.2.1 s.2.2.2.2.2.1 s.2.2.2.2.2.2.1 s.2.2.2.2.2.2.2.1 s.2.2.2.2.2.2.2.2) (fun s => μ s.1 s.2.1 s.2.2.1 s.2.2.2.1 s.2.2.2.2.1 s.2.2.2.2.2.1 s.2.2.2.2.2.2.1 s.2.2.2.2.2.2.2.1 s.2.2.2.2.2.2.2.2) (fun n s hI hk => hs n s.1 s.2.1 s.2.2.1 s.2.2.2.1 s.2.2.2.2.1 s.2.2.2.2.2.1 s.2.2.2.2.2.2.1 s.2.2.2.2.2.2.2.1 s.2.2.2.2.2.2.2.2 hI (fun b1 b2 b3 b4 b5 b6 b7 b8 b9 h9 hm => hk (b1, b2, b3, b4, b5, b6, b7, b8, b9) h9 hm)) (a1, a2, a3, a4, a5, a6, a7, a8, a9) h
theorem lp10 {A1 A2 A3 A4 A5 A6 A7 A8 A9 A10 : Type} (W : Nat → A1 → A2 → A3 → A4 → A5 → A6 → A7 → A8 → A9 → A10 → Prop) (I : A1 → A2 → A3 → A4 → A5 → A6 → A7 → A8 → A9 → A10 → Prop) (μ : A1 → A2 → A3 → A4 → A5 → A6 → A7 → A8 → A9 → A10 → Nat) (hs : ∀ (n : Nat) (a1 : A1) (a2 : A2) (a3 : A3) (a4 : A4) (a5 : A5) (a6 : A6) (a7 : A7) (a8 : A8) (a9 : A9) (a10 : A10), I a1 a2 a3 a4 a5 a6 a7 a8 a9 a10 → (∀ (b1 : A1) (b2 : A2) (b3 : A3) (b4 : A4) (b5 : A5) (b6 : A6) (b7 : A7) (b8 : A8) (b9 : A9) (b10 : A10), I b1 b2 b3 b4 b5 b6 b7 b8 b9 b10 → μ b1 b2 b3 b4 b5 b6 b7 b8 b9 b10 < μ a1 a2 a3 a4 a5 a6 a7 a8 a9 a10 → W n b1 b2 b3 b4 b5 b6 b7 b8 b9 b10) → W (n + 1) a1 a2 a3 a4 a5 a6 a7 a8 a9 a10) (a1 : A1) (a2 : A2) (a3 : A3) (a4 : A4) (a5 : A5) (a6 : A6) (a7 : A7) (a8 : A8) (a9 : A9) (a10 : A10) (h : I a1 a2 a3 a4 a5 a6 a7 a8 a9 a10) : ∃ n, W n a1 a2 a3 a4 a5 a6 a7 a8 a9 a10 :=
  loop_m (σ := A1 × A2 × A3 × A4 × A5 × A6 × A7 × A8 × A9 × A10) (fun n s => W n s.1 s.2.1 s.2.2.1 s.2.2.2.1 s.2.2.2.2.1 s.2.2.2.2.2.1 s.2.2.2.2.2.2.1 s.2.2.2.2.2.2.2.1 s.2.2.2.2.2.2.2.2.1 s.2.2.2.2.2.2.2.2.2) (fun s => I s.1 s.2.1 s.2.2.1 s.2.2.2.1 s.2.2.2.2.1 s.2.2.2.2.2.1 s.2.2.2.2.2.2.1 s.2.2.2.2.2.2.2.1 s.2.2.2.2.2.2.2.2.1 s.2.2.2.2.2.2.2.2.2) (fun s => μ s.1 s.2.1 s.2.2.1 s.2.2.2.1 s.2.2.2.2.1 s.2.2.2.2.2.1 s.2.2.2.2.2.2.1 s.2.2.2.2.2.2.2.1 s.2.2.2.2.2.2.2.2.1 s.2.2.2.2.2.2.2.2.2) (fun n s hI hk => hs n s.1 s.2.1 s.2.2.1 s.2.2.2.1 s.2.2.2.2.1 s.2.2.2.2.2.1 s.2.2.2.2.2.2.1 s.2.2.2.2.2.2.2.1 s.2.2.2.2.2.2.2.2.1 s.2.2.2.2.2.2.2.2.2 hI (fun b1 b2 b3 b4 b5 b6 b7 b8 b9 b10 h9 hm => hk (b1, b2, b3, b4, b5, b6, b7, b8, b9, b10) h9 hm)) (a1, a2, a3, a4, a5, a6, a7, a8, a9, a10) h
theorem lp11 {A1 A2 A3 A4 A5 A6 A7 A8 A9 A10 A11 : Type} (W : Nat → A1 → A2 → A3 → A4 → A5 → A6 → A7 → A8 → A9 → A10 → A11 → Prop) (I : A1 → A2 → A3 → A4 → A5 → A6 → A7 → A8 → A9 → A10 → A11 → Prop) (μ : A1 → A2 → A3 → A4 → A5 → A6 → A7 → A8 → A9 → A10 → A11 → Nat) (hs : ∀ (n : Nat) (a1 : A1) (a2 : A2) (a3 : A3) (a4 : A4) (a5 : A5) (a6 : A6) (a7 : A7) (a8 : A8) (a9 : A9) (a10 : A10) (a11 : A11), I a1 a2 a3 a4 a5 a6 a7 a8 a9 a10 a11 → (∀ (b1 : A1) (b2 : A2) (b3 : A3) (b4 : A4) (b5 : A5) (b6 : A6) (b7 : A7) (b8 : A8) (b9 : A9) (b10 : A10) (b11 : A11), I b1 b2 b3 b4 b5 b6 b7 b8 b9 b10 b11 → μ b1 b2 b3 b4 b5 b6 b7 b8 b9 b10 b11 < μ a1 a2 a3 a4 a5 a6 a7 a8 a9 a10 a11 → W n b1 b2 b3 b4 b5 b6 b7 b8 b9 b10 b11) → W (n + 1) a1 a2 a3 a4 a5 a6 a7 a8 a9 a10 a11) (a1 : A1) (a2 : A2) (a3 : A3) (a4 : A4) (a5 : A5) (a6 : A6) (a7 : A7) (a8 : A8) (a9 : A9) (a10 : A10) (a11 : A11) (h : I a1 a2 a3 a4 a5 a6 a7 a8 a9 a10 a11) : ∃ n, W n a1 a2 a3 a4 a5 a6 a7 a8 a9 a10 a11 :=
  loop_m (σ := A1 × A2 × A3 × A4 × A5 × A6 × A7 × A8 × A9 × A10 × A11) (fun n s => W n s.1 s.2.1 s.2.2.1 s.2.2.2.1 s.2.2.2.2.1 s.2.2.2.2.2.1 s.2.2.2.2.2.2.1 s.2.2.2.2.2.2.2.1 s.2.2.2.2.2.2.2.2.1 s.2.2.2.2.2.2.2.2.2.1 s.2.2.2.2.2.2.2.2.2.2) (fun s => I s.1 s.2.1 s.2.2.1 s.2.2.2.1 s.2.2.2.2.1 s.2.2.2.2.2.1 s.2.2.2.2.2.2.1 s.2.2.2.2.2.2.2.1 s.2.2.2.2.2.2.2.2.1 s.2.2.2.2.2.2.2.2.2.1 s.2.2.2.2.2.2.2.2.2.2) (fun s => μ s.1 s.2.1 s.2.2.1 s.2.2.2.1 s.2.2.2.2.1 s.2.2.2.2.2.1 s.2.2.2.2.2.2.1 s.2.2.2.2.2.2.2.1 s.2.2.2.2.2.2.2.2.1 s.2.2.2.2.2.2.2.2.2.1 s.2.2.2.2.2.2.2.2.2.2) (fun n s hI hk => hs n s.1 s.2.1 s.2.2.1 s.2.2.2.1 s.2.2.2.2.1 s.2.2.2.2.2.1 s.2.2.2.2.2.2.1 s.2.2.2.2.2.2.2.1 s.2.2.2.2.2.2.2.2.1 s.2.2.2.2.2.2.2.2.2.1 s.2.2.2.2.2.2.2.2.2.2 hI (fun b1 b2 b3 b4 b5 b6 b7 b8 b9 b10 b11 h9 hm => hk (b1, b2, b3, b4, b5, b6, b7, b8, b9, b10, b11) h9 hm)) (a1, a2, a3, a4, a5, a6, a7, a8, a9, a10, a11) h
theorem lp12 {A1 A2 A3 A4 A5 A6 A7 A8 A9 A10 A11 A12 : Type} (W : Nat → A1 → A2 → A3 → A4 → A5 → A6 → A7 → A8 → A9 → A10 → A11 → A12 → Prop) (I : A1 → A2 → A3 → A4 → A5 → A6 → A7 → A8 → A9 → A10 → A11 → A12 → Prop) (μ : A1 → A2 → A3 → A4 → A5 → A6 → A7 → A8 → A9 → A10 → A11 → A12 → Nat) (hs : ∀ (n : Nat) (a1 : A1) (a2 : A2) (a3 : A3) (a4 : A4) (a5 : A5) (a6 : A6) (a7 : A7) (a8 : A8) (a9 : A9) (a10 : A10) (a11 : A11) (a12 : A12), I a1 a2 a3 a4 a5 a6 a7 a8 a9 a10 a11 a12 → (∀ (b1 : A1) (b2 : A2) (b3 : A3) (b4 : A4) (b5 : A5) (b6 : A6) (b7 : A7) (b8 : A8) (b9 : A9) (b10 : A10) (b11 : A11) (b12 : A12), I b1 b2 b3 b4 b5 b6 b7 b8 b9 b10 b11 b12 → μ b1 b2 b3 b4 b5 b6 b7 b8 b9 b10 b11 b12 < μ a1 a2 a3 a4 a5 a6 a7 a8 a9 a10 a11 a12 → W n b1 b2 b3 b4 b5 b6 b7 b8 b9 b10 b11 b12) → W (n + 1) a1 a2 a3 a4 a5 a6 a7 a8 a9 a10 a11 a12) (a1 : A1) (a2 : A2) (a3 : A3) (a4 : A4) (a5 : A5) (a6 : A6) (a7 : A7) (a8 : A8) (a9 : A9) (a10 : A10) (a11 : A11) (a12 : A12) (h : I a1 a2 a3 a4 a5 a6 a7 a8 a9 a10 a11 a12) : ∃ n, W n a1 a2 a3 a4 a5 a6 a7 a8 a9 a10 a11 a12 :=
  loop_m (σ := A1 × A2 × A3 × A4 × A5 × A6 × A7 × A8 × A9 × A10 × A11 × A12) (fun n s => W n s.1 s.2.1 s.2.2.1 s.2.2.2.1 s.2.2.2.2.1 s.2.2.2.2.2.1 s.2.2.2.2.2.2.1 s.2.2.2.2.2.2.2.1 s.2.2.2.2.2.2.2.2.1 s.2.2.2.2.2.2.2.2.2.1 s.2.2.2.2.2.2.2.2.2.2.1 s.2.2.2.2.2.2.2.2.2.2.2) (fun s => I s.1 s.2.1 s.2.2.1 s.2.2.2.1 s.2.2.2.2.1 s.2.2.2.2.2.1 s.2.2.2.2.2.2.1 s.2.2.2.2.2.2.2.1 s.2.2.2.2.2.2.2.2.1 s.2.2.2.2.2.2.2.2.2.1 s.2.2.2.2.2.2.2.2.2.2.1 s.2.2.2.2.2.2.2.2.2.2.2) (fun s => μ s.1 s.2.1 s.2.2.1 s.2.2.2.1 s.2.2.2.2.1 s.2.2.2.2.2.1 s.2.2.2.2.2.2.1 s.2.2.2.2.2.2.2.1 s.2.2.2.2.2.2.2.2.1 s.2.2.2.2.2.2.2.2.2.1 s.2.2.2.2.2.2.2.2.2.2.1 s.2.2.2.2.2.2.2.2.2.2.2) (fun n s hI hk => hs n s.1 s.2.1 s.2.2.1 s.2.2.2.1 s.2.2.2.2.1 s.2.2.2.2.2.1 s.2.2.2.2.2.2.1 s.2.2.2.2.2.2.2.1 s.2.2.2.2.2.2.2.2.1 s.2.2.2.2.2.2.2.2.2.1 s.2.2.2.2.2.2.2.2.2.2.1 s.2.2.2.2.2.2.2.2.2.2.2 hI (fun b1 b2 b3 b4 b5 b6 b7 b8 b9 b10 b11 b12 h9 hm => hk (b1, b2, b3, b4, b5, b6, b7, b8, b9, b10, b11, b12) h9 hm)) (a1, a2, a3, a4, a5, a6, a7, a8, a9, a10, a11, a12) h
theorem lp13 {A1 A2 A3 A4 A5 A6 A7 A8 A9 A10 A11 A12 A13 : Type} (W : Nat → A1 → A2 → A3 → A4 → A5 → A6 → A7 → A8 → A9 → A10 → A11 → A12 → A13 → Prop) (I : A1 → A2 → A3 → A4 → A5 → A6 → A7 → A8 → A9 → A10 → A11 → A12 → A13 → Prop) (μ : A1 → A2 → A3 → A4 → A5 → A6 → A7 → A8 → A9 → A10 → A11 → A12 → A13 → Nat) (hs : ∀ (n : Nat) (a1 : A1) (a2 : A2) (a3 : A3) (a4 : A4) (a5 : A5) (a6 : A6) (a7 : A7) (a8 : A8) (a9 : A9) (a10 : A10) (a11 : A11) (a12 : A12) (a13 : A13), I a1 a2 a3 a4 a5 a6 a7 a8 a9 a10 a11 a12 a13 → (∀ (b1 : A1) (b2 : A2) (b3 : A3) (b4 : A4) (b5 : A5) (b6 : A6) (b7 : A7) (b8 : A8) (b9 : A9) (b10 : A10) (b11 : A11) (b12 : A12) (b13 : A13), I b1 b2 b3 b4 b5 b6 b7 b8 b9 b10 b11 b12 b13 → μ b1 b2 b3 b4 b5 b6 b7 b8 b9 b10 b11 b12 b13 < μ a1 a2 a3 a4 a5 a6 a7 a8 a9 a10 a11 a12 a13 → W n b1 b2 b3 b4 b5 b6 b7 b8 b9 b10 b11 b12 b13) → W (n + 1) a1 a2 a3 a4 a5 a6 a7 a8 a9 a10 a11 a12 a13) (a1 : A1) (a2 : A2) (a3 : A3) (a4 : A4) (a5 : A5) (a6 : A6) (a7 : A7) (a8 : A8) (a9 : A9) (a10 : A10) (a11 : A11) (a12 : A12) (a13 : A13) (h : I a1 a2 a3 a4 a5 a6 a7 a8 a9 a10 a11 a12 a13) : ∃ n, W n a1 a2 a3 a4 a5 a6 a7 a8 a9 a10 a11 a12 a13 :=
  loop_m (σ := A1 × A2 × A3 × A4 × A5 × A6 × A7 × A8 × A9 × A10 × A11 × A12 × A13) (fun n s => W n s.1 s.2.1 s.2.2.1 s.2.2.2.1 s.2.2.2.2.1 s.2.2.2.2.2.1 s.2.2.2.2.2.2.1 s.2.2.2.2.2.2.2.1 s.2.2.2.2.2.2.2.2.1 s.2.2.2.2.2.2.2.2.2.1 s.2.2.2.2.2.2.2.2.2.2.1 s.2.2.2.2.2.2.2.2.2.2.2.1 s.2.2.2.2.2.2.2.2.2.2.2.2) (fun s => I s.1 s.2.1 s.2.2.1 s.2.2.2.1 s.2.2.2.2.1 s.2.2.2.2.2.1 s.2.2.2.2.2.2.1 s.2.2.2.2.2.2.2.1 s.2.2.2.2.2.2.2.2.1 s.2.2.2.2.2.2.2.2.2.1 s.2.2.2.2.2.2.2.2.2.2.1 s.2.2.2.2.2.2.2.2.2.2.2.1 s.2.2.2.2.2.2.2.2.2.2.2.2) (fun s => μ s.1 s.2.1 s.2.2.1 s.2.2.2.1 s.2.2.2.2.1 s.2.2.2.2.2.1 s.2.2.2.2.2.2.1 s.2.2.2.2.2.2.2.1 s.2.2.2.2.2.2.2.2.1 s.2.2.2.2.2.2.2.2.2.1 s.2.2.2.2.2.2.2.2.2.2.1 s.2.2.2.2.2.2.2.2.2.2.2.1 s.2.2.2.2.2.2.2.2.2.2.2.2) (fun n s hI hk => hs n s.1 s.2.1 s.2.2.1 s.2.2.2.1 s.2.2.2.2.1 s.2.2.2.2.2.1 s.2.2.2.2.2.2.1 s.2.2.2.2.2.2.2.1 s.2.2.2.2.2.2.2.2.1 s.2.2.2.2.2.2.2.2.2.1 s.2.2.2.2.2.2.2.2.2.2.1 s.2.2.2.2.2.2.2.2.2.2.2.1 s.2.2.2.2.2.2.2.2.2.2.2.2 hI (fun b1 b2 b3 b4 b5 b6 b7 b8 b9 b10 b11 b12 b13 h9 hm => hk (b1, b2, b3, b4, b5, b6, b7, b8, b9, b10, b11, b12, b13) h9 hm)) (a1, a2, a3, a4, a5, a6, a7, a8, a9, a10, a11, a12, a13) h
theorem lp14 {A1 A2 A3 A4 A5 A6 A7 A8 A9 A10 A11 A12 A13 A14 : Type} (W : Nat → A1 → A2 → A3 → A4 → A5 → A6 → A7 → A8 → A9 → A10 → A11 → A12 → A13 → A14 → Prop) (I : A1 → A2 → A3 → A4 → A5 → A6 → A7 → A8 → A9 → A10 → A11 → A12 → A13 → A14 → Prop) (μ : A1 → A2 → A3 → A4 → A5 → A6 → A7 → A8 → A9 → A10 → A11 → A12 → A13 → A14 → Nat) (hs : ∀ (n : Nat) (a1 : A1) (a2 : A2) (a3 : A3) (a4 : A4) (a5 : A5) (a6 : A6) (a7 : A7) (a8 : A8) (a9 : A9) (a10 : A10) (a11 : A11) (a12 : A12) (a13 : A13) (a14 : A14), I a1 a2 a3 a4 a5 a6 a7 a8 a9 a10 a11 a12 a13 a14 → (∀ (b1 : A1) (b2 : A2) (b3 : A3) (b4 : A4) (b5 : A5) (b6 : A6) (b7 : A7) (b8 : A8) (b9 : A9) (b10 : A10) (b11 : A11) (b12 : A12) (b13 : A13) (b14 : A14), I b1 b2 b3 b4 b5 b6 b7 b8 b9 b10 b11 b12 b13 b14 → μ b1 b2 b3 b4 b5 b6 b7 b8 b9 b10 b11 b12 b13 b14 < μ a1 a2 a3 a4 a5 a6 a7 a8 a9 a10 a11 a12 a13 a14 → W n b1 b2 b3 b4 b5 b6 b7 b8 b9 b10 b11 b12 b13 b14) → W (n + 1) a1 a2 a3 a4 a5 a6 a7 a8 a9 a10 a11 a12 a13 a14) (a1 : A1) (a2 : A2) (a3 : A3) (a4 : A4) (a5 : A5) (a6 : A6) (a7 : A7) (a8 : A8) (a9 : A9) (a10 : A10) (a11 : A11) (a12 : A12) (a13 : A13) (a14 : A14) (h : I a1 a2 a3 a4 a5 a6 a7 a8 a9 a10 a11 a12 a13 a14) : ∃ n, W n a1 a2 a3 a4 a5 a6 a7 a8 a9 a10 a11 a12 a13 a14 :=
  loop_m (σ := A1 × A2 × A3 × A4 × A5 × A6 × A7 × A8 × A9 × A10 × A11 × A12 × A13 × A14) (fun n s => W n s.1 s.2.1 s.2.2.1 s.2.2.2.1 s.2.2.2.2.1 s.2.2.2.2.2.1 s.2.2.2.2.2.2.1 s.2.2.2.2.2.2.2.1 s.2.2.2.2.2.2.2.2.1 s.2.2.2.2.2.2.2.2.2.1 s.2.2.2.2.2.2.2.2.2.2.1 s.2.2.2.2.2.2.2.2.2.2.2.1 s.2.2.2.2.2.2.2.2.2.2.2.2.1 s.2.2.2.2.2.2.2.2.2.2.2.2.2) (fun s => I s.1 s.2.1 s.2.2.1 s.2.2.2.1 s.2.2.2.2.1 s.2.2.2.2.2.1 s.2.2.2.2.2.2.1 s.2.2.2.2.2.2.2.1 s.2.2.2.2.2.2.2.2.1 s.2.2.2.2.2.2.2.2.2.1 s.2.2.2.2.2.2.2.2.2.2.1 s.2.2.2.2.2.2.2.2.2.2.2.1 s.2.2.2.2.2.2.2.2.2.2.2.2.1 s.2.2.2.2.2.2.2.2.2.2.2.2.2) (fun s => μ s.1 s.2.1 s.2.2.1 s.2.2.2.1 s.2.2.2.2.1 s.2.2.2.2.2.1 s.2.2.2.2.2.2.1 s.2.2.2.2.2.2.2.1 s.2.2.2.2.2.2.2.2.1 s.2.2.2.2.2.2.2.2.2.1 s.2.2.2.2.2.2.2.2.2.2.1 s.2.2.2.2.2.2.2.2.2.2.2.1 s.2.2.2.2.2.2.2.2.2.2.2.2.1 s.2.2.2.2.2.2.2.2.2.2.2.2.2) (fun n s hI hk => hs n s.1 s.2.1 s.2.2.1 s.2.2.2.1 s.2.2.2.2.1 s.2.2.2.2.2.1 s.2.2.2.2.2.2.1 s.2.2.2.2.2.2.2.1 s.2.2.2.2.2.2.2.2.1 s.2.2.2.2.2.2.2.2.2.1 s.2.2.2.2.2.2.2.2.2.2.1 s.2.2.2.2.2.2.2.2.2.2.2.1 s.2.2.2.2.2.2.2.2.2.2.2.2.1 s.2.2.2.2.2.2.2.2.2.2.2.2.2 hI (fun b1 b2 b3 b4 b5 b6 b7 b8 b9 b10 b11 b12 b13 b14 h9 hm => hk (b1, b2, b3, b4, b5, b6, b7, b8, b9, b10, b11, b12, b13, b14) h9 hm)) (a1, a2, a3, a4, a5, a6, a7, a8, a9, a10, a11, a12, a13, a14) h
theorem lp15 {A1 A2 A3 A4 A5 A6 A7 A8 A9 A10 A11 A12 A13 A14 A15 : Type} (W : Nat → A1 → A2 → A3 → A4 → A5 → A6 → A7 → A8 → A9 → A10 → A11 → A12 → A13 → A14 → A15 → Prop) (I : A1 → A2 → A3 → A4 → A5 → A6 → A7 → A8 → A9 → A10 → A11 → A12 → A13 → A14 → A15 → Prop) (μ : A1 → A2 → A3 → A4 → A5 → A6 → A7 → A8 → A9 → A10 → A11 → A12 → A13 → A14 → A15 → Nat) (hs : ∀ (n : Nat) (a1 : A1) (a2 : A2) (a3 : A3) (a4 : A4) (a5 : A5) (a6 : A6) (a7 : A7) (a8 : A8) (a9 : A9) (a10 : A10) (a11 : A11) (a12 : A12) (a13 : A13) (a14 : A14) (a15 : A15), I a1 a2 a3 a4 a5 a6 a7 a8 a9 a10 a11 a12 a13 a14 a15 → (∀ (b1 : A1) (b2 : A2) (b3 : A3) (b4 : A4) (b5 : A5) (b6 : A6) (b7 : A7) (b8 : A8) (b9 : A9) (b10 : A10) (b11 : A11) (b12 : A12) (b13 : A13) (b14 : A14) (b15 : A15), I b1 b2 b3 b4 b5 b6 b7 b8 b9 b10 b11 b12 b13 b14 b15 → μ b1 b2 b3 b4 b5 b6 b7 b8 b9 b10 b11 b12 b13 b14 b15 < μ a1 a2 a3 a4 a5 a6 a7 a8 a9 a10 a11 a12 a13 a14 a15 → W n b1 b2 b3 b4 b5 b6 b7 b8 b9 b10 b11 b12 b13 b14 b15) → W (n + 1) a1 a2 a3 a4 a5 a6 a7 a8 a9 a10 a11 a12 a13 a14 a15) (a1 : A1) (a2 : A2) (a3 : A3) (a4 : A4) (a5 : A5) (a6 : A6) (a7 : A7) (a8 : A8) (a9 : A9) (a10 : A10) (a11 : A11) (a12 : A12) (a13 : A13) (a14 : A14) (a15 : A15) (h : I a1 a2 a3 a4 a5 a6 a7 a8 a9 a10 a11 a12 a13 a14 a15) : ∃ n, W n a1 a2 a3 a4 a5 a6 a7 a8 a9 a10 a11 a12 a13 a14 a15 :=
  loop_m (σ := A1 × A2 × A3 × A4 × A5 × A6 × A7 × A8 × A9 × A10 × A11 × A12 × A13 × A14 × A15) (fun n s => W n s.1 s.2.1 s.2.2.1 s.2.2.2.1 s.2.2.2.2.1 s.2.2.2.2.2.1 s.2.2.2.2.2.2.1 s.2.2.2.2.2.2.2.1 s.2.2.2.2.2.2.2.2.1 s.2.2.2.2.2.2.2.2.2.1 s.2.2.2.2.2.2.2.2.2.2.1 s.2.2.2.2.2.2.2.2.2.2.2.1 s.2.2.2.2.2.2.2.2.2.2.2.2.1 s.2.2.2.2.2.2.2.2.2.2.2.2.2.1 s.2.2.2.2.2.2.2.2.2.2.2.2.2.2) (fun s => I s.1 s.2.1 s.2.2.1 s.2.2.2.1 s.2.2.2.2.1 s.2.2.2.2.2.1 s.2.2.2.2.2.2.1 s.2.2.2.2.2.2.2.1 s.2.2.2.2.2.2.2.2.1 s.2.2.2.2.2.2.2.2.2.1 s.2.2.2.2.2.2.2.2.2.2.1 s.2.2.2.2.2.2.2.2.2.2.2.1 s.2.2.2.2.2.2.2.2.2.2.2.2.1 s.2.2.2.2.2.2.2.2.2.2.2.2.2.1 s.2.2.2.2.2.2.2.2.2.2.2.2.2.2) (fun s => μ s.1 s.2.1 s.2.2.1 s.2.2.2.1 s.2.2.2.2.1 s.2.2.2.2.2.1 s.2.2.2.2.2.2.1 s.2.2.2.2.2.2.2.1 s.2.2.2.2.2.2.2.2.1 s.2.2.2.2.2.2.2.2.2.1 s.2.2.2.2.2.2.2.2.2.2.1 s.2.2.2.2.2.2.2.2.2.2.2.1 s.2.2.2.2.2.2.2.2.2.2.2.2.1 s.2.2.2.2.2.2.2.2.2.2.2.2.2.1 s.2.2.2.2.2.2.2.2.2.2.2.2.2.2) (fun n s hI hk => hs n s.1 s.2.1 s.2.2.1 s.2.2.2.1 s.2.2.2.2.1 s.2.2.2.2.2.1 s.2.2.2.2.2.2.1 s.2.2.2.2.2.2.2.1 s.2.2.2.2.2.2.2.2.1 s.2.2.2.2.2.2.2.2.2.1 s.2.2.2.2.2.2.2.2.2.2.1 s.2.2.2.2.2.2.2.2.2.2.2.1 s.2.2.2.2.2.2.2.2.2.2.2.2.1 s.2.2.2.2.2.2.2.2.2.2.2.2.2.1 s.2.2.2.2.2.2.2.2.2.2.2.2.2.2 hI (fun b1 b2 b3 b4 b5 b6 b7 b8 b9 b10 b11 b12 b13 b14 b15 h9 hm => hk (b1, b2, b3, b4, b5, b6, b7, b8, b9, b10, b11, b12, b13, b14, b15) h9 hm)) (a1, a2, a3, a4, a5, a6, a7, a8, a9, a10, a11, a12, a13, a14, a15) h
theorem lp16 {A1 A2 A3 A4 A5 A6 A7 A8 A9 A10 A11 A12 A13 A14 A15 A16 : Type} (W : Nat → A1 → A2 → A3 → A4 → A5 → A6 → A7 → A8 → A9 → A10 → A11 → A12 → A13 → A14 → A15 → A16 → Prop) (I : A1 → A2 → A3 → A4 → A5 → A6 → A7 → A8 → A9 → A10 → A11 → A12 → A13 → A14 → A15 → A16 → Prop) (μ : A1 → A2 → A3 → A4 → A5 → A6 → A7 → A8 → A9 → A10 → A11 → A12 → A13 → A14 → A15 → A16 → Nat) (hs : ∀ (n : Nat) (a1 : A1) (a2 : A2) (a3 : A3) (a4 : A4) (a5 : A5) (a6 : A6) (a7 : A7) (a8 : A8) (a9 : A9) (a10 : A10) (a11 : A11) (a12 : A12) (a13 : A13) (a14 : A14) (a15 : A15) (a16 : A16), I a1 a2 a3 a4 a5 a6 a7 a8 a9 a10 a11 a12 a13 a14 a15 a16 → (∀ (b1 : A1) (b2 : A2) (b3 : A3) (b4 : A4) (b5 : A5) (b6 : A6) (b7 : A7) (b8 : A8) (b9 : A9) (b10 : A10) (b11 : A11) (b12 : A12) (b13 : A13) (b14 : A14) (b15 : A15) (b16 : A16), I b1 b2 b3 b4 b5 b6 b7 b8 b9 b10 b11 b12 b13 b14 b15 b16 → μ b1 b2 b3 b4 b5 b6 b7 b8 b9 b10 b11 b12 b13 b14 b15 b16 < μ a1 a2 a3 a4 a5 a6 a7 a8 a9 a10 a11 a12 a13 a14 a15 a16 → W n b1 b2 b3 b4 b5 b6 b7 b8 b9 b10 b11 b12 b13 b14 b15 b16) → W (n + 1) a1 a2 a3 a4 a5 a6 a7 a8 a9 a10 a11 a12 a13 a14 a15 a16) (a1 : A1) (a2 : A2) (a3 : A3) (a4 : A4) (a5 : A5) (a6 : A6) (a7 : A7) (a8 : A8) (a9 : A9) (a10 : A10) (a11 : A11) (a12 : A12) (a13 : A13) (a14 : A14) (a15 : A15) (a16 : A16) (h : I a1 a2 a3 a4 a5 a6 a7 a8 a9 a10 a11 a12 a13 a14 a15 a16) : ∃ n, W n a1 a2 a3 a4 a5 a6 a7 a8 a9 a10 a11 a12 a13 a14 a15 a16 :=
  loop_m (σ := A1 × A2 × A3 × A4 × A5 × A6 × A7 × A8 × A9 × A10 × A11 × A12 × A13 × A14 × A15 × A16) (fun n s => W n s.1 s.2.1 s.2.2.1 s.2.2.2.1 s.2.2.2.2.1 s.2.2.2.2.2.1 s.2.2.2.2.2.2.1 s.2.2.2.2.2.2.2.1 s.2.2.2.2.2.2.2.2.1 s.2.2.2.2.2.2.2.2.2.1 s.2.2.2.2.2.2.2.2.2.2.1 s.2.2.2.2.2.2.2.2.2.2.2.1 s.2.2.2.2.2.2.2.2.2.2.2.2.1 s.2.2.2.2.2.2.2.2.2.2.2.2.2.1 s.2.2.2.2.2.2.2.2.2.2.2.2.2.2.1 s.2.2.2.2.2.2.2.2.2.2.2.2.2.2.2) (fun s => I s.1 s.2.1 s.2.2.1 s.2.2.2.1 s.2.2.2.2.1 s.2.2.2.2.2.1 s.2.2.2.2.2.2.1 s.2.2.2.2.2.2.2.1 s.2.2.2.2.2.2.2.2.1 s.2.2.2.2.2.2.2.2.2.1 s.2.2.2.2.2.2.2.2.2.2.1 s.2.2.2.2.2.2.2.2.2.2.2.1 s.2.2.2.2.2.2.2.2.2.2.2.2.1 s.2.2.2.2.2.2.2.2.2.2.2.2.2.1 s.2.2.2.2.2.2.2.2.2.2.2.2.2.2.1 s.2.2.2.2.2.2.2.2.2.2.2.2.2.2.2) (fun s => μ s.1 s.2.1 s.2.2.1 s.2.2.2.1 s.2.2.2.2.1 s.2.2.2.2.2.1 s.2.2.2.2.2.2.1 s.2.2.2.2.2.2.2.1 s.2.2.2.2.2.2.2.2.1 s.2.2.2.2.2.2.2.2.2.1 s.2.2.2.2.2.2.2.2.2.2.1 s.2.2.2.2.2.2.2.2.2.2.2.1 s.2.2.2.2.2.2.2.2.2.2.2.2.1 s.2.2.2.2.2.2.2.2.2.2.2.2.2.1 s.2.2.2.2.2.2.2.2.2.2.2.2.2.2.1 s.2.2.2.2.2.2.2.2.2.2.2.2.2.2.2) (fun n s hI hk => hs n s.1 s.2.1 s.2.2.1 s.2.2.2.1 s.2.2.2.2.1 s.2.2.2.2.2.1 s.2.2.2.2.2.2.1 s.2.2.2.2.2.2.2.1 s.2.2.2.2.2.2.2.2.1 s.2.2.2.2.2.2.2.2.2.1 s.2.2.2.2.2.2.2.2.2.2.1 s.2.2.2.2.2.2.2.2.2.2.2.1 s.2.2.2.2.2.2.2.2.2.2.2.2.1 s.2.2.2.2.2.2.2.2.2.2.2.2.2.1 s.2.2.2.2.2.2.2.2.2.2.2.2.2.2.1 s.2.2.2.2.2.2.2.2.2.2.2.2.2.2.2 hI (fun b1 b2 b3 b4 b5 b6 b7 b8 b9 b10 b11 b12 b13 b14 b15 b16 h9 hm => hk (b1, b2, b3, b4, b5, b6, b7, b8, b9, b10, b11, b12, b13, b14, b15, b16) h9 hm)) (a1, a2, a3, a4, a5, a6, a7, a8, a9, a10, a11, a12, a13, a14, a15, a16) h
theorem pk_least (P : Nat → Prop) (h : ∃ k, P k) : ∃ k, P k ∧ ∀ j, j < k → ¬ P j := by
  obtain ⟨k, hk⟩ := h
  induction k using Nat.strongRecOn with
  | ind k ih =>
    by_cases e : ∃ j, j < k ∧ P j
    · obtain ⟨j, hj, pj⟩ := e
      exact ih j hj pj
    · exact ⟨k, hk, fun j hj pj => e ⟨j, hj, pj⟩⟩
theorem rp1 {ρ A1 : Type} (W : Nat → (ρ → Prop) → A1 → Prop) (ok : A1 → Prop) (μ : A1 → Nat) (val : A1 → ρ)
    (hs : ∀ (d : Nat) (post : ρ → Prop) (a1 : A1), ok a1 → post (val a1) → (∀ (post' : ρ → Prop) (b1 : A1), ok b1 → μ b1 < μ a1 → post' (val b1) → W d post' b1) → W (d + 1) post a1) :
    ∀ (d : Nat) (post : ρ → Prop) (a1 : A1), ok a1 → μ a1 < d → post (val a1) → W d post a1 := by
  intro d
  induction d with
  | zero => intro post a1 _ h; omega
  | succ d ih =>
    intro post a1 ho hm hp
    exact hs d post a1 ho hp (fun post' b1 ho' hm' hp' => ih post' b1 ho' (by omega) hp')
theorem rp2 {ρ A1 A2 : Type} (W : Nat → (ρ → Prop) → A1 → A2 → Prop) (ok : A1 → A2 → Prop) (μ : A1 → A2 → Nat) (val : A1 → A2 → ρ)
    (hs : ∀ (d : Nat) (post : ρ → Prop) (a1 : A1) (a2 : A2), ok a1 a2 → post (val a1 a2) → (∀ (post' : ρ → Prop) (b1 : A1) (b2 : A2), ok b1 b2 → μ b1 b2 < μ a1 a2 → post' (val b1 b2) → W d post' b1 b2) → W (d + 1) post a1 a2) :
    ∀ (d : Nat) (post : ρ → Prop) (a1 : A1) (a2 : A2), ok a1 a2 → μ a1 a2 < d → post (val a1 a2) → W d post a1 a2 := by
  intro d
  induction d with
  | zero => intro post a1 a2 _ h; omega
  | succ d ih =>
    intro post a1 a2 ho hm hp
    exact hs d post a1 a2 ho hp (fun post' b1 b2 ho' hm' hp' => ih post' b1 b2 ho' (by omega) hp')
theorem rp3 {ρ A1 A2 A3 : Type} (W : Nat → (ρ → Prop) → A1 → A2 → A3 → Prop) (ok : A1 → A2 → A3 → Prop) (μ : A1 → A2 → A3 → Nat) (val : A1 → A2 → A3 → ρ)
    (hs : ∀ (d : Nat) (post : ρ → Prop) (a1 : A1) (a2 : A2) (a3 : A3), ok a1 a2 a3 → post (val a1 a2 a3) → (∀ (post' : ρ → Prop) (b1 : A1) (b2 : A2) (b3 : A3), ok b1 b2 b3 → μ b1 b2 b3 < μ a1 a2 a3 → post' (val b1 b2 b3) → W d post' b1 b2 b3) → W (d + 1) post a1 a2 a3) :
    ∀ (d : Nat) (post : ρ → Prop) (a1 : A1) (a2 : A2) (a3 : A3), ok a1 a2 a3 → μ a1 a2 a3 < d → post (val a1 a2 a3) → W d post a1 a2 a3 := by
  intro d
  induction d with
  | zero => intro post a1 a2 a3 _ h; omega
  | succ d ih =>
    intro post a1 a2 a3 ho hm hp
    exact hs d post a1 a2 a3 ho hp (fun post' b1 b2 b3 ho' hm' hp' => ih post' b1 b2 b3 ho' (by omega) hp')
theorem rp4 {ρ A1 A2 A3 A4 : Type} (W : Nat → (ρ → Prop) → A1 → A2 → A3 → A4 → Prop) (ok : A1 → A2 → A3 → A4 → Prop) (μ : A1 → A2 → A3 → A4 → Nat) (val : A1 → A2 → A3 → A4 → ρ)
    (hs : ∀ (d : Nat) (post : ρ → Prop) (a1 : A1) (a2 : A2) (a3 : A3) (a4 : A4), ok a1 a2 a3 a4 → post (val a1 a2 a3 a4) → (∀ (post' : ρ → Prop) (b1 : A1) (b2 : A2) (b3 : A3) (b4 : A4), ok b1 b2 b3 b4 → μ b1 b2 b3 b4 < μ a1 a2 a3 a4 → post' (val b1 b2 b3 b4) → W d post' b1 b2 b3 b4) → W (d + 1) post a1 a2 a3 a4) :
    ∀ (d : Nat) (post : ρ → Prop) (a1 : A1) (a2 : A2) (a3 : A3) (a4 : A4), ok a1 a2 a3 a4 → μ a1 a2 a3 a4 < d → post (val a1 a2 a3 a4) → W d post a1 a2 a3 a4 := by
  intro d
  induction d with
  | zero => intro post a1 a2 a3 a4 _ h; omega
  | succ d ih =>
    intro post a1 a2 a3 a4 ho hm hp
    exact hs d post a1 a2 a3 a4 ho hp (fun post' b1 b2 b3 b4 ho' hm' hp' => ih post' b1 b2 b3 b4 ho' (by omega) hp')
theorem rp5 {ρ A1 A2 A3 A4 A5 : Type} (W : Nat → (ρ → Prop) → A1 → A2 → A3 → A4 → A5 → Prop) (ok : A1 → A2 → A3 → A4 → A5 → Prop) (μ : A1 → A2 → A3 → A4 → A5 → Nat) (val : A1 → A2 → A3 → A4 → A5 → ρ)
    (hs : ∀ (d : Nat) (post : ρ → Prop) (a1 : A1) (a2 : A2) (a3 : A3) (a4 : A4) (a5 : A5), ok a1 a2 a3 a4 a5 → post (val a1 a2 a3 a4 a5) → (∀ (post' : ρ → Prop) (b1 : A1) (b2 : A2) (b3 : A3) (b4 : A4) (b5 : A5), ok b1 b2 b3 b4 b5 → μ b1 b2 b3 b4 b5 < μ a1 a2 a3 a4 a5 → post' (val b1 b2 b3 b4 b5) → W d post' b1 b2 b3 b4 b5) → W (d + 1) post a1 a2 a3 a4 a5) :
    ∀ (d : Nat) (post : ρ → Prop) (a1 : A1) (a2 : A2) (a3 : A3) (a4 : A4) (a5 : A5), ok a1 a2 a3 a4 a5 → μ a1 a2 a3 a4 a5 < d → post (val a1 a2 a3 a4 a5) → W d post a1 a2 a3 a4 a5 := by
  intro d
  induction d with
  | zero => intro post a1 a2 a3 a4 a5 _ h; omega
  | succ d ih =>
    intro post a1 a2 a3 a4 a5 ho hm hp
    exact hs d post a1 a2 a3 a4 a5 ho hp (fun post' b1 b2 b3 b4 b5 ho' hm' hp' => ih post' b1 b2 b3 b4 b5 ho' (by omega) hp')
theorem rp6 {ρ A1 A2 A3 A4 A5 A6 : Type} (W : Nat → (ρ → Prop) → A1 → A2 → A3 → A4 → A5 → A6 → Prop) (ok : A1 → A2 → A3 → A4 → A5 → A6 → Prop) (μ : A1 → A2 → A3 → A4 → A5 → A6 → Nat) (val : A1 → A2 → A3 → A4 → A5 → A6 → ρ)
    (hs : ∀ (d : Nat) (post : ρ → Prop) (a1 : A1) (a2 : A2) (a3 : A3) (a4 : A4) (a5 : A5) (a6 : A6), ok a1 a2 a3 a4 a5 a6 → post (val a1 a2 a3 a4 a5 a6) → (∀ (post' : ρ → Prop) (b1 : A1) (b2 : A2) (b3 : A3) (b4 : A4) (b5 : A5) (b6 : A6), ok b1 b2 b3 b4 b5 b6 → μ b1 b2 b3 b4 b5 b6 < μ a1 a2 a3 a4 a5 a6 → post' (val b1 b2 b3 b4 b5 b6) → W d post' b1 b2 b3 b4 b5 b6) → W (d + 1) post a1 a2 a3 a4 a5 a6) :
    ∀ (d : Nat) (post : ρ → Prop) (a1 : A1) (a2 : A2) (a3 : A3) (a4 : A4) (a5 : A5) (a6 : A6), ok a1 a2 a3 a4 a5 a6 → μ a1 a2 a3 a4 a5 a6 < d → post (val a1 a2 a3 a4 a5 a6) → W d post a1 a2 a3 a4 a5 a6 := by
  intro d
  induction d with
  | zero => intro post a1 a2 a3 a4 a5 a6 _ h; omega
  | succ d ih =>
    intro post a1 a2 a3 a4 a5 a6 ho hm hp
    exact hs d post a1 a2 a3 a4 a5 a6 ho hp (fun post' b1 b2 b3 b4 b5 b6 ho' hm' hp' => ih post' b1 b2 b3 b4 b5 b6 ho' (by omega) hp')
theorem rec_p {σ ρ : Type} (W : Nat → (ρ → Prop) → σ → Prop) (ok : σ → Prop) (μ : σ → Nat) (val : σ → ρ)
    (hs : ∀ d s post, ok s → post (val s) → (∀ s' post', ok s' → μ s' < μ s → post' (val s') → W d post' s') → W (d + 1) post s) :
    ∀ d s post, ok s → μ s < d → post (val s) → W d post s := by
  intro d
  induction d with
  | zero => intro s post _ h; omega
  | succ d ih =>
    intro s post ho hm hp
    exact hs d s post ho hp (fun s' post' ho' hm' hp' => ih s' post' ho' (by omega) hp')
theorem rec_q {σ ρ : Type} (W : Nat → (ρ → Prop) → σ → Prop) (ok : σ → Prop) (μ : σ → Nat) (Q : σ → ρ → Prop)
    (hs : ∀ d s post, ok s → (∀ r, Q s r → post r) → (∀ s' post', ok s' → μ s' < μ s → (∀ r, Q s' r → post' r) → W d post' s') → W (d + 1) post s) :
    ∀ d s post, ok s → μ s < d → (∀ r, Q s r → post r) → W d post s := by
  intro d
  induction d with
  | zero => intro s post _ h; omega
  | succ d ih =>
    intro s post ho hm hp
    exact hs d s post ho hp (fun s' post' ho' hm' hp' => ih s' post' ho' (by omega) hp')
def bx_sum (f : Nat → Int32) : Nat → Int32
  | 0 => 0
  | n + 1 => bx_sum f n + f n
theorem ek_u {A : Prop} {B : Nat → Prop} {k N : Nat} (hk : k < N) (h : B k) : (some k = none → A) ∧ (∀ y : Nat, some k = some y → (y < N ∧ B y)) :=
  ⟨fun z => absurd z (Option.some_ne_none k), fun _ e => (by cases e; exact ⟨hk, h⟩)⟩
theorem ek_nu {A : Prop} {B : Nat → Prop} (h : A) : ((none : Option Nat) = none → A) ∧ (∀ y : Nat, (none : Option Nat) = some y → B y) :=
  ⟨fun _ => h, fun _ e => (by cases e)⟩
theorem ek_if {c d A B : Prop} (e : c ↔ d) (f : d → A) (g : ¬ d → B) : (c → A) ∧ (¬ c → B) :=
  ⟨fun z => f (e.mp z), fun z => g (fun y => z (e.mpr y))⟩
theorem ek_v {α : Sort _} {P : α → Prop} {a b : α} (e : a = b) (h : P b) : P a := e ▸ h
theorem co_some {x : Option Nat} {A : Prop} {B : Nat → Prop} (i : Nat) (h : B i) (hx : x = some i := by rfl) : (x = none → A) ∧ (∀ y : Nat, x = some y → B y) := by
  subst hx
  exact ⟨fun e => (nomatch e), fun y e => Option.some.inj e ▸ h⟩
theorem co_none {x : Option Nat} {A : Prop} {B : Nat → Prop} (h : A) (hx : x = none := by rfl) : (x = none → A) ∧ (∀ y : Nat, x = some y → B y) := by
  subst hx
  exact ⟨fun _ => h, fun y e => (nomatch e)⟩
theorem co_any {x : Option Nat} {A : Prop} {B : Nat → Prop} (hn : x = none → A) (hs : ∀ i : Nat, x = some i → B i) : (x = none → A) ∧ (∀ y : Nat, x = some y → B y) := ⟨hn, hs⟩
theorem co_2 {P : Nat → Prop} (h0 : P 0) (h1 : P 1) {i : Nat} (hi : i < 2) : P i :=
  match i, hi with
  | 0, _ => h0
  | 1, _ => h1
theorem co_3 {P : Nat → Prop} (h0 : P 0) (h1 : P 1) (h2 : P 2) {i : Nat} (hi : i < 3) : P i :=
  match i, hi with
  | 0, _ => h0
  | 1, _ => h1
  | 2, _ => h2
theorem co_4 {P : Nat → Prop} (h0 : P 0) (h1 : P 1) (h2 : P 2) (h3 : P 3) {i : Nat} (hi : i < 4) : P i :=
  match i, hi with
  | 0, _ => h0
  | 1, _ => h1
  | 2, _ => h2
  | 3, _ => h3
theorem co_dec {N : Nat} {P : Nat → Prop} [DecidablePred P] (h : (List.range N).all (fun i => decide (P i)) = true) {i : Nat} (hi : i < N) : P i := by
  have := List.all_eq_true.mp h i (List.mem_range.mpr hi)
  exact of_decide_eq_true this
theorem co_tab {α : Type} {l : List α} {d : α} {P : α → Prop} (h : ∀ a, a ∈ l → P a) {i : Nat} (hi : i < l.length) : P (l.getD i d) := by
  rw [List.getD_eq_getElem?_getD, List.getElem?_eq_getElem hi]
  exact h _ (List.getElem_mem hi)
theorem pk_mu {x : Int32} {L : Nat} (h0 : ¬ x < 0) (h : ¬ nI L ≤ x) (hL : L < 2 ^ 31) : ∃ j : Nat, j < L ∧ x = nI j ∧ x + 1 = nI (j + 1) ∧ x.toNatClampNeg = j ∧ L - (x + 1).toNatClampNeg < L - x.toNatClampNeg := by
  obtain ⟨j, hj, rfl⟩ := nI_of h0
  have hl : j < L := Nat.not_le.mp fun q => h (nI_le q hj)
  refine ⟨j, hl, rfl, nI_1 j, nI_clamp hj, ?_⟩
  rw [nI_1, nI_clamp (by omega), nI_clamp hj]
  omega
theorem op_s {α : Type} {r : Option α} {A : Prop} {B : α → Prop} {y : α} (h : r = some y) (b : B y) : (r = none → A) ∧ ∀ z, r = some z → B z :=
  ⟨fun e => (by rw [h] at e; cases e), fun z e => (by rw [h] at e; cases e; exact b)⟩
def l_holds {α : Type} (a : Nat → Option Nat) (LP : List Nat) (p : Nat → α) (c : Nat) (b : Nat → α) : Prop :=
  ∀ j, j < c → ∃ y, a j = some y ∧ y ∈ LP ∧ p y = b j
theorem l_holds_0 {α : Type} {a : Nat → Option Nat} {LP : List Nat} {p b : Nat → α} : l_holds a LP p 0 b := fun j h => absurd h (Nat.not_lt_zero j)
theorem l_in_new (LP : List Nat) (q : Nat) : q ∈ LP ++ [q] := List.mem_append.mpr (Or.inr (List.mem_singleton.mpr rfl))
def l_sum (b : Nat → Int32) : Nat → Int32
  | 0 => 0
  | k + 1 => l_sum b k + b k
theorem sb_shr0 (x : Int32) : x >>> ((0 : Int32) &&& 31) = x := by
  rw [show ((0 : Int32) &&& 31) = 0 by decide]
  simp
theorem sb_shl0 (x : Int32) : x <<< ((0 : Int32) &&& 31) = x := by
  rw [show ((0 : Int32) &&& 31) = 0 by decide]
  simp
theorem sb_cl0 : (0 : Int32).toNatClampNeg = 0 := by decide
theorem sb_m1 {p : Nat} (h : 0 < p) : nI p + (-1) = nI (p - 1) := by
  obtain ⟨q, rfl⟩ : ∃ q, p = q + 1 := ⟨p - 1, by omega⟩
  exact pk_m1 q
def sb_b (c : Nat) : Int32 := (nI c).toInt8.toInt32
theorem sb_byte : ∀ c, c < 256 → sb_b c &&& 255 = nI c ∧ ((nI c).toUInt32 % 65536).toInt32 = nI c ∧ nI c ≤ 255 := by decide +kernel
def sb_Fit (a : Nat → Int32) : Prop := ∀ j, fits .byte (.int (a j)) = true
def sb_Lat (t : Nat → Nat) (n : Nat) (a : Nat → Int32) : Prop := ∀ j, j < n → t j < 256 ∧ a j = sb_b (t j)
theorem sb_fitB (c : Nat) : fits .byte (.int (sb_b c)) = true := pk_fb _
theorem sb_fit0 : sb_Fit (fun _ => 0) := fun _ => by
  show fits .byte (.int 0) = true
  decide
theorem sb_fitU {a : Nat → Int32} {k : Nat} {x : Int32} (h : sb_Fit a) (hx : fits .byte (.int x) = true) : sb_Fit (upd a k x) := by
  intro j
  by_cases e : j = k
  · subst e
    rw [pk_us]
    exact hx
  · rw [pk_un e]
    exact h j
def sb_cat (t : Nat → Nat) (n : Nat) (s : Nat → Nat) : Nat → Nat := fun j => if j < n then t j else s (j - n)
theorem sb_cat_lo {t s : Nat → Nat} {n j : Nat} (h : j < n) : sb_cat t n s j = t j := if_pos h
theorem sb_cat_hi {t s : Nat → Nat} {n j : Nat} : sb_cat t n s (n + j) = s j := by
  show (if n + j < n then t (n + j) else s (n + j - n)) = s j
  rw [if_neg (by omega), Nat.add_sub_cancel_left]
theorem sb_latPut {t s : Nat → Nat} {n w : Nat} {a a' : Nat → Int32} (h : sb_Lat t n a) (hk : ∀ j, j < n → a' j = a j) (hs : ∀ i, i < w → s i < 256 ∧ a' (n + i) = sb_b (s i)) : sb_Lat (sb_cat t n s) (n + w) a' := by
  intro j hj
  by_cases e : j < n
  · rw [sb_cat_lo e, hk j e]
    exact h j e
  · obtain ⟨i, rfl⟩ : ∃ i, j = n + i := ⟨j - n, by omega⟩
    rw [sb_cat_hi]
    exact hs i (by omega)
theorem sb_latKeep {t : Nat → Nat} {n : Nat} {a a' : Nat → Int32} (h : sb_Lat t n a) (hk : ∀ j, j < n → a' j = a j) : sb_Lat t n a' := fun j hj => by
  rw [hk j hj]
  exact h j hj
def sb_cap (q m : Nat) : Nat := if q ≤ m then m else if 2 * m + 2 < q then q else 2 * m + 2
def sb_Room (q m mc ms : Nat) : Prop := q ≤ m ∨ (1 ≤ mc ∧ sb_cap q m ≤ ms ∧ sb_cap q m ≤ 65536)
theorem sb_cap_ge (q m : Nat) : q ≤ sb_cap q m := by
  unfold sb_cap
  split
  · omega
  · split <;> omega
theorem sb_cap_gem (q m : Nat) : m ≤ sb_cap q m := by
  unfold sb_cap
  split
  · omega
  · split <;> omega
theorem sb_cap_le {q m mc ms : Nat} (hm : m ≤ 65536) (hr : sb_Room q m mc ms) : sb_cap q m ≤ 65536 := by
  rcases hr with h | h
  · rw [sb_cap, if_pos h]
    exact hm
  · exact h.2.2
theorem sb_at {P : Int32 → Prop} {x y : Int32} (e : x = y) (h : P y) : P x := e ▸ h
def sb_dg (w : Nat) : Nat := if w < 10 then 1 else if w < 100 then 2 else if w < 1000 then 3 else if w < 10000 then 4 else if w < 100000 then 5 else if w < 1000000 then 6 else if w < 10000000 then 7 else if w < 100000000 then 8 else if w < 1000000000 then 9 else 10
def sb_dec (v : Nat) : Nat → Nat := fun i => 48 + v / 10 ^ (sb_dg v - 1 - i) % 10
theorem sb_dg_in (w : Nat) : 1 ≤ sb_dg w ∧ sb_dg w ≤ 10 := by
  unfold sb_dg
  constructor <;> (repeat' split) <;> omega
theorem sb_dg100 {w : Nat} (h : 100 ≤ w) (hw : w < 2 ^ 31) : sb_dg w = sb_dg (w / 100) + 2 := by
  rw [sb_dg, sb_dg, if_neg (show ¬ w < 10 by omega), if_neg (show ¬ w < 100 by omega)]
  by_cases h3 : w < 1000
  · rw [if_pos h3, if_pos (show w / 100 < 10 by omega)]
  rw [if_neg h3, if_neg (show ¬ w / 100 < 10 by omega)]
  by_cases h4 : w < 10000
  · rw [if_pos h4, if_pos (show w / 100 < 100 by omega)]
  rw [if_neg h4, if_neg (show ¬ w / 100 < 100 by omega)]
  by_cases h5 : w < 100000
  · rw [if_pos h5, if_pos (show w / 100 < 1000 by omega)]
  rw [if_neg h5, if_neg (show ¬ w / 100 < 1000 by omega)]
  by_cases h6 : w < 1000000
  · rw [if_pos h6, if_pos (show w / 100 < 10000 by omega)]
  rw [if_neg h6, if_neg (show ¬ w / 100 < 10000 by omega)]
  by_cases h7 : w < 10000000
  · rw [if_pos h7, if_pos (show w / 100 < 100000 by omega)]
  rw [if_neg h7, if_neg (show ¬ w / 100 < 100000 by omega)]
  by_cases h8 : w < 100000000
  · rw [if_pos h8, if_pos (show w / 100 < 1000000 by omega)]
  rw [if_neg h8, if_neg (show ¬ w / 100 < 1000000 by omega)]
  by_cases h9 : w < 1000000000
  · rw [if_pos h9, if_pos (show w / 100 < 10000000 by omega)]
  rw [if_neg h9, if_neg (show ¬ w / 100 < 10000000 by omega)]
  rw [if_pos (show w / 100 < 100000000 by omega)]
theorem sb_negT {w : Nat} (h : w < 2 ^ 31) : (-nI w).toInt = -(w : Int) := by
  rw [Int32.toInt_neg, nI_toInt h]
  exact Int.bmod_eq_of_le (by omega) (by omega)
theorem sb_nle {a b : Nat} (ha : a < 2 ^ 31) (hb : b < 2 ^ 31) : -nI a ≤ -nI b ↔ b ≤ a := by
  rw [Int32.le_iff_toInt_le, sb_negT ha, sb_negT hb]
  omega
theorem sb_nlt {a b : Nat} (ha : a < 2 ^ 31) (hb : b < 2 ^ 31) : -nI a < -nI b ↔ b < a := by
  rw [Int32.lt_iff_toInt_lt, sb_negT ha, sb_negT hb]
  omega
theorem sb_cmp {A B : Prop} {x : Int32} (v c : Nat) (f : c ≤ v → A) (g : v < c → B) (hv : v < 2 ^ 31) (hx : x = -nI c := by rfl) (hc : c < 2 ^ 31 := by omega) : (-nI v ≤ x → A) ∧ (¬ -nI v ≤ x → B) := by
  subst hx
  rw [sb_nle hv hc]
  exact ⟨f, fun z => g (by omega)⟩
theorem sb_ndiv {w : Nat} (hw : w < 2 ^ 31) : (-nI w) / 100 = -nI (w / 100) := by
  apply Int32.toInt_inj.mp
  have h100 : (100 : Int32).toInt = 100 := by decide
  rw [Int32.toInt_div, sb_negT hw, h100, sb_negT (by omega), Int.neg_tdiv, Int.tdiv_eq_ediv_of_nonneg (by omega), Int.bmod_eq_of_le (by omega) (by omega)]
  omega
theorem sb_nrem {w : Nat} (hw : w < 2 ^ 31) : (-nI (w / 100)) * 100 - (-nI w) = nI (w % 100) := by
  have h := pk_rem (a := w) (d := 100) hw (by decide) (by decide)
  rw [pk_div hw (by decide) (by decide)] at h
  rw [← h]
  show (-nI (w / 100)) * nI 100 - (-nI w) = nI w - nI (w / 100) * nI 100
  rw [Int32.neg_mul, Int32.sub_neg, Int32.add_comm, ← Int32.sub_eq_add_neg]
end
section
/-! the plain law, part one: programs, one statement, a fold, fresh scalars -/
/-- the lesser of two -/
def wl_mn (a b : Int32) : Int32 := if a ≤ b then a else b
def wl_pl (a b : Int32) : Int32 := a + b
theorem wl_mn_c (a b : Int32) : (a.toInt ≤ b.toInt ∧ wl_mn a b = a) ∨ (b.toInt < a.toInt ∧ wl_mn a b = b) := by
  unfold wl_mn
  by_cases h : a ≤ b
  · rw [if_pos h]; exact Or.inl ⟨Int32.le_iff_toInt_le.mp h, rfl⟩
  · rw [if_neg h]
    refine Or.inr ⟨?_, rfl⟩
    rw [Int32.le_iff_toInt_le] at h
    omega
theorem wl_mn_t (a b : Int32) : (wl_mn a b).toInt = min a.toInt b.toInt := by
  rcases wl_mn_c a b with ⟨h, e⟩ | ⟨h, e⟩ <;> rw [e] <;> omega
theorem wl_mn_as (a b c : Int32) : wl_mn (wl_mn a b) c = wl_mn a (wl_mn b c) := by
  apply Int32.toInt_inj.mp
  simp only [wl_mn_t]
  omega
theorem wl_mn_e (a : Int32) : wl_mn a 2147483647 = a := by
  apply Int32.toInt_inj.mp
  have h := a.toInt_lt
  have k : (2147483647 : Int32).toInt = 2147483647 := by decide
  rw [wl_mn_t, k]
  omega
theorem wl_mn_i (s a b : Int32) : wl_mn (wl_mn s a) (wl_mn s b) = wl_mn s (wl_mn a b) := by
  apply Int32.toInt_inj.mp
  simp only [wl_mn_t]
  omega
theorem wl_pl_as (a b c : Int32) : wl_pl (wl_pl a b) c = wl_pl a (wl_pl b c) := Int32.add_assoc a b c
theorem wl_pl_e (a : Int32) : wl_pl a 0 = a := Int32.add_zero a
def wl_row (g : Int32 → Int32 → Int32) (e : Int32) (f : Nat → Int32) : Nat → Int32
  | 0 => e
  | n + 1 => g (wl_row g e f n) (f n)
theorem wl_row_add {g : Int32 → Int32 → Int32} {e : Int32} (ga : ∀ a b c, g (g a b) c = g a (g b c)) (ge : ∀ a, g a e = a) (f : Nat → Int32) (m : Nat) : ∀ n, wl_row g e f (m + n) = g (wl_row g e f m) (wl_row g e (fun j => f (m + j)) n)
  | 0 => (ge _).symm
  | n + 1 => by
    show g (wl_row g e f (m + n)) (f (m + n)) = g (wl_row g e f m) (g (wl_row g e (fun j => f (m + j)) n) (f (m + n)))
    rw [wl_row_add ga ge f m n, ga]
theorem wl_row_cg {g : Int32 → Int32 → Int32} {e : Int32} {f f' : Nat → Int32} : ∀ n, (∀ j, j < n → f j = f' j) → wl_row g e f n = wl_row g e f' n
  | 0, _ => rfl
  | n + 1, h => by
    show g (wl_row g e f n) (f n) = g (wl_row g e f' n) (f' n)
    rw [wl_row_cg n (fun j z => h j (by omega)), h n (by omega)]
/-- a program: opcodes, targets, operands, values, cells by iteration -/
abbrev wl_P : Type := (Nat → Nat) × (Nat → Nat) × (Nat → Nat) × (Nat → Int32) × (Nat → Nat → Nat)
abbrev wl_St : Type := (Nat → Int32) × (Nat → Int32)
def wl_o (P : wl_P) : Nat → Nat := P.1
def wl_x (P : wl_P) : Nat → Nat := P.2.1
def wl_r (P : wl_P) : Nat → Nat := P.2.2.1
def wl_v (P : wl_P) : Nat → Int32 := P.2.2.2.1
def wl_k (P : wl_P) : Nat → Nat → Nat := P.2.2.2.2
def wl_ex (P : wl_P) (p i : Nat) (t : wl_St) : wl_St :=
  if wl_o P p = 0 then (upd t.1 (wl_x P p) (wl_v P p), t.2)
  else if wl_o P p = 1 then (upd t.1 (wl_x P p) (t.2 (wl_k P p i)), t.2)
  else if wl_o P p = 2 then (t.1, upd t.2 (wl_k P p i) (t.1 (wl_x P p)))
  else if wl_o P p = 3 then (upd t.1 (wl_x P p) (t.1 (wl_x P p) + t.1 (wl_r P p)), t.2)
  else if wl_o P p = 4 then (upd t.1 (wl_x P p) (wl_mn (t.1 (wl_x P p)) (t.1 (wl_r P p))), t.2)
  else (upd t.1 (wl_x P p) (t.1 (wl_x P p) + nI i), t.2)
/-- p statements of iteration i -/
def wl_rp (P : wl_P) (i : Nat) (t : wl_St) : Nat → wl_St
  | 0 => t
  | p + 1 => wl_ex P p i (wl_rp P i t p)
/-- whole iterations -/
def wl_ri (P : wl_P) (S : Nat) (t : wl_St) : Nat → wl_St
  | 0 => t
  | i + 1 => wl_rp P i (wl_ri P S t i) S
theorem wl_cs (n : Nat) : n = 0 ∨ n = 1 ∨ n = 2 ∨ n = 3 ∨ n = 4 ∨ 5 ≤ n := by omega
section
variable {P : wl_P} {p i : Nat} {t : wl_St}
theorem wl_ex0 (h : wl_o P p = 0) : wl_ex P p i t = (upd t.1 (wl_x P p) (wl_v P p), t.2) := if_pos h
theorem wl_ex1 (h : wl_o P p = 1) : wl_ex P p i t = (upd t.1 (wl_x P p) (t.2 (wl_k P p i)), t.2) := by
  unfold wl_ex
  rw [if_neg (show ¬ wl_o P p = 0 by omega), if_pos h]
theorem wl_ex2 (h : wl_o P p = 2) : wl_ex P p i t = (t.1, upd t.2 (wl_k P p i) (t.1 (wl_x P p))) := by
  unfold wl_ex
  rw [if_neg (show ¬ wl_o P p = 0 by omega), if_neg (show ¬ wl_o P p = 1 by omega), if_pos h]
theorem wl_ex3 (h : wl_o P p = 3) : wl_ex P p i t = (upd t.1 (wl_x P p) (t.1 (wl_x P p) + t.1 (wl_r P p)), t.2) := by
  unfold wl_ex
  rw [if_neg (show ¬ wl_o P p = 0 by omega), if_neg (show ¬ wl_o P p = 1 by omega), if_neg (show ¬ wl_o P p = 2 by omega), if_pos h]
theorem wl_ex4 (h : wl_o P p = 4) : wl_ex P p i t = (upd t.1 (wl_x P p) (wl_mn (t.1 (wl_x P p)) (t.1 (wl_r P p))), t.2) := by
  unfold wl_ex
  rw [if_neg (show ¬ wl_o P p = 0 by omega), if_neg (show ¬ wl_o P p = 1 by omega), if_neg (show ¬ wl_o P p = 2 by omega), if_neg (show ¬ wl_o P p = 3 by omega), if_pos h]
theorem wl_ex5 (h : 5 ≤ wl_o P p) : wl_ex P p i t = (upd t.1 (wl_x P p) (t.1 (wl_x P p) + nI i), t.2) := by
  unfold wl_ex
  rw [if_neg (show ¬ wl_o P p = 0 by omega), if_neg (show ¬ wl_o P p = 1 by omega), if_neg (show ¬ wl_o P p = 2 by omega), if_neg (show ¬ wl_o P p = 3 by omega), if_neg (show ¬ wl_o P p = 4 by omega)]
theorem wl_ex_ne {y : Nat} (h : y ≠ wl_x P p ∨ wl_o P p = 2) : (wl_ex P p i t).1 y = t.1 y := by
  rcases wl_cs (wl_o P p) with e | e | e | e | e | e
  · rw [wl_ex0 e]; exact pk_un (h.resolve_right (show ¬ wl_o P p = 2 by omega))
  · rw [wl_ex1 e]; exact pk_un (h.resolve_right (show ¬ wl_o P p = 2 by omega))
  · exact congrFun (congrArg Prod.fst (wl_ex2 e)) y
  · rw [wl_ex3 e]; exact pk_un (h.resolve_right (show ¬ wl_o P p = 2 by omega))
  · rw [wl_ex4 e]; exact pk_un (h.resolve_right (show ¬ wl_o P p = 2 by omega))
  · rw [wl_ex5 e]; exact pk_un (h.resolve_right (show ¬ wl_o P p = 2 by omega))
theorem wl_ex_c (h : wl_o P p ≠ 2) : (wl_ex P p i t).2 = t.2 := by
  rcases wl_cs (wl_o P p) with e | e | e | e | e | e
  · rw [wl_ex0 e]
  · rw [wl_ex1 e]
  · exact absurd e h
  · rw [wl_ex3 e]
  · rw [wl_ex4 e]
  · rw [wl_ex5 e]
theorem wl_ex_eq {s c s' c' : Nat → Int32} (h2 : wl_o P p ≠ 2) (h1 : wl_o P p = 1 → c (wl_k P p i) = c' (wl_k P p i)) (h3 : 3 ≤ wl_o P p → s (wl_x P p) = s' (wl_x P p)) (h4 : (wl_o P p = 3 ∨ wl_o P p = 4) → s (wl_r P p) = s' (wl_r P p)) : (wl_ex P p i (s, c)).1 (wl_x P p) = (wl_ex P p i (s', c')).1 (wl_x P p) := by
  rcases wl_cs (wl_o P p) with e | e | e | e | e | e
  · rw [wl_ex0 e, wl_ex0 e]; exact pk_us.trans pk_us.symm
  · rw [wl_ex1 e, wl_ex1 e]; exact pk_us.trans ((h1 e).trans pk_us.symm)
  · exact absurd e h2
  · have k : s (wl_x P p) + s (wl_r P p) = s' (wl_x P p) + s' (wl_r P p) := by rw [h3 (by omega), h4 (Or.inl e)]
    rw [wl_ex3 e, wl_ex3 e]; exact pk_us.trans (k.trans pk_us.symm)
  · have k : wl_mn (s (wl_x P p)) (s (wl_r P p)) = wl_mn (s' (wl_x P p)) (s' (wl_r P p)) := by rw [h3 (by omega), h4 (Or.inr e)]
    rw [wl_ex4 e, wl_ex4 e]; exact pk_us.trans (k.trans pk_us.symm)
  · have k : s (wl_x P p) + nI i = s' (wl_x P p) + nI i := by rw [h3 (by omega)]
    rw [wl_ex5 e, wl_ex5 e]; exact pk_us.trans (k.trans pk_us.symm)
theorem wl_ex_cg {s s' c : Nat → Int32} (hx : wl_x P p < 4) (hr : (wl_o P p = 3 ∨ wl_o P p = 4) → wl_r P p < 4) (h : ∀ y, y < 4 → s y = s' y) : (∀ y, y < 4 → (wl_ex P p i (s, c)).1 y = (wl_ex P p i (s', c)).1 y) ∧ (wl_ex P p i (s, c)).2 = (wl_ex P p i (s', c)).2 := by
  by_cases h2 : wl_o P p = 2
  · constructor
    · intro y hy
      rw [wl_ex_ne (t := (s, c)) (Or.inr h2), wl_ex_ne (t := (s', c)) (Or.inr h2)]
      exact h y hy
    · rw [wl_ex2 (t := (s, c)) h2, wl_ex2 (t := (s', c)) h2]
      show upd c (wl_k P p i) (s (wl_x P p)) = upd c (wl_k P p i) (s' (wl_x P p))
      rw [h _ hx]
  · constructor
    · intro y hy
      by_cases z : y = wl_x P p
      · rw [z]
        exact wl_ex_eq h2 (fun _ => rfl) (fun _ => h _ hx) (fun q => h _ (hr q))
      · rw [wl_ex_ne (t := (s, c)) (Or.inl z), wl_ex_ne (t := (s', c)) (Or.inl z)]
        exact h y hy
    · rw [wl_ex_c (t := (s, c)) h2, wl_ex_c (t := (s', c)) h2]
/-- nothing outside is touched -/
theorem wl_ex_out (hx : wl_x P p < 4) (hk : wl_o P p = 2 → wl_k P p i < 16) : (∀ y, 4 ≤ y → (wl_ex P p i t).1 y = t.1 y) ∧ (∀ y, 16 ≤ y → (wl_ex P p i t).2 y = t.2 y) := by
  constructor
  · intro y hy
    exact wl_ex_ne (Or.inl (by omega))
  · intro y hy
    by_cases h2 : wl_o P p = 2
    · have := hk h2
      rw [wl_ex2 h2]
      exact pk_un (by omega)
    · rw [wl_ex_c h2]
end
theorem wl_ri_out {P : wl_P} {S N : Nat} {t : wl_St} (h : ∀ p, p < S → wl_x P p < 4 ∧ (wl_o P p = 2 → ∀ i, i < N → wl_k P p i < 16)) : ∀ n, n ≤ N → (∀ y, 4 ≤ y → (wl_ri P S t n).1 y = t.1 y) ∧ (∀ y, 16 ≤ y → (wl_ri P S t n).2 y = t.2 y) := by
  intro n
  induction n with
  | zero => intro _; exact ⟨fun _ _ => rfl, fun _ _ => rfl⟩
  | succ n ih =>
    intro hn
    have k := ih (by omega)
    have m : ∀ p, p ≤ S → (∀ y, 4 ≤ y → (wl_rp P n (wl_ri P S t n) p).1 y = t.1 y) ∧ (∀ y, 16 ≤ y → (wl_rp P n (wl_ri P S t n) p).2 y = t.2 y) := by
      intro p
      induction p with
      | zero => intro _; exact k
      | succ p ih2 =>
        intro hp
        have a := ih2 (by omega)
        have b := wl_ex_out (P := P) (p := p) (i := n) (t := wl_rp P n (wl_ri P S t n) p) (h p (by omega)).1 (fun z => (h p (by omega)).2 z n (by omega))
        exact ⟨fun y hy => (b.1 y hy).trans (a.1 y hy), fun y hy => (b.2 y hy).trans (a.2 y hy)⟩
    exact m S (Nat.le_refl S)
/-! roles, fresh scalars -/
def wl_rd (P : wl_P) (p y : Nat) : Prop := (wl_o P p = 3 ∨ wl_o P p = 4) ∧ wl_r P p = y
def wl_M (P : wl_P) (p y : Nat) : Prop := wl_x P p = y ∨ wl_rd P p y
def wl_K (P : wl_P) (S y k : Nat) : Prop :=
  (k ≤ 1 ∧ ∀ q, q < S → wl_x P q = y → wl_o P q = 2) ∨
  (k = 2 ∧ ∃ f, f < S ∧ (∀ q, q < f → ¬ wl_M P q y) ∧ wl_x P f = y ∧ wl_o P f ≤ 1) ∨
  (k = 3 ∧ ∀ q, q < S → wl_M P q y → wl_x P q = y ∧ ¬ wl_rd P q y ∧ (wl_o P q = 3 ∨ wl_o P q = 5)) ∨
  (k = 4 ∧ ∀ q, q < S → wl_M P q y → wl_x P q = y ∧ ¬ wl_rd P q y ∧ wl_o P q = 4)
def wl_tc (P : wl_P) (p : Nat) : Prop := wl_o P p = 1 ∨ wl_o P p = 2
def wl_H (P : wl_P) (S N : Nat) (ro : Nat → Nat) : Prop :=
  (∀ p, p < S → wl_x P p < 4 ∧ wl_o P p ≤ 5 ∧ ((wl_o P p = 3 ∨ wl_o P p = 4) → wl_r P p < 4)) ∧
  (∀ y, y < 4 → wl_K P S y (ro y)) ∧
  (∀ p, p < S → ∀ q, q < S → wl_tc P p → wl_tc P q → (wl_o P p = 2 ∨ wl_o P q = 2) → ∀ i, i < N → ∀ j, j < N → i ≠ j → wl_k P p i ≠ wl_k P q j)
def wl_FR (P : wl_P) (ro : Nat → Nat) (y p : Nat) : Prop := ro y ≤ 1 ∨ (ro y = 2 ∧ ∃ f, f < p ∧ wl_M P f y)
section
variable {P : wl_P} {S N : Nat} {ro : Nat → Nat} (H : wl_H P S N ro)
theorem wl_K0 (H : wl_H P S N ro) {y : Nat} (hy : y < 4) (h : ro y ≤ 1) : ∀ q, q < S → wl_x P q = y → wl_o P q = 2 := by
  rcases H.2.1 y hy with ⟨_, k⟩ | ⟨k, _⟩ | ⟨k, _⟩ | ⟨k, _⟩
  · exact k
  · exact absurd h (by omega)
  · exact absurd h (by omega)
  · exact absurd h (by omega)
theorem wl_K2 (H : wl_H P S N ro) {y : Nat} (hy : y < 4) (h : ro y = 2) : ∃ f, f < S ∧ wl_M P f y := by
  rcases H.2.1 y hy with ⟨k, _⟩ | ⟨_, f, hf, _, hx, _⟩ | ⟨k, _⟩ | ⟨k, _⟩
  · exact absurd h (by omega)
  · exact ⟨f, hf, Or.inl hx⟩
  · exact absurd h (by omega)
  · exact absurd h (by omega)
theorem wl_K3 (H : wl_H P S N ro) {y : Nat} (hy : y < 4) (h : ro y = 3) : ∀ q, q < S → wl_M P q y → wl_x P q = y ∧ ¬ wl_rd P q y ∧ (wl_o P q = 3 ∨ wl_o P q = 5) := by
  rcases H.2.1 y hy with ⟨k, _⟩ | ⟨k, _⟩ | ⟨_, k⟩ | ⟨k, _⟩
  · exact absurd h (by omega)
  · exact absurd h (by omega)
  · exact k
  · exact absurd h (by omega)
theorem wl_K4 (H : wl_H P S N ro) {y : Nat} (hy : y < 4) (h : ro y = 4) : ∀ q, q < S → wl_M P q y → wl_x P q = y ∧ ¬ wl_rd P q y ∧ wl_o P q = 4 := by
  rcases H.2.1 y hy with ⟨k, _⟩ | ⟨k, _⟩ | ⟨k, _⟩ | ⟨_, k⟩
  · exact absurd h (by omega)
  · exact absurd h (by omega)
  · exact absurd h (by omega)
  · exact k
theorem wl_fr (H : wl_H P S N ro) {y p : Nat} (hy : y < 4) (hM : wl_M P p y) (hn : ¬ (wl_x P p = y ∧ wl_o P p ≤ 1)) (h3 : ro y ≠ 3) (h4 : ro y ≠ 4) : wl_FR P ro y p := by
  rcases H.2.1 y hy with ⟨h, _⟩ | ⟨h, f, hf, hq, hx, ho⟩ | ⟨h, _⟩ | ⟨h, _⟩
  · exact Or.inl h
  · refine Or.inr ⟨h, f, ?_, Or.inl hx⟩
    rcases Nat.lt_trichotomy f p with z | z | z
    · exact z
    · rw [z] at hx ho
      exact absurd ⟨hx, ho⟩ hn
    · exact absurd hM (hq p z)
  · exact absurd h h3
  · exact absurd h h4
theorem wl_fs (H : wl_H P S N ro) {p : Nat} (hp : p < S) (h : wl_o P p = 2) : wl_FR P ro (wl_x P p) p := by
  have hx := (H.1 p hp).1
  have hM : wl_M P p (wl_x P p) := Or.inl rfl
  refine wl_fr H hx hM (fun z => absurd z.2 (by omega)) (fun z => ?_) (fun z => ?_)
  · have k := (wl_K3 H hx z p hp hM).2.2
    omega
  · have k := (wl_K4 H hx z p hp hM).2.2
    omega
theorem wl_fr2 (H : wl_H P S N ro) {p : Nat} (hp : p < S) (h : wl_o P p = 3 ∨ wl_o P p = 4) : wl_FR P ro (wl_r P p) p := by
  have hx := (H.1 p hp).2.2 h
  have hr : wl_rd P p (wl_r P p) := ⟨h, rfl⟩
  refine wl_fr H hx (Or.inr hr) (fun z => absurd z.2 (by omega)) (fun z => ?_) (fun z => ?_)
  · exact (wl_K3 H hx z p hp (Or.inr hr)).2.1 hr
  · exact (wl_K4 H hx z p hp (Or.inr hr)).2.1 hr
theorem wl_fr3 (H : wl_H P S N ro) {p : Nat} (hp : p < S) (h : 3 ≤ wl_o P p) (h2 : ro (wl_x P p) = 2) : wl_FR P ro (wl_x P p) p :=
  wl_fr H (H.1 p hp).1 (Or.inl rfl) (fun z => absurd z.2 (by omega)) (by omega) (by omega)
end
end
section
/-! the plain law, part two: agents, cells, the sequential run, the workers' run -/
def wl_E (P : wl_P) (s0 c0 : Nat → Int32) (i p : Nat) : wl_St := wl_rp P i (s0, c0) p
theorem wl_E0 (P : wl_P) (s0 c0 : Nat → Int32) (i : Nat) : wl_E P s0 c0 i 0 = (s0, c0) := rfl
theorem wl_E1 (P : wl_P) (s0 c0 : Nat → Int32) (i p : Nat) : wl_E P s0 c0 i (p + 1) = wl_ex P p i (wl_E P s0 c0 i p) := rfl
def wl_T (P : wl_P) (s0 c0 : Nat → Int32) (ro : Nat → Nat) (i p : Nat) (s : Nat → Int32) : Prop := ∀ y, y < 4 → wl_FR P ro y p → s y = (wl_E P s0 c0 i p).1 y
def wl_c3 (P : wl_P) (s0 c0 : Nat → Int32) (y i q : Nat) : Int32 := if wl_x P q = y then (if wl_o P q = 3 then (wl_E P s0 c0 i q).1 (wl_r P q) else nI i) else 0
def wl_c4 (P : wl_P) (s0 c0 : Nat → Int32) (y i q : Nat) : Int32 := if wl_x P q = y then (wl_E P s0 c0 i q).1 (wl_r P q) else 2147483647
def wl_w3 (P : wl_P) (S : Nat) (s0 c0 : Nat → Int32) (y i : Nat) : Int32 := wl_row wl_pl 0 (wl_c3 P s0 c0 y i) S
def wl_w4 (P : wl_P) (S : Nat) (s0 c0 : Nat → Int32) (y i : Nat) : Int32 := wl_row wl_mn 2147483647 (wl_c4 P s0 c0 y i) S
def wl_t3 (P : wl_P) (S : Nat) (s0 c0 : Nat → Int32) (y f j : Nat) : Int32 := wl_row wl_pl 0 (fun a => wl_w3 P S s0 c0 y (f + a)) j
def wl_t4 (P : wl_P) (S : Nat) (s0 c0 : Nat → Int32) (y f j : Nat) : Int32 := wl_row wl_mn 2147483647 (fun a => wl_w4 P S s0 c0 y (f + a)) j
def wl_AG (P : wl_P) (S : Nat) (s0 c0 : Nat → Int32) (ro : Nat → Nat) (b : Nat → Int32) (f j p : Nat) (s : Nat → Int32) : Prop :=
  wl_T P s0 c0 ro (f + j) p s ∧
  (∀ y, y < 4 → ro y = 2 → (∀ q, q < p → ¬ wl_M P q y) → 0 < j → s y = (wl_E P s0 c0 (f + j - 1) S).1 y) ∧
  (∀ y, y < 4 → ro y = 3 → s y = wl_pl (wl_pl (b y) (wl_t3 P S s0 c0 y f j)) (wl_row wl_pl 0 (wl_c3 P s0 c0 y (f + j)) p)) ∧
  (∀ y, y < 4 → ro y = 4 → s y = wl_mn (wl_mn (b y) (wl_t4 P S s0 c0 y f j)) (wl_row wl_mn 2147483647 (wl_c4 P s0 c0 y (f + j)) p))
def wl_ac (P : wl_P) (S i k : Nat) : Prop := ∃ p, p < S ∧ wl_tc P p ∧ wl_k P p i = k
def wl_CI (P : wl_P) (S N : Nat) (s0 c0 : Nat → Int32) (e : Nat → Nat) (c : Nat → Int32) : Prop :=
  (∀ i, i < N → ∀ k, wl_ac P S i k → c k = (wl_E P s0 c0 i (e i)).2 k) ∧ ∀ k, (∀ i, i < N → ¬ wl_ac P S i k) → c k = c0 k
def wl_pr (S j p : Nat) : Nat → Nat := fun i => if i < j then S else if i = j then p else 0
section
variable {P : wl_P} {S N : Nat} {ro : Nat → Nat} {s0 c0 : Nat → Int32}
theorem wl_Ts (H : wl_H P S N ro) {i p : Nat} {s c : Nat → Int32} (hp : p < S) (T : wl_T P s0 c0 ro i p s) (hc : wl_o P p = 1 → c (wl_k P p i) = (wl_E P s0 c0 i p).2 (wl_k P p i)) : wl_T P s0 c0 ro i (p + 1) (wl_ex P p i (s, c)).1 := by
  intro y hy hF
  rw [wl_E1]
  by_cases hw : y = wl_x P p ∧ wl_o P p ≠ 2
  · obtain ⟨hx, h2⟩ := hw
    rw [hx] at hy hF ⊢
    have h : ro (wl_x P p) = 2 := by
      rcases hF with z | z
      · exact absurd (wl_K0 H hy z p hp rfl) h2
      · exact z.1
    exact wl_ex_eq (s' := (wl_E P s0 c0 i p).1) (c' := (wl_E P s0 c0 i p).2) h2 hc (fun h3 => T _ hy (wl_fr3 H hp h3 h)) (fun h4 => T _ ((H.1 p hp).2.2 h4) (wl_fr2 H hp h4))
  · have e : y ≠ wl_x P p ∨ wl_o P p = 2 := by
      by_cases z : wl_o P p = 2
      · exact Or.inr z
      · exact Or.inl fun q => hw ⟨q, z⟩
    rw [wl_ex_ne (t := (s, c)) e, wl_ex_ne (t := wl_E P s0 c0 i p) e]
    refine T y hy ?_
    rcases hF with z | ⟨z, f, hf, hM⟩
    · exact Or.inl z
    · by_cases hfp : f < p
      · exact Or.inr ⟨z, f, hfp, hM⟩
      · have hh : f = p := by omega
        rw [hh] at hM
        exact wl_fr H hy hM (fun q => hw ⟨q.1.symm, by omega⟩) (by omega) (by omega)
theorem wl_Ec (H : wl_H P S N ro) {y : Nat} (hy : y < 4) (h : ro y ≤ 1) (i : Nat) : ∀ p, p ≤ S → (wl_E P s0 c0 i p).1 y = s0 y := by
  intro p
  induction p with
  | zero => intro _; rfl
  | succ p ih =>
    intro hp
    rw [wl_E1, wl_ex_ne]
    · exact ih (by omega)
    · by_cases z : y = wl_x P p
      · exact Or.inr (wl_K0 H hy h p (by omega) z.symm)
      · exact Or.inl z
theorem wl_a3 (H : wl_H P S N ro) {y i p : Nat} {s c : Nat → Int32} (hy : y < 4) (hp : p < S) (h : ro y = 3) (T : wl_T P s0 c0 ro i p s) : (wl_ex P p i (s, c)).1 y = wl_pl (s y) (wl_c3 P s0 c0 y i p) := by
  unfold wl_c3
  by_cases z : wl_x P p = y
  · rw [if_pos z]
    have k := wl_K3 H hy h p hp (Or.inl z)
    rcases k.2.2 with e | e
    · have tt := T _ ((H.1 p hp).2.2 (Or.inl e)) (wl_fr2 H hp (Or.inl e))
      rw [if_pos e, ← tt, wl_ex3 e, ← z]
      exact pk_us
    · rw [if_neg (show ¬ wl_o P p = 3 by omega), wl_ex5 (show 5 ≤ wl_o P p by omega), ← z]
      exact pk_us
  · rw [if_neg z, wl_ex_ne (Or.inl fun q => z q.symm), wl_pl_e]
theorem wl_a4 (H : wl_H P S N ro) {y i p : Nat} {s c : Nat → Int32} (hy : y < 4) (hp : p < S) (h : ro y = 4) (T : wl_T P s0 c0 ro i p s) : (wl_ex P p i (s, c)).1 y = wl_mn (s y) (wl_c4 P s0 c0 y i p) := by
  unfold wl_c4
  by_cases z : wl_x P p = y
  · rw [if_pos z]
    have e := (wl_K4 H hy h p hp (Or.inl z)).2.2
    have tt := T _ ((H.1 p hp).2.2 (Or.inr e)) (wl_fr2 H hp (Or.inr e))
    rw [← tt, wl_ex4 e, ← z]
    exact pk_us
  · rw [if_neg z, wl_ex_ne (Or.inl fun q => z q.symm), wl_mn_e]
theorem wl_AGs (H : wl_H P S N ro) {b s c : Nat → Int32} {f j p i : Nat} (hi : i = f + j) (hp : p < S) (A : wl_AG P S s0 c0 ro b f j p s) (hc : wl_o P p = 1 → c (wl_k P p i) = (wl_E P s0 c0 i p).2 (wl_k P p i)) : wl_AG P S s0 c0 ro b f j (p + 1) (wl_ex P p i (s, c)).1 := by
  subst hi
  obtain ⟨T, L, A3, A4⟩ := A
  refine ⟨wl_Ts H hp T hc, ?_, ?_, ?_⟩
  · intro y hy h hq hj
    rw [wl_ex_ne (t := (s, c)) (Or.inl fun z => hq p (by omega) (Or.inl z.symm))]
    exact L y hy h (fun q z => hq q (by omega)) hj
  · intro y hy h
    rw [wl_a3 H hy hp h T, A3 y hy h]
    exact wl_pl_as _ _ _
  · intro y hy h
    rw [wl_a4 H hy hp h T, A4 y hy h]
    exact wl_mn_as _ _ _
theorem wl_AGw (H : wl_H P S N ro) {b s : Nat → Int32} {f j : Nat} (A : wl_AG P S s0 c0 ro b f j S s) : wl_AG P S s0 c0 ro b f (j + 1) 0 s := by
  obtain ⟨T, L, A3, A4⟩ := A
  refine ⟨?_, ?_, ?_, ?_⟩
  · intro y hy hF
    rcases hF with z | ⟨_, q, hq, _⟩
    · exact (T y hy (Or.inl z)).trans (wl_Ec H hy z (f + j) S (Nat.le_refl S))
    · exact absurd hq (by omega)
  · intro y hy h _ _
    have e : f + (j + 1) - 1 = f + j := by omega
    rw [e]
    exact T y hy (Or.inr ⟨h, wl_K2 H hy h⟩)
  · intro y hy h
    rw [A3 y hy h]
    show wl_pl (wl_pl (b y) (wl_t3 P S s0 c0 y f j)) (wl_w3 P S s0 c0 y (f + j)) = wl_pl (wl_pl (b y) (wl_pl (wl_t3 P S s0 c0 y f j) (wl_w3 P S s0 c0 y (f + j)))) 0
    rw [wl_pl_e, wl_pl_as]
  · intro y hy h
    rw [A4 y hy h]
    show wl_mn (wl_mn (b y) (wl_t4 P S s0 c0 y f j)) (wl_w4 P S s0 c0 y (f + j)) = wl_mn (wl_mn (b y) (wl_mn (wl_t4 P S s0 c0 y f j) (wl_w4 P S s0 c0 y (f + j)))) 2147483647
    rw [wl_mn_e, wl_mn_as]
theorem wl_AG0 {b : Nat → Int32} (f : Nat) (hb : ∀ y, y < 4 → ro y ≤ 1 → b y = s0 y) : wl_AG P S s0 c0 ro b f 0 0 b := by
  refine ⟨?_, ?_, ?_, ?_⟩
  · intro y hy hF
    rcases hF with z | ⟨_, q, hq, _⟩
    · exact hb y hy z
    · exact absurd hq (by omega)
  · intro y hy h _ h0
    exact absurd h0 (by omega)
  · intro y hy h
    show b y = wl_pl (wl_pl (b y) 0) 0
    rw [wl_pl_e, wl_pl_e]
  · intro y hy h
    show b y = wl_mn (wl_mn (b y) 2147483647) 2147483647
    rw [wl_mn_e, wl_mn_e]
theorem wl_AGc {b s s' : Nat → Int32} {f j p : Nat} (A : wl_AG P S s0 c0 ro b f j p s) (h : ∀ y, y < 4 → s' y = s y) : wl_AG P S s0 c0 ro b f j p s' := by
  obtain ⟨T, L, A3, A4⟩ := A
  refine ⟨?_, ?_, ?_, ?_⟩
  · intro y hy z
    rw [h y hy]; exact T y hy z
  · intro y hy a b c
    rw [h y hy]; exact L y hy a b c
  · intro y hy z
    rw [h y hy]; exact A3 y hy z
  · intro y hy z
    rw [h y hy]; exact A4 y hy z
theorem wl_CIs (H : wl_H P S N ro) {e e' : Nat → Nat} {s c : Nat → Int32} {i p : Nat} (C : wl_CI P S N s0 c0 e c) (hi : i < N) (hp : p < S) (he : e i = p) (T : wl_T P s0 c0 ro i p s) (h1 : e' i = p + 1) (h2 : ∀ j, j < N → j ≠ i → e' j = e j) : wl_CI P S N s0 c0 e' (wl_ex P p i (s, c)).2 := by
  by_cases ho : wl_o P p = 2
  · have hs := T _ (H.1 p hp).1 (wl_fs H hp ho)
    have e1 : (wl_ex P p i (s, c)).2 = upd c (wl_k P p i) (s (wl_x P p)) := congrArg Prod.snd (wl_ex2 ho)
    have e2 : (wl_E P s0 c0 i (p + 1)).2 = upd (wl_E P s0 c0 i p).2 (wl_k P p i) (s (wl_x P p)) := by
      rw [hs]; exact congrArg Prod.snd (wl_ex2 ho)
    rw [e1]
    constructor
    · intro j hj k hk
      by_cases z : j = i
      · have q := C.1 j hj k hk
        rw [z] at q ⊢
        rw [he] at q
        rw [h1, e2]
        by_cases w : k = wl_k P p i
        · rw [w, pk_us, pk_us]
        · rw [pk_un w, pk_un w]; exact q
      · rw [h2 j hj z]
        obtain ⟨q, hq, hqt, hqk⟩ := hk
        have w : k ≠ wl_k P p i := fun w => H.2.2 q hq p hp hqt (Or.inr ho) (Or.inr ho) j hj i hi z (hqk.trans w)
        rw [pk_un w]
        exact C.1 j hj _ ⟨q, hq, hqt, hqk⟩
    · intro k hk
      have w : k ≠ wl_k P p i := fun w => hk i hi ⟨p, hp, Or.inr ho, w.symm⟩
      rw [pk_un w]
      exact C.2 k hk
  · have e1 : (wl_ex P p i (s, c)).2 = c := wl_ex_c ho
    have e2 : (wl_E P s0 c0 i (p + 1)).2 = (wl_E P s0 c0 i p).2 := wl_ex_c ho
    rw [e1]
    refine ⟨fun j hj k hk => ?_, C.2⟩
    by_cases z : j = i
    · have q := C.1 j hj k hk
      rw [z] at q ⊢
      rw [he] at q
      rw [h1, e2]
      exact q
    · rw [h2 j hj z]
      exact C.1 j hj k hk
theorem wl_CI0 {e : Nat → Nat} (h : ∀ i, i < N → e i = 0) : wl_CI P S N s0 c0 e c0 := by
  refine ⟨fun i hi k _ => ?_, fun _ _ => rfl⟩
  rw [h i hi]
  rfl
theorem wl_CIl {e : Nat → Nat} {c : Nat → Int32} {i p : Nat} (C : wl_CI P S N s0 c0 e c) (hi : i < N) (hp : p < S) (he : e i = p) : wl_o P p = 1 → c (wl_k P p i) = (wl_E P s0 c0 i p).2 (wl_k P p i) := by
  intro h
  have q := C.1 i hi (wl_k P p i) ⟨p, hp, Or.inl h, rfl⟩
  rw [he] at q
  exact q
theorem wl_CIc {e e' : Nat → Nat} {c : Nat → Int32} (C : wl_CI P S N s0 c0 e c) (h : ∀ i, i < N → e' i = e i) : wl_CI P S N s0 c0 e' c := by
  refine ⟨fun i hi k hk => ?_, C.2⟩
  rw [h i hi]
  exact C.1 i hi k hk
theorem wl_CIu {e e' : Nat → Nat} {c c' : Nat → Int32} (C : wl_CI P S N s0 c0 e c) (C' : wl_CI P S N s0 c0 e' c') (h : ∀ i, i < N → e i = e' i) : c = c' := by
  funext k
  by_cases z : ∃ i, i < N ∧ wl_ac P S i k
  · obtain ⟨i, hi, hk⟩ := z
    rw [C.1 i hi k hk, C'.1 i hi k hk, h i hi]
  · have q : ∀ i, i < N → ¬ wl_ac P S i k := fun i hi hk => z ⟨i, hi, hk⟩
    rw [C.2 k q, C'.2 k q]
theorem wl_pr_at (S j p : Nat) : wl_pr S j p j = p := by
  unfold wl_pr
  rw [if_neg (Nat.lt_irrefl j), if_pos rfl]
theorem wl_pr_w (S j : Nat) : wl_pr S j S = wl_pr S (j + 1) 0 := by
  funext i
  unfold wl_pr
  by_cases h : i < j
  · rw [if_pos h, if_pos (by omega)]
  · by_cases k : i = j
    · rw [if_neg h, if_pos k, if_pos (by omega)]
    · rw [if_neg h, if_neg k, if_neg (by omega)]
      by_cases m : i = j + 1
      · rw [if_pos m]
      · rw [if_neg m]
theorem wl_pr_n (S j p : Nat) {i : Nat} (h : i ≠ j) : wl_pr S j (p + 1) i = wl_pr S j p i := by
  unfold wl_pr
  by_cases k : i < j
  · rw [if_pos k, if_pos k]
  · rw [if_neg k, if_neg k, if_neg h, if_neg h]
/-- the sequential run -/
theorem wl_sq (H : wl_H P S N ro) : ∀ j, j ≤ N → wl_AG P S s0 c0 ro s0 0 j 0 (wl_ri P S (s0, c0) j).1 ∧ wl_CI P S N s0 c0 (wl_pr S j 0) (wl_ri P S (s0, c0) j).2 := by
  intro j
  induction j with
  | zero =>
    intro _
    refine ⟨wl_AG0 0 (fun _ _ _ => rfl), wl_CI0 (fun i _ => ?_)⟩
    unfold wl_pr
    rw [if_neg (by omega)]
    by_cases z : i = 0
    · rw [if_pos z]
    · rw [if_neg z]
  | succ j ih =>
    intro hj
    have k := ih (by omega)
    have m : ∀ p, p ≤ S → wl_AG P S s0 c0 ro s0 0 j p (wl_rp P j (wl_ri P S (s0, c0) j) p).1 ∧ wl_CI P S N s0 c0 (wl_pr S j p) (wl_rp P j (wl_ri P S (s0, c0) j) p).2 := by
      intro p
      induction p with
      | zero => intro _; exact k
      | succ p ih2 =>
        intro hp
        have a := ih2 (by omega)
        have hc := wl_CIl a.2 (show j < N by omega) (show p < S by omega) (wl_pr_at S j p)
        have e0 : j = 0 + j := (Nat.zero_add j).symm
        have T : wl_T P s0 c0 ro j p (wl_rp P j (wl_ri P S (s0, c0) j) p).1 := by
          have q := a.1.1
          rw [Nat.zero_add] at q
          exact q
        exact ⟨wl_AGs H e0 (by omega) a.1 hc, wl_CIs H a.2 (by omega) (by omega) (wl_pr_at S j p) T (wl_pr_at S j (p + 1)) (fun i _ hne => wl_pr_n S j p hne)⟩
    have z := m S (Nat.le_refl S)
    exact ⟨wl_AGw H z.1, wl_pr_w S j ▸ z.2⟩
end
end
section
/-! the plain law, part three: the workers' run -/
def wl_F (N W w : Nat) : Nat := w * N / W
theorem wl_F0 (N W : Nat) : wl_F N W 0 = 0 := by
  unfold wl_F
  rw [Nat.zero_mul, Nat.zero_div]
theorem wl_FW (N : Nat) {W : Nat} (h : 0 < W) : wl_F N W W = N := Nat.mul_div_cancel_left N h
theorem wl_Fm (N W : Nat) {u w : Nat} (h : u ≤ w) : wl_F N W u ≤ wl_F N W w := Nat.div_le_div_right (Nat.mul_le_mul_right N h)
theorem wl_Fl {N W : Nat} (hN : 0 < N) (hW : 0 < W) : wl_F N W (W - 1) < N := by
  unfold wl_F
  apply Nat.div_lt_of_lt_mul
  exact Nat.mul_lt_mul_of_pos_right (by omega) hN
theorem wl_Fx {N W : Nat} : ∀ n, ∀ i, i < wl_F N W n → ∃ w, w < n ∧ wl_F N W w ≤ i ∧ i < wl_F N W (w + 1) := by
  intro n
  induction n with
  | zero =>
    intro i hi
    rw [wl_F0] at hi
    exact absurd hi (by omega)
  | succ n ih =>
    intro i hi
    by_cases h : i < wl_F N W n
    · obtain ⟨w, a, b⟩ := ih i h
      exact ⟨w, by omega, b⟩
    · exact ⟨n, by omega, by omega, hi⟩
theorem wl_dm {S d : Nat} (hS : 0 < S) : (d % S + 1 < S → (d + 1) / S = d / S ∧ (d + 1) % S = d % S + 1) ∧ (d % S + 1 = S → (d + 1) / S = d / S + 1 ∧ (d + 1) % S = 0) := by
  have e : d + 1 = (d % S + 1) + S * (d / S) := by
    have := Nat.div_add_mod d S
    omega
  constructor
  · intro h
    constructor
    · have q := Nat.add_mul_div_left (d % S + 1) (d / S) hS
      rw [← e, Nat.div_eq_of_lt h, Nat.zero_add] at q
      exact q
    · have q := Nat.add_mul_mod_self_left (d % S + 1) S (d / S)
      rw [← e, Nat.mod_eq_of_lt h] at q
      exact q
  · intro h
    constructor
    · have q := Nat.add_mul_div_left (d % S + 1) (d / S) hS
      rw [← e, h, Nat.div_self hS] at q
      rw [q]
      exact Nat.add_comm 1 (d / S)
    · have q := Nat.add_mul_mod_self_left (d % S + 1) S (d / S)
      rw [← e, h, Nat.mod_self] at q
      exact q
/-- the workers' own scalars at first -/
def wl_b (ro : Nat → Nat) (s0 : Nat → Int32) : Nat → Int32 := fun y => if ro y = 3 then 0 else s0 y
def wl_RP (P : wl_P) (S N W : Nat) (s0 c0 : Nat → Int32) (ro : Nat → Nat) (own wk : Nat → Int32) (d : Nat → Nat) : Prop :=
  ∃ e : Nat → Nat, wl_CI P S N s0 c0 e wk ∧ ∀ w, w < W → wl_AG P S s0 c0 ro (wl_b ro s0) (wl_F N W w) (d w / S) (d w % S) (fun y => own (w * 4 + y)) ∧ ∀ i, wl_F N W w ≤ i → i < wl_F N W (w + 1) → e i = wl_pr S (d w / S) (d w % S) (i - wl_F N W w)
section
variable {P : wl_P} {S N W : Nat} {ro : Nat → Nat} {s0 c0 : Nat → Int32}
theorem wl_AGn (H : wl_H P S N ro) (hS : 0 < S) {b s : Nat → Int32} {f d : Nat} (A : wl_AG P S s0 c0 ro b f (d / S) (d % S + 1) s) : wl_AG P S s0 c0 ro b f ((d + 1) / S) ((d + 1) % S) s := by
  have hm := Nat.mod_lt d hS
  by_cases h : d % S + 1 < S
  · obtain ⟨a, b⟩ := (wl_dm hS).1 h
    rw [a, b]
    exact A
  · have h' : d % S + 1 = S := by omega
    obtain ⟨a, b⟩ := (wl_dm hS).2 h'
    rw [h'] at A
    rw [a, b]
    exact wl_AGw H A
theorem wl_prn (hS : 0 < S) (d : Nat) : wl_pr S (d / S) (d % S + 1) = wl_pr S ((d + 1) / S) ((d + 1) % S) := by
  have hm := Nat.mod_lt d hS
  by_cases h : d % S + 1 < S
  · obtain ⟨a, b⟩ := (wl_dm hS).1 h
    rw [a, b]
  · have h' : d % S + 1 = S := by omega
    obtain ⟨a, b⟩ := (wl_dm hS).2 h'
    rw [a, b, h']
    exact wl_pr_w S _
theorem wl_RP0 (P : wl_P) (S N W : Nat) (ro : Nat → Nat) (s0 c0 : Nat → Int32) {own : Nat → Int32} {d : Nat → Nat} (ho : ∀ w, w < W → ∀ y, y < 4 → own (w * 4 + y) = wl_b ro s0 y) (hd : ∀ w, w < W → d w = 0) : wl_RP P S N W s0 c0 ro own c0 d := by
  refine ⟨fun _ => 0, wl_CI0 (fun _ _ => rfl), fun w hw => ?_⟩
  rw [hd w hw, Nat.zero_div, Nat.zero_mod]
  constructor
  · refine wl_AGc (wl_AG0 _ ?_) (ho w hw)
    intro y hy h
    unfold wl_b
    rw [if_neg (by omega)]
  · intro i _ _
    unfold wl_pr
    rw [if_neg (by omega)]
    by_cases z : i - wl_F N W w = 0
    · rw [if_pos z]
    · rw [if_neg z]
theorem wl_RPs (H : wl_H P S N ro) (hS : 0 < S) (hW : 0 < W) {own wk own' wk' : Nat → Int32} {d d' : Nat → Nat} {w p i : Nat} (R : wl_RP P S N W s0 c0 ro own wk d) (hw : w < W) (hd : d w < (wl_F N W (w + 1) - wl_F N W w) * S) (hpe : p = d w % S) (hie : i = wl_F N W w + d w / S) (h1 : ∀ y, y < 4 → own' (w * 4 + y) = (wl_ex P p i (fun y => own (w * 4 + y), wk)).1 y) (h2 : ∀ u, u < W → u ≠ w → ∀ y, y < 4 → own' (u * 4 + y) = own (u * 4 + y)) (h3 : wk' = (wl_ex P p i (fun y => own (w * 4 + y), wk)).2) (h4 : d' w = d w + 1) (h5 : ∀ u, u < W → u ≠ w → d' u = d u) : wl_RP P S N W s0 c0 ro own' wk' d' := by
  obtain ⟨e, C, A⟩ := R
  obtain ⟨Aw, Ew⟩ := A w hw
  have hp : p < S := by rw [hpe]; exact Nat.mod_lt _ hS
  have hj : d w / S < wl_F N W (w + 1) - wl_F N W w := by
    apply Nat.div_lt_of_lt_mul
    rw [Nat.mul_comm]
    exact hd
  have hF1 : wl_F N W (w + 1) ≤ N := by
    have := wl_Fm N W (show w + 1 ≤ W by omega)
    rw [wl_FW N hW] at this
    exact this
  have hi1 : wl_F N W w ≤ i := by
    rw [hie]
    exact Nat.le_add_right _ _
  have hi2 : i < wl_F N W (w + 1) := by
    rw [hie]
    exact Nat.add_lt_of_lt_sub' hj
  have hi3 : i - wl_F N W w = d w / S := by
    rw [hie]
    exact Nat.add_sub_cancel_left _ _
  have hi : i < N := Nat.lt_of_lt_of_le hi2 hF1
  have hei : e i = p := by
    rw [Ew i hi1 hi2, hi3, wl_pr_at, hpe]
  have hc := wl_CIl C hi hp hei
  have T : wl_T P s0 c0 ro i p (fun y => own (w * 4 + y)) := by
    rw [hie, hpe]
    exact Aw.1
  refine ⟨fun a => if a = i then p + 1 else e a, ?_, ?_⟩
  · rw [h3]
    exact wl_CIs H C hi hp hei T (if_pos rfl) (fun j _ hne => if_neg hne)
  · intro u hu
    by_cases z : u = w
    · rw [z, h4]
      constructor
      · refine wl_AGc (wl_AGn H hS ?_) h1
        rw [← hpe]
        rw [← hpe] at Aw
        exact wl_AGs H hie hp Aw hc
      · intro a ha hb
        show (if a = i then p + 1 else e a) = _
        rw [← wl_prn hS, ← hpe]
        by_cases q : a = i
        · rw [if_pos q, q, hi3, wl_pr_at]
        · rw [if_neg q, Ew a ha hb, wl_pr_n S _ _ (show a - wl_F N W w ≠ d w / S by rw [← hi3]; omega), hpe]
    · rw [h5 u hu z]
      obtain ⟨Au, Eu⟩ := A u hu
      refine ⟨wl_AGc Au (h2 u hu z), ?_⟩
      intro a ha hb
      have q : a ≠ i := by
        intro q
        rcases Nat.lt_or_gt_of_ne z with m | m
        · have k := wl_Fm N W (show u + 1 ≤ w by omega)
          clear hie hd hj Aw Ew
          omega
        · have k := wl_Fm N W (show w + 1 ≤ u by omega)
          clear hie hd hj Aw Ew
          omega
      show (if a = i then p + 1 else e a) = _
      rw [if_neg q]
      exact Eu a ha hb
theorem wl_g3 {b : Nat → Int32} {y : Nat} (hy : y < 4) (h : ro y = 3) (hb : b y = 0) {ss : Nat → Nat → Int32} : ∀ n, (∀ w, w < n → wl_AG P S s0 c0 ro b (wl_F N W w) (wl_F N W (w + 1) - wl_F N W w) 0 (ss w)) → wl_row wl_pl (s0 y) (fun w => ss w y) n = wl_pl (s0 y) (wl_t3 P S s0 c0 y 0 (wl_F N W n)) := by
  intro n
  induction n with
  | zero =>
    intro _
    rw [wl_F0]
    exact (wl_pl_e (s0 y)).symm
  | succ n ih =>
    intro hA
    have a := (hA n (by omega)).2.2.1 y hy h
    show wl_pl (wl_row wl_pl (s0 y) (fun w => ss w y) n) (ss n y) = _
    rw [ih (fun w z => hA w (by omega)), a, hb]
    have e : wl_F N W (n + 1) = wl_F N W n + (wl_F N W (n + 1) - wl_F N W n) := by
      have := wl_Fm N W (show n ≤ n + 1 by omega)
      omega
    have k : wl_t3 P S s0 c0 y 0 (wl_F N W (n + 1)) = wl_pl (wl_t3 P S s0 c0 y 0 (wl_F N W n)) (wl_t3 P S s0 c0 y (wl_F N W n) (wl_F N W (n + 1) - wl_F N W n)) := by
      have q := wl_row_add (g := wl_pl) (e := 0) wl_pl_as wl_pl_e (fun a => wl_w3 P S s0 c0 y (0 + a)) (wl_F N W n) (wl_F N W (n + 1) - wl_F N W n)
      rw [← e] at q
      refine q.trans ?_
      show wl_pl _ _ = wl_pl _ _
      refine congrArg (wl_pl _) ?_
      unfold wl_t3
      refine congrArg (fun f => wl_row wl_pl 0 f (wl_F N W (n + 1) - wl_F N W n)) ?_
      funext j
      rw [Nat.zero_add]
    rw [k]
    show wl_pl (wl_pl (s0 y) _) (wl_pl (wl_pl 0 _) 0) = _
    rw [wl_pl_e, wl_pl_as]
    refine congrArg (wl_pl _) (congrArg (wl_pl _) ?_)
    exact Int32.zero_add _
theorem wl_g4 {b : Nat → Int32} {y : Nat} (hy : y < 4) (h : ro y = 4) (hb : b y = s0 y) {ss : Nat → Nat → Int32} : ∀ n, (∀ w, w < n → wl_AG P S s0 c0 ro b (wl_F N W w) (wl_F N W (w + 1) - wl_F N W w) 0 (ss w)) → wl_row wl_mn (s0 y) (fun w => ss w y) n = wl_mn (s0 y) (wl_t4 P S s0 c0 y 0 (wl_F N W n)) := by
  intro n
  induction n with
  | zero =>
    intro _
    rw [wl_F0]
    exact (wl_mn_e (s0 y)).symm
  | succ n ih =>
    intro hA
    have a := (hA n (by omega)).2.2.2 y hy h
    show wl_mn (wl_row wl_mn (s0 y) (fun w => ss w y) n) (ss n y) = _
    rw [ih (fun w z => hA w (by omega)), a, hb]
    have e : wl_F N W (n + 1) = wl_F N W n + (wl_F N W (n + 1) - wl_F N W n) := by
      have := wl_Fm N W (show n ≤ n + 1 by omega)
      omega
    have k : wl_t4 P S s0 c0 y 0 (wl_F N W (n + 1)) = wl_mn (wl_t4 P S s0 c0 y 0 (wl_F N W n)) (wl_t4 P S s0 c0 y (wl_F N W n) (wl_F N W (n + 1) - wl_F N W n)) := by
      have q := wl_row_add (g := wl_mn) (e := 2147483647) wl_mn_as wl_mn_e (fun a => wl_w4 P S s0 c0 y (0 + a)) (wl_F N W n) (wl_F N W (n + 1) - wl_F N W n)
      rw [← e] at q
      refine q.trans ?_
      show wl_mn _ _ = wl_mn _ _
      refine congrArg (wl_mn _) ?_
      unfold wl_t4
      refine congrArg (fun f => wl_row wl_mn 2147483647 f (wl_F N W (n + 1) - wl_F N W n)) ?_
      funext j
      rw [Nat.zero_add]
    rw [k]
    show wl_mn (wl_mn (s0 y) _) (wl_mn (wl_mn (s0 y) _) 2147483647) = _
    rw [wl_mn_e, wl_mn_i]
/-- all is done: what the workers hold, put together, is what the sequential run gives -/
theorem wl_RPe (H : wl_H P S N ro) (hS : 0 < S) (hN : 0 < N) (hW : 0 < W) {own wk : Nat → Int32} {d : Nat → Nat} (R : wl_RP P S N W s0 c0 ro own wk d) (hd : ∀ w, w < W → d w = (wl_F N W (w + 1) - wl_F N W w) * S) :
    wk = (wl_ri P S (s0, c0) N).2 ∧ ∀ y, y < 4 → (ro y ≤ 1 → (wl_ri P S (s0, c0) N).1 y = s0 y) ∧ (ro y = 2 → (wl_ri P S (s0, c0) N).1 y = own ((W - 1) * 4 + y)) ∧ (ro y = 3 → (wl_ri P S (s0, c0) N).1 y = wl_row wl_pl (s0 y) (fun w => own (w * 4 + y)) W) ∧ (ro y = 4 → (wl_ri P S (s0, c0) N).1 y = wl_row wl_mn (s0 y) (fun w => own (w * 4 + y)) W) := by
  obtain ⟨e, C, A⟩ := R
  obtain ⟨Q, D⟩ := wl_sq (s0 := s0) (c0 := c0) H N (Nat.le_refl N)
  have dq : ∀ w, w < W → d w / S = wl_F N W (w + 1) - wl_F N W w ∧ d w % S = 0 := by
    intro w hw
    rw [hd w hw]
    exact ⟨Nat.mul_div_cancel _ hS, Nat.mul_mod_left _ _⟩
  have B : ∀ w, w < W → wl_AG P S s0 c0 ro (wl_b ro s0) (wl_F N W w) (wl_F N W (w + 1) - wl_F N W w) 0 (fun y => own (w * 4 + y)) := by
    intro w hw
    have a := (A w hw).1
    rw [(dq w hw).1, (dq w hw).2] at a
    exact a
  constructor
  · refine wl_CIu C D ?_
    intro i hi
    have hi' : i < wl_F N W W := by rw [wl_FW N hW]; exact hi
    obtain ⟨w, hw, h1, h2⟩ := wl_Fx W i hi'
    rw [(A w hw).2 i h1 h2, (dq w hw).1, (dq w hw).2]
    unfold wl_pr
    rw [if_pos (by omega), if_pos hi]
  · intro y hy
    refine ⟨fun h => ?_, fun h => ?_, fun h => ?_, fun h => ?_⟩
    · exact Q.1 y hy (Or.inl h)
    · have a := Q.2.1 y hy h (fun q z => absurd z (by omega)) hN
      have hl := wl_Fl hN hW
      have b := (B (W - 1) (by omega)).2.1 y hy h (fun q z => absurd z (by omega)) (by
        rw [show W - 1 + 1 = W by omega, wl_FW N hW]; omega)
      rw [show W - 1 + 1 = W by omega, wl_FW N hW, show wl_F N W (W - 1) + (N - wl_F N W (W - 1)) - 1 = 0 + N - 1 by omega] at b
      exact a.trans b.symm
    · have a := Q.2.2.1 y hy h
      have g := wl_g3 (N := N) (W := W) hy h (show wl_b ro s0 y = 0 from if_pos h) W B
      rw [wl_FW N hW] at g
      rw [g, a]
      exact wl_pl_e _
    · have a := Q.2.2.2 y hy h
      have g := wl_g4 (N := N) (W := W) hy h (show wl_b ro s0 y = s0 y from if_neg (by omega)) W B
      rw [wl_FW N hW] at g
      rw [g, a]
      exact wl_mn_e _
/-- the serial run by the number of statements -/
def wl_sd (P : wl_P) (S : Nat) (t : wl_St) (d : Nat) : wl_St := wl_rp P (d / S) (wl_ri P S t (d / S)) (d % S)
theorem wl_sd0 (P : wl_P) (S : Nat) (t : wl_St) : wl_sd P S t 0 = t := by
  unfold wl_sd
  rw [Nat.zero_div, Nat.zero_mod]
  rfl
theorem wl_sds (P : wl_P) (hS : 0 < S) (t : wl_St) (d : Nat) : wl_sd P S t (d + 1) = wl_ex P (d % S) (d / S) (wl_sd P S t d) := by
  have hm := Nat.mod_lt d hS
  unfold wl_sd
  by_cases h : d % S + 1 < S
  · obtain ⟨a, b⟩ := (wl_dm hS).1 h
    rw [a, b]
    rfl
  · have h' : d % S + 1 = S := by omega
    obtain ⟨a, b⟩ := (wl_dm hS).2 h'
    rw [a, b]
    show wl_rp P (d / S) (wl_ri P S t (d / S)) S = wl_rp P (d / S) (wl_ri P S t (d / S)) (d % S + 1)
    rw [h']
theorem wl_sdN (P : wl_P) (hS : 0 < S) (t : wl_St) (n : Nat) : wl_sd P S t (n * S) = wl_ri P S t n := by
  unfold wl_sd
  rw [Nat.mul_div_cancel _ hS, Nat.mul_mod_left]
  rfl
end
end
section
/-! roles: one value for both sides, and the two walks to it -/
noncomputable def qr_if (c : Prop) (a b : Int32) : Int32 := @ite _ c (Classical.propDecidable c) a b
theorem qr_t {c : Prop} {a b : Int32} (h : c) : qr_if c a b = a := by
  unfold qr_if
  exact if_pos h
theorem qr_f {c : Prop} {a b : Int32} (h : ¬ c) : qr_if c a b = b := by
  unfold qr_if
  exact if_neg h
noncomputable def qr_b (c : Prop) : Int32 := qr_if c 1 0
theorem qr_bt {c : Prop} (h : c) : qr_b c = 1 := qr_t h
theorem qr_bf {c : Prop} (h : ¬ c) : qr_b c = 0 := qr_f h
theorem qr_or (a b : Prop) : qr_b a ||| qr_b b = qr_b (a ∨ b) := by
  by_cases ha : a
  · rw [qr_bt ha, qr_bt (show a ∨ b from Or.inl ha)]
    by_cases hb : b
    · rw [qr_bt hb]; decide
    · rw [qr_bf hb]; decide
  · by_cases hb : b
    · rw [qr_bf ha, qr_bt hb, qr_bt (show a ∨ b from Or.inr hb)]; decide
    · rw [qr_bf ha, qr_bf hb, qr_bf (show ¬ (a ∨ b) from fun z => z.elim ha hb)]; decide
theorem qr_and (a b : Prop) : qr_b a &&& qr_b b = qr_b (a ∧ b) := by
  by_cases ha : a
  · by_cases hb : b
    · rw [qr_bt ha, qr_bt hb, qr_bt (show a ∧ b from ⟨ha, hb⟩)]; decide
    · rw [qr_bt ha, qr_bf hb, qr_bf (show ¬ (a ∧ b) from fun z => hb z.2)]; decide
  · rw [qr_bf ha, qr_bf (show ¬ (a ∧ b) from fun z => ha z.1)]
    by_cases hb : b
    · rw [qr_bt hb]; decide
    · rw [qr_bf hb]; decide
theorem qr_bc {a b : Prop} (h : a ↔ b) : qr_b a = qr_b b := by rw [propext h]
theorem qr_1 {c : Prop} {post : Int32 → Prop} (hc : c) (h : post (qr_b c)) : post 1 := by
  rw [qr_bt hc] at h; exact h
theorem qr_0 {c : Prop} {post : Int32 → Prop} (hc : ¬ c) (h : post (qr_b c)) : post 0 := by
  rw [qr_bf hc] at h; exact h
theorem qr_nb (c : Prop) : narrow .boolean (.int (qr_b c)) = .int (qr_b c) := by
  by_cases h : c
  · rw [qr_bt h]; exact narrow_b1
  · rw [qr_bf h]; exact narrow_b0
theorem qr_n10 : ¬ (1 : Int32) = 0 := by decide
theorem qr_1m : ¬ (0 : Int32) ≤ -1 := by decide
def qr_M (ao ax aa : Nat → Int32) (y : Int32) (q : Nat) : Prop := ax q = y ∨ ((ao q = 3 ∨ ao q = 4) ∧ aa q = y)
def qr_W (ao ax : Nat → Int32) (y : Int32) (q : Nat) : Prop := ax q = y ∧ ¬ ao q = 2
def qr_A (ao ax aa : Nat → Int32) (y : Int32) (q : Nat) : Prop := ax q = y ∧ ¬ ((ao q = 3 ∨ ao q = 4) ∧ aa q = y)
def qr_S (ao ax aa : Nat → Int32) (y : Int32) (q : Nat) : Prop := qr_A ao ax aa y q ∧ (ao q = 3 ∨ ao q = 5)
def qr_L (ao ax aa : Nat → Int32) (y : Int32) (q : Nat) : Prop := qr_A ao ax aa y q ∧ ao q = 4
def qr_D (ao ax aa : Nat → Int32) (y : Int32) (f : Nat) : Prop := qr_M ao ax aa y f ∧ ∀ q, q < f → ¬ qr_M ao ax aa y q
noncomputable def qr_rl (S : Nat) (ao ax aa : Nat → Int32) (y : Int32) : Int32 :=
  qr_if (∀ q, q < S → ¬ qr_M ao ax aa y q) 0 (qr_if (∀ q, q < S → ¬ qr_W ao ax y q) 1 (qr_if (∃ f, f < S ∧ qr_D ao ax aa y f ∧ (ao f = 0 ∨ ao f = 1)) 2
    (qr_if (∀ q, q < S → qr_M ao ax aa y q → qr_S ao ax aa y q) 3 (qr_if (∀ q, q < S → qr_M ao ax aa y q → qr_L ao ax aa y q) 4 5))))
theorem qr_D1 {ao ax aa : Nat → Int32} {y : Int32} {f g : Nat} (a : qr_D ao ax aa y f) (b : qr_D ao ax aa y g) : f = g := by
  rcases Nat.lt_trichotomy f g with z | z | z
  · exact absurd a.1 (b.2 f z)
  · exact z
  · exact absurd b.1 (a.2 g z)
/-- the value, by its parts -/
theorem qr_v0 {S : Nat} {ao ax aa : Nat → Int32} {y : Int32} (h : ∀ q, q < S → ¬ qr_M ao ax aa y q) : qr_rl S ao ax aa y = 0 := qr_t h
theorem qr_v1 {S : Nat} {ao ax aa : Nat → Int32} {y : Int32} {f : Nat} (hf : f < S) (D : qr_D ao ax aa y f) (h : ∀ q, q < S → ¬ qr_W ao ax y q) : qr_rl S ao ax aa y = 1 := by
  unfold qr_rl
  rw [qr_f (fun z => z f hf D.1), qr_t h]
theorem qr_v2 {S : Nat} {ao ax aa : Nat → Int32} {y : Int32} {f : Nat} (hf : f < S) (D : qr_D ao ax aa y f) (h : ¬ ∀ q, q < S → ¬ qr_W ao ax y q) (h2 : ao f = 0 ∨ ao f = 1) : qr_rl S ao ax aa y = 2 := by
  unfold qr_rl
  rw [qr_f (fun z => z f hf D.1), qr_f h, qr_t ⟨f, hf, D, h2⟩]
theorem qr_v3 {S : Nat} {ao ax aa : Nat → Int32} {y : Int32} {f : Nat} (hf : f < S) (D : qr_D ao ax aa y f) (h : ¬ ∀ q, q < S → ¬ qr_W ao ax y q) (h2 : ¬ (ao f = 0 ∨ ao f = 1)) (h3 : ∀ q, q < S → qr_M ao ax aa y q → qr_S ao ax aa y q) : qr_rl S ao ax aa y = 3 := by
  have k : ¬ ∃ f, f < S ∧ qr_D ao ax aa y f ∧ (ao f = 0 ∨ ao f = 1) := by
    rintro ⟨g, _, E, e⟩
    rw [qr_D1 E D] at e
    exact h2 e
  unfold qr_rl
  rw [qr_f (fun z => z f hf D.1), qr_f h, qr_f k, qr_t h3]
theorem qr_v4 {S : Nat} {ao ax aa : Nat → Int32} {y : Int32} {f : Nat} (hf : f < S) (D : qr_D ao ax aa y f) (h : ¬ ∀ q, q < S → ¬ qr_W ao ax y q) (h2 : ¬ (ao f = 0 ∨ ao f = 1)) (h3 : ¬ ∀ q, q < S → qr_M ao ax aa y q → qr_S ao ax aa y q) (h4 : ∀ q, q < S → qr_M ao ax aa y q → qr_L ao ax aa y q) : qr_rl S ao ax aa y = 4 := by
  have k : ¬ ∃ f, f < S ∧ qr_D ao ax aa y f ∧ (ao f = 0 ∨ ao f = 1) := by
    rintro ⟨g, _, E, e⟩
    rw [qr_D1 E D] at e
    exact h2 e
  unfold qr_rl
  rw [qr_f (fun z => z f hf D.1), qr_f h, qr_f k, qr_f h3, qr_t h4]
theorem qr_v5 {S : Nat} {ao ax aa : Nat → Int32} {y : Int32} {f : Nat} (hf : f < S) (D : qr_D ao ax aa y f) (h : ¬ ∀ q, q < S → ¬ qr_W ao ax y q) (h2 : ¬ (ao f = 0 ∨ ao f = 1)) (h3 : ¬ ∀ q, q < S → qr_M ao ax aa y q → qr_S ao ax aa y q) (h4 : ¬ ∀ q, q < S → qr_M ao ax aa y q → qr_L ao ax aa y q) : qr_rl S ao ax aa y = 5 := by
  have k : ¬ ∃ f, f < S ∧ qr_D ao ax aa y f ∧ (ao f = 0 ∨ ao f = 1) := by
    rintro ⟨g, _, E, e⟩
    rw [qr_D1 E D] at e
    exact h2 e
  unfold qr_rl
  rw [qr_f (fun z => z f hf D.1), qr_f h, qr_f k, qr_f h3, qr_f h4]
/-! the component's walk -/
section
variable {N W S : Nat} {rn sh dv sr : Int32} {sc ce ao ax aa ab aw an af ad al ar : Nat → Int32}
variable {y : Int32} {p : Nat}
theorem qr_xm {post : Int32 → Prop} (hp : p < 6) (h : post (qr_b (qr_M ao ax aa y p))) : wpX_mentions post ((nI N), (nI W), (nI S), rn, sh, dv, sr, sc, ce, ao, ax, aa, ab, aw, an, af, ad, al, ar) (nI p) y := by
  have hi : vp_in (nI p) 6 := vp_in_nI hp (by omega)
  have hc : (nI p).toNatClampNeg = p := nI_clamp (by omega)
  unfold wpX_mentions wX_mentions_30
  dsimp only
  rw [hc]
  refine ⟨hi, br_c (fun h1 => qr_1 (Or.inl h1) h) (fun h1 => ⟨hi, br_c (fun h3 => ⟨hi, br_c (fun ha => qr_1 (Or.inr ⟨Or.inl h3, ha⟩) h) (fun ha => qr_0 (fun z => z.elim h1 (fun w => ha w.2)) h)⟩) (fun h3 => ⟨hi, br_c (fun h4 => ⟨hi, br_c (fun ha => qr_1 (Or.inr ⟨Or.inr h4, ha⟩) h) (fun ha => qr_0 (fun z => z.elim h1 (fun w => ha w.2)) h)⟩) (fun h4 => qr_0 (fun z => z.elim h1 (fun w => w.1.elim h3 h4)) h)⟩)⟩)⟩
variable {post : Int32 → Prop} {J : Int32 → Int32 → Int32 → Int32 → Int32 → Prop} {x2 x3 x4 x5 z0 x7 : Int32}
theorem qr_x143 (hp : p < 6) (hz : z0 = qr_b (qr_S ao ax aa y p)) (h0 : x7 = 0 → ¬ qr_L ao ax aa y p) (h1 : ¬ x7 = 0 → ao p = 4 → qr_L ao ax aa y p) (h : J x2 x3 (x4 &&& qr_b (qr_S ao ax aa y p)) (x5 &&& qr_b (qr_L ao ax aa y p)) (nI (p + 1))) : wX_roleOf_143 post J y x2 x3 x5 (nI p) x7 z0 x4 (nI N) (nI W) (nI S) rn sh dv sr sc ce ao ax aa ab aw an af ad al ar := by
  have hi : vp_in (nI p) 6 := vp_in_nI hp (by omega)
  have hc : (nI p).toNatClampNeg = p := nI_clamp (by omega)
  unfold wX_roleOf_143
  rw [hc]
  intro a ea
  rw [ea, hz]
  refine br_c (fun h7 b eb c ec => ?_) (fun h7 => ⟨hi, br_c (fun h4 b eb c ec => ?_) (fun h4 b eb c ec => ?_)⟩)
  · rw [eb, ec, nI_1, ← qr_bf (h0 h7)]; exact h
  · rw [eb, ec, nI_1, ← qr_bt (h1 h7 h4)]; exact h
  · rw [eb, ec, nI_1, ← qr_bf (show ¬ qr_L ao ax aa y p from fun z => h4 z.2)]; exact h
theorem qr_x107 (hp : p < 6) (h0 : z0 = 0 → ¬ qr_S ao ax aa y p ∧ ¬ qr_L ao ax aa y p) (h1 : ¬ z0 = 0 → ((ao p = 3 ∨ ao p = 5) → qr_S ao ax aa y p) ∧ (ao p = 4 → qr_L ao ax aa y p)) (h : J x2 x3 (x4 &&& qr_b (qr_S ao ax aa y p)) (x5 &&& qr_b (qr_L ao ax aa y p)) (nI (p + 1))) : wX_roleOf_107 post J y x2 x3 x4 x5 (nI p) z0 (nI N) (nI W) (nI S) rn sh dv sr sc ce ao ax aa ab aw an af ad al ar := by
  have hi : vp_in (nI p) 6 := vp_in_nI hp (by omega)
  have hc : (nI p).toNatClampNeg = p := nI_clamp (by omega)
  unfold wX_roleOf_107 wX_roleOf_142 wX_roleOf_138
  rw [hc]
  refine br_c (fun z => ?_) (fun z => ⟨hi, br_c (fun h3 => ?_) (fun h3 => ⟨hi, br_c (fun h5 => ?_) (fun h5 => ?_)⟩)⟩)
  · exact qr_x143 hp (qr_bf (h0 z).1).symm (fun _ => (h0 z).2) (fun q => absurd z q) h
  · exact qr_x143 hp (qr_bt ((h1 z).1 (Or.inl h3))).symm (fun q => absurd q z) (fun _ => (h1 z).2) h
  · exact qr_x143 hp (qr_bt ((h1 z).1 (Or.inr h5))).symm (fun q => absurd q z) (fun _ => (h1 z).2) h
  · exact qr_x143 hp (qr_bf (fun q => q.2.elim h3 h5)).symm (fun q => absurd q z) (fun _ => (h1 z).2) h
theorem qr_x106 (hp : p < 6) (h0 : ¬ qr_S ao ax aa y p ∧ ¬ qr_L ao ax aa y p) (h : J x2 x3 (x4 &&& qr_b (qr_S ao ax aa y p)) (x5 &&& qr_b (qr_L ao ax aa y p)) (nI (p + 1))) : wX_roleOf_106 post J y x2 x3 x4 x5 (nI p) (nI N) (nI W) (nI S) rn sh dv sr sc ce ao ax aa ab aw an af ad al ar := by
  unfold wX_roleOf_106
  exact qr_x107 hp (fun _ => h0) (fun q => absurd rfl q) h
theorem qr_x102 (hp : p < 6) (h1 : ((ao p = 3 ∨ ao p = 5) → qr_S ao ax aa y p) ∧ (ao p = 4 → qr_L ao ax aa y p)) (h : J x2 x3 (x4 &&& qr_b (qr_S ao ax aa y p)) (x5 &&& qr_b (qr_L ao ax aa y p)) (nI (p + 1))) : wX_roleOf_102 post J y x2 x3 x4 x5 (nI p) (nI N) (nI W) (nI S) rn sh dv sr sc ce ao ax aa ab aw an af ad al ar := by
  unfold wX_roleOf_102
  exact qr_x107 hp (fun q => absurd q qr_n10) (fun _ => h1) h
theorem qr_x67 (hp : p < 6) (hz : z0 = qr_b (qr_W ao ax y p)) (h : J x2 (x3 ||| qr_b (qr_W ao ax y p)) (x4 &&& qr_b (qr_S ao ax aa y p)) (x5 &&& qr_b (qr_L ao ax aa y p)) (nI (p + 1))) : wX_roleOf_67 post J y x2 x4 x5 (nI p) z0 x3 (nI N) (nI W) (nI S) rn sh dv sr sc ce ao ax aa ab aw an af ad al ar := by
  have hi : vp_in (nI p) 6 := vp_in_nI hp (by omega)
  have hc : (nI p).toNatClampNeg = p := nI_clamp (by omega)
  unfold wX_roleOf_67
  rw [hc]
  intro a ea
  rw [ea, hz]
  have n5 : ao p = 5 → ¬ (ao p = 3 ∨ ao p = 4) := by
    intro z
    rw [z]
    decide
  refine ⟨hi, br_c (fun h1 => ⟨hi, br_c (fun h5 => ?_) (fun h5 => ⟨hi, br_c (fun ha => ?_) (fun ha => ?_)⟩)⟩) (fun h1 => ?_)⟩
  · have A : qr_A ao ax aa y p := ⟨h1, fun z => n5 h5 z.1⟩
    exact qr_x102 hp ⟨fun z => ⟨A, z⟩, fun z => ⟨A, z⟩⟩ h
  · refine qr_x106 hp ⟨fun z => ?_, fun z => ?_⟩ h
    · exact z.2.elim (fun w => z.1.2 ⟨Or.inl w, ha⟩) h5
    · exact z.1.2 ⟨Or.inr z.2, ha⟩
  · have A : qr_A ao ax aa y p := ⟨h1, fun z => ha z.2⟩
    exact qr_x102 hp ⟨fun z => ⟨A, z⟩, fun z => ⟨A, z⟩⟩ h
  · exact qr_x106 hp ⟨fun z => h1 z.1.1, fun z => h1 z.1.1⟩ h
theorem qr_x39 (hp : p < 6) (h : J x2 (x3 ||| qr_b (qr_W ao ax y p)) (x4 &&& qr_b (qr_S ao ax aa y p)) (x5 &&& qr_b (qr_L ao ax aa y p)) (nI (p + 1))) : wX_roleOf_39 post J y x2 x3 x4 x5 (nI p) (nI N) (nI W) (nI S) rn sh dv sr sc ce ao ax aa ab aw an af ad al ar := by
  have hi : vp_in (nI p) 6 := vp_in_nI hp (by omega)
  have hc : (nI p).toNatClampNeg = p := nI_clamp (by omega)
  unfold wX_roleOf_39 wX_roleOf_66
  rw [hc]
  refine ⟨hi, br_c (fun h1 => ⟨hi, br_c (fun h2 => ?_) (fun h2 => ?_)⟩) (fun h1 => ?_)⟩
  · exact qr_x67 hp (qr_bf (fun z => z.2 h2)).symm h
  · exact qr_x67 hp (qr_bt ⟨h1, h2⟩).symm h
  · exact qr_x67 hp (qr_bf (fun z => h1 z.1)).symm h
end
section
variable {N W S : Nat} {rn sh dv sr : Int32} {sc ce ao ax aa ab aw an af ad al ar : Nat → Int32}
theorem qr_xl {y : Int32} {post : Int32 → Prop} (hS : S ≤ 6) (hpost : post (qr_rl S ao ax aa y)) : ∀ d p, p + d = S → ∀ n, d < n → ∀ x2 x3 x4 x5 : Int32,
    x3 = qr_b (∃ q, q < p ∧ qr_W ao ax y q) → x4 = qr_b (∀ q, q < p → qr_M ao ax aa y q → qr_S ao ax aa y q) → x5 = qr_b (∀ q, q < p → qr_M ao ax aa y q → qr_L ao ax aa y q) →
    ((x2 = -1 ∧ ∀ q, q < p → ¬ qr_M ao ax aa y q) ∨ ∃ f, f < p ∧ x2 = nI f ∧ qr_D ao ax aa y f) → wX_roleOf_13 post y (nI N) (nI W) (nI S) rn sh dv sr sc ce ao ax aa ab aw an af ad al ar n x2 x3 x4 x5 (nI p) := by
  intro d
  induction d with
  | zero =>
    intro p hpS n hn x2 x3 x4 x5 e3 e4 e5 hf
    obtain ⟨m, rfl⟩ : ∃ m, n = m + 1 := ⟨n - 1, by omega⟩
    have hpS' : p = S := by omega
    subst hpS'
    refine br_t (nI_le (Nat.le_refl p) (by omega)) ?_
    rcases hf with ⟨e2, hno⟩ | ⟨f, hf, e2, D⟩
    · rw [e2]
      refine br_f qr_1m ?_
      rw [qr_v0 hno] at hpost
      exact hpost
    · rw [e2]
      have hi : vp_in (nI f) 6 := vp_in_nI (by omega) (by omega)
      have hc : (nI f).toNatClampNeg = f := nI_clamp (by omega)
      refine br_t (nI_pos' (by omega)) ?_
      by_cases hW : ∃ q, q < p ∧ qr_W ao ax y q
      · have hW' : ¬ ∀ q, q < p → ¬ qr_W ao ax y q := fun z => by
          obtain ⟨q, a, b⟩ := hW
          exact z q a b
        rw [qr_bt hW] at e3
        rw [e3, hc]
        refine br_f qr_n10 ⟨hi, br_c (fun z => ?_) (fun z => ⟨hi, br_c (fun w => ?_) (fun w => ?_)⟩)⟩
        · rw [qr_v2 hf D hW' (Or.inl z)] at hpost; exact hpost
        · rw [qr_v2 hf D hW' (Or.inr w)] at hpost; exact hpost
        · have h2 : ¬ (ao f = 0 ∨ ao f = 1) := fun q => q.elim z w
          by_cases h3 : ∀ q, q < p → qr_M ao ax aa y q → qr_S ao ax aa y q
          · rw [qr_bt h3] at e4
            rw [e4]
            rw [qr_v3 hf D hW' h2 h3] at hpost
            exact br_f qr_n10 hpost
          · rw [qr_bf h3] at e4
            rw [e4]
            refine br_t rfl ?_
            by_cases h4 : ∀ q, q < p → qr_M ao ax aa y q → qr_L ao ax aa y q
            · rw [qr_bt h4] at e5
              rw [e5]
              rw [qr_v4 hf D hW' h2 h3 h4] at hpost
              exact br_f qr_n10 hpost
            · rw [qr_bf h4] at e5
              rw [e5]
              rw [qr_v5 hf D hW' h2 h3 h4] at hpost
              exact br_t rfl hpost
      · rw [qr_bf hW] at e3
        rw [e3]
        rw [qr_v1 hf D (fun q a b => hW ⟨q, a, b⟩)] at hpost
        exact br_t rfl hpost
  | succ d ih =>
    intro p hpS n hn x2 x3 x4 x5 e3 e4 e5 hf
    obtain ⟨m, rfl⟩ : ∃ m, n = m + 1 := ⟨n - 1, by omega⟩
    refine br_f (nI_ge (by omega) (by omega)) ?_
    refine qr_xm (by omega) ?_
    have s3 : x3 ||| qr_b (qr_W ao ax y p) = qr_b (∃ q, q < p + 1 ∧ qr_W ao ax y q) := by
      rw [e3, qr_or]
      refine qr_bc ⟨?_, ?_⟩
      · rintro (⟨q, a, b⟩ | a)
        · exact ⟨q, by omega, b⟩
        · exact ⟨p, by omega, a⟩
      · rintro ⟨q, a, b⟩
        by_cases z : q = p
        · rw [z] at b; exact Or.inr b
        · exact Or.inl ⟨q, by omega, b⟩
    by_cases hM : qr_M ao ax aa y p
    · rw [qr_bt hM]
      refine br_f qr_n10 ?_
      have s4 : x4 &&& qr_b (qr_S ao ax aa y p) = qr_b (∀ q, q < p + 1 → qr_M ao ax aa y q → qr_S ao ax aa y q) := by
        rw [e4, qr_and]
        refine qr_bc ⟨?_, ?_⟩
        · rintro ⟨a, b⟩ q hq hm
          by_cases z : q = p
          · rw [z]; exact b
          · exact a q (by omega) hm
        · intro a
          exact ⟨fun q hq => a q (by omega), a p (by omega) hM⟩
      have s5 : x5 &&& qr_b (qr_L ao ax aa y p) = qr_b (∀ q, q < p + 1 → qr_M ao ax aa y q → qr_L ao ax aa y q) := by
        rw [e5, qr_and]
        refine qr_bc ⟨?_, ?_⟩
        · rintro ⟨a, b⟩ q hq hm
          by_cases z : q = p
          · rw [z]; exact b
          · exact a q (by omega) hm
        · intro a
          exact ⟨fun q hq => a q (by omega), a p (by omega) hM⟩
      rcases hf with ⟨e2, hno⟩ | ⟨f, hf, e2, D⟩
      · rw [e2]
        refine br_f qr_1m (qr_x39 (by omega) ?_)
        exact ih (p + 1) (by omega) m (by omega) _ _ _ _ s3 s4 s5 (Or.inr ⟨p, by omega, rfl, hM, hno⟩)
      · rw [e2]
        refine br_t (nI_pos' (by omega)) (qr_x39 (by omega) ?_)
        exact ih (p + 1) (by omega) m (by omega) _ _ _ _ s3 s4 s5 (Or.inr ⟨f, by omega, rfl, D⟩)
    · rw [qr_bf hM]
      refine br_t rfl (nm_r (nI_1 p) ?_)
      refine ih (p + 1) (by omega) m (by omega) _ _ _ _ ?_ ?_ ?_ ?_
      · rw [← s3, qr_bf (show ¬ qr_W ao ax y p from fun z => hM (Or.inl z.1)), e3]
        exact (Int32.or_zero).symm
      · rw [e4]
        refine qr_bc ⟨fun a q hq hm => ?_, fun a q hq => a q (by omega)⟩
        by_cases z : q = p
        · rw [z] at hm; exact absurd hm hM
        · exact a q (by omega) hm
      · rw [e5]
        refine qr_bc ⟨fun a q hq hm => ?_, fun a q hq => a q (by omega)⟩
        by_cases z : q = p
        · rw [z] at hm; exact absurd hm hM
        · exact a q (by omega) hm
      · rcases hf with ⟨e2, hno⟩ | ⟨f, hf, e2, D⟩
        · refine Or.inl ⟨e2, fun q hq => ?_⟩
          by_cases z : q = p
          · rw [z]; exact hM
          · exact hno q (by omega)
        · exact Or.inr ⟨f, by omega, e2, D⟩
theorem qr_x {y : Int32} {post : Int32 → Prop} (hS : S ≤ 6) (hpost : post (qr_rl S ao ax aa y)) : wpX_roleOf post ((nI N), (nI W), (nI S), rn, sh, dv, sr, sc, ce, ao, ax, aa, ab, aw, an, af, ad, al, ar) y := by
  refine ⟨S + 1, ?_⟩
  have k := qr_xl (N := N) (W := W) (rn := rn) (sh := sh) (dv := dv) (sr := sr) (sc := sc) (ce := ce) (ab := ab) (aw := aw) (an := an) (af := af) (ad := ad) (al := al) (ar := ar) hS hpost S 0 (by omega) (S + 1) (by omega) (-1) 0 1 1 (qr_bf (fun z => z.elim fun q a => absurd a.1 (Nat.not_lt_zero q))).symm (qr_bt (fun q a => absurd a (Nat.not_lt_zero q))).symm (qr_bt (fun q a => absurd a (Nat.not_lt_zero q))).symm (Or.inl ⟨rfl, fun q a => absurd a (Nat.not_lt_zero q)⟩)
  rw [nI_0] at k
  exact k
end
end
section
/-! roles: the reference's walk, from the last statement down -/
theorem qr_b0 {c : Prop} (h : qr_b c = 0) : ¬ c := fun z => by
  rw [qr_bt z] at h
  exact qr_n10 h
theorem qr_bn {c : Prop} (h : ¬ qr_b c = 0) : c := Classical.byContradiction fun z => h (qr_bf z)
section
variable {N W S : Nat} {rn : Int32} {ao ax aa bb sc ce yd : Nat → Int32}
variable {y : Int32} {p : Nat}
theorem qr_yr {post : Int32 → Prop} (hp : p < 6) (h : post (qr_b ((ao p = 3 ∨ ao p = 4) ∧ aa p = y))) : wpY_reads post ((nI N), (nI W), (nI S), rn, ao, ax, aa, bb, sc, ce, yd) (nI p) y := by
  have hi : vp_in (nI p) 6 := vp_in_nI hp (by omega)
  have hc : (nI p).toNatClampNeg = p := nI_clamp (by omega)
  unfold wpY_reads wY_reads_20
  dsimp only
  rw [hc]
  exact ⟨hi, br_c (fun h3 => ⟨hi, br_c (fun ha => qr_1 ⟨Or.inl h3, ha⟩ h) (fun ha => qr_0 (fun z => ha z.2) h)⟩) (fun h3 => ⟨hi, br_c (fun h4 => ⟨hi, br_c (fun ha => qr_1 ⟨Or.inr h4, ha⟩ h) (fun ha => qr_0 (fun z => ha z.2) h)⟩) (fun h4 => qr_0 (fun z => z.1.elim h3 h4) h)⟩)⟩
theorem qr_ym {post : Int32 → Prop} (hp : p < 6) (h : post (qr_b (qr_M ao ax aa y p))) : wpY_mentions post ((nI N), (nI W), (nI S), rn, ao, ax, aa, bb, sc, ce, yd) (nI p) y := by
  have hi : vp_in (nI p) 6 := vp_in_nI hp (by omega)
  have hc : (nI p).toNatClampNeg = p := nI_clamp (by omega)
  unfold wpY_mentions
  dsimp only
  rw [hc]
  refine ⟨hi, br_c (fun h1 => qr_1 (Or.inl h1) h) (fun h1 => ?_)⟩
  refine qr_yr hp ?_
  refine br_c (fun z => qr_0 (fun w => w.elim h1 (qr_b0 z)) h) (fun z => qr_1 (Or.inr (qr_bn z)) h)
variable {post : Int32 → Prop} {J : Int32 → Int32 → Int32 → Int32 → Int32 → Prop} {x2 x3 x4 x5 z0 x7 : Int32} {k3 k4 k5 : Prop}
theorem qr_y144 (hp : p < 6) (e5 : x5 = qr_b k5) (h0 : x7 = 0 → ¬ qr_L ao ax aa y p) (h1 : ¬ x7 = 0 → ao p = 4 → qr_L ao ax aa y p) (h : J x2 x3 z0 (qr_b (k5 ∧ qr_L ao ax aa y p)) (nI p + (-1))) : wY_role_144 post J y x2 x3 x5 (nI p) x7 z0 (nI N) (nI W) (nI S) rn ao ax aa bb sc ce yd := by
  have hi : vp_in (nI p) 6 := vp_in_nI hp (by omega)
  have hc : (nI p).toNatClampNeg = p := nI_clamp (by omega)
  unfold wY_role_144
  rw [hc, e5]
  refine br_c (fun z c ec => ?_) (fun z => br_c (fun h7 c ec => ?_) (fun h7 => ⟨hi, br_c (fun h4 c ec => ?_) (fun h4 c ec => ?_)⟩))
  · rw [ec]; rw [qr_bf (show ¬ (k5 ∧ qr_L ao ax aa y p) from fun w => qr_b0 z w.1)] at h; exact h
  · rw [ec]; rw [qr_bf (show ¬ (k5 ∧ qr_L ao ax aa y p) from fun w => h0 h7 w.2)] at h; exact h
  · rw [ec]; rw [qr_bt (show k5 ∧ qr_L ao ax aa y p from ⟨qr_bn z, h1 h7 h4⟩)] at h; exact h
  · rw [ec]; rw [qr_bf (show ¬ (k5 ∧ qr_L ao ax aa y p) from fun w => h4 w.2.2)] at h; exact h
theorem qr_y105 (hp : p < 6) (e4 : x4 = qr_b k4) (e5 : x5 = qr_b k5) (h0 : z0 = 0 → ¬ qr_S ao ax aa y p ∧ ¬ qr_L ao ax aa y p) (h1 : ¬ z0 = 0 → ((ao p = 3 ∨ ao p = 5) → qr_S ao ax aa y p) ∧ (ao p = 4 → qr_L ao ax aa y p)) (h : J x2 x3 (qr_b (k4 ∧ qr_S ao ax aa y p)) (qr_b (k5 ∧ qr_L ao ax aa y p)) (nI p + (-1))) : wY_role_105 post J y x2 x3 x4 x5 (nI p) z0 (nI N) (nI W) (nI S) rn ao ax aa bb sc ce yd := by
  have hi : vp_in (nI p) 6 := vp_in_nI hp (by omega)
  have hc : (nI p).toNatClampNeg = p := nI_clamp (by omega)
  unfold wY_role_105 wY_role_143 wY_role_139
  rw [hc, e4]
  have l0 : z0 = 0 → ¬ qr_L ao ax aa y p := fun z => (h0 z).2
  have l1 : ¬ z0 = 0 → ao p = 4 → qr_L ao ax aa y p := fun z => (h1 z).2
  refine br_c (fun z => ?_) (fun z => br_c (fun w => ?_) (fun w => ⟨hi, br_c (fun h3 => ?_) (fun h3 => ⟨hi, br_c (fun h5 => ?_) (fun h5 => ?_)⟩)⟩))
  · refine qr_y144 hp e5 l0 l1 ?_
    rw [qr_bf (show ¬ (k4 ∧ qr_S ao ax aa y p) from fun q => qr_b0 z q.1)] at h; exact h
  · refine qr_y144 hp e5 l0 l1 ?_
    rw [qr_bf (show ¬ (k4 ∧ qr_S ao ax aa y p) from fun q => (h0 w).1 q.2)] at h; exact h
  · refine qr_y144 hp e5 l0 l1 ?_
    rw [qr_bt (show k4 ∧ qr_S ao ax aa y p from ⟨qr_bn z, (h1 w).1 (Or.inl h3)⟩)] at h; exact h
  · refine qr_y144 hp e5 l0 l1 ?_
    rw [qr_bt (show k4 ∧ qr_S ao ax aa y p from ⟨qr_bn z, (h1 w).1 (Or.inr h5)⟩)] at h; exact h
  · refine qr_y144 hp e5 l0 l1 ?_
    rw [qr_bf (show ¬ (k4 ∧ qr_S ao ax aa y p) from fun q => q.2.2.elim h3 h5)] at h; exact h
theorem qr_y78 (hp : p < 6) (e4 : x4 = qr_b k4) (e5 : x5 = qr_b k5) (h : J x2 z0 (qr_b (k4 ∧ qr_S ao ax aa y p)) (qr_b (k5 ∧ qr_L ao ax aa y p)) (nI p + (-1))) : wY_role_78 post J y x2 x4 x5 (nI p) z0 (nI N) (nI W) (nI S) rn ao ax aa bb sc ce yd := by
  have hi : vp_in (nI p) 6 := vp_in_nI hp (by omega)
  have hc : (nI p).toNatClampNeg = p := nI_clamp (by omega)
  unfold wY_role_78 wY_role_104
  rw [hc]
  refine ⟨hi, br_c (fun h1 => qr_yr hp (br_c (fun z => ?_) (fun z => ?_))) (fun h1 => ?_)⟩
  · have A : qr_A ao ax aa y p := ⟨h1, qr_b0 z⟩
    exact qr_y105 hp e4 e5 (fun q => absurd q qr_n10) (fun _ => ⟨fun w => ⟨A, w⟩, fun w => ⟨A, w⟩⟩) h
  · exact qr_y105 hp e4 e5 (fun _ => ⟨fun w => w.1.2 (qr_bn z), fun w => w.1.2 (qr_bn z)⟩) (fun q => absurd rfl q) h
  · exact qr_y105 hp e4 e5 (fun _ => ⟨fun w => h1 w.1.1, fun w => h1 w.1.1⟩) (fun q => absurd rfl q) h
end
section
variable {N W S : Nat} {rn : Int32} {ao ax aa bb sc ce yd : Nat → Int32}
theorem qr_yl {y : Int32} {post : Int32 → Prop} (hS : S ≤ 6) (hO : ∀ q, q < S → ∃ o : Nat, o ≤ 5 ∧ ao q = nI o) (hpost : post (qr_rl S ao ax aa y)) : ∀ p, p ≤ S → ∀ n, p < n → ∀ x2 x3 x4 x5 : Int32,
    x3 = qr_b (∀ q, p ≤ q → q < S → ¬ qr_W ao ax y q) → x4 = qr_b (∀ q, p ≤ q → q < S → qr_M ao ax aa y q → qr_S ao ax aa y q) → x5 = qr_b (∀ q, p ≤ q → q < S → qr_M ao ax aa y q → qr_L ao ax aa y q) →
    ((x2 = -1 ∧ ∀ q, p ≤ q → q < S → ¬ qr_M ao ax aa y q) ∨ ∃ f, p ≤ f ∧ f < S ∧ x2 = nI f ∧ qr_M ao ax aa y f ∧ ∀ q, p ≤ q → q < f → ¬ qr_M ao ax aa y q) → wY_role_29 post y (nI N) (nI W) (nI S) rn ao ax aa bb sc ce yd n x2 x3 x4 x5 (nI p + (-1)) := by
  intro p
  induction p with
  | zero =>
    intro _ n hn x2 x3 x4 x5 e3 e4 e5 hf
    obtain ⟨m, rfl⟩ : ∃ m, n = m + 1 := ⟨n - 1, by omega⟩
    have hneg : nI 0 + (-1) < 0 := by rw [nI_0]; decide
    refine br_t hneg ?_
    rcases hf with ⟨e2, hno⟩ | ⟨f, _, hf, e2, hM, hno⟩
    · rw [e2]
      refine br_f qr_1m ?_
      rw [qr_v0 (fun q hq => hno q (Nat.zero_le q) hq)] at hpost
      exact hpost
    · rw [e2]
      have D : qr_D ao ax aa y f := ⟨hM, fun q hq => hno q (Nat.zero_le q) hq⟩
      have hi : vp_in (nI f) 6 := vp_in_nI (by omega) (by omega)
      have hc : (nI f).toNatClampNeg = f := nI_clamp (by omega)
      refine br_t (nI_pos' (by omega)) ?_
      by_cases hW : ∀ q, q < S → ¬ qr_W ao ax y q
      · have hW' : ∀ q, 0 ≤ q → q < S → ¬ qr_W ao ax y q := fun q _ => hW q
        rw [qr_bt hW'] at e3
        rw [e3]
        rw [qr_v1 hf D hW] at hpost
        exact br_f qr_n10 hpost
      · have hW' : ¬ ∀ q, 0 ≤ q → q < S → ¬ qr_W ao ax y q := fun z => hW (fun q => z q (Nat.zero_le q))
        rw [qr_bf hW'] at e3
        rw [e3, hc]
        obtain ⟨o, ho, eo⟩ := hO f hf
        have h1 : (1 : Int32) < ao f ↔ 1 < o := by rw [eo]; exact nI_ltI (a := 1) (by omega) (by omega)
        refine br_t rfl ⟨hi, br_c (fun z => ?_) (fun z => ?_)⟩
        · rw [h1] at z
          have h2 : ¬ (ao f = 0 ∨ ao f = 1) := by
            rw [eo]
            intro q
            rcases q with q | q
            · have := (nI_eq (a := o) (b := 0) (by omega) (by omega)).mp q
              omega
            · have := (nI_eq (a := o) (b := 1) (by omega) (by omega)).mp q
              omega
          by_cases h3 : ∀ q, q < S → qr_M ao ax aa y q → qr_S ao ax aa y q
          · have h3' : ∀ q, 0 ≤ q → q < S → qr_M ao ax aa y q → qr_S ao ax aa y q := fun q _ => h3 q
            rw [qr_bt h3'] at e4
            rw [e4]
            rw [qr_v3 hf D hW h2 h3] at hpost
            exact br_f qr_n10 hpost
          · have h3' : ¬ ∀ q, 0 ≤ q → q < S → qr_M ao ax aa y q → qr_S ao ax aa y q := fun z => h3 (fun q => z q (Nat.zero_le q))
            rw [qr_bf h3'] at e4
            rw [e4]
            refine br_t rfl ?_
            by_cases h4 : ∀ q, q < S → qr_M ao ax aa y q → qr_L ao ax aa y q
            · have h4' : ∀ q, 0 ≤ q → q < S → qr_M ao ax aa y q → qr_L ao ax aa y q := fun q _ => h4 q
              rw [qr_bt h4'] at e5
              rw [e5]
              rw [qr_v4 hf D hW h2 h3 h4] at hpost
              exact br_f qr_n10 hpost
            · have h4' : ¬ ∀ q, 0 ≤ q → q < S → qr_M ao ax aa y q → qr_L ao ax aa y q := fun z => h4 (fun q => z q (Nat.zero_le q))
              rw [qr_bf h4'] at e5
              rw [e5]
              rw [qr_v5 hf D hW h2 h3 h4] at hpost
              exact br_t rfl hpost
        · rw [h1] at z
          have h2 : ao f = 0 ∨ ao f = 1 := by
            rw [eo]
            by_cases q : o = 0
            · rw [q]; exact Or.inl nI_0
            · have : o = 1 := by omega
              rw [this]; exact Or.inr rfl
          rw [qr_v2 hf D hW h2] at hpost
          exact hpost
  | succ p ih =>
    intro hpS n hn x2 x3 x4 x5 e3 e4 e5 hf
    obtain ⟨m, rfl⟩ : ∃ m, n = m + 1 := ⟨n - 1, by omega⟩
    have hi : vp_in (nI p) 6 := vp_in_nI (by omega) (by omega)
    have hc : (nI p).toNatClampNeg = p := nI_clamp (by omega)
    rw [pk_m1]
    refine br_f (nI_pos (by omega)) ?_
    refine qr_ym (by omega) ?_
    by_cases hM : qr_M ao ax aa y p
    · rw [qr_bt hM]
      refine br_f qr_n10 ?_
      have hfi : (nI p = -1 ∧ ∀ q, p ≤ q → q < S → ¬ qr_M ao ax aa y q) ∨ ∃ f, p ≤ f ∧ f < S ∧ nI p = nI f ∧ qr_M ao ax aa y f ∧ ∀ q, p ≤ q → q < f → ¬ qr_M ao ax aa y q :=
        Or.inr ⟨p, Nat.le_refl p, by omega, rfl, hM, fun q a b => absurd b (by omega)⟩
      have s4 : qr_b ((∀ q, p + 1 ≤ q → q < S → qr_M ao ax aa y q → qr_S ao ax aa y q) ∧ qr_S ao ax aa y p) = qr_b (∀ q, p ≤ q → q < S → qr_M ao ax aa y q → qr_S ao ax aa y q) := by
        refine qr_bc ⟨?_, ?_⟩
        · rintro ⟨a, b⟩ q hq hq2 hm
          by_cases z : q = p
          · rw [z]; exact b
          · exact a q (by omega) hq2 hm
        · intro a
          exact ⟨fun q hq => a q (by omega), a p (Nat.le_refl p) (by omega) hM⟩
      have s5 : qr_b ((∀ q, p + 1 ≤ q → q < S → qr_M ao ax aa y q → qr_L ao ax aa y q) ∧ qr_L ao ax aa y p) = qr_b (∀ q, p ≤ q → q < S → qr_M ao ax aa y q → qr_L ao ax aa y q) := by
        refine qr_bc ⟨?_, ?_⟩
        · rintro ⟨a, b⟩ q hq hq2 hm
          by_cases z : q = p
          · rw [z]; exact b
          · exact a q (by omega) hq2 hm
        · intro a
          exact ⟨fun q hq => a q (by omega), a p (Nat.le_refl p) (by omega) hM⟩
      have t : (¬ qr_W ao ax y p) → (∀ q, p + 1 ≤ q → q < S → ¬ qr_W ao ax y q) → ∀ q, p ≤ q → q < S → ¬ qr_W ao ax y q := by
        intro a b q hq hq2
        by_cases z : q = p
        · rw [z]; exact a
        · exact b q (by omega) hq2
      rw [e3]
      refine br_c (fun z => ?_) (fun z => ⟨hi, ?_⟩)
      · unfold wY_role_77
        refine qr_y78 (by omega) e4 e5 ?_
        exact ih (by omega) m (by omega) _ _ _ _ (qr_bf (fun w => qr_b0 z (fun q hq => w q (by omega)))).symm s4 s5 hfi
      · rw [hc]
        refine br_c (fun h1 => ⟨hi, br_c (fun h2 => ?_) (fun h2 => ?_)⟩) (fun h1 => ?_)
        · unfold wY_role_73
          refine qr_y78 (by omega) e4 e5 ?_
          exact ih (by omega) m (by omega) _ _ _ _ (qr_bt (t (fun w => w.2 h2) (qr_bn z))).symm s4 s5 hfi
        · unfold wY_role_77
          refine qr_y78 (by omega) e4 e5 ?_
          exact ih (by omega) m (by omega) _ _ _ _ (qr_bf (fun w => w p (Nat.le_refl p) (by omega) ⟨h1, h2⟩)).symm s4 s5 hfi
        · unfold wY_role_73
          refine qr_y78 (by omega) e4 e5 ?_
          exact ih (by omega) m (by omega) _ _ _ _ (qr_bt (t (fun w => h1 w.1) (qr_bn z))).symm s4 s5 hfi
    · rw [qr_bf hM]
      refine br_t rfl (nm_e ?_)
      refine ih (by omega) m (by omega) _ _ _ _ ?_ ?_ ?_ ?_
      · rw [e3]
        refine qr_bc ⟨fun a q hq hq2 => ?_, fun a q hq => a q (by omega)⟩
        by_cases z : q = p
        · rw [z]; exact fun w => hM (Or.inl w.1)
        · exact a q (by omega) hq2
      · rw [e4]
        refine qr_bc ⟨fun a q hq hq2 hm => ?_, fun a q hq => a q (by omega)⟩
        by_cases z : q = p
        · rw [z] at hm; exact absurd hm hM
        · exact a q (by omega) hq2 hm
      · rw [e5]
        refine qr_bc ⟨fun a q hq hq2 hm => ?_, fun a q hq => a q (by omega)⟩
        by_cases z : q = p
        · rw [z] at hm; exact absurd hm hM
        · exact a q (by omega) hq2 hm
      · rcases hf with ⟨e2, hno⟩ | ⟨f, hpf, hf, e2, hMf, hno⟩
        · refine Or.inl ⟨e2, fun q hq hq2 => ?_⟩
          by_cases z : q = p
          · rw [z]; exact hM
          · exact hno q (by omega) hq2
        · refine Or.inr ⟨f, by omega, hf, e2, hMf, fun q hq hq2 => ?_⟩
          by_cases z : q = p
          · rw [z]; exact hM
          · exact hno q (by omega) hq2
theorem qr_y {y : Nat} {post : Int32 → Prop} (hS : S ≤ 6) (hO : ∀ q, q < S → ∃ o : Nat, o ≤ 5 ∧ ao q = nI o) (hy : y < 4) (hpost : post (qr_rl S ao ax aa (nI y))) : wpY_role post ((nI N), (nI W), (nI S), rn, ao, ax, aa, bb, sc, ce, yd) (nI y) := by
  unfold wpY_role
  dsimp only
  refine br_f (nI_pos (by omega)) (br_t (nI_le (b := 3) (by omega) (by omega)) ?_)
  refine nm_r (e' := nI S + (-1)) (Int32.sub_eq_add_neg (nI S) 1) ⟨S + 1, ?_⟩
  exact qr_yl hS hO hpost S (Nat.le_refl S) (S + 1) (by omega) (-1) 1 1 1 (qr_bt (fun q a b => absurd b (by omega))).symm (qr_bt (fun q a b => absurd b (by omega))).symm (qr_bt (fun q a b => absurd b (by omega))).symm (Or.inl ⟨rfl, fun q a b => absurd b (by omega)⟩)
end
end
section
/-! meets: the code as a function, its walk, and a table -/
def me_dv : Nat → Int32 → Int32 → Int32 → Int32 → Int32 → Option (Int32 × Int32)
  | 0, _, _, _, _, _ => none
  | n + 1, x3, x4, x5, x6, x7 => if 4 ≤ x7 then some (x3, x4) else if x5 = 0 then some (x3, x4) else me_dv n x5 x6 (x3 - (x3 / x5) * x5) (x4 - (x3 / x5) * x6) (x7 + 1)
def me_l2 (w z q : Int32) : Int32 := if z ≤ q * w then q else q + 1
def me_l1 (w z : Int32) : Int32 := if w ≤ 0 then me_l2 w z 0 else me_l2 w z (z / w)
def me_l0 (N a b w : Int32) : Int32 := if b ≤ 0 then me_l1 w ((a - N) + 1) else me_l1 w (-a)
def me_lw (N a b : Int32) : Int32 := if 0 ≤ b then me_l0 N a b b else me_l0 N a b (-b)
def me_lp (N x5 x6 x7 x8 x9 : Int32) : Nat → Int32 → Option Int32
  | 0, _ => none
  | n + 1, x10 => if x9 + N < x10 then some 0 else if (x5 + x10 * x7 = x6 + x10 * x8 ∨ (x5 + x10 * x7 < 0 ∨ N ≤ x5 + x10 * x7) ∨ (x6 + x10 * x8 < 0 ∨ N ≤ x6 + x10 * x8)) then me_lp N x5 x6 x7 x8 x9 n (x10 + 1) else some 1
def me_m3 (N a c z i j : Int32) : Option Int32 := if c = 0 then me_lp N i j (c / z) (a / z) (me_lw N j (a / z)) 12 (me_lw N j (a / z)) else me_lp N i j (c / z) (a / z) (me_lw N i (c / z)) 12 (me_lw N i (c / z))
def me_m2 (N a c g z s : Int32) : Option Int32 := if z = 0 then none else if g - g / z * z = 0 then (if c = 0 then me_m3 N a c z (s * (g / z)) 0 else me_m3 N a c z (s * (g / z)) ((a * (s * (g / z)) - g) / c)) else some 0
def me_ab (d : Int32) : Int32 := if 0 ≤ d then d else -d
def me_mt (N a c g : Int32) : Option Int32 := match me_dv 6 a 1 c 0 0 with
  | none => none
  | some (d, s) => me_m2 N a c g (if me_ab d ≤ 0 then 1 else me_ab d) (if 0 ≤ d then s else -s)
def me_hit (N : Nat) (a c g : Int32) : Bool := (List.range N).any fun i => (List.range N).any fun j => i != j && decide (a * nI i - c * nI j = g)
def me_ok (N : Nat) (a c g : Int32) : Bool := decide (me_mt (nI N) a c g = some (if me_hit N a c g then 1 else 0))
def me_tab (a c : Nat) : Bool := (List.range 8).all fun n => (List.range 31).all fun g => me_ok (n + 1) (nI a - nI 2) (nI c - nI 2) (nI g - nI 15)
section
variable {N W S : Nat} {rn sh dv sr : Int32} {sc ce ao ax aa ab aw an af ad al ar : Nat → Int32}
theorem me_ite {c : Prop} [Decidable c] {α : Type} {Q : α → Prop} {a b : α} {A B : Prop} (h : Q (if c then a else b)) (f : Q a → A) (g : Q b → B) : (c → A) ∧ (¬ c → B) :=
  ⟨fun z => f (by rw [if_pos z] at h; exact h), fun z => g (by rw [if_neg z] at h; exact h)⟩
theorem me_l2S {post : Int32 → Prop} {w z q : Int32} (h : post (me_l2 w z q)) : wX_lowest_42 post w z q (nI N) (nI W) (nI S) rn sh dv sr sc ce ao ax aa ab aw an af ad al ar := by
  unfold wX_lowest_42
  exact me_ite (Q := post) h id id
theorem me_l1S {post : Int32 → Prop} {w z : Int32} (h : post (me_l1 w z)) : wX_lowest_28 post w z (nI N) (nI W) (nI S) rn sh dv sr sc ce ao ax aa ab aw an af ad al ar := by
  unfold wX_lowest_28
  unfold me_l1 at h
  refine br_c (fun c => ?_) (fun c => ⟨fun e => c (by rw [e]; decide), ?_⟩)
  · rw [if_pos c] at h; exact me_l2S h
  · rw [if_neg c] at h; exact me_l2S h
theorem me_l0S {post : Int32 → Prop} {a b w : Int32} (h : post (me_l0 (nI N) a b w)) : wX_lowest_10 post a b w (nI N) (nI W) (nI S) rn sh dv sr sc ce ao ax aa ab aw an af ad al ar := by
  unfold wX_lowest_10
  exact me_ite (Q := post) h me_l1S me_l1S
theorem me_lwS {post : Int32 → Prop} {a b : Int32} (h : post (me_lw (nI N) a b)) : wpX_lowest post ((nI N), (nI W), (nI S), rn, sh, dv, sr, sc, ce, ao, ax, aa, ab, aw, an, af, ad, al, ar) a b := by
  unfold wpX_lowest
  dsimp only
  exact me_ite (Q := post) h me_l0S me_l0S
theorem me_in {post : Int32 → Prop} {x : Int32} (h0 : (x < 0 ∨ nI N ≤ x) → post 0) (h1 : ¬ (x < 0 ∨ nI N ≤ x) → post 1) : wpX_inLoop post ((nI N), (nI W), (nI S), rn, sh, dv, sr, sc, ce, ao, ax, aa, ab, aw, an, af, ad, al, ar) x := by
  unfold wpX_inLoop
  dsimp only
  exact br_c (fun z => h0 (Or.inl z)) (fun z => br_c (fun w => h0 (Or.inr w)) (fun w => h1 (fun q => q.elim z w)))
theorem me_lpS {post : Int32 → SX → Prop} {x5 x6 x7 x8 x9 r : Int32} (hp : post r ((nI N), (nI W), (nI S), rn, sh, dv, sr, sc, ce, ao, ax, aa, ab, aw, an, af, ad, al, ar)) : ∀ n x10, me_lp (nI N) x5 x6 x7 x8 x9 n x10 = some r → wX_meets_102 post x5 x6 x7 x8 x9 (nI N) (nI W) (nI S) rn sh dv sr sc ce ao ax aa ab aw an af ad al ar n x10 := by
  intro n
  induction n with
  | zero => intro x10 h; exact absurd h (by simp [me_lp])
  | succ n ih =>
    intro x10 h
    unfold me_lp at h
    by_cases h1 : x9 + nI N < x10
    · rw [if_pos h1] at h
      have e : 0 = r := Option.some.inj h
      rw [← e] at hp
      exact br_t h1 hp
    · rw [if_neg h1] at h
      refine br_f h1 (nm_e (nm_e ?_))
      by_cases h2 : x5 + x10 * x7 = x6 + x10 * x8 ∨ (x5 + x10 * x7 < 0 ∨ nI N ≤ x5 + x10 * x7) ∨ (x6 + x10 * x8 < 0 ∨ nI N ≤ x6 + x10 * x8)
      · rw [if_pos h2] at h
        have K := ih _ h
        refine br_c (fun _ => nm_e K) (fun a => me_in (fun _ => br_t rfl (nm_e K)) (fun b => br_f qr_n10 (me_in (fun _ => br_t rfl (nm_e K)) (fun c => ?_))))
        exact absurd h2 (fun q => q.elim a (fun q => q.elim b c))
      · rw [if_neg h2] at h
        have e : 1 = r := Option.some.inj h
        rw [← e] at hp
        exact br_f (fun q => h2 (Or.inl q)) (me_in (fun q => absurd (Or.inr (Or.inl q)) h2) (fun _ => br_f qr_n10 (me_in (fun q => absurd (Or.inr (Or.inr q)) h2) (fun _ => br_f qr_n10 hp))))
theorem me_m3S {post : Int32 → SX → Prop} {a c z i j r : Int32} (hz : ¬ z = 0) (hp : post r ((nI N), (nI W), (nI S), rn, sh, dv, sr, sc, ce, ao, ax, aa, ab, aw, an, af, ad, al, ar)) (h : me_m3 (nI N) a c z i j = some r) : wX_meets_59 post a c z i j (nI N) (nI W) (nI S) rn sh dv sr sc ce ao ax aa ab aw an af ad al ar := by
  unfold wX_meets_59
  unfold me_m3 at h
  refine ⟨hz, nm_e ⟨hz, nm_e (br_c (fun e => ?_) (fun e => ?_))⟩⟩
  · rw [if_pos e] at h
    exact me_lwS ⟨12, me_lpS hp 12 _ h⟩
  · rw [if_neg e] at h
    exact me_lwS ⟨12, me_lpS hp 12 _ h⟩
theorem me_m2S {post : Int32 → SX → Prop} {a c g z r : Int32} (hp : post r ((nI N), (nI W), (nI S), rn, sh, dv, sr, sc, ce, ao, ax, aa, ab, aw, an, af, ad, al, ar)) (h : me_m2 (nI N) a c g z sr = some r) : wX_meets_21 post a c g z (nI N) (nI W) (nI S) rn sh dv sr sc ce ao ax aa ab aw an af ad al ar := by
  unfold wX_meets_21
  unfold me_m2 at h
  by_cases hz : z = 0
  · rw [if_pos hz] at h
    exact absurd h (by simp)
  · rw [if_neg hz] at h
    refine ⟨hz, br_c (fun e => ⟨hz, nm_e (br_c (fun ec => ?_) (fun ec => ⟨ec, ?_⟩))⟩) (fun e => ?_)⟩
    · rw [if_pos e, if_pos ec] at h
      exact me_m3S hz hp h
    · rw [if_pos e, if_neg ec] at h
      exact me_m3S hz hp h
    · rw [if_neg e] at h
      have e : 0 = r := Option.some.inj h
      rw [← e] at hp
      exact hp
theorem me_dvS {post : SX → Prop} {d s : Int32} (hp : wX_divide_71 post d s (nI N) (nI W) (nI S) rn sh dv sr sc ce ao ax aa ab aw an af ad al ar) : ∀ n x3 x4 x5 x6 x7, me_dv n x3 x4 x5 x6 x7 = some (d, s) → wX_divide_14 post (nI N) (nI W) (nI S) rn sh dv sr sc ce ao ax aa ab aw an af ad al ar n x3 x4 x5 x6 x7 := by
  intro n
  induction n with
  | zero => intro x3 x4 x5 x6 x7 h; exact absurd h (by simp [me_dv])
  | succ n ih =>
    intro x3 x4 x5 x6 x7 h
    unfold me_dv at h
    by_cases h1 : 4 ≤ x7
    · rw [if_pos h1] at h
      have e : (x3, x4) = (d, s) := Option.some.inj h
      have e1 : x3 = d := congrArg Prod.fst e
      have e2 : x4 = s := congrArg Prod.snd e
      rw [← e1, ← e2] at hp
      exact br_t h1 hp
    · rw [if_neg h1] at h
      by_cases h2 : x5 = 0
      · rw [if_pos h2] at h
        have e : (x3, x4) = (d, s) := Option.some.inj h
        have e1 : x3 = d := congrArg Prod.fst e
        have e2 : x4 = s := congrArg Prod.snd e
        rw [← e1, ← e2] at hp
        exact br_f h1 (br_t h2 hp)
      · rw [if_neg h2] at h
        exact br_f h1 (br_f h2 ⟨h2, nm_e (nm_e (nm_e (nm_e (ih _ _ _ _ _ h))))⟩)
theorem me_mtS {post : Int32 → SX → Prop} {a c g r : Int32} (hp : ∀ dv sr : Int32, post r ((nI N), (nI W), (nI S), rn, sh, dv, sr, sc, ce, ao, ax, aa, ab, aw, an, af, ad, al, ar)) (h : me_mt (nI N) a c g = some r) : wpX_meets post ((nI N), (nI W), (nI S), rn, sh, dv, sr, sc, ce, ao, ax, aa, ab, aw, an, af, ad, al, ar) a c g := by
  unfold wpX_meets
  dsimp only
  unfold me_mt at h
  cases hd : me_dv 6 a 1 c 0 0 with
  | none =>
    rw [hd] at h
    exact absurd h (by simp)
  | some t =>
    obtain ⟨d, s⟩ := t
    rw [hd] at h
    dsimp only at h
    refine ⟨6, me_dvS ?_ 6 _ _ _ _ _ hd⟩
    unfold wX_divide_71 wX_divide_82
    unfold me_ab at h
    refine br_c (fun z => br_t z ?_) (fun z => br_f z (nm_e ?_))
    · rw [if_pos z] at h
      rw [if_pos z] at h
      refine br_c (fun w => ?_) (fun w => ?_)
      · rw [if_pos w] at h
        exact me_m2S (hp _ _) h
      · rw [if_neg w] at h
        exact me_m2S (hp _ _) h
    · rw [if_neg z] at h
      rw [if_neg z] at h
      refine br_c (fun w => ?_) (fun w => ?_)
      · rw [if_pos w] at h
        exact me_m2S (hp _ _) h
      · rw [if_neg w] at h
        exact me_m2S (hp _ _) h
end
end
section
/-! meets: the table, by evaluation -/
theorem me_t00 : me_tab 0 0 = true := by decide +kernel
theorem me_t01 : me_tab 0 1 = true := by decide +kernel
theorem me_t02 : me_tab 0 2 = true := by decide +kernel
theorem me_t03 : me_tab 0 3 = true := by decide +kernel
theorem me_t04 : me_tab 0 4 = true := by decide +kernel
theorem me_t10 : me_tab 1 0 = true := by decide +kernel
theorem me_t11 : me_tab 1 1 = true := by decide +kernel
theorem me_t12 : me_tab 1 2 = true := by decide +kernel
theorem me_t13 : me_tab 1 3 = true := by decide +kernel
theorem me_t14 : me_tab 1 4 = true := by decide +kernel
theorem me_t20 : me_tab 2 0 = true := by decide +kernel
theorem me_t21 : me_tab 2 1 = true := by decide +kernel
theorem me_t23 : me_tab 2 3 = true := by decide +kernel
theorem me_t24 : me_tab 2 4 = true := by decide +kernel
theorem me_t30 : me_tab 3 0 = true := by decide +kernel
theorem me_t31 : me_tab 3 1 = true := by decide +kernel
theorem me_t32 : me_tab 3 2 = true := by decide +kernel
theorem me_t33 : me_tab 3 3 = true := by decide +kernel
theorem me_t34 : me_tab 3 4 = true := by decide +kernel
theorem me_t40 : me_tab 4 0 = true := by decide +kernel
theorem me_t41 : me_tab 4 1 = true := by decide +kernel
theorem me_t42 : me_tab 4 2 = true := by decide +kernel
theorem me_t43 : me_tab 4 3 = true := by decide +kernel
theorem me_t44 : me_tab 4 4 = true := by decide +kernel
theorem me_tt : ∀ a, a < 5 → ∀ c, c < 5 → ¬ (a = 2 ∧ c = 2) → me_tab a c = true := by
  intro a ha c hc hn
  match a, c, ha, hc, hn with
  | 0, 0, _, _, _ => exact me_t00
  | 0, 1, _, _, _ => exact me_t01
  | 0, 2, _, _, _ => exact me_t02
  | 0, 3, _, _, _ => exact me_t03
  | 0, 4, _, _, _ => exact me_t04
  | 1, 0, _, _, _ => exact me_t10
  | 1, 1, _, _, _ => exact me_t11
  | 1, 2, _, _, _ => exact me_t12
  | 1, 3, _, _, _ => exact me_t13
  | 1, 4, _, _, _ => exact me_t14
  | 2, 0, _, _, _ => exact me_t20
  | 2, 1, _, _, _ => exact me_t21
  | 2, 2, _, _, hn => exact absurd ⟨rfl, rfl⟩ hn
  | 2, 3, _, _, _ => exact me_t23
  | 2, 4, _, _, _ => exact me_t24
  | 3, 0, _, _, _ => exact me_t30
  | 3, 1, _, _, _ => exact me_t31
  | 3, 2, _, _, _ => exact me_t32
  | 3, 3, _, _, _ => exact me_t33
  | 3, 4, _, _, _ => exact me_t34
  | 4, 0, _, _, _ => exact me_t40
  | 4, 1, _, _, _ => exact me_t41
  | 4, 2, _, _, _ => exact me_t42
  | 4, 3, _, _, _ => exact me_t43
  | 4, 4, _, _, _ => exact me_t44
  | n + 5, _, ha, _, _ => exact absurd ha (by omega)
  | 0, n + 5, _, hc, _ => exact absurd hc (by omega)
  | 1, n + 5, _, hc, _ => exact absurd hc (by omega)
  | 2, n + 5, _, hc, _ => exact absurd hc (by omega)
  | 3, n + 5, _, hc, _ => exact absurd hc (by omega)
  | 4, n + 5, _, hc, _ => exact absurd hc (by omega)
end
section
/-! clashes: one statement for both sides -/
def qc_t (ao : Nat → Int32) (p : Nat) : Prop := ao p = 1 ∨ ao p = 2
def qc_hit (N : Nat) (aa bb : Nat → Int32) (p q : Nat) : Prop := ∃ i, i < N ∧ ∃ j, j < N ∧ ¬ i = j ∧ aa p * nI i + bb p = aa q * nI j + bb q
def qc_CL (N : Nat) (ao aa bb : Nat → Int32) (p q : Nat) : Prop := qc_t ao p ∧ qc_t ao q ∧ (ao p = 2 ∨ ao q = 2) ∧ qc_hit N aa bb p q
theorem qc_sym {N : Nat} {ao aa bb : Nat → Int32} {p q : Nat} (h : qc_CL N ao aa bb p q) : qc_CL N ao aa bb q p := by
  obtain ⟨a, b, c, i, hi, j, hj, hne, e⟩ := h
  exact ⟨b, a, c.elim Or.inr Or.inl, j, hj, i, hi, fun z => hne z.symm, e.symm⟩
/-- what the component's cells are at a statement that touches them -/
def qc_g (ao aa ab bb : Nat → Int32) (p : Nat) : Prop := qc_t ao p → ab p = bb p ∧ (∃ b : Nat, b < 16 ∧ bb p = nI b) ∧ -2 ≤ (aa p).toInt ∧ (aa p).toInt ≤ 2
theorem qc_eq {A C p q : Int32} : A + p = C + q ↔ A - C = q - p := by
  constructor
  · intro h; grind
  · intro h; grind
theorem qc_sm {a : Int32} (h1 : -2 ≤ a.toInt) (h2 : a.toInt ≤ 2) : ∃ k : Nat, k < 5 ∧ a = nI k - nI 2 := by
  refine ⟨(a.toInt + 2).toNat, by omega, ?_⟩
  apply Int32.toInt_inj.mp
  rw [pk_sub_toInt (by omega) (by omega)]
  omega
theorem qc_gp {b d : Nat} (hb : b < 16) (hd : d < 16) : nI b - nI d = nI (b + 15 - d) - nI 15 := by
  apply Int32.toInt_inj.mp
  rw [pk_sub_toInt (by omega) (by omega), pk_sub_toInt (by omega) (by omega)]
  omega
theorem qc_z : nI 2 - nI 2 = 0 := by decide
theorem qc_tabU {a c : Nat} (h : me_tab a c = true) {n g : Nat} (hn : n < 8) (hg : g < 31) : me_mt (nI (n + 1)) (nI a - nI 2) (nI c - nI 2) (nI g - nI 15) = some (if me_hit (n + 1) (nI a - nI 2) (nI c - nI 2) (nI g - nI 15) then 1 else 0) := by
  unfold me_tab at h
  have h1 := List.all_eq_true.mp h n (List.mem_range.mpr hn)
  have h2 := List.all_eq_true.mp h1 g (List.mem_range.mpr hg)
  exact of_decide_eq_true h2
theorem qc_hitU {N : Nat} {a c g : Int32} : me_hit N a c g = true ↔ ∃ i, i < N ∧ ∃ j, j < N ∧ ¬ i = j ∧ a * nI i - c * nI j = g := by
  unfold me_hit
  rw [List.any_eq_true]
  constructor
  · rintro ⟨i, hi, h⟩
    obtain ⟨j, hj, k⟩ := List.any_eq_true.mp h
    rw [Bool.and_eq_true] at k
    exact ⟨i, List.mem_range.mp hi, j, List.mem_range.mp hj, by simpa using k.1, of_decide_eq_true k.2⟩
  · rintro ⟨i, hi, j, hj, hne, e⟩
    refine ⟨i, List.mem_range.mpr hi, List.any_eq_true.mpr ⟨j, List.mem_range.mpr hj, ?_⟩⟩
    rw [Bool.and_eq_true]
    exact ⟨by simpa using hne, decide_eq_true e⟩
/-- the table, read as a statement -/
theorem qc_mt {N : Nat} (hN1 : 1 ≤ N) (hN8 : N ≤ 8) {aa bb : Nat → Int32} {p q b d : Nat} (hb : b < 16) (eb : bb p = nI b) (hd : d < 16) (ed : bb q = nI d) (ha1 : -2 ≤ (aa p).toInt) (ha2 : (aa p).toInt ≤ 2) (hc1 : -2 ≤ (aa q).toInt) (hc2 : (aa q).toInt ≤ 2) (hn : ¬ (aa p = 0 ∧ aa q = 0)) : me_mt (nI N) (aa p) (aa q) (bb q - bb p) = some (qr_b (qc_hit N aa bb p q)) := by
  obtain ⟨k, hk, ek⟩ := qc_sm ha1 ha2
  obtain ⟨l, hl, el⟩ := qc_sm hc1 hc2
  have hkl : ¬ (k = 2 ∧ l = 2) := by
    rintro ⟨z, w⟩
    rw [z, qc_z] at ek
    rw [w, qc_z] at el
    exact hn ⟨ek, el⟩
  have T := qc_tabU (me_tt k hk l hl hkl) (show N - 1 < 8 by omega) (show d + 15 - b < 31 by omega)
  rw [show N - 1 + 1 = N by omega, ← qc_gp hd hb, ← ek, ← el, ← eb, ← ed] at T
  rw [T]
  refine congrArg some ?_
  by_cases h : qc_hit N aa bb p q
  · have h' : me_hit N (aa p) (aa q) (bb q - bb p) = true := by
      obtain ⟨i, hi, j, hj, hne, e⟩ := h
      exact qc_hitU.mpr ⟨i, hi, j, hj, hne, qc_eq.mp e⟩
    rw [qr_bt h, if_pos h']
  · have h' : ¬ me_hit N (aa p) (aa q) (bb q - bb p) = true := by
      intro z
      obtain ⟨i, hi, j, hj, hne, e⟩ := qc_hitU.mp z
      exact h ⟨i, hi, j, hj, hne, qc_eq.mpr e⟩
    rw [qr_bf h, if_neg h']
section
variable {N W S : Nat} {rn sh dv sr : Int32} {sc ce ao ax aa ab aw an af ad al ar bb yd : Nat → Int32}
theorem qc_xt {p : Nat} {post : Int32 → Prop} (hp : p < 6) (h : post (qr_b (qc_t ao p))) : wpX_touches post ((nI N), (nI W), (nI S), rn, sh, dv, sr, sc, ce, ao, ax, aa, ab, aw, an, af, ad, al, ar) (nI p) := by
  have hi : vp_in (nI p) 6 := vp_in_nI hp (by omega)
  have hc : (nI p).toNatClampNeg = p := nI_clamp (by omega)
  unfold wpX_touches
  dsimp only
  rw [hc]
  exact ⟨hi, br_c (fun z => qr_1 (Or.inl z) h) (fun z => ⟨hi, br_c (fun w => qr_1 (Or.inr w) h) (fun w => qr_0 (fun q => q.elim z w) h)⟩)⟩
theorem qc_x96 {a c g : Int32} {post : Int32 → SX → Prop} {k : Prop} (h : ∀ dv sr : Int32, post (qr_b k) ((nI N), (nI W), (nI S), rn, sh, dv, sr, sc, ce, ao, ax, aa, ab, aw, an, af, ad, al, ar)) (m : me_mt (nI N) a c g = some (qr_b k)) : wX_clashing_96 post a c g (nI N) (nI W) (nI S) rn sh dv sr sc ce ao ax aa ab aw an af ad al ar := by
  unfold wX_clashing_96
  refine me_mtS (r := qr_b k) (fun dv sr => ?_) m
  exact ⟨qr_nb k, h dv sr⟩
theorem qc_x38 {p q : Nat} {post : Int32 → SX → Prop} (hN1 : 1 ≤ N) (hN8 : N ≤ 8) (hp : p < 6) (hq : q < 6) (gp : ab p = bb p ∧ (∃ b : Nat, b < 16 ∧ bb p = nI b) ∧ -2 ≤ (aa p).toInt ∧ (aa p).toInt ≤ 2) (gq : ab q = bb q ∧ (∃ b : Nat, b < 16 ∧ bb q = nI b) ∧ -2 ≤ (aa q).toInt ∧ (aa q).toInt ≤ 2) (h : ∀ dv sr : Int32, post (qr_b (qc_hit N aa bb p q)) ((nI N), (nI W), (nI S), rn, sh, dv, sr, sc, ce, ao, ax, aa, ab, aw, an, af, ad, al, ar)) : wX_clashing_38 post (nI p) (nI q) (nI N) (nI W) (nI S) rn sh dv sr sc ce ao ax aa ab aw an af ad al ar := by
  have hip : vp_in (nI p) 6 := vp_in_nI hp (by omega)
  have hcp : (nI p).toNatClampNeg = p := nI_clamp (by omega)
  have hiq : vp_in (nI q) 6 := vp_in_nI hq (by omega)
  have hcq : (nI q).toNatClampNeg = q := nI_clamp (by omega)
  obtain ⟨ep, ⟨b, hb, eb⟩, ha1, ha2⟩ := gp
  obtain ⟨eq, ⟨d, hd, ed⟩, hc1, hc2⟩ := gq
  unfold wX_clashing_38
  rw [hcp, hcq, ep, eq]
  refine ⟨hip, nm_e ⟨hiq, nm_e ⟨hiq, hip, nm_e (br_c (fun za => br_c (fun zc => br_c (fun zg => br_c (fun z1 => ?_) (fun z1 => ?_)) (fun zg => ?_)) (fun zc => ?_)) (fun za => ?_))⟩⟩⟩
  · have z1' : N ≤ 1 := (nI_leI (b := 1) (by omega) (by omega)).mp z1
    refine qr_0 (c := qc_hit N aa bb p q) (post := fun r => post r ((nI N), (nI W), (nI S), rn, sh, dv, sr, sc, ce, ao, ax, aa, ab, aw, an, af, ad, al, ar)) ?_ (h dv sr)
    rintro ⟨i, hi, j, hj, hne, _⟩
    omega
  · have z1' : ¬ N ≤ 1 := fun w => z1 ((nI_leI (b := 1) (by omega) (by omega)).mpr w)
    refine qr_1 (c := qc_hit N aa bb p q) (post := fun r => post r ((nI N), (nI W), (nI S), rn, sh, dv, sr, sc, ce, ao, ax, aa, ab, aw, an, af, ad, al, ar)) ?_ (h dv sr)
    refine ⟨0, by omega, 1, by omega, by omega, ?_⟩
    rw [za, zc, Int32.zero_mul, Int32.zero_mul, Int32.zero_add, Int32.zero_add]
    have : bb q - bb p = 0 := zg
    grind
  · refine qr_0 (c := qc_hit N aa bb p q) (post := fun r => post r ((nI N), (nI W), (nI S), rn, sh, dv, sr, sc, ce, ao, ax, aa, ab, aw, an, af, ad, al, ar)) ?_ (h dv sr)
    rintro ⟨i, hi, j, hj, hne, e⟩
    rw [za, zc, Int32.zero_mul, Int32.zero_mul, Int32.zero_add, Int32.zero_add] at e
    apply zg
    rw [e]
    exact Int32.sub_self _
  · exact qc_x96 h (qc_mt hN1 hN8 hb eb hd ed ha1 ha2 hc1 hc2 (fun z => zc z.2))
  · exact qc_x96 h (qc_mt hN1 hN8 hb eb hd ed ha1 ha2 hc1 hc2 (fun z => za z.1))
theorem qc_x {p q : Nat} {post : Int32 → SX → Prop} (hN1 : 1 ≤ N) (hN8 : N ≤ 8) (hp : p < 6) (hq : q < 6) (gp : qc_g ao aa ab bb p) (gq : qc_g ao aa ab bb q) (h : ∀ dv sr : Int32, post (qr_b (qc_CL N ao aa bb p q)) ((nI N), (nI W), (nI S), rn, sh, dv, sr, sc, ce, ao, ax, aa, ab, aw, an, af, ad, al, ar)) : wpX_clashing post ((nI N), (nI W), (nI S), rn, sh, dv, sr, sc, ce, ao, ax, aa, ab, aw, an, af, ad, al, ar) (nI p) (nI q) := by
  have hip : vp_in (nI p) 6 := vp_in_nI hp (by omega)
  have hcp : (nI p).toNatClampNeg = p := nI_clamp (by omega)
  have hiq : vp_in (nI q) 6 := vp_in_nI hq (by omega)
  have hcq : (nI q).toNatClampNeg = q := nI_clamp (by omega)
  unfold wpX_clashing
  dsimp only
  rw [hcp, hcq]
  refine qc_xt hp (br_c (fun z => ?_) (fun z => qc_xt hq (br_c (fun w => ?_) (fun w => ⟨hip, br_c (fun h1 => ⟨hiq, br_c (fun h2 => ?_) (fun h2 => ?_)⟩) (fun h1 => ?_)⟩))))
  · exact qr_0 (c := qc_CL N ao aa bb p q) (post := fun r => post r ((nI N), (nI W), (nI S), rn, sh, dv, sr, sc, ce, ao, ax, aa, ab, aw, an, af, ad, al, ar)) (fun c => qr_b0 z c.1) (h dv sr)
  · exact qr_0 (c := qc_CL N ao aa bb p q) (post := fun r => post r ((nI N), (nI W), (nI S), rn, sh, dv, sr, sc, ce, ao, ax, aa, ab, aw, an, af, ad, al, ar)) (fun c => qr_b0 w c.2.1) (h dv sr)
  · refine qr_0 (c := qc_CL N ao aa bb p q) (post := fun r => post r ((nI N), (nI W), (nI S), rn, sh, dv, sr, sc, ce, ao, ax, aa, ab, aw, an, af, ad, al, ar)) (fun c => ?_) (h dv sr)
    rcases c.2.2.1 with e | e
    · rw [h1] at e; exact absurd e (by decide)
    · rw [h2] at e; exact absurd e (by decide)
  · refine qc_x38 hN1 hN8 hp hq (gp (qr_bn z)) (gq (qr_bn w)) ?_
    have e : qr_b (qc_CL N ao aa bb p q) = qr_b (qc_hit N aa bb p q) := qr_bc ⟨fun c => c.2.2.2, fun c => ⟨qr_bn z, qr_bn w, Or.inr ((qr_bn w).resolve_left h2), c⟩⟩
    rw [← e]
    exact h
  · refine qc_x38 hN1 hN8 hp hq (gp (qr_bn z)) (gq (qr_bn w)) ?_
    have e : qr_b (qc_CL N ao aa bb p q) = qr_b (qc_hit N aa bb p q) := qr_bc ⟨fun c => c.2.2.2, fun c => ⟨qr_bn z, qr_bn w, Or.inl ((qr_bn z).resolve_left h1), c⟩⟩
    rw [← e]
    exact h
/-! the reference -/
theorem qc_yt {p : Nat} {post : Int32 → Prop} (hp : p < 6) (h : post (qr_b (qc_t ao p))) : wpY_touches post ((nI N), (nI W), (nI S), rn, ao, ax, aa, bb, sc, ce, yd) (nI p) := by
  have hi : vp_in (nI p) 6 := vp_in_nI hp (by omega)
  have hc : (nI p).toNatClampNeg = p := nI_clamp (by omega)
  unfold wpY_touches
  dsimp only
  rw [hc]
  exact ⟨hi, br_c (fun z => qr_1 (Or.inl z) h) (fun z => ⟨hi, br_c (fun w => qr_1 (Or.inr w) h) (fun w => qr_0 (fun q => q.elim z w) h)⟩)⟩
theorem qc_y79 {p q i : Nat} {post : Int32 → Prop} {J : Int32 → Int32 → Prop} (hN8 : N ≤ 8) (hi : i < N) (hp : p < 6) (hq : q < 6) {k : Prop} (h : J (qr_b (k ∨ ∃ j, j < N ∧ ¬ i = j ∧ aa p * nI i + bb p = aa q * nI j + bb q)) (nI (i + 1))) : ∀ d j, j + d = N → ∀ n, d < n → ∀ x3, x3 = qr_b (k ∨ ∃ j', j' < j ∧ ¬ i = j' ∧ aa p * nI i + bb p = aa q * nI j' + bb q) → wY_clash_79 post J (nI p) (nI q) (nI i) (nI N) (nI W) (nI S) rn ao ax aa bb sc ce yd n x3 (nI j) := by
  have hip : vp_in (nI p) 6 := vp_in_nI hp (by omega)
  have hcp : (nI p).toNatClampNeg = p := nI_clamp (by omega)
  have hiq : vp_in (nI q) 6 := vp_in_nI hq (by omega)
  have hcq : (nI q).toNatClampNeg = q := nI_clamp (by omega)
  intro d
  induction d with
  | zero =>
    intro j hj n hn x3 e3
    obtain ⟨m, rfl⟩ : ∃ m, n = m + 1 := ⟨n - 1, by omega⟩
    have hjN : j = N := by omega
    subst hjN
    refine br_t (nI_le (Nat.le_refl j) (by omega)) (nm_r (nI_1 i) ?_)
    rw [e3]
    exact h
  | succ d ih =>
    intro j hj n hn x3 e3
    obtain ⟨m, rfl⟩ : ∃ m, n = m + 1 := ⟨n - 1, by omega⟩
    have K := ih (j + 1) (by omega) m (by omega)
    have s1 : (k ∨ ∃ j', j' < j ∧ ¬ i = j' ∧ aa p * nI i + bb p = aa q * nI j' + bb q) → (k ∨ ∃ j', j' < j + 1 ∧ ¬ i = j' ∧ aa p * nI i + bb p = aa q * nI j' + bb q) := by
      rintro (a | ⟨j', a, b⟩)
      · exact Or.inl a
      · exact Or.inr ⟨j', by omega, b⟩
    have s2 : ¬ (k ∨ ∃ j', j' < j ∧ ¬ i = j' ∧ aa p * nI i + bb p = aa q * nI j' + bb q) → ¬ (¬ i = j ∧ aa p * nI i + bb p = aa q * nI j + bb q) → ¬ (k ∨ ∃ j', j' < j + 1 ∧ ¬ i = j' ∧ aa p * nI i + bb p = aa q * nI j' + bb q) := by
      rintro a b (c | ⟨j', c, e⟩)
      · exact a (Or.inl c)
      · by_cases z : j' = j
        · rw [z] at e; exact b e
        · exact a (Or.inr ⟨j', by omega, e⟩)
    refine br_f (nI_ge (by omega) (by omega)) ?_
    rw [e3, hcp, hcq]
    refine br_c (fun z => br_c (fun w => nm_r (nI_1 j) ?_) (fun w => ⟨hip, hip, hiq, hiq, br_c (fun e => nm_r (nI_1 j) ?_) (fun e => nm_r (nI_1 j) ?_)⟩)) (fun z => nm_r (nI_1 j) ?_)
    · have w' : i = j := (nI_eq (by omega) (by omega)).mp w
      exact K 0 (qr_bf (s2 (qr_b0 z) (fun q => q.1 w'))).symm
    · have w' : ¬ i = j := fun q => w (congrArg nI q)
      exact K 1 (qr_bt (Or.inr ⟨j, by omega, w', e⟩)).symm
    · exact K 0 (qr_bf (s2 (qr_b0 z) (fun q => e q.2))).symm
    · exact K 1 (qr_bt (s1 (qr_bn z))).symm
theorem qc_y67 {p q : Nat} {post : Int32 → Prop} (hN8 : N ≤ 8) (hp : p < 6) (hq : q < 6) (h : post (qr_b (qc_hit N aa bb p q))) : ∀ d i, i + d = N → ∀ n, d < n → ∀ x3, x3 = qr_b (∃ i', i' < i ∧ ∃ j, j < N ∧ ¬ i' = j ∧ aa p * nI i' + bb p = aa q * nI j + bb q) → wY_clash_67 post (nI p) (nI q) (nI N) (nI W) (nI S) rn ao ax aa bb sc ce yd n x3 (nI i) := by
  intro d
  induction d with
  | zero =>
    intro i hi n hn x3 e3
    obtain ⟨m, rfl⟩ : ∃ m, n = m + 1 := ⟨n - 1, by omega⟩
    have hiN : i = N := by omega
    subst hiN
    refine br_t (nI_le (Nat.le_refl i) (by omega)) ?_
    rw [e3]
    exact ⟨qr_nb _, h⟩
  | succ d ih =>
    intro i hi n hn x3 e3
    obtain ⟨m, rfl⟩ : ∃ m, n = m + 1 := ⟨n - 1, by omega⟩
    refine br_f (nI_ge (by omega) (by omega)) ⟨N + 1, ?_⟩
    have k := qc_y79 (W := W) (S := S) (rn := rn) (ao := ao) (ax := ax) (aa := aa) (bb := bb) (sc := sc) (ce := ce) (yd := yd) (post := post) (J := wY_clash_67 post (nI p) (nI q) (nI N) (nI W) (nI S) rn ao ax aa bb sc ce yd m) hN8 (show i < N by omega) hp hq (k := ∃ i', i' < i ∧ ∃ j, j < N ∧ ¬ i' = j ∧ aa p * nI i' + bb p = aa q * nI j + bb q) ?_ N 0 (by omega) (N + 1) (by omega) x3 ?_
    · rw [nI_0] at k
      exact k
    · refine ih (i + 1) (by omega) m (by omega) _ (qr_bc ⟨?_, ?_⟩)
      · rintro (⟨i', a, b⟩ | a)
        · exact ⟨i', by omega, b⟩
        · exact ⟨i, by omega, a⟩
      · rintro ⟨i', a, b⟩
        by_cases z : i' = i
        · rw [z] at b; exact Or.inr b
        · exact Or.inl ⟨i', by omega, b⟩
    · rw [e3]
      refine qr_bc ⟨Or.inl, ?_⟩
      rintro (a | ⟨j, a, _⟩)
      · exact a
      · exact absurd a (Nat.not_lt_zero j)
theorem qc_y {p q : Nat} {post : Int32 → Prop} (hN8 : N ≤ 8) (hS : S ≤ 6) (hp : p < S) (hq : q < S) (h : post (qr_b (qc_CL N ao aa bb p q))) : wpY_clash post ((nI N), (nI W), (nI S), rn, ao, ax, aa, bb, sc, ce, yd) (nI p) (nI q) := by
  have hip : vp_in (nI p) 6 := vp_in_nI (by omega) (by omega)
  have hcp : (nI p).toNatClampNeg = p := nI_clamp (by omega)
  have hiq : vp_in (nI q) 6 := vp_in_nI (by omega) (by omega)
  have hcq : (nI q).toNatClampNeg = q := nI_clamp (by omega)
  unfold wpY_clash
  dsimp only
  rw [hcp, hcq]
  have fin : ∀ x : Int32, x = 0 → (qc_t ao p) → (qc_t ao q) → (ao p = 2 ∨ ao q = 2) → ∃ n, wY_clash_67 post (nI p) (nI q) (nI N) (nI W) (nI S) rn ao ax aa bb sc ce yd n x x := by
    intro x ex a b c
    rw [ex]
    have e : qr_b (qc_CL N ao aa bb p q) = qr_b (qc_hit N aa bb p q) := qr_bc ⟨fun c => c.2.2.2, fun d => ⟨a, b, c, d⟩⟩
    rw [e] at h
    have k := qc_y67 (W := W) (S := S) (rn := rn) (ao := ao) (ax := ax) (sc := sc) (ce := ce) (yd := yd) hN8 (show p < 6 by omega) (show q < 6 by omega) h N 0 (by omega) (N + 1) (by omega) 0 (qr_bf (fun z => z.elim fun i a => absurd a.1 (Nat.not_lt_zero i))).symm
    rw [nI_0] at k
    exact ⟨N + 1, k⟩
  refine br_f (nI_pos (by omega)) (br_f (nI_ge hp (by omega)) (br_f (nI_pos (by omega)) (br_f (nI_ge hq (by omega)) ?_)))
  refine qc_yt (by omega) (br_c (fun z => ?_) (fun z => qc_yt (by omega) (br_c (fun w => ?_) (fun w => ⟨hip, br_c (fun h1 => ?_) (fun h1 => ⟨hiq, br_c (fun h2 => ?_) (fun h2 => ?_)⟩)⟩))))
  · exact qr_0 (fun c => qr_b0 z c.1) h
  · exact qr_0 (fun c => qr_b0 w c.2.1) h
  · exact fin 0 rfl (qr_bn z) (qr_bn w) (Or.inl h1)
  · exact fin 0 rfl (qr_bn z) (qr_bn w) (Or.inr h2)
  · exact qr_0 (fun c => c.2.2.1.elim h1 h2) h
end
end
section
/-! parallel: one statement for both sides -/
def qp_PA (N S : Nat) (ao ax aa bb : Nat → Int32) : Prop := (∀ y, y < 4 → ¬ qr_rl S ao ax aa (nI y) = 5) ∧ ∀ p, p < S → ∀ q, q < S → ¬ qc_CL N ao aa bb p q
section
variable {N W S : Nat} {rn sh dv sr : Int32} {sc ce ao ax aa ab aw an af ad al ar bb yd : Nat → Int32}
theorem qp_x36 {post : Int32 → SX → Prop} {J : Int32 → Int32 → Int32 → Int32 → Int32 → Int32 → Int32 → Int32 → (Nat → Int32) → (Nat → Int32) → (Nat → Int32) → (Nat → Int32) → (Nat → Int32) → (Nat → Int32) → (Nat → Int32) → (Nat → Int32) → (Nat → Int32) → (Nat → Int32) → (Nat → Int32) → (Nat → Int32) → Prop} (hN1 : 1 ≤ N) (hN8 : N ≤ 8) (hS : S ≤ 6) (g : ∀ p, p < S → qc_g ao aa ab bb p) {p : Nat} (hp : p < S)
    (hJ : (∀ q, p ≤ q → q < S → ¬ qc_CL N ao aa bb p q) → ∀ dv sr : Int32, J (nI (p + 1)) (nI N) (nI W) (nI S) rn sh dv sr sc ce ao ax aa ab aw an af ad al ar) (h0 : ∀ q, q < S → qc_CL N ao aa bb p q → ∀ dv sr : Int32, post 0 ((nI N), (nI W), (nI S), rn, sh, dv, sr, sc, ce, ao, ax, aa, ab, aw, an, af, ad, al, ar)) :
    ∀ d q, q + d = S → p ≤ q → (∀ q', p ≤ q' → q' < q → ¬ qc_CL N ao aa bb p q') → ∀ n, d < n → ∀ dv sr : Int32, wX_parallel_36 post J (nI p) n (nI q) (nI N) (nI W) (nI S) rn sh dv sr sc ce ao ax aa ab aw an af ad al ar := by
  intro d
  induction d with
  | zero =>
    intro q hq hpq hno n hn dv sr
    obtain ⟨m, rfl⟩ : ∃ m, n = m + 1 := ⟨n - 1, by omega⟩
    have hqS : q = S := by omega
    subst hqS
    exact br_t (nI_le (Nat.le_refl q) (by omega)) (nm_r (nI_1 p) (hJ hno dv sr))
  | succ d ih =>
    intro q hq hpq hno n hn dv sr
    obtain ⟨m, rfl⟩ : ∃ m, n = m + 1 := ⟨n - 1, by omega⟩
    refine br_f (nI_ge (by omega) (by omega)) ?_
    refine qc_x hN1 hN8 (by omega) (by omega) (g p hp) (g q (by omega)) ?_
    intro dv' sr'
    refine br_c (fun z => nm_r (nI_1 q) ?_) (fun z => h0 q (by omega) (qr_bn z) dv' sr')
    refine ih (q + 1) (by omega) (by omega) ?_ m (by omega) dv' sr'
    intro q' a b
    by_cases e : q' = q
    · rw [e]; exact qr_b0 z
    · exact hno q' a (by omega)
theorem qp_x26 {post : Int32 → SX → Prop} (hN1 : 1 ≤ N) (hN8 : N ≤ 8) (hS : S ≤ 6) (g : ∀ p, p < S → qc_g ao aa ab bb p) (hr : ∀ y, y < 4 → ¬ qr_rl S ao ax aa (nI y) = 5) (h : ∀ dv sr : Int32, post (qr_b (qp_PA N S ao ax aa bb)) ((nI N), (nI W), (nI S), rn, sh, dv, sr, sc, ce, ao, ax, aa, ab, aw, an, af, ad, al, ar)) :
    ∀ d p, p + d = S → (∀ p', p' < p → ∀ q, p' ≤ q → q < S → ¬ qc_CL N ao aa bb p' q) → ∀ n, d < n → ∀ dv sr : Int32, wX_parallel_26 post n (nI p) (nI N) (nI W) (nI S) rn sh dv sr sc ce ao ax aa ab aw an af ad al ar := by
  intro d
  induction d with
  | zero =>
    intro p hp hno n hn dv sr
    obtain ⟨m, rfl⟩ : ∃ m, n = m + 1 := ⟨n - 1, by omega⟩
    have hpS : p = S := by omega
    subst hpS
    refine br_t (nI_le (Nat.le_refl p) (by omega)) ?_
    refine qr_1 (c := qp_PA N p ao ax aa bb) (post := fun r => post r ((nI N), (nI W), nI p, rn, sh, dv, sr, sc, ce, ao, ax, aa, ab, aw, an, af, ad, al, ar)) ⟨hr, ?_⟩ (h dv sr)
    intro a ha b hb c
    by_cases z : a ≤ b
    · exact hno a ha b z hb c
    · exact hno b hb a (by omega) ha (qc_sym c)
  | succ d ih =>
    intro p hp hno n hn dv sr
    obtain ⟨m, rfl⟩ : ∃ m, n = m + 1 := ⟨n - 1, by omega⟩
    refine br_f (nI_ge (by omega) (by omega)) ⟨S + 1, ?_⟩
    refine qp_x36 hN1 hN8 hS g (show p < S by omega) ?_ ?_ (S - p) p (by omega) (Nat.le_refl p) (fun q a b => absurd b (by omega)) (S + 1) (by omega) dv sr
    · intro k dv' sr'
      refine ih (p + 1) (by omega) ?_ m (by omega) dv' sr'
      intro p' a
      by_cases e : p' = p
      · rw [e]; exact k
      · exact hno p' (by omega)
    · intro q hq c dv' sr'
      exact qr_0 (c := qp_PA N S ao ax aa bb) (post := fun r => post r ((nI N), (nI W), (nI S), rn, sh, dv', sr', sc, ce, ao, ax, aa, ab, aw, an, af, ad, al, ar)) (fun z => z.2 p (by omega) q hq c) (h dv' sr')
theorem qp_x2 {post : Int32 → SX → Prop} (hN1 : 1 ≤ N) (hN8 : N ≤ 8) (hS : S ≤ 6) (g : ∀ p, p < S → qc_g ao aa ab bb p) (h : ∀ dv sr : Int32, post (qr_b (qp_PA N S ao ax aa bb)) ((nI N), (nI W), (nI S), rn, sh, dv, sr, sc, ce, ao, ax, aa, ab, aw, an, af, ad, al, ar)) :
    ∀ d y, y + d = 4 → (∀ y', y' < y → ¬ qr_rl S ao ax aa (nI y') = 5) → ∀ n, d < n → wX_parallel_2 post (nI N) (nI W) (nI S) rn sh dv sr sc ce ao ax aa ab aw an af ad al ar n (nI y) := by
  intro d
  induction d with
  | zero =>
    intro y hy hno n hn
    obtain ⟨m, rfl⟩ : ∃ m, n = m + 1 := ⟨n - 1, by omega⟩
    have hy4 : y = 4 := by omega
    subst hy4
    refine br_t (nI_le (a := 4) (Nat.le_refl 4) (by omega)) ⟨S + 1, ?_⟩
    have k := qp_x26 (W := W) (rn := rn) (sh := sh) (sc := sc) (ce := ce) (aw := aw) (an := an) (af := af) (ad := ad) (al := al) (ar := ar) hN1 hN8 hS g hno h S 0 (by omega) (fun p a => absurd a (Nat.not_lt_zero p)) (S + 1) (by omega) dv sr
    rw [nI_0] at k
    exact k
  | succ d ih =>
    intro y hy hno n hn
    obtain ⟨m, rfl⟩ : ∃ m, n = m + 1 := ⟨n - 1, by omega⟩
    refine br_f (nI_ge (b := 4) (by omega) (by omega)) ?_
    refine qr_x hS ?_
    refine br_c (fun z => ?_) (fun z => nm_r (nI_1 y) ?_)
    · exact qr_0 (c := qp_PA N S ao ax aa bb) (post := fun r => post r ((nI N), (nI W), (nI S), rn, sh, dv, sr, sc, ce, ao, ax, aa, ab, aw, an, af, ad, al, ar)) (fun w => w.1 y (by omega) z) (h dv sr)
    · refine ih (y + 1) (by omega) ?_ m (by omega)
      intro y' a
      by_cases e : y' = y
      · rw [e]; exact z
      · exact hno y' (by omega)
theorem qp_x {post : Int32 → SX → Prop} (hN1 : 1 ≤ N) (hN8 : N ≤ 8) (hS : S ≤ 6) (g : ∀ p, p < S → qc_g ao aa ab bb p) (h : ∀ dv sr : Int32, post (qr_b (qp_PA N S ao ax aa bb)) ((nI N), (nI W), (nI S), rn, sh, dv, sr, sc, ce, ao, ax, aa, ab, aw, an, af, ad, al, ar)) : wpX_parallel post ((nI N), (nI W), (nI S), rn, sh, dv, sr, sc, ce, ao, ax, aa, ab, aw, an, af, ad, al, ar) := by
  refine ⟨5, ?_⟩
  have k := qp_x2 (W := W) (rn := rn) (sh := sh) (dv := dv) (sr := sr) (sc := sc) (ce := ce) (aw := aw) (an := an) (af := af) (ad := ad) (al := al) (ar := ar) hN1 hN8 hS g h 4 0 (by omega) (fun p a => absurd a (Nat.not_lt_zero p)) 5 (by omega)
  rw [nI_0] at k
  exact k
/-! the reference -/
theorem qp_y46 {post : Int32 → Prop} {J : Int32 → Int32 → Prop} (hN8 : N ≤ 8) (hS : S ≤ 6) {p : Nat} (hp : p < S) {k : Prop} (h : J (qr_b (k ∧ ∀ q, q < S → ¬ qc_CL N ao aa bb p q)) (nI (p + 1))) :
    ∀ d q, q + d = S → ∀ n, d < n → ∀ x1, x1 = qr_b (k ∧ ∀ q', q' < q → ¬ qc_CL N ao aa bb p q') → wY_parallel_46 post J (nI p) (nI N) (nI W) (nI S) rn ao ax aa bb sc ce yd n x1 (nI q) := by
  intro d
  induction d with
  | zero =>
    intro q hq n hn x1 e1
    obtain ⟨m, rfl⟩ : ∃ m, n = m + 1 := ⟨n - 1, by omega⟩
    have hqS : q = S := by omega
    subst hqS
    refine br_t (nI_le (Nat.le_refl q) (by omega)) (nm_r (nI_1 p) ?_)
    rw [e1]
    exact h
  | succ d ih =>
    intro q hq n hn x1 e1
    obtain ⟨m, rfl⟩ : ∃ m, n = m + 1 := ⟨n - 1, by omega⟩
    have K := ih (q + 1) (by omega) m (by omega)
    refine br_f (nI_ge (by omega) (by omega)) ?_
    rw [e1]
    refine br_c (fun z => nm_r (nI_1 q) ?_) (fun z => qc_y hN8 hS hp (by omega) (br_c (fun w => nm_r (nI_1 q) ?_) (fun w => nm_r (nI_1 q) ?_)))
    · exact K 0 (qr_bf (fun a => qr_b0 z ⟨a.1, fun q' b => a.2 q' (by omega)⟩)).symm
    · refine K 1 (qr_bt ⟨(qr_bn z).1, fun q' b => ?_⟩).symm
      by_cases e : q' = q
      · rw [e]; exact qr_b0 w
      · exact (qr_bn z).2 q' (by omega)
    · exact K 0 (qr_bf (fun a => a.2 q (by omega) (qr_bn w))).symm
theorem qp_y36 {post : Int32 → Prop} (hN8 : N ≤ 8) (hS : S ≤ 6) {k : Prop} (h : post (qr_b (k ∧ ∀ p, p < S → ∀ q, q < S → ¬ qc_CL N ao aa bb p q))) :
    ∀ d p, p + d = S → ∀ n, d < n → ∀ x1, x1 = qr_b (k ∧ ∀ p', p' < p → ∀ q, q < S → ¬ qc_CL N ao aa bb p' q) → wY_parallel_36 post (nI N) (nI W) (nI S) rn ao ax aa bb sc ce yd n x1 (nI p) := by
  intro d
  induction d with
  | zero =>
    intro p hp n hn x1 e1
    obtain ⟨m, rfl⟩ : ∃ m, n = m + 1 := ⟨n - 1, by omega⟩
    have hpS : p = S := by omega
    subst hpS
    refine br_t (nI_le (Nat.le_refl p) (by omega)) ?_
    rw [e1]
    exact ⟨qr_nb _, h⟩
  | succ d ih =>
    intro p hp n hn x1 e1
    obtain ⟨m, rfl⟩ : ∃ m, n = m + 1 := ⟨n - 1, by omega⟩
    refine br_f (nI_ge (by omega) (by omega)) ⟨S + 1, ?_⟩
    have kk := qp_y46 (W := W) (rn := rn) (ao := ao) (ax := ax) (aa := aa) (bb := bb) (sc := sc) (ce := ce) (yd := yd) (post := post) (J := wY_parallel_36 post (nI N) (nI W) (nI S) rn ao ax aa bb sc ce yd m) hN8 hS (show p < S by omega) (k := k ∧ ∀ p', p' < p → ∀ q, q < S → ¬ qc_CL N ao aa bb p' q) ?_ S 0 (by omega) (S + 1) (by omega) x1 ?_
    · rw [nI_0] at kk
      exact kk
    · refine ih (p + 1) (by omega) m (by omega) _ (qr_bc ⟨?_, ?_⟩)
      · rintro ⟨⟨a, b⟩, c⟩
        refine ⟨a, fun p' hp' => ?_⟩
        by_cases e : p' = p
        · rw [e]; exact c
        · exact b p' (by omega)
      · rintro ⟨a, b⟩
        exact ⟨⟨a, fun p' hp' => b p' (by omega)⟩, b p (by omega)⟩
    · rw [e1]
      exact qr_bc ⟨fun a => ⟨a, fun q b => absurd b (Nat.not_lt_zero q)⟩, fun a => a.1⟩
theorem qp_y4 {post : Int32 → Prop} (hN8 : N ≤ 8) (hS : S ≤ 6) (hO : ∀ q, q < S → ∃ o : Nat, o ≤ 5 ∧ ao q = nI o) (h : post (qr_b (qp_PA N S ao ax aa bb))) :
    ∀ d y, y + d = 4 → ∀ n, d < n → ∀ x1, x1 = qr_b (∀ y', y' < y → ¬ qr_rl S ao ax aa (nI y') = 5) → wY_parallel_4 post (nI N) (nI W) (nI S) rn ao ax aa bb sc ce yd n x1 (nI y) := by
  intro d
  induction d with
  | zero =>
    intro y hy n hn x1 e1
    obtain ⟨m, rfl⟩ : ∃ m, n = m + 1 := ⟨n - 1, by omega⟩
    have hy4 : y = 4 := by omega
    subst hy4
    refine br_t (nI_le (a := 4) (Nat.le_refl 4) (by omega)) ⟨S + 1, ?_⟩
    have k := qp_y36 (W := W) (rn := rn) (ax := ax) (sc := sc) (ce := ce) (yd := yd) hN8 hS (k := ∀ y', y' < 4 → ¬ qr_rl S ao ax aa (nI y') = 5) h S 0 (by omega) (S + 1) (by omega) x1 ?_
    · rw [nI_0] at k
      exact k
    · rw [e1]
      exact qr_bc ⟨fun a => ⟨a, fun q b => absurd b (Nat.not_lt_zero q)⟩, fun a => a.1⟩
  | succ d ih =>
    intro y hy n hn x1 e1
    obtain ⟨m, rfl⟩ : ∃ m, n = m + 1 := ⟨n - 1, by omega⟩
    have K := ih (y + 1) (by omega) m (by omega)
    refine br_f (nI_ge (b := 4) (by omega) (by omega)) ?_
    rw [e1]
    refine br_c (fun z => nm_r (nI_1 y) ?_) (fun z => qr_y hS hO (by omega) (br_c (fun w => nm_r (nI_1 y) ?_) (fun w => nm_r (nI_1 y) ?_)))
    · exact K 0 (qr_bf (fun a => qr_b0 z (fun y' b => a y' (by omega)))).symm
    · exact K 0 (qr_bf (fun a => a y (by omega) w)).symm
    · refine K 1 (qr_bt (fun y' b => ?_)).symm
      by_cases e : y' = y
      · rw [e]; exact w
      · exact qr_bn z y' (by omega)
theorem qp_y {post : Int32 → Prop} (hN8 : N ≤ 8) (hS : S ≤ 6) (hO : ∀ q, q < S → ∃ o : Nat, o ≤ 5 ∧ ao q = nI o) (h : post (qr_b (qp_PA N S ao ax aa bb))) : wpY_parallel post ((nI N), (nI W), (nI S), rn, ao, ax, aa, bb, sc, ce, yd) := by
  refine ⟨5, ?_⟩
  have k := qp_y4 (W := W) (rn := rn) (sc := sc) (ce := ce) (yd := yd) hN8 hS hO h 4 0 (by omega) 5 (by omega) 1 (qr_bt (fun p a => absurd a (Nat.not_lt_zero p))).symm
  rw [nI_0] at k
  exact k
end
end
section
/-! a body that is well formed, its program, one statement on both sides -/
def qw_wf (N : Nat) (o x a b : Int32) : Prop :=
  (∃ n : Nat, n ≤ 5 ∧ o = nI n) ∧ (∃ n : Nat, n < 4 ∧ x = nI n) ∧
  ((o = 1 ∨ o = 2) → (∃ n : Nat, n < 16 ∧ b = nI n) ∧ -2 ≤ a.toInt ∧ a.toInt ≤ 2 ∧ ∀ i, i < N → ∃ n : Nat, n < 16 ∧ a * nI i + b = nI n) ∧
  ((o = 3 ∨ o = 4) → ∃ n : Nat, n < 4 ∧ a = nI n)
def qw_WF (N S : Nat) (ao ax aa bb : Nat → Int32) : Prop := ∀ p, p < S → qw_wf N (ao p) (ax p) (aa p) (bb p)
def qw_pg (ao ax aa bb : Nat → Int32) : wl_P := (fun p => (ao p).toNatClampNeg, fun p => (ax p).toNatClampNeg, fun p => (aa p).toNatClampNeg, aa, fun p i => (aa p * nI i + bb p).toNatClampNeg)
theorem qw_15 {k : Nat} (h : k < 16) : nI k &&& 15 = nI k := by
  rw [pk_andN (by omega) 4 (by decide)]
  exact congrArg nI (Nat.mod_eq_of_lt h)
theorem qw_3 {k : Nat} (h : k < 4) : nI k &&& 3 = nI k := by
  rw [pk_andN (by omega) 2 (by decide)]
  exact congrArg nI (Nat.mod_eq_of_lt h)
theorem qw_by {k : Nat} (h : k < 128) : vp_nar .byte (nI k).toInt8.toInt32 = nI k := by
  rw [pk_vb]
  have e : (nI k).toInt = (k : Int) := nI_toInt (by omega)
  exact lg_i2b_small (by omega) (by omega)
theorem qw_b0 : vp_nar .byte 0 = 0 := by rw [vp_nar_byte]; decide
section
variable {N S : Nat} {ao ax aa bb : Nat → Int32} {p : Nat}
theorem qw_o (H : qw_WF N S ao ax aa bb) (hp : p < S) : ao p = nI (wl_o (qw_pg ao ax aa bb) p) ∧ wl_o (qw_pg ao ax aa bb) p ≤ 5 := by
  obtain ⟨n, hn, e⟩ := (H p hp).1
  have k : wl_o (qw_pg ao ax aa bb) p = n := by
    show (ao p).toNatClampNeg = n
    rw [e, nI_clamp (by omega)]
  rw [k]
  exact ⟨e, hn⟩
theorem qw_x (H : qw_WF N S ao ax aa bb) (hp : p < S) : ax p = nI (wl_x (qw_pg ao ax aa bb) p) ∧ wl_x (qw_pg ao ax aa bb) p < 4 := by
  obtain ⟨n, hn, e⟩ := (H p hp).2.1
  have k : wl_x (qw_pg ao ax aa bb) p = n := by
    show (ax p).toNatClampNeg = n
    rw [e, nI_clamp (by omega)]
  rw [k]
  exact ⟨e, hn⟩
theorem qw_oi (H : qw_WF N S ao ax aa bb) (hp : p < S) {k : Nat} (hk : k ≤ 5) : ao p = nI k ↔ wl_o (qw_pg ao ax aa bb) p = k := by
  obtain ⟨e, h⟩ := qw_o H hp
  rw [e]
  exact nI_eq (by omega) (by omega)
theorem qw_xi (H : qw_WF N S ao ax aa bb) (hp : p < S) {y : Nat} (hy : y < 4) : ax p = nI y ↔ wl_x (qw_pg ao ax aa bb) p = y := by
  obtain ⟨e, h⟩ := qw_x H hp
  rw [e]
  exact nI_eq (by omega) (by omega)
theorem qw_r (H : qw_WF N S ao ax aa bb) (hp : p < S) (ho : wl_o (qw_pg ao ax aa bb) p = 3 ∨ wl_o (qw_pg ao ax aa bb) p = 4) : aa p = nI (wl_r (qw_pg ao ax aa bb) p) ∧ wl_r (qw_pg ao ax aa bb) p < 4 := by
  have ho' : ao p = 3 ∨ ao p = 4 := ho.elim (fun z => Or.inl ((qw_oi H hp (k := 3) (by omega)).mpr z)) (fun z => Or.inr ((qw_oi H hp (k := 4) (by omega)).mpr z))
  obtain ⟨n, hn, e⟩ := (H p hp).2.2.2 ho'
  have k : wl_r (qw_pg ao ax aa bb) p = n := by
    show (aa p).toNatClampNeg = n
    rw [e, nI_clamp (by omega)]
  rw [k]
  exact ⟨e, hn⟩
theorem qw_tc (H : qw_WF N S ao ax aa bb) (hp : p < S) : wl_tc (qw_pg ao ax aa bb) p ↔ (ao p = 1 ∨ ao p = 2) := by
  have h1 := qw_oi H hp (k := 1) (by omega)
  have h2 := qw_oi H hp (k := 2) (by omega)
  exact ⟨fun z => z.elim (fun w => Or.inl (h1.mpr w)) (fun w => Or.inr (h2.mpr w)), fun z => z.elim (fun w => Or.inl (h1.mp w)) (fun w => Or.inr (h2.mp w))⟩
theorem qw_k (H : qw_WF N S ao ax aa bb) (hp : p < S) (ho : wl_tc (qw_pg ao ax aa bb) p) {i : Nat} (hi : i < N) : aa p * nI i + bb p = nI (wl_k (qw_pg ao ax aa bb) p i) ∧ wl_k (qw_pg ao ax aa bb) p i < 16 := by
  obtain ⟨n, hn, e⟩ := ((H p hp).2.2.1 ((qw_tc H hp).mp ho)).2.2.2 i hi
  have k : wl_k (qw_pg ao ax aa bb) p i = n := by
    show (aa p * nI i + bb p).toNatClampNeg = n
    rw [e, nI_clamp (by omega)]
  rw [k]
  exact ⟨e, hn⟩
theorem qw_b15 (H : qw_WF N S ao ax aa bb) (hp : p < S) (ho : wl_tc (qw_pg ao ax aa bb) p) : bb p &&& 15 = bb p := by
  obtain ⟨n, hn, e⟩ := ((H p hp).2.2.1 ((qw_tc H hp).mp ho)).1
  rw [e]
  exact qw_15 hn
theorem qw_g (H : qw_WF N S ao ax aa bb) (hp : p < S) : qc_g ao aa (fun j => bb j &&& 15) bb p := by
  intro ho
  obtain ⟨a, b, c, _⟩ := (H p hp).2.2.1 ho
  exact ⟨qw_b15 H hp ((qw_tc H hp).mpr ho), a, b, c⟩
theorem qw_oo (H : qw_WF N S ao ax aa bb) : ∀ q, q < S → ∃ o : Nat, o ≤ 5 ∧ ao q = nI o := fun q hq => (H q hq).1
end
theorem qw_uu {f : Nat → Int32} {k : Nat} {a b : Int32} : upd (upd f k a) k b = upd f k b := by
  funext j
  by_cases h : j = k
  · rw [h, pk_us, pk_us]
  · rw [pk_un h, pk_un h, pk_un h]
theorem qw_ui {f : Nat → Int32} {k : Nat} : upd f k (f k) = f := by
  funext j
  by_cases h : j = k
  · rw [h, pk_us]
  · rw [pk_un h]
section
variable {N W S : Nat} {rn sh dv sr : Int32} {sc ce ao ax aa ab aw an af ad al ar : Nat → Int32}
variable {bb : Nat → Int32}
/-- one statement by a worker -/
theorem qw_xc {p i w : Nat} {post : SX → Prop} (H : qw_WF N S ao ax aa bb) (hS : S ≤ 6) (hp : p < S) (hi : i < N) (hN : N ≤ 8) (hw : w < 4)
    (h : ∀ an' aw' : Nat → Int32, (∀ y, an' (w * 4 + y) = (wl_ex (qw_pg ao ax aa bb) p i (fun y => an (w * 4 + y), aw)).1 y) → (∀ u, u ≠ w → ∀ y, y < 4 → an' (u * 4 + y) = an (u * 4 + y)) → aw' = (wl_ex (qw_pg ao ax aa bb) p i (fun y => an (w * 4 + y), aw)).2 → post ((nI N), (nI W), (nI S), rn, sh, dv, sr, sc, ce, ao, ax, aa, fun j => bb j &&& 15, aw', an', af, ad, al, ar)) :
    wpX_carry post ((nI N), (nI W), (nI S), rn, sh, dv, sr, sc, ce, ao, ax, aa, fun j => bb j &&& 15, aw, an, af, ad, al, ar) (nI p) (nI i) (nI (w * 4)) := by
  have hip : vp_in (nI p) 6 := vp_in_nI (by omega) (by omega)
  have hcp : (nI p).toNatClampNeg = p := nI_clamp (by omega)
  obtain ⟨ex, hx⟩ := qw_x H hp
  obtain ⟨eo, ho⟩ := qw_o H hp
  have K : ∀ v, wl_ex (qw_pg ao ax aa bb) p i (fun y => an (w * 4 + y), aw) = (upd (fun y => an (w * 4 + y)) (wl_x (qw_pg ao ax aa bb) p) v, aw) → post ((nI N), (nI W), (nI S), rn, sh, dv, sr, sc, ce, ao, ax, aa, fun j => bb j &&& 15, aw, upd an (w * 4 + wl_x (qw_pg ao ax aa bb) p) v, af, ad, al, ar) := by
    intro v e
    refine h _ _ (fun y => ?_) (fun u hu y hy => pk_un (by omega)) (by rw [e])
    rw [e]
    show upd an (w * 4 + wl_x (qw_pg ao ax aa bb) p) v (w * 4 + y) = upd (fun y => an (w * 4 + y)) (wl_x (qw_pg ao ax aa bb) p) v y
    by_cases z : y = wl_x (qw_pg ao ax aa bb) p
    · rw [z, pk_us, pk_us]
    · rw [pk_un z, pk_un (by omega)]
  have oi : ∀ k, k ≤ 5 → (ao p = nI k ↔ wl_o (qw_pg ao ax aa bb) p = k) := fun k hk => qw_oi H hp hk
  generalize hxe : wl_x (qw_pg ao ax aa bb) p = x at ex hx K
  have hin : vp_in (nI (w * 4 + x)) 16 := vp_in_nI (by omega) (by omega)
  have hcx : (nI (w * 4 + x)).toNatClampNeg = w * 4 + x := nI_clamp (by omega)
  unfold wpX_carry
  dsimp only
  rw [hcp]
  refine ⟨hip, nm_r (e' := nI (w * 4 + x)) (by rw [ex, nI_add]) ⟨hip, nm_e ?_⟩⟩
  rw [hcx]
  refine br_c (fun z => ?_) (fun n0 => br_c (fun z => ?_) (fun n1 => br_c (fun z => ?_) (fun n2 => br_c (fun z => ?_) (fun n5 => ?_))))
  · have z' := (oi 0 (by omega)).mp z
    refine ⟨hip, hin, nm_e (K _ ?_)⟩
    rw [wl_ex0 z', hxe]
    rfl
  · have z' := (oi 1 (by omega)).mp z
    obtain ⟨ek, hk⟩ := qw_k H hp (Or.inl z') hi
    have e15 : (aa p * nI i + (bb p &&& 15)) &&& 15 = nI (wl_k (qw_pg ao ax aa bb) p i) := by
      rw [qw_b15 H hp (Or.inl z'), ek, qw_15 hk]
    rw [e15, nI_clamp (by omega)]
    refine ⟨hip, hip, vp_in_nI hk (by omega), hin, nm_e (K _ ?_)⟩
    rw [wl_ex1 z', hxe]
  · have z' := (oi 2 (by omega)).mp z
    obtain ⟨ek, hk⟩ := qw_k H hp (Or.inr z') hi
    have e15 : (aa p * nI i + (bb p &&& 15)) &&& 15 = nI (wl_k (qw_pg ao ax aa bb) p i) := by
      rw [qw_b15 H hp (Or.inr z'), ek, qw_15 hk]
    rw [e15, nI_clamp (by omega)]
    refine ⟨hip, hip, hin, vp_in_nI hk (by omega), nm_e (h _ _ (fun y => ?_) (fun _ _ _ _ => rfl) ?_)⟩
    · rw [wl_ex2 z']
    · rw [wl_ex2 z', hxe]
  · have z' := (oi 5 (by omega)).mp z
    refine ⟨hin, hin, nm_e (K _ ?_)⟩
    rw [wl_ex5 (by omega), hxe]
  · have h34 : wl_o (qw_pg ao ax aa bb) p = 3 ∨ wl_o (qw_pg ao ax aa bb) p = 4 := by
      have a0 : ¬ wl_o (qw_pg ao ax aa bb) p = 0 := fun q => n0 ((oi 0 (by omega)).mpr q)
      have a1 : ¬ wl_o (qw_pg ao ax aa bb) p = 1 := fun q => n1 ((oi 1 (by omega)).mpr q)
      have a2 : ¬ wl_o (qw_pg ao ax aa bb) p = 2 := fun q => n2 ((oi 2 (by omega)).mpr q)
      have a5 : ¬ wl_o (qw_pg ao ax aa bb) p = 5 := fun q => n5 ((oi 5 (by omega)).mpr q)
      omega
    obtain ⟨er, hr⟩ := qw_r H hp h34
    generalize hre : wl_r (qw_pg ao ax aa bb) p = r at er hr
    have e3 : nI (w * 4) + (aa p &&& 3) = nI (w * 4 + r) := by
      rw [er, qw_3 hr, nI_add]
    rw [e3, nI_clamp (show w * 4 + r < 2 ^ 31 by omega)]
    refine ⟨hip, vp_in_nI (by omega) (by omega), ?_⟩
    unfold wpX_combine
    dsimp only
    rw [hcx]
    refine br_c (fun z => ?_) (fun n3 => ⟨hin, br_c (fun c => ?_) (fun c => ⟨hin, nm_e ?_⟩)⟩)
    · have z' := (oi 3 (by omega)).mp z
      refine ⟨hin, hin, nm_e (K _ ?_)⟩
      rw [wl_ex3 z', hxe, hre]
    · have z' : wl_o (qw_pg ao ax aa bb) p = 4 := h34.resolve_left (fun q => n3 ((oi 3 (by omega)).mpr q))
      have m : wl_mn (an (w * 4 + x)) (an (w * 4 + r)) = an (w * 4 + x) := if_pos c
      refine h _ _ (fun y => ?_) (fun _ _ _ _ => rfl) ?_
      · rw [wl_ex4 z', hxe, hre]
        show an (w * 4 + y) = upd (fun y => an (w * 4 + y)) x (wl_mn (an (w * 4 + x)) (an (w * 4 + r))) y
        rw [m]
        by_cases q : y = x
        · rw [q, pk_us]
        · rw [pk_un q]
      · rw [wl_ex4 z']
    · have z' : wl_o (qw_pg ao ax aa bb) p = 4 := h34.resolve_left (fun q => n3 ((oi 3 (by omega)).mpr q))
      have m : wl_mn (an (w * 4 + x)) (an (w * 4 + r)) = an (w * 4 + r) := if_neg c
      refine K _ ?_
      rw [wl_ex4 z', hxe, hre]
      show (upd (fun y => an (w * 4 + y)) x (wl_mn (an (w * 4 + x)) (an (w * 4 + r))), aw) = _
      rw [m]
end
section
variable {N W S : Nat} {rn : Int32} {ao ax aa bb sc ce yd : Nat → Int32}
/-- one statement in the reference -/
theorem qw_yc {p i : Nat} {post : SY → Prop} (H : qw_WF N S ao ax aa bb) (hS : S ≤ 6) (hp : p < S) (hi : i < N) (hN : N ≤ 8)
    (h : post ((nI N), (nI W), (nI S), rn, ao, ax, aa, bb, (wl_ex (qw_pg ao ax aa bb) p i (sc, ce)).1, (wl_ex (qw_pg ao ax aa bb) p i (sc, ce)).2, yd)) : wpY_carryOut post ((nI N), (nI W), (nI S), rn, ao, ax, aa, bb, sc, ce, yd) (nI p) (nI i) := by
  have hip : vp_in (nI p) 6 := vp_in_nI (by omega) (by omega)
  have hcp : (nI p).toNatClampNeg = p := nI_clamp (by omega)
  obtain ⟨ex, hx⟩ := qw_x H hp
  obtain ⟨eo, ho⟩ := qw_o H hp
  have oi : ∀ k, k ≤ 5 → (ao p = nI k ↔ wl_o (qw_pg ao ax aa bb) p = k) := fun k hk => qw_oi H hp hk
  generalize hxe : wl_x (qw_pg ao ax aa bb) p = x at ex hx
  have hin : vp_in (nI x) 4 := vp_in_nI (by omega) (by omega)
  have hcx : (nI x).toNatClampNeg = x := nI_clamp (by omega)
  unfold wpY_carryOut
  dsimp only
  rw [hcp]
  refine ⟨hip, nm_r ex ⟨hip, nm_e ⟨hip, ?_⟩⟩⟩
  rw [hcx]
  refine br_c (fun z => ?_) (fun n0 => ⟨hip, br_c (fun z => ?_) (fun n1 => ⟨hip, br_c (fun z => ?_) (fun n2 => ⟨hip, br_c (fun z => ?_) (fun n3 => ⟨hip, br_c (fun z => ?_) (fun n4 => ?_)⟩)⟩)⟩)⟩)
  · have z' := (oi 0 (by omega)).mp z
    rw [wl_ex0 z', hxe] at h
    exact ⟨hin, nm_e h⟩
  · have z' := (oi 1 (by omega)).mp z
    obtain ⟨ek, hk⟩ := qw_k H hp (Or.inl z') hi
    rw [ek, qw_15 hk, nI_clamp (by omega)]
    rw [wl_ex1 z', hxe] at h
    exact ⟨hip, vp_in_nI hk (by omega), hin, nm_e h⟩
  · have z' := (oi 2 (by omega)).mp z
    obtain ⟨ek, hk⟩ := qw_k H hp (Or.inr z') hi
    rw [ek, qw_15 hk, nI_clamp (by omega)]
    rw [wl_ex2 z', hxe] at h
    exact ⟨hip, hin, vp_in_nI hk (by omega), nm_e h⟩
  · have z' := (oi 3 (by omega)).mp z
    obtain ⟨er, hr⟩ := qw_r H hp (Or.inl z')
    rw [wl_ex3 z', hxe] at h
    rw [er, qw_3 hr, nI_clamp (by omega)]
    exact ⟨hin, vp_in_nI hr (by omega), hin, nm_e h⟩
  · have z' := (oi 4 (by omega)).mp z
    obtain ⟨er, hr⟩ := qw_r H hp (Or.inr z')
    rw [wl_ex4 z', hxe] at h
    rw [er, qw_3 hr, nI_clamp (by omega)]
    refine ⟨vp_in_nI hr (by omega), hin, br_c (fun c => ⟨hin, hin, nm_e ?_⟩) (fun c => ⟨vp_in_nI hr (by omega), hin, nm_e ?_⟩)⟩
    · have m : wl_mn (sc x) (sc (wl_r (qw_pg ao ax aa bb) p)) = sc x := if_pos c
      dsimp only at h
      rw [m] at h
      exact h
    · have m : wl_mn (sc x) (sc (wl_r (qw_pg ao ax aa bb) p)) = sc (wl_r (qw_pg ao ax aa bb) p) := if_neg c
      dsimp only at h
      rw [m] at h
      exact h
  · have z' : 5 ≤ wl_o (qw_pg ao ax aa bb) p := by
      have a0 : ¬ wl_o (qw_pg ao ax aa bb) p = 0 := fun q => n0 ((oi 0 (by omega)).mpr q)
      have a1 : ¬ wl_o (qw_pg ao ax aa bb) p = 1 := fun q => n1 ((oi 1 (by omega)).mpr q)
      have a2 : ¬ wl_o (qw_pg ao ax aa bb) p = 2 := fun q => n2 ((oi 2 (by omega)).mpr q)
      have a3 : ¬ wl_o (qw_pg ao ax aa bb) p = 3 := fun q => n3 ((oi 3 (by omega)).mpr q)
      have a4 : ¬ wl_o (qw_pg ao ax aa bb) p = 4 := fun q => n4 ((oi 4 (by omega)).mpr q)
      omega
    rw [wl_ex5 z', hxe] at h
    exact ⟨hin, hin, nm_e h⟩
end
end
section
/-! the component: gathering, the end of a run, employing -/
def qw_cp (f g : Nat → Int32) (k : Nat) : Nat → Int32 := fun j => if j < k then f j else g j
theorem qw_cp0 (f g : Nat → Int32) : qw_cp f g 0 = g := by
  funext j
  exact if_neg (Nat.not_lt_zero j)
theorem qw_cpl {f g : Nat → Int32} {k j : Nat} (h : j < k) : qw_cp f g k j = f j := if_pos h
theorem qw_cpg {f g : Nat → Int32} {k j : Nat} (h : k ≤ j) : qw_cp f g k j = g j := if_neg (by omega)
theorem qw_cps (f g : Nat → Int32) (k : Nat) : upd (qw_cp f g k) k (f k) = qw_cp f g (k + 1) := by
  funext j
  by_cases h : j = k
  · rw [h, pk_us, qw_cpl (by omega)]
  · rw [pk_un h]
    by_cases l : j < k
    · rw [qw_cpl l, qw_cpl (by omega)]
    · rw [qw_cpg (by omega), qw_cpg (by omega)]
def qw_gv (r s : Int32) (h : Nat → Int32) (w : Nat) : Int32 := if r = 3 then wl_row wl_pl s h w else if r = 4 then wl_row wl_mn s h w else s
theorem qw_gv0 (r s : Int32) (h : Nat → Int32) : qw_gv r s h 0 = s := by
  unfold qw_gv
  by_cases a : r = 3
  · rw [if_pos a]; rfl
  · rw [if_neg a]
    by_cases b : r = 4
    · rw [if_pos b]; rfl
    · rw [if_neg b]
theorem qw_gv3 {r s : Int32} {h : Nat → Int32} {w : Nat} (a : r = 3) : qw_gv r s h w + h w = qw_gv r s h (w + 1) := by
  unfold qw_gv
  rw [if_pos a, if_pos a]
  rfl
theorem qw_gv4 {r s : Int32} {h : Nat → Int32} {w : Nat} (a : ¬ r = 3) (b : r = 4) : wl_mn (qw_gv r s h w) (h w) = qw_gv r s h (w + 1) := by
  unfold qw_gv
  rw [if_neg a, if_neg a, if_pos b, if_pos b]
  rfl
theorem qw_gvn {r s : Int32} {h : Nat → Int32} {w : Nat} (a : ¬ r = 3) (b : ¬ r = 4) : qw_gv r s h w = qw_gv r s h (w + 1) := by
  unfold qw_gv
  rw [if_neg a, if_neg a, if_neg b, if_neg b]
def qw_fv (sh : Int32) (W : Nat) (sc an ar : Nat → Int32) (y : Nat) : Int32 := if sh = 0 then an y else if ar y = 2 then an ((W - 1) * 4 + y) else qw_gv (ar y) (sc y) (fun w => an (w * 4 + y)) W
theorem qw_m4 (w x : Nat) : nI w * 4 + nI x = nI (w * 4 + x) := by
  have e : nI w * 4 = nI (w * 4) := pk_mul w 4
  rw [e, nI_add]
section
variable {N W S : Nat} {rn sh dv sr : Int32} {sc ce ao ax aa ab aw an af ad al ar : Nat → Int32}
theorem qw_xg2 {x : Nat} {post : SX → Prop} (hx : x < 4) (hW : W ≤ 4) (h : post ((nI N), (nI W), (nI S), rn, sh, dv, sr, upd sc x (qw_gv (ar x) (sc x) (fun w => an (w * 4 + x)) W), ce, ao, ax, aa, ab, aw, an, af, ad, al, ar)) : ∀ d w, w + d = W → ∀ n, d < n → wX_gather_2 post (nI x) (nI N) (nI W) (nI S) rn sh dv sr n (nI w) (upd sc x (qw_gv (ar x) (sc x) (fun w => an (w * 4 + x)) w)) ce ao ax aa ab aw an af ad al ar := by
  have hi : vp_in (nI x) 4 := vp_in_nI hx (by omega)
  have hc : (nI x).toNatClampNeg = x := nI_clamp (by omega)
  intro d
  induction d with
  | zero =>
    intro w hw n hn
    obtain ⟨m, rfl⟩ : ∃ m, n = m + 1 := ⟨n - 1, by omega⟩
    have e : w = W := by omega
    subst e
    exact br_t (nI_le (Nat.le_refl w) (by omega)) h
  | succ d ih =>
    intro w hw n hn
    obtain ⟨m, rfl⟩ : ∃ m, n = m + 1 := ⟨n - 1, by omega⟩
    have K := ih (w + 1) (by omega) m (by omega)
    refine br_f (nI_ge (by omega) (by omega)) ?_
    rw [qw_m4, hc, nI_clamp (show w * 4 + x < 2 ^ 31 by omega), pk_us]
    refine ⟨vp_in_nI (by omega) (by omega), nm_e ⟨hi, br_c (fun z => ⟨hi, hi, nm_r ?_ (nm_r (nI_1 w) K)⟩) (fun z => ⟨hi, br_c (fun v => ⟨hi, br_c (fun c => nm_r (nI_1 w) ?_) (fun c => ⟨hi, nm_r ?_ (nm_r (nI_1 w) K)⟩)⟩) (fun v => nm_r (nI_1 w) ?_)⟩)⟩⟩
    · rw [qw_uu]
      exact congrArg (upd sc x) (qw_gv3 z)
    · rw [← qw_gv4 z v, show wl_mn _ _ = _ from if_pos c] at K
      exact K
    · rw [qw_uu, ← qw_gv4 z v, show wl_mn _ _ = _ from if_neg c]
    · rw [← qw_gvn z v] at K
      exact K
theorem qw_xg {x : Nat} {post : SX → Prop} (hx : x < 4) (hW : W ≤ 4) (h : post ((nI N), (nI W), (nI S), rn, sh, dv, sr, upd sc x (qw_gv (ar x) (sc x) (fun w => an (w * 4 + x)) W), ce, ao, ax, aa, ab, aw, an, af, ad, al, ar)) : wpX_gather post ((nI N), (nI W), (nI S), rn, sh, dv, sr, sc, ce, ao, ax, aa, ab, aw, an, af, ad, al, ar) (nI x) := by
  refine ⟨W + 1, ?_⟩
  have k := qw_xg2 hx hW h W 0 (by omega) (W + 1) (by omega)
  rw [nI_0, qw_gv0, qw_ui] at k
  exact k
theorem qw_x65 {post : SX → Prop} (hW0 : 1 ≤ W) (hW : W ≤ 4) (hS : S ≤ 6) (h2 : ∀ y, y < 4 → ¬ sh = 0 → ar y = 2 → 0 < S) (h : post ((nI N), (nI W), (nI S), rn, sh, dv, sr, qw_cp (qw_fv sh W sc an ar) sc 4, ce, ao, ax, aa, ab, aw, an, af, ad, al, ar)) : ∀ d x, x + d = 4 → ∀ n, d < n → wX_endIfDone_65 post n (nI x) (nI N) (nI W) (nI S) rn sh dv sr (qw_cp (qw_fv sh W sc an ar) sc x) ce ao ax aa ab aw an af ad al ar := by
  intro d
  induction d with
  | zero =>
    intro x hx n hn
    obtain ⟨m, rfl⟩ : ∃ m, n = m + 1 := ⟨n - 1, by omega⟩
    have e : x = 4 := by omega
    subst e
    exact br_t (nI_le (a := 4) (Nat.le_refl 4) (by omega)) h
  | succ d ih =>
    intro x hx n hn
    obtain ⟨m, rfl⟩ : ∃ m, n = m + 1 := ⟨n - 1, by omega⟩
    have K := ih (x + 1) (by omega) m (by omega)
    have hi : vp_in (nI x) 4 := vp_in_nI (by omega) (by omega)
    have hc : (nI x).toNatClampNeg = x := nI_clamp (by omega)
    have ew : nI W - 1 = nI (W - 1) := pk_sub (b := 1) hW0
    refine br_f (nI_ge (b := 4) (by omega) (by omega)) ?_
    rw [ew, qw_m4, hc, nI_clamp (show (W - 1) * 4 + x < 2 ^ 31 by omega)]
    have G : ¬ sh = 0 → ¬ ar x = 2 → wX_endIfDone_133 post (wX_endIfDone_65 post m) (nI x) (nI N) (nI W) (nI S) rn sh dv sr (qw_cp (qw_fv sh W sc an ar) sc x) ce ao ax aa ab aw an af ad al ar := by
      intro z v
      unfold wX_endIfDone_133
      refine qw_xg (by omega) hW ?_
      refine nm_r (nI_1 x) ?_
      rw [qw_cpg (Nat.le_refl x)]
      have e : qw_gv (ar x) (sc x) (fun w => an (w * 4 + x)) W = qw_fv sh W sc an ar x := by
        unfold qw_fv
        rw [if_neg z, if_neg v]
      rw [e, qw_cps]
      exact K
    refine br_c (fun z => ⟨vp_in_nI (by omega) (by omega), hi, nm_r ?_ (nm_r (nI_1 x) K)⟩) (fun z => ⟨hi, br_c (fun v => br_c (fun s => ?_) (fun s => ⟨vp_in_nI (by omega) (by omega), hi, nm_r ?_ (nm_r (nI_1 x) K)⟩)) (fun v => G z v)⟩)
    · have e : an x = qw_fv sh W sc an ar x := by
        unfold qw_fv
        rw [if_pos z]
      rw [e, qw_cps]
    · exact absurd s (nI_nle (h2 x (by omega) z v) (by omega))
    · have e : an ((W - 1) * 4 + x) = qw_fv sh W sc an ar x := by
        unfold qw_fv
        rw [if_neg z, if_pos v]
      rw [e, qw_cps]
theorem qw_x39 {post : SX → Prop} (h : ∃ n, wX_endIfDone_65 post n 0 (nI N) (nI W) (nI S) rn sh dv sr sc (qw_cp aw ce 16) ao ax aa ab aw an af ad al ar) : ∀ d k, k + d = 16 → ∀ n, d < n → wX_endIfDone_39 post (nI N) (nI W) (nI S) rn sh dv sr n (nI k) sc (qw_cp aw ce k) ao ax aa ab aw an af ad al ar := by
  intro d
  induction d with
  | zero =>
    intro k hk n hn
    obtain ⟨m, rfl⟩ : ∃ m, n = m + 1 := ⟨n - 1, by omega⟩
    have e : k = 16 := by omega
    subst e
    exact br_t (nI_le (a := 16) (Nat.le_refl 16) (by omega)) h
  | succ d ih =>
    intro k hk n hn
    obtain ⟨m, rfl⟩ : ∃ m, n = m + 1 := ⟨n - 1, by omega⟩
    have K := ih (k + 1) (by omega) m (by omega)
    have hi : vp_in (nI k) 16 := vp_in_nI (by omega) (by omega)
    have hc : (nI k).toNatClampNeg = k := nI_clamp (by omega)
    refine br_f (nI_ge (b := 16) (by omega) (by omega)) ?_
    rw [hc]
    exact ⟨hi, hi, nm_r (qw_cps aw ce k) (nm_r (nI_1 k) K)⟩
theorem qw_xe {post : SX → Prop} {dd tt : Nat → Nat} (hW0 : 1 ≤ W) (hW : W ≤ 4) (hS : S ≤ 6) (h2 : ∀ y, y < 4 → ¬ sh = 0 → ar y = 2 → 0 < S) (hd : ∀ w, w < W → al w = nI (tt w) ∧ ad w = nI (dd w) ∧ tt w ≤ 48 ∧ dd w ≤ 48)
    (hgo : ∀ w, w < W → dd w < tt w → post ((nI N), (nI W), (nI S), rn, sh, dv, sr, sc, ce, ao, ax, aa, ab, aw, an, af, ad, al, ar)) (hend : (∀ w, w < W → tt w ≤ dd w) → post ((nI N), (nI W), (nI S), 0, sh, dv, sr, qw_cp (qw_fv sh W sc an ar) sc 4, qw_cp aw ce 16, ao, ax, aa, ab, aw, an, af, ad, al, ar)) : wpX_endIfDone post ((nI N), (nI W), (nI S), rn, sh, dv, sr, sc, ce, ao, ax, aa, ab, aw, an, af, ad, al, ar) := by
  have L : ∀ d w, w + d = W → (∀ u, u < w → tt u ≤ dd u) → ∀ n, d < n → wX_endIfDone_2 post (nI N) (nI W) (nI S) rn sh dv sr sc ce ao ax aa ab aw an af ad al ar n (nI w) := by
    intro d
    induction d with
    | zero =>
      intro w hw hu n hn
      obtain ⟨m, rfl⟩ : ∃ m, n = m + 1 := ⟨n - 1, by omega⟩
      have e : w = W := by omega
      subst e
      refine br_t (nI_le (Nat.le_refl w) (by omega)) ⟨17, ?_⟩
      have k := qw_x65 (ce := qw_cp aw ce 16) hW0 hW hS h2 (hend hu) 4 0 (by omega) 5 (by omega)
      rw [nI_0, qw_cp0] at k
      have k2 := qw_x39 ⟨5, k⟩ 16 0 (by omega) 17 (by omega)
      rw [nI_0, qw_cp0] at k2
      exact k2
    | succ d ih =>
      intro w hw hu n hn
      obtain ⟨m, rfl⟩ : ∃ m, n = m + 1 := ⟨n - 1, by omega⟩
      have hi : vp_in (nI w) 4 := vp_in_nI (by omega) (by omega)
      have hc : (nI w).toNatClampNeg = w := nI_clamp (by omega)
      obtain ⟨e1, e2, e3, e4⟩ := hd w (by omega)
      refine br_f (nI_ge (by omega) (by omega)) ?_
      rw [hc, e1, e2]
      refine ⟨hi, hi, br_c (fun z => nm_r (nI_1 w) ?_) (fun z => ?_)⟩
      · rw [nI_leI (by omega) (by omega)] at z
        refine ih (w + 1) (by omega) ?_ m (by omega)
        intro u hu2
        by_cases q : u = w
        · rw [q]; exact z
        · exact hu u (by omega)
      · rw [nI_leI (by omega) (by omega)] at z
        exact hgo w (by omega) (by omega)
  refine ⟨W + 1, ?_⟩
  have k := L W 0 (by omega) (fun u hu => absurd hu (Nat.not_lt_zero u)) (W + 1) (by omega)
  rw [nI_0] at k
  exact k
end
/-! employing -/
def qw_FI (sh : Int32) (N W w : Nat) : Nat := if sh = 0 then 0 else wl_F N W w
def qw_TT (sh : Int32) (S N W w : Nat) : Nat := if sh = 0 then (if w = 0 then N * S else 0) else (wl_F N W (w + 1) - wl_F N W w) * S
def qw_bv (sh : Int32) (ar sc : Nat → Int32) (y : Nat) : Int32 := if sh = 0 then sc y else if ar y = 3 then 0 else sc y
def qw_sg (an : Nat → Int32) (w : Nat) (f : Nat → Int32) (k : Nat) : Nat → Int32 := fun j => if w * 4 ≤ j ∧ j < w * 4 + k then f (j - w * 4) else an j
theorem qw_sg0 (an : Nat → Int32) (w : Nat) (f : Nat → Int32) : qw_sg an w f 0 = an := by
  funext j
  exact if_neg (by omega)
theorem qw_sgs (an : Nat → Int32) (w : Nat) (f : Nat → Int32) (k : Nat) : upd (qw_sg an w f k) (w * 4 + k) (f k) = qw_sg an w f (k + 1) := by
  funext j
  unfold qw_sg
  by_cases h : j = w * 4 + k
  · rw [h, pk_us, if_pos (by omega)]
    exact congrArg f (by omega)
  · rw [pk_un h]
    by_cases l : w * 4 ≤ j ∧ j < w * 4 + k
    · rw [if_pos l, if_pos (by omega)]
    · rw [if_neg l, if_neg (by omega)]
theorem qw_sgi (an : Nat → Int32) (w : Nat) (f : Nat → Int32) {y : Nat} (hy : y < 4) : qw_sg an w f 4 (w * 4 + y) = f y := by
  unfold qw_sg
  rw [if_pos (by omega)]
  exact congrArg f (by omega)
theorem qw_sgo (an : Nat → Int32) (w : Nat) (f : Nat → Int32) {u y : Nat} (hu : u ≠ w) (hy : y < 4) : qw_sg an w f 4 (u * 4 + y) = an (u * 4 + y) := if_neg (by omega)
theorem qw_TT48 {sh : Int32} {S N W w : Nat} (hS : S ≤ 6) (hN : N ≤ 8) (hW : 1 ≤ W) (hw : w < W) : qw_TT sh S N W w ≤ 48 := by
  have m : ∀ a, a ≤ N → a * S ≤ 48 := fun a ha => Nat.mul_le_mul (show a ≤ 8 by omega) hS
  unfold qw_TT
  by_cases z : sh = 0
  · rw [if_pos z]
    by_cases q : w = 0
    · rw [if_pos q]; exact m N (Nat.le_refl N)
    · rw [if_neg q]; omega
  · rw [if_neg z]
    have k := wl_Fm N W (show w + 1 ≤ W by omega)
    rw [wl_FW N (by omega)] at k
    exact m _ (by omega)
section
variable {N W S : Nat} {rn sh dv sr : Int32} {sc ce ao ax aa ab aw an af ad al ar : Nat → Int32}
theorem qw_x81 {w : Nat} {post : SX → Prop} (hw : w < 4) (h : post ((nI N), (nI W), (nI S), rn, sh, dv, sr, sc, ce, ao, ax, aa, ab, aw, qw_sg an w (qw_bv sh ar sc) 4, af, ad, al, ar)) : ∀ d x, x + d = 4 → ∀ n, d < n → wX_employ_81 post (nI w) (nI N) (nI W) (nI S) rn sh dv sr n (nI x) sc ce ao ax aa ab aw (qw_sg an w (qw_bv sh ar sc) x) af ad al ar := by
  intro d
  induction d with
  | zero =>
    intro x hx n hn
    obtain ⟨m, rfl⟩ : ∃ m, n = m + 1 := ⟨n - 1, by omega⟩
    have e : x = 4 := by omega
    subst e
    exact br_t (nI_le (a := 4) (Nat.le_refl 4) (by omega)) h
  | succ d ih =>
    intro x hx n hn
    obtain ⟨m, rfl⟩ : ∃ m, n = m + 1 := ⟨n - 1, by omega⟩
    have K := ih (x + 1) (by omega) m (by omega)
    have hi : vp_in (nI x) 4 := vp_in_nI (by omega) (by omega)
    have hc : (nI x).toNatClampNeg = x := nI_clamp (by omega)
    have hj : vp_in (nI (w * 4 + x)) 16 := vp_in_nI (by omega) (by omega)
    have hcj : (nI (w * 4 + x)).toNatClampNeg = w * 4 + x := nI_clamp (by omega)
    refine br_f (nI_ge (b := 4) (by omega) (by omega)) ?_
    unfold wX_employ_109 wX_employ_110
    rw [qw_m4, hc, hcj]
    refine br_c (fun z => br_t rfl ⟨hi, hj, nm_r ?_ (nm_r (nI_1 x) K)⟩) (fun z => ⟨hi, br_c (fun v => br_f qr_n10 ⟨hj, nm_r ?_ (nm_r (nI_1 x) K)⟩) (fun v => br_t rfl ⟨hi, hj, nm_r ?_ (nm_r (nI_1 x) K)⟩)⟩)
    · rw [← qw_sgs, show qw_bv sh ar sc x = sc x from if_pos z]
    · rw [← qw_sgs, show qw_bv sh ar sc x = 0 from (if_neg z).trans (if_pos v)]
    · rw [← qw_sgs, show qw_bv sh ar sc x = sc x from (if_neg z).trans (if_neg v)]
theorem qw_x48 {w a b : Nat} {post : SX → Prop} (hS : S ≤ 6) (hw : w < 4) (hab : a ≤ b) (hb : b ≤ 8) (h : post ((nI N), (nI W), (nI S), rn, sh, dv, sr, sc, ce, ao, ax, aa, ab, aw, qw_sg an w (qw_bv sh ar sc) 4, upd af w (nI a), upd ad w 0, upd al w (nI ((b - a) * S)), ar)) : wX_employ_48 post (nI w) (nI a) (nI b) (nI N) (nI W) (nI S) rn sh dv sr sc ce ao ax aa ab aw an af ad al ar := by
  have hi : vp_in (nI w) 4 := vp_in_nI hw (by omega)
  have hc : (nI w).toNatClampNeg = w := nI_clamp (by omega)
  have m : (b - a) * S ≤ 48 := Nat.mul_le_mul (show b - a ≤ 8 by omega) hS
  unfold wX_employ_48
  rw [hc, qw_by (show a < 128 by omega), qw_b0, pk_sub hab, pk_mul, qw_by (show (b - a) * S < 128 by omega)]
  refine ⟨hi, nm_e ⟨hi, nm_e ⟨hi, nm_e ⟨5, ?_⟩⟩⟩⟩
  have k := qw_x81 (af := upd af w (nI a)) (ad := upd ad w 0) (al := upd al w (nI ((b - a) * S))) hw h 4 0 (by omega) 5 (by omega)
  rw [nI_0, qw_sg0] at k
  exact k
theorem qw_xem {w : Nat} {post : SX → Prop} (hS : S ≤ 6) (hN : N ≤ 8) (hW0 : 1 ≤ W) (hW : W ≤ 4) (hw : w < W) (h : post ((nI N), (nI W), (nI S), rn, sh, dv, sr, sc, ce, ao, ax, aa, ab, aw, qw_sg an w (qw_bv sh ar sc) 4, upd af w (nI (qw_FI sh N W w)), upd ad w 0, upd al w (nI (qw_TT sh S N W w)), ar)) : wpX_employ post ((nI N), (nI W), (nI S), rn, sh, dv, sr, sc, ce, ao, ax, aa, ab, aw, an, af, ad, al, ar) (nI w) := by
  have q1 : w * N ≤ 32 := Nat.mul_le_mul (show w ≤ 4 by omega) hN
  have q2 : (w + 1) * N ≤ 40 := Nat.mul_le_mul (show w + 1 ≤ 5 by omega) hN
  have hne : ¬ nI W = 0 := nI_ne0 (by omega) (by omega)
  have hF := wl_Fm N W (show w ≤ w + 1 by omega)
  have hF8 : wl_F N W (w + 1) ≤ 8 := by
    have k := wl_Fm N W (show w + 1 ≤ W by omega)
    rw [wl_FW N (by omega)] at k
    omega
  unfold wpX_employ
  dsimp only
  rw [nI_1, pk_mul, pk_mul, pk_div (by omega) (by omega) (by omega), pk_div (by omega) (by omega) (by omega)]
  refine ⟨hne, nm_e ⟨hne, nm_e (br_c (fun z => ?_) (fun z => ?_))⟩⟩
  · unfold qw_FI qw_TT at h
    rw [if_pos z, if_pos z] at h
    unfold wX_employ_47
    refine br_c (fun e => ?_) (fun e => ?_)
    · have e' : w = 0 := (nI_eq (b := 0) (by omega) (by omega)).mp e
      rw [if_pos e'] at h
      exact qw_x48 (a := 0) hS (by omega) (by omega) hN h
    · have e' : ¬ w = 0 := fun q => e (by rw [q]; exact nI_0)
      rw [if_neg e'] at h
      refine qw_x48 (a := 0) (b := 0) hS (by omega) (by omega) (by omega) ?_
      rw [show (0 - 0) * S = 0 from Nat.zero_mul S]
      exact h
  · unfold qw_FI qw_TT at h
    rw [if_neg z, if_neg z] at h
    exact qw_x48 hS (by omega) hF hF8 h
end
end
section
/-! the component: start -/
def qw_E (sh : Int32) (S N W k : Nat) (ar sc af ad al an : Nat → Int32) : Prop := ∀ u, u < k → af u = nI (qw_FI sh N W u) ∧ ad u = 0 ∧ al u = nI (qw_TT sh S N W u) ∧ ∀ y, y < 4 → an (u * 4 + y) = qw_bv sh ar sc y
theorem qw_rl5 (S : Nat) (ao ax aa : Nat → Int32) (y : Int32) : ∃ k : Nat, k ≤ 5 ∧ qr_rl S ao ax aa y = nI k := by
  have m : ∀ (c : Prop) (a : Nat) (b : Int32), a ≤ 5 → (∃ k : Nat, k ≤ 5 ∧ b = nI k) → ∃ k : Nat, k ≤ 5 ∧ qr_if c (nI a) b = nI k := by
    intro c a b ha hb
    by_cases h : c
    · rw [qr_t h]; exact ⟨a, ha, rfl⟩
    · rw [qr_f h]; exact hb
  unfold qr_rl
  exact m _ 0 _ (by omega) (m _ 1 _ (by omega) (m _ 2 _ (by omega) (m _ 3 _ (by omega) (m _ 4 _ (by omega) ⟨5, by omega, rfl⟩))))
theorem qw_rlb (S : Nat) (ao ax aa : Nat → Int32) (y : Int32) : vp_nar .byte (qr_rl S ao ax aa y).toInt8.toInt32 = qr_rl S ao ax aa y := by
  obtain ⟨k, hk, e⟩ := qw_rl5 S ao ax aa y
  rw [e]
  exact qw_by (by omega)
theorem qw_ft (c : Prop) : fits .boolean (.int (qr_b c)) = true := by
  by_cases h : c
  · rw [qr_bt h]; rfl
  · rw [qr_bf h]; rfl
section
variable {N W S : Nat} {rn sh dv sr : Int32} {sc ce ao ax aa ab aw an af ad al ar : Nat → Int32}
theorem qw_x75 {post : Int32 → SX → Prop} (hS : S ≤ 6) (hN : N ≤ 8) (hW0 : 1 ≤ W) (hW : W ≤ 4) (h2 : ∀ y, y < 4 → ¬ sh = 0 → ar y = 2 → 0 < S)
    (h : ∀ af ad al an : Nat → Int32, qw_E sh S N W W ar sc af ad al an → ((∃ w, w < W ∧ 0 < qw_TT sh S N W w) → post 1 ((nI N), (nI W), (nI S), rn, sh, dv, sr, sc, ce, ao, ax, aa, ab, aw, an, af, ad, al, ar)) ∧ ((∀ w, w < W → qw_TT sh S N W w = 0) → post 1 ((nI N), (nI W), (nI S), 0, sh, dv, sr, qw_cp (qw_fv sh W sc an ar) sc 4, qw_cp aw ce 16, ao, ax, aa, ab, aw, an, af, ad, al, ar))) :
    ∀ d w, w + d = W → ∀ n, d < n → ∀ af ad al an : Nat → Int32, qw_E sh S N W w ar sc af ad al an → wX_start_75 post n (nI w) (nI N) (nI W) (nI S) rn sh dv sr sc ce ao ax aa ab aw an af ad al ar := by
  intro d
  induction d with
  | zero =>
    intro w hw n hn af ad al an E
    obtain ⟨m, rfl⟩ : ∃ m, n = m + 1 := ⟨n - 1, by omega⟩
    have e : w = W := by omega
    subst e
    refine br_t (nI_le (Nat.le_refl w) (by omega)) ?_
    refine qw_xe (dd := fun _ => 0) (tt := qw_TT sh S N w) hW0 hW hS h2 (fun u hu => ?_) (fun u hu hlt => ?_) (fun hall => ?_)
    · obtain ⟨a, b, c, _⟩ := E u hu
      exact ⟨c, b.trans nI_0.symm, qw_TT48 hS hN hW0 hu, by omega⟩
    · exact (h af ad al an E).1 ⟨u, hu, hlt⟩
    · exact (h af ad al an E).2 (fun u hu => Nat.le_zero.mp (hall u hu))
  | succ d ih =>
    intro w hw n hn af ad al an E
    obtain ⟨m, rfl⟩ : ∃ m, n = m + 1 := ⟨n - 1, by omega⟩
    refine br_f (nI_ge (by omega) (by omega)) ?_
    refine qw_xem hS hN hW0 hW (by omega) (nm_r (nI_1 w) ?_)
    refine ih (w + 1) (by omega) m (by omega) _ _ _ _ ?_
    intro u hu
    by_cases q : u = w
    · rw [q, pk_us, pk_us, pk_us]
      exact ⟨rfl, rfl, rfl, fun y hy => qw_sgi an w _ hy⟩
    · rw [pk_un q, pk_un q, pk_un q]
      obtain ⟨a, b, c, e⟩ := E u (by omega)
      exact ⟨a, b, c, fun y hy => (qw_sgo an w _ q hy).trans (e y hy)⟩
theorem qw_x49 {post : Int32 → SX → Prop} (h : ∃ n, wX_start_75 post n 0 (nI N) (nI W) (nI S) rn sh dv sr sc ce ao ax aa ab (qw_cp ce aw 16) an af ad al ar) : ∀ d k, k + d = 16 → ∀ n, d < n → wX_start_49 post (nI N) (nI W) (nI S) rn sh dv sr n (nI k) sc ce ao ax aa ab (qw_cp ce aw k) an af ad al ar := by
  intro d
  induction d with
  | zero =>
    intro k hk n hn
    obtain ⟨m, rfl⟩ : ∃ m, n = m + 1 := ⟨n - 1, by omega⟩
    have e : k = 16 := by omega
    subst e
    exact br_t (nI_le (a := 16) (Nat.le_refl 16) (by omega)) h
  | succ d ih =>
    intro k hk n hn
    obtain ⟨m, rfl⟩ : ∃ m, n = m + 1 := ⟨n - 1, by omega⟩
    have K := ih (k + 1) (by omega) m (by omega)
    have hi : vp_in (nI k) 16 := vp_in_nI (by omega) (by omega)
    have hc : (nI k).toNatClampNeg = k := nI_clamp (by omega)
    refine br_f (nI_ge (b := 16) (by omega) (by omega)) ?_
    rw [hc]
    exact ⟨hi, hi, nm_r (qw_cps ce aw k) (nm_r (nI_1 k) K)⟩
theorem qw_x24 {post : Int32 → SX → Prop} (hS : S ≤ 6) (h : ∃ n, wX_start_49 post (nI N) (nI W) (nI S) rn sh dv sr n 0 sc ce ao ax aa ab aw an af ad al (qw_cp (fun y => qr_rl S ao ax aa (nI y)) ar 4)) : ∀ d y, y + d = 4 → ∀ n, d < n → wX_start_24 post (nI N) (nI W) (nI S) rn sh dv sr n (nI y) sc ce ao ax aa ab aw an af ad al (qw_cp (fun y => qr_rl S ao ax aa (nI y)) ar y) := by
  intro d
  induction d with
  | zero =>
    intro y hy n hn
    obtain ⟨m, rfl⟩ : ∃ m, n = m + 1 := ⟨n - 1, by omega⟩
    have e : y = 4 := by omega
    subst e
    exact br_t (nI_le (a := 4) (Nat.le_refl 4) (by omega)) h
  | succ d ih =>
    intro y hy n hn
    obtain ⟨m, rfl⟩ : ∃ m, n = m + 1 := ⟨n - 1, by omega⟩
    have K := ih (y + 1) (by omega) m (by omega)
    have hi : vp_in (nI y) 4 := vp_in_nI (by omega) (by omega)
    have hc : (nI y).toNatClampNeg = y := nI_clamp (by omega)
    refine br_f (nI_ge (b := 4) (by omega) (by omega)) (qr_x hS ?_)
    rw [hc, qw_rlb]
    exact ⟨hi, nm_r (qw_cps (fun y => qr_rl S ao ax aa (nI y)) ar y) (nm_r (nI_1 y) K)⟩
theorem qw_xs {bb : Nat → Int32} {post : Int32 → SX → Prop} (hN1 : 1 ≤ N) (hN : N ≤ 8) (hW0 : 1 ≤ W) (hW : W ≤ 4) (hS : S ≤ 6) (H : qw_WF N S ao ax aa bb) {sh' : Int32} (hsh : sh' = qr_b (qp_PA N S ao ax aa bb))
    (h : ∀ (dv sr : Int32) (aw an af ad al ar : Nat → Int32), (∀ y, y < 4 → ar y = qr_rl S ao ax aa (nI y)) → (∀ k, k < 16 → aw k = ce k) → qw_E sh' S N W W ar sc af ad al an → ((∃ w, w < W ∧ 0 < qw_TT sh' S N W w) → post 1 ((nI N), (nI W), (nI S), 1, sh', dv, sr, sc, ce, ao, ax, aa, fun j => bb j &&& 15, aw, an, af, ad, al, ar)) ∧ ((∀ w, w < W → qw_TT sh' S N W w = 0) → post 1 ((nI N), (nI W), (nI S), 0, sh', dv, sr, qw_cp (qw_fv sh' W sc an ar) sc 4, qw_cp aw ce 16, ao, ax, aa, fun j => bb j &&& 15, aw, an, af, ad, al, ar))) :
    wpX_start post ((nI N), (nI W), (nI S), 0, sh, dv, sr, sc, ce, ao, ax, aa, fun j => bb j &&& 15, aw, an, af, ad, al, ar) := by
  unfold wpX_start
  dsimp only
  refine br_t rfl ?_
  refine qp_x hN1 hN hS (fun p hp => qw_g H hp) ?_
  intro dv' sr'
  rw [← hsh]
  refine ⟨hsh ▸ qr_nb _, hsh ▸ qw_ft _, 5, ?_⟩
  have hr : ∀ y, y < 4 → qw_cp (fun y => qr_rl S ao ax aa (nI y)) ar 4 y = qr_rl S ao ax aa (nI y) := fun y hy => qw_cpl hy
  have h2 : ∀ y, y < 4 → ¬ sh' = 0 → qw_cp (fun y => qr_rl S ao ax aa (nI y)) ar 4 y = 2 → 0 < S := by
    intro y hy _ e
    rw [hr y hy] at e
    by_cases z : S = 0
    · rw [qr_v0 (fun q hq => absurd hq (by omega))] at e
      exact absurd e (by decide)
    · omega
  have k75 := qw_x75 (N := N) (W := W) (S := S) (rn := 1) (sh := sh') (dv := dv') (sr := sr') (sc := sc) (ce := ce) (ao := ao) (ax := ax) (aa := aa) (ab := fun j => bb j &&& 15) (aw := qw_cp ce aw 16) (ar := qw_cp (fun y => qr_rl S ao ax aa (nI y)) ar 4) (post := post) hS hN hW0 hW h2 (fun af ad al an E => h dv' sr' _ an af ad al _ hr (fun k hk => qw_cpl hk) E) W 0 (by omega) (W + 1) (by omega) af ad al an (fun u hu => absurd hu (Nat.not_lt_zero u))
  rw [nI_0] at k75
  have k49 := qw_x49 ⟨W + 1, k75⟩ 16 0 (by omega) 17 (by omega)
  rw [nI_0, qw_cp0] at k49
  have k24 := qw_x24 hS ⟨17, k49⟩ 4 0 (by omega) 5 (by omega)
  rw [nI_0, qw_cp0] at k24
  exact k24
end
end
section
/-! the run's invariant over the component's arrays -/
noncomputable def qw_ro (S : Nat) (ao ax aa : Nat → Int32) (y : Nat) : Nat := (qr_rl S ao ax aa (nI y)).toNatClampNeg
theorem qw_roe (S : Nat) (ao ax aa : Nat → Int32) (y : Nat) : qr_rl S ao ax aa (nI y) = nI (qw_ro S ao ax aa y) ∧ qw_ro S ao ax aa y ≤ 5 := by
  obtain ⟨k, hk, e⟩ := qw_rl5 S ao ax aa (nI y)
  have q : qw_ro S ao ax aa y = k := by
    unfold qw_ro
    rw [e, nI_clamp (by omega)]
  rw [q]
  exact ⟨e, hk⟩
section
variable {N S : Nat} {ao ax aa bb : Nat → Int32}
theorem qw_rdi (H : qw_WF N S ao ax aa bb) {q y : Nat} (hq : q < S) (hy : y < 4) : ((ao q = 3 ∨ ao q = 4) ∧ aa q = nI y) ↔ wl_rd (qw_pg ao ax aa bb) q y := by
  have h3 := qw_oi H hq (k := 3) (by omega)
  have h4 := qw_oi H hq (k := 4) (by omega)
  constructor
  · rintro ⟨a, b⟩
    have a' : wl_o (qw_pg ao ax aa bb) q = 3 ∨ wl_o (qw_pg ao ax aa bb) q = 4 := a.elim (fun z => Or.inl (h3.mp z)) (fun z => Or.inr (h4.mp z))
    obtain ⟨e, l⟩ := qw_r H hq a'
    rw [e] at b
    exact ⟨a', (nI_eq (by omega) (by omega)).mp b⟩
  · rintro ⟨a, b⟩
    obtain ⟨e, l⟩ := qw_r H hq a
    rw [b] at e
    exact ⟨a.elim (fun z => Or.inl (h3.mpr z)) (fun z => Or.inr (h4.mpr z)), e⟩
theorem qw_Mi (H : qw_WF N S ao ax aa bb) {q y : Nat} (hq : q < S) (hy : y < 4) : qr_M ao ax aa (nI y) q ↔ wl_M (qw_pg ao ax aa bb) q y := by
  have a := qw_xi H hq hy
  have b := qw_rdi H hq hy
  exact ⟨fun z => z.elim (fun w => Or.inl (a.mp w)) (fun w => Or.inr (b.mp w)), fun z => z.elim (fun w => Or.inl (a.mpr w)) (fun w => Or.inr (b.mpr w))⟩
theorem qw_H (H : qw_WF N S ao ax aa bb) (PA : qp_PA N S ao ax aa bb) : wl_H (qw_pg ao ax aa bb) S N (qw_ro S ao ax aa) := by
  refine ⟨fun p hp => ⟨(qw_x H hp).2, (qw_o H hp).2, fun z => (qw_r H hp z).2⟩, fun y hy => ?_, ?_⟩
  · obtain ⟨e, h5⟩ := qw_roe S ao ax aa y
    have fin : ∀ k, k ≤ 5 → qr_rl S ao ax aa (nI y) = nI k → qw_ro S ao ax aa y = k := by
      intro k hk q
      rw [e] at q
      exact (nI_eq (by omega) (by omega)).mp q
    by_cases c0 : ∀ q, q < S → ¬ qr_M ao ax aa (nI y) q
    · have r := fin 0 (by omega) (qr_v0 c0)
      refine Or.inl ⟨by omega, fun q hq z => absurd (Or.inl ((qw_xi H hq hy).mpr z)) (c0 q hq)⟩
    · obtain ⟨f, hf, D⟩ : ∃ f, f < S ∧ qr_D ao ax aa (nI y) f := by
        have ex : ∃ q, q < S ∧ qr_M ao ax aa (nI y) q := Classical.byContradiction fun z => c0 (fun q hq m => z ⟨q, hq, m⟩)
        obtain ⟨f, ⟨hf, hM⟩, hl⟩ := pk_least (fun q => q < S ∧ qr_M ao ax aa (nI y) q) ex
        exact ⟨f, hf, hM, fun q hq m => hl q hq ⟨by omega, m⟩⟩
      by_cases c1 : ∀ q, q < S → ¬ qr_W ao ax (nI y) q
      · have r := fin 1 (by omega) (qr_v1 hf D c1)
        refine Or.inl ⟨by omega, fun q hq z => ?_⟩
        have n := c1 q hq
        have a : ax q = nI y := (qw_xi H hq hy).mpr z
        exact (qw_oi H hq (k := 2) (by omega)).mp (Classical.byContradiction fun w => n ⟨a, w⟩)
      · by_cases c2 : ao f = 0 ∨ ao f = 1
        · have r := fin 2 (by omega) (qr_v2 hf D c1 c2)
          refine Or.inr (Or.inl ⟨r, f, hf, fun q hq m => D.2 q hq ((qw_Mi H (by omega) hy).mpr m), ?_, ?_⟩)
          · rcases D.1 with z | ⟨z, _⟩
            · exact (qw_xi H hf hy).mp z
            · rcases c2 with w | w
              · rw [w] at z; exact absurd z (by decide)
              · rw [w] at z; exact absurd z (by decide)
          · rcases c2 with w | w
            · have := (qw_oi H hf (k := 0) (by omega)).mp w
              omega
            · have := (qw_oi H hf (k := 1) (by omega)).mp w
              omega
        · by_cases c3 : ∀ q, q < S → qr_M ao ax aa (nI y) q → qr_S ao ax aa (nI y) q
          · have r := fin 3 (by omega) (qr_v3 hf D c1 c2 c3)
            refine Or.inr (Or.inr (Or.inl ⟨r, fun q hq m => ?_⟩))
            obtain ⟨⟨a, b⟩, c⟩ := c3 q hq ((qw_Mi H hq hy).mpr m)
            exact ⟨(qw_xi H hq hy).mp a, fun z => b ((qw_rdi H hq hy).mpr z), c.elim (fun z => Or.inl ((qw_oi H hq (k := 3) (by omega)).mp z)) (fun z => Or.inr ((qw_oi H hq (k := 5) (by omega)).mp z))⟩
          · by_cases c4 : ∀ q, q < S → qr_M ao ax aa (nI y) q → qr_L ao ax aa (nI y) q
            · have r := fin 4 (by omega) (qr_v4 hf D c1 c2 c3 c4)
              refine Or.inr (Or.inr (Or.inr ⟨r, fun q hq m => ?_⟩))
              obtain ⟨⟨a, b⟩, c⟩ := c4 q hq ((qw_Mi H hq hy).mpr m)
              exact ⟨(qw_xi H hq hy).mp a, fun z => b ((qw_rdi H hq hy).mpr z), (qw_oi H hq (k := 4) (by omega)).mp c⟩
            · exact absurd (qr_v5 hf D c1 c2 c3 c4) (PA.1 y hy)
  · intro p hp q hq tp tq st i hi j hj hne e
    refine PA.2 p hp q hq ⟨(qw_tc H hp).mp tp, (qw_tc H hq).mp tq, st.elim (fun z => Or.inl ((qw_oi H hp (k := 2) (by omega)).mpr z)) (fun z => Or.inr ((qw_oi H hq (k := 2) (by omega)).mpr z)), i, hi, j, hj, hne, ?_⟩
    rw [(qw_k H hp tp hi).1, (qw_k H hq tq hj).1, e]
end
/-- cells outside the array don't matter -/
theorem qw_exm {P : wl_P} {p i : Nat} {s aw ce : Nat → Int32} (hk : wl_tc P p → wl_k P p i < 16) : (wl_ex P p i (s, aw)).1 = (wl_ex P p i (s, qw_cp aw ce 16)).1 ∧ qw_cp (wl_ex P p i (s, aw)).2 ce 16 = (wl_ex P p i (s, qw_cp aw ce 16)).2 := by
  rcases wl_cs (wl_o P p) with e | e | e | e | e | e
  · rw [wl_ex0 e, wl_ex0 e]; exact ⟨rfl, rfl⟩
  · rw [wl_ex1 e, wl_ex1 e]
    refine ⟨?_, rfl⟩
    show upd s (wl_x P p) (aw (wl_k P p i)) = upd s (wl_x P p) (qw_cp aw ce 16 (wl_k P p i))
    rw [qw_cpl (hk (Or.inl e))]
  · rw [wl_ex2 e, wl_ex2 e]
    refine ⟨rfl, ?_⟩
    show qw_cp (upd aw (wl_k P p i) (s (wl_x P p))) ce 16 = upd (qw_cp aw ce 16) (wl_k P p i) (s (wl_x P p))
    have hk' := hk (Or.inr e)
    funext j
    by_cases z : j = wl_k P p i
    · rw [z, pk_us, qw_cpl hk', pk_us]
    · rw [pk_un z]
      by_cases l : j < 16
      · rw [qw_cpl l, qw_cpl l, pk_un z]
      · rw [qw_cpg (by omega), qw_cpg (by omega)]
  · rw [wl_ex3 e, wl_ex3 e]; exact ⟨rfl, rfl⟩
  · rw [wl_ex4 e, wl_ex4 e]; exact ⟨rfl, rfl⟩
  · rw [wl_ex5 e, wl_ex5 e]; exact ⟨rfl, rfl⟩
def qw_RI (sh : Int32) (P : wl_P) (S N W : Nat) (s0 c0 : Nat → Int32) (ro : Nat → Nat) (an wk : Nat → Int32) (d : Nat → Nat) : Prop :=
  (¬ sh = 0 → wl_RP P S N W s0 c0 ro an wk d) ∧ (sh = 0 → wk = (wl_sd P S (s0, c0) (d 0)).2 ∧ ∀ y, y < 4 → an y = (wl_sd P S (s0, c0) (d 0)).1 y)
section
variable {sh : Int32} {P : wl_P} {S N W : Nat} {s0 c0 : Nat → Int32} {ro : Nat → Nat} {an wk an' wk' : Nat → Int32} {d : Nat → Nat} {w p i : Nat}
theorem qw_TT0 (h : sh = 0) : qw_TT sh S N W w = if w = 0 then N * S else 0 := if_pos h
theorem qw_TT1 (h : ¬ sh = 0) : qw_TT sh S N W w = (wl_F N W (w + 1) - wl_F N W w) * S := if_neg h
theorem qw_iN (hS : 0 < S) (hW : 0 < W) (hw : w < W) {c : Nat} (hd : c < qw_TT sh S N W w) : qw_FI sh N W w + c / S < N := by
  unfold qw_FI
  by_cases z : sh = 0
  · rw [qw_TT0 z] at hd
    rw [if_pos z, Nat.zero_add]
    by_cases q : w = 0
    · rw [if_pos q, Nat.mul_comm] at hd
      exact Nat.div_lt_of_lt_mul hd
    · rw [if_neg q] at hd
      exact absurd hd (Nat.not_lt_zero c)
  · rw [qw_TT1 z, Nat.mul_comm] at hd
    rw [if_neg z]
    have a := Nat.div_lt_of_lt_mul hd
    have k := wl_Fm N W (show w + 1 ≤ W by omega)
    rw [wl_FW N hW] at k
    exact Nat.lt_of_lt_of_le (Nat.add_lt_of_lt_sub' a) k
theorem qw_RIs (HH : ¬ sh = 0 → wl_H P S N ro) (hx : ∀ p, p < S → wl_x P p < 4 ∧ ((wl_o P p = 3 ∨ wl_o P p = 4) → wl_r P p < 4)) (hS : 0 < S) (hW : 0 < W) (R : qw_RI sh P S N W s0 c0 ro an wk d) (hw : w < W) (hd : d w < qw_TT sh S N W w) (hp : p = d w % S) (hi : i = qw_FI sh N W w + d w / S)
    (h1 : ∀ y, y < 4 → an' (w * 4 + y) = (wl_ex P p i (fun y => an (w * 4 + y), wk)).1 y) (h2 : ∀ u, u ≠ w → ∀ y, y < 4 → an' (u * 4 + y) = an (u * 4 + y)) (h3 : wk' = (wl_ex P p i (fun y => an (w * 4 + y), wk)).2) : qw_RI sh P S N W s0 c0 ro an' wk' (fun u => if u = w then d w + 1 else d u) := by
  constructor
  · intro z
    rw [qw_TT1 z] at hd
    rw [show qw_FI sh N W w = wl_F N W w from if_neg z] at hi
    exact wl_RPs (HH z) hS hW (R.1 z) hw hd hp hi h1 (fun u _ => h2 u) h3 (if_pos rfl) (fun u _ hu => if_neg hu)
  · intro z
    rw [qw_TT0 z] at hd
    by_cases q : w = 0
    · rw [show qw_FI sh N W w = 0 from if_pos z, Nat.zero_add] at hi
      rw [q] at h1 h3 hp hi
      rw [q]
      show wk' = (wl_sd P S (s0, c0) (if 0 = 0 then d 0 + 1 else d 0)).2 ∧ ∀ y, y < 4 → an' y = (wl_sd P S (s0, c0) (if 0 = 0 then d 0 + 1 else d 0)).1 y
      rw [if_pos rfl, wl_sds P hS, ← hp, ← hi]
      obtain ⟨a, b⟩ := R.2 z
      have hps : p < S := by rw [hp]; exact Nat.mod_lt _ hS
      have k := wl_ex_cg (P := P) (p := p) (i := i) (s := fun y => an (0 * 4 + y)) (s' := (wl_sd P S (s0, c0) (d 0)).1) (c := wk) (hx p hps).1 (hx p hps).2 (fun y hy => by
        show an (0 * 4 + y) = _
        rw [Nat.zero_mul, Nat.zero_add]; exact b y hy)
      rw [h3]
      rw [a] at k h1 ⊢
      refine ⟨k.2, fun y hy => ?_⟩
      have e := h1 y hy
      rw [Nat.zero_mul, Nat.zero_add] at e
      rw [e]
      have k1 := k.1 y hy
      rw [Nat.zero_mul] at k1
      exact k1
    · rw [if_neg q] at hd
      exact absurd hd (Nat.not_lt_zero _)
end
end
section
/-! the component: the end of a run is the sequential run; step; finish -/
section
variable {N W S : Nat} {rn sh dv sr : Int32} {sc ce ao ax aa ab aw an af ad al ar : Nat → Int32}
variable {bb : Nat → Int32}
theorem qw_fin {d : Nat → Nat} (H : qw_WF N S ao ax aa bb) (hN1 : 1 ≤ N) (hW0 : 1 ≤ W) (hS : 0 < S) (hsh : sh = qr_b (qp_PA N S ao ax aa bb)) (har : ∀ y, y < 4 → ar y = qr_rl S ao ax aa (nI y)) (R : qw_RI sh (qw_pg ao ax aa bb) S N W sc ce (qw_ro S ao ax aa) an (qw_cp aw ce 16) d) (hle : ∀ w, w < W → d w ≤ qw_TT sh S N W w) (hge : ∀ w, w < W → qw_TT sh S N W w ≤ d w) :
    qw_cp aw ce 16 = (wl_ri (qw_pg ao ax aa bb) S (sc, ce) N).2 ∧ qw_cp (qw_fv sh W sc an ar) sc 4 = (wl_ri (qw_pg ao ax aa bb) S (sc, ce) N).1 := by
  have out := (wl_ri_out (P := qw_pg ao ax aa bb) (S := S) (N := N) (t := (sc, ce)) (fun p hp => ⟨(qw_x H hp).2, fun z i hi => (qw_k H hp (Or.inr z) hi).2⟩) N (Nat.le_refl N)).1
  have tail : (∀ y, y < 4 → qw_fv sh W sc an ar y = (wl_ri (qw_pg ao ax aa bb) S (sc, ce) N).1 y) → qw_cp (qw_fv sh W sc an ar) sc 4 = (wl_ri (qw_pg ao ax aa bb) S (sc, ce) N).1 := by
    intro h
    funext y
    by_cases l : y < 4
    · rw [qw_cpl l]; exact h y l
    · rw [qw_cpg (by omega)]; exact (out y (by omega)).symm
  by_cases z : sh = 0
  · obtain ⟨a, b⟩ := R.2 z
    have h1 := hle 0 (by omega)
    have h2 := hge 0 (by omega)
    rw [qw_TT0 z, if_pos rfl] at h1 h2
    have e : d 0 = N * S := by omega
    rw [e, wl_sdN _ hS] at a b
    refine ⟨a, tail (fun y hy => ?_)⟩
    rw [show qw_fv sh W sc an ar y = an y from if_pos z]
    exact b y hy
  · have PA : qp_PA N S ao ax aa bb := qr_bn (by rw [← hsh]; exact z)
    have HH := qw_H H PA
    obtain ⟨a, b⟩ := wl_RPe HH hS (by omega) (by omega) (R.1 z) (fun w hw => by
      have h1 := hle w hw
      have h2 := hge w hw
      rw [qw_TT1 z] at h1 h2
      exact Nat.le_antisymm h1 h2)
    refine ⟨a, tail (fun y hy => ?_)⟩
    obtain ⟨b1, b2, b3, b4⟩ := b y hy
    obtain ⟨er, h5⟩ := qw_roe S ao ax aa y
    have ea : ar y = nI (qw_ro S ao ax aa y) := (har y hy).trans er
    have rk : qw_ro S ao ax aa y ≤ 4 := by
      rcases HH.2.1 y hy with ⟨k, _⟩ | ⟨k, _⟩ | ⟨k, _⟩ | ⟨k, _⟩ <;> omega
    have ei : ∀ k, k ≤ 5 → (ar y = nI k ↔ qw_ro S ao ax aa y = k) := by
      intro k hk
      rw [ea]
      exact nI_eq (by omega) (by omega)
    unfold qw_fv
    rw [if_neg z]
    by_cases c2 : ar y = 2
    · rw [if_pos c2]
      exact (b2 ((ei 2 (by omega)).mp c2)).symm
    · rw [if_neg c2]
      have n2 : ¬ qw_ro S ao ax aa y = 2 := fun q => c2 ((ei 2 (by omega)).mpr q)
      unfold qw_gv
      by_cases c3 : ar y = 3
      · rw [if_pos c3]
        exact (b3 ((ei 3 (by omega)).mp c3)).symm
      · rw [if_neg c3]
        have n3 : ¬ qw_ro S ao ax aa y = 3 := fun q => c3 ((ei 3 (by omega)).mpr q)
        by_cases c4 : ar y = 4
        · rw [if_pos c4]
          exact (b4 ((ei 4 (by omega)).mp c4)).symm
        · rw [if_neg c4]
          have n4 : ¬ qw_ro S ao ax aa y = 4 := fun q => c4 ((ei 4 (by omega)).mpr q)
          exact (b1 (by omega)).symm
theorem qw_x22 {post : Int32 → SX → Prop} {w c dw : Nat} {v2 : Int32} {d0 : Nat → Nat} (H : qw_WF N S ao ax aa bb) (hN : N ≤ 8) (hW0 : 1 ≤ W) (hW : W ≤ 4) (hS0 : 0 < S) (hS : S ≤ 6) (hsh : sh = qr_b (qp_PA N S ao ax aa bb)) (hw : w < W) (haf : ∀ u, u < W → af u = nI (qw_FI sh N W u)) (hal : ∀ u, u < W → al u = nI (qw_TT sh S N W u))
    (hc1 : ∀ k, k < c → ¬ v2 ≤ nI k) (hc2 : dw + c ≤ qw_TT sh S N W w) (hc3 : v2 ≤ nI c ∨ qw_TT sh S N W w ≤ dw + c)
    (hend : ∀ (aw an ad : Nat → Int32) (d : Nat → Nat), qw_RI sh (qw_pg ao ax aa bb) S N W sc ce (qw_ro S ao ax aa) an (qw_cp aw ce 16) d → (∀ u, u < W → ad u = nI (d u)) → d w = dw + c → (∀ u, u < W → u ≠ w → d u = d0 u) → wX_step_136 post (nI c) (nI N) (nI W) (nI S) rn sh dv sr sc ce ao ax aa (fun j => bb j &&& 15) aw an af ad al ar) :
    ∀ r k, k + r = c → ∀ n, r < n → ∀ (aw an ad : Nat → Int32) (d : Nat → Nat), qw_RI sh (qw_pg ao ax aa bb) S N W sc ce (qw_ro S ao ax aa) an (qw_cp aw ce 16) d → (∀ u, u < W → ad u = nI (d u)) → d w = dw + k → (∀ u, u < W → u ≠ w → d u = d0 u) → wX_step_22 post (nI w) v2 n (nI k) (nI k) (nI N) (nI W) (nI S) rn sh dv sr sc ce ao ax aa (fun j => bb j &&& 15) aw an af ad al ar := by
  have hi : vp_in (nI w) 4 := vp_in_nI (by omega) (by omega)
  have hc : (nI w).toNatClampNeg = w := nI_clamp (by omega)
  have hT := qw_TT48 (sh := sh) hS hN hW0 hw
  intro r
  induction r with
  | zero =>
    intro k hk n hn aw an ad d R had hdw hdo
    obtain ⟨m, rfl⟩ : ∃ m, n = m + 1 := ⟨n - 1, by omega⟩
    have e : k = c := by omega
    subst e
    have E := hend aw an ad d R had hdw hdo
    refine br_c (fun _ => E) (fun _ => br_c (fun _ => E) (fun z => ?_))
    have hge := hc3.resolve_left z
    rw [hc, hal w hw, had w hw, hdw]
    exact ⟨hi, hi, br_t (nI_le hge (by omega)) E⟩
  | succ r ih =>
    intro k hk n hn aw an ad d R had hdw hdo
    obtain ⟨m, rfl⟩ : ∃ m, n = m + 1 := ⟨n - 1, by omega⟩
    have hlt : d w < qw_TT sh S N W w := by omega
    have hSne : ¬ nI S = 0 := nI_ne0 hS0 (by omega)
    have hSle : ¬ nI S ≤ 0 := nI_nle hS0 (by omega)
    have hiN := qw_iN (sh := sh) (N := N) hS0 (by omega) hw hlt
    have hm : d w % S < S := Nat.mod_lt _ hS0
    refine br_f (nI_ge (b := 48) (by omega) (by omega)) (br_f (hc1 k (by omega)) ?_)
    rw [hc, hal w hw, had w hw]
    refine ⟨hi, hi, br_f (nI_ge hlt (by omega)) ⟨hi, br_f hSle ?_⟩⟩
    unfold wX_step_71
    rw [hc, had w hw, haf w hw]
    refine ⟨hSne, nm_r (pk_rem (by omega) hS0 (by omega)) ⟨hi, hi, br_f hSle ?_⟩⟩
    unfold wX_step_101
    refine ⟨hSne, nm_r (e' := nI (qw_FI sh N W w + d w / S)) (by rw [pk_div (by omega) hS0 (by omega), nI_add]) ?_⟩
    have e4 : nI w * 4 = nI (w * 4) := pk_mul w 4
    rw [e4]
    refine qw_xc H hS hm hiN hN (by omega) ?_
    intro an' aw' g1 g2 g3
    have R' : qw_RI sh (qw_pg ao ax aa bb) S N W sc ce (qw_ro S ao ax aa) an' (qw_cp aw' ce 16) (fun u => if u = w then d w + 1 else d u) := by
      have mk := qw_exm (P := qw_pg ao ax aa bb) (p := d w % S) (i := qw_FI sh N W w + d w / S) (s := fun y => an (w * 4 + y)) (aw := aw) (ce := ce) (fun t => (qw_k H hm t hiN).2)
      refine qw_RIs (fun z => qw_H H (qr_bn (by rw [← hsh]; exact z))) (fun p hp => ⟨(qw_x H hp).2, fun t => (qw_r H hp t).2⟩) hS0 (by omega) R hw hlt rfl rfl (fun y _ => ?_) g2 ?_
      · rw [← mk.1]; exact g1 y
      · rw [← mk.2, g3]
    dsimp only
    rw [hc, had w hw, nI_1, qw_by (show d w + 1 < 128 by omega)]
    refine ⟨hi, hi, nm_e (nm_r (nI_1 k) (nm_r (nI_1 k) ?_))⟩
    refine ih (k + 1) (by omega) m (by omega) aw' an' _ _ R' ?_ ?_ ?_
    · intro u hu
      show upd ad w (nI (d w + 1)) u = nI (if u = w then d w + 1 else d u)
      by_cases q : u = w
      · rw [q, pk_us, if_pos rfl]
      · rw [pk_un q, if_neg q]; exact had u hu
    · show (if w = w then d w + 1 else d w) = dw + (k + 1)
      rw [if_pos rfl]; omega
    · intro u hu q
      show (if u = w then d w + 1 else d u) = d0 u
      rw [if_neg q]; exact hdo u hu q
/-- one call of step on a worker of a run -/
theorem qw_xst {post : Int32 → SX → Prop} {w c : Nat} {v2 : Int32} {d : Nat → Nat} (H : qw_WF N S ao ax aa bb) (hN : N ≤ 8) (hW0 : 1 ≤ W) (hW : W ≤ 4) (hS0 : 0 < S) (hS : S ≤ 6) (hsh : sh = qr_b (qp_PA N S ao ax aa bb)) (hw : w < W) (haf : ∀ u, u < W → af u = nI (qw_FI sh N W u)) (hal : ∀ u, u < W → al u = nI (qw_TT sh S N W u)) (had : ∀ u, u < W → ad u = nI (d u)) (hdl : ∀ u, u < W → d u ≤ qw_TT sh S N W u)
    (R : qw_RI sh (qw_pg ao ax aa bb) S N W sc ce (qw_ro S ao ax aa) an (qw_cp aw ce 16) d)
    (hc1 : ∀ k, k < c → ¬ v2 ≤ nI k) (hc2 : d w + c ≤ qw_TT sh S N W w) (hc3 : v2 ≤ nI c ∨ qw_TT sh S N W w ≤ d w + c)
    (h : ∀ (aw an ad : Nat → Int32) (d' : Nat → Nat), qw_RI sh (qw_pg ao ax aa bb) S N W sc ce (qw_ro S ao ax aa) an (qw_cp aw ce 16) d' → (∀ u, u < W → ad u = nI (d' u)) → d' w = d w + c → (∀ u, u < W → u ≠ w → d' u = d u) → ((∃ u, u < W ∧ d' u < qw_TT sh S N W u) → post (nI c) ((nI N), (nI W), (nI S), 1, sh, dv, sr, sc, ce, ao, ax, aa, fun j => bb j &&& 15, aw, an, af, ad, al, ar)) ∧ ((∀ u, u < W → qw_TT sh S N W u ≤ d' u) → post (nI c) ((nI N), (nI W), (nI S), 0, sh, dv, sr, qw_cp (qw_fv sh W sc an ar) sc 4, qw_cp aw ce 16, ao, ax, aa, fun j => bb j &&& 15, aw, an, af, ad, al, ar))) :
    wpX_step post ((nI N), (nI W), (nI S), 1, sh, dv, sr, sc, ce, ao, ax, aa, fun j => bb j &&& 15, aw, an, af, ad, al, ar) (nI w) v2 := by
  unfold wpX_step wpX_isWorker
  dsimp only
  refine br_f qr_n10 (br_f (nI_pos (by omega)) (br_f (nI_ge hw (by omega)) (br_f qr_n10 ⟨c + 1, ?_⟩)))
  have k := qw_x22 (rn := 1) (dv := dv) (sr := sr) (ar := ar) (post := post) (c := c) (dw := d w) (d0 := d) H hN hW0 hW hS0 hS hsh hw haf hal hc1 hc2 hc3 ?_ c 0 (by omega) (c + 1) (by omega) aw an ad d R had rfl (fun _ _ _ => rfl)
  · rw [nI_0] at k
    exact k
  · intro aw an ad d' R' had' hdw hdo
    unfold wX_step_136
    have hl : ∀ u, u < W → d' u ≤ qw_TT sh S N W u := by
      intro u hu
      by_cases q : u = w
      · rw [q, hdw]; exact hc2
      · rw [hdo u hu q]; exact hdl u hu
    refine qw_xe (dd := d') (tt := qw_TT sh S N W) hW0 hW hS (fun _ _ _ _ => hS0) (fun u hu => ⟨hal u hu, had' u hu, qw_TT48 hS hN hW0 hu, Nat.le_trans (hl u hu) (qw_TT48 hS hN hW0 hu)⟩) (fun u hu hlt => ?_) (fun hall => ?_)
    · exact (h aw an ad d' R' had' hdw hdo).1 ⟨u, hu, hlt⟩
    · exact (h aw an ad d' R' had' hdw hdo).2 hall
end
end
section
/-! finish of the component; left, step and finish of the reference -/
section
variable {N W S : Nat} {rn sh dv sr : Int32} {sc ce ao ax aa ab aw an af ad al ar : Nat → Int32}
variable {bb : Nat → Int32}
theorem qw_xfn {post : Int32 → SX → Prop} (H : qw_WF N S ao ax aa bb) (hN : N ≤ 8) (hW0 : 1 ≤ W) (hW : W ≤ 4) (hS0 : 0 < S) (hS : S ≤ 6) (hsh : sh = qr_b (qp_PA N S ao ax aa bb)) (haf : ∀ u, u < W → af u = nI (qw_FI sh N W u)) (hal : ∀ u, u < W → al u = nI (qw_TT sh S N W u))
    (h : ∀ (aw an ad : Nat → Int32) (d : Nat → Nat), qw_RI sh (qw_pg ao ax aa bb) S N W sc ce (qw_ro S ao ax aa) an (qw_cp aw ce 16) d → (∀ u, u < W → d u ≤ qw_TT sh S N W u) → (∀ u, u < W → qw_TT sh S N W u ≤ d u) → post 1 ((nI N), (nI W), (nI S), 0, sh, dv, sr, qw_cp (qw_fv sh W sc an ar) sc 4, qw_cp aw ce 16, ao, ax, aa, fun j => bb j &&& 15, aw, an, af, ad, al, ar)) :
    ∀ r w, w + r = W → ∀ n, r + 1 < n → ∀ (aw an ad : Nat → Int32) (d : Nat → Nat), qw_RI sh (qw_pg ao ax aa bb) S N W sc ce (qw_ro S ao ax aa) an (qw_cp aw ce 16) d → (∀ u, u < W → ad u = nI (d u)) → (∀ u, u < W → d u ≤ qw_TT sh S N W u) → (∀ u, u < w → qw_TT sh S N W u ≤ d u) → (∃ u, u < W ∧ d u < qw_TT sh S N W u) → wX_finish_11 post n (nI w) (nI N) (nI W) (nI S) 1 sh dv sr sc ce ao ax aa (fun j => bb j &&& 15) aw an af ad al ar := by
  intro r
  induction r with
  | zero =>
    intro w hw n hn aw an ad d R had hdl hdn hex
    obtain ⟨u, hu, hlt⟩ := hex
    have := hdn u (by omega)
    omega
  | succ r ih =>
    intro w hw n hn aw an ad d R had hdl hdn hex
    obtain ⟨m, rfl⟩ : ∃ m, n = m + 1 + 1 := ⟨n - 2, by omega⟩
    have hT := qw_TT48 (sh := sh) hS hN hW0 (show w < W by omega)
    have hdw := hdl w (by omega)
    refine br_f (nI_ge (by omega) (by omega)) (br_f qr_n10 ?_)
    refine qw_xst (c := qw_TT sh S N W w - d w) H hN hW0 hW hS0 hS hsh (by omega) haf hal had hdl R (fun k hk => nI_ge (b := 48) (by omega) (by omega)) (by omega) (Or.inr (by omega)) ?_
    intro aw' an' ad' d' R' had' e1 e2
    have hl' : ∀ u, u < W → d' u ≤ qw_TT sh S N W u := by
      intro u hu
      by_cases q : u = w
      · rw [q]; omega
      · rw [e2 u hu q]; exact hdl u hu
    constructor
    · intro hex'
      refine nm_r (nI_1 w) (ih (w + 1) (by omega) (m + 1) (by omega) aw' an' ad' d' R' had' hl' ?_ hex')
      intro u hu
      by_cases q : u = w
      · rw [q]; omega
      · rw [e2 u (by omega) q]; exact hdn u (by omega)
    · intro hall
      have F := h aw' an' ad' d' R' hl' hall
      exact nm_r (nI_1 w) (br_c (fun _ => F) (fun _ => br_t rfl F))
end
section
variable {N W S : Nat} {rn : Int32} {ao ax aa bb sc ce yd : Nat → Int32}
theorem qy_left {post : Int32 → Prop} {w d : Nat} {sh : Int32} (H : qw_WF N S ao ax aa bb) (hN : N ≤ 8) (hW0 : 1 ≤ W) (hW : W ≤ 4) (hS : S ≤ 6) (hsh : sh = qr_b (qp_PA N S ao ax aa bb)) (hw : w < W) (hyd : yd w = nI d) (hd : d ≤ qw_TT sh S N W w) (h : post (nI (qw_TT sh S N W w - d))) : wpY_left post ((nI N), (nI W), (nI S), 1, ao, ax, aa, bb, sc, ce, yd) (nI w) := by
  have hi : vp_in (nI w) 4 := vp_in_nI (by omega) (by omega)
  have hc : (nI w).toNatClampNeg = w := nI_clamp (by omega)
  have q1 : w * N ≤ 32 := Nat.mul_le_mul (show w ≤ 4 by omega) hN
  have q2 : (w + 1) * N ≤ 40 := Nat.mul_le_mul (show w + 1 ≤ 5 by omega) hN
  have hne : ¬ nI W = 0 := nI_ne0 (by omega) (by omega)
  unfold wpY_left wpY_worker wY_left_57
  dsimp only
  rw [hc, hyd, nI_1, pk_mul (w + 1) N, pk_mul w N, pk_div (a := (w + 1) * N) (by omega) (by omega) (by omega), pk_div (a := w * N) (by omega) (by omega) (by omega), pk_mul N S]
  refine br_f qr_n10 (br_f (nI_pos (by omega)) (br_f (nI_ge hw (by omega)) (br_f qr_n10 ?_)))
  refine qp_y hN hS (qw_oo H) ?_
  rw [← hsh]
  refine br_c (fun z => ?_) (fun z => ⟨hne, hne, hi, ?_⟩)
  · rw [qw_TT0 z] at h hd
    refine br_c (fun e => ⟨hi, ?_⟩) (fun e => ⟨hi, ?_⟩)
    · have e' : w = 0 := (nI_eq (b := 0) (by omega) (by omega)).mp e
      rw [if_pos e'] at h hd
      rw [pk_sub hd]
      exact h
    · have e' : ¬ w = 0 := fun q => e (by rw [q]; exact nI_0)
      rw [if_neg e'] at h hd
      have e0 : d = 0 := by omega
      rw [e0] at h ⊢
      rw [Int32.zero_mul, nI_0]
      exact h
  · rw [qw_TT1 z] at h hd
    have k : nI ((w + 1) * N / W) - nI (w * N / W) = nI ((w + 1) * N / W - w * N / W) := pk_sub (wl_Fm N W (show w ≤ w + 1 by omega))
    have k2 : nI (((w + 1) * N / W - w * N / W) * S) - nI d = nI (((w + 1) * N / W - w * N / W) * S - d) := pk_sub hd
    rw [k, pk_mul, k2]
    exact h
def qy_sm (f : Nat → Nat) : Nat → Nat
  | 0 => 0
  | n + 1 => qy_sm f n + f n
theorem qy_sm0 {f : Nat → Nat} : ∀ n, qy_sm f n = 0 ↔ ∀ u, u < n → f u = 0 := by
  intro n
  induction n with
  | zero => exact ⟨fun _ u hu => absurd hu (Nat.not_lt_zero u), fun _ => rfl⟩
  | succ n ih =>
    constructor
    · intro h u hu
      have h' : qy_sm f n + f n = 0 := h
      by_cases q : u = n
      · rw [q]; omega
      · exact ih.mp (by omega) u (by omega)
    · intro h
      show qy_sm f n + f n = 0
      have a := ih.mpr (fun u hu => h u (by omega))
      have b := h n (by omega)
      omega
theorem qy_smb {f : Nat → Nat} {W : Nat} (h : ∀ u, u < W → f u ≤ 48) : ∀ n, n ≤ W → qy_sm f n ≤ 48 * n := by
  intro n
  induction n with
  | zero => intro _; exact Nat.le_refl 0
  | succ n ih =>
    intro hn
    have a := ih (by omega)
    have b := h n (by omega)
    show qy_sm f n + f n ≤ 48 * (n + 1)
    omega
theorem qy_26 {post : Int32 → SY → Prop} {J : Int32 → Int32 → Int32 → Int32 → Int32 → (Nat → Int32) → (Nat → Int32) → (Nat → Int32) → (Nat → Int32) → (Nat → Int32) → (Nat → Int32) → (Nat → Int32) → Prop} {i : Nat} (H : qw_WF N S ao ax aa bb) (hN : N ≤ 8) (hS : S ≤ 6) (hi : i < N) {t : wl_St}
    (h : J (nI (i + 1)) (nI N) (nI W) (nI S) rn ao ax aa bb ((wl_rp (qw_pg ao ax aa bb) i t S).1) ((wl_rp (qw_pg ao ax aa bb) i t S).2) yd) : ∀ r p, p + r = S → ∀ n, r < n → wY_finish_26 post J (nI i) n (nI p) (nI N) (nI W) (nI S) rn ao ax aa bb ((wl_rp (qw_pg ao ax aa bb) i t p).1) ((wl_rp (qw_pg ao ax aa bb) i t p).2) yd := by
  intro r
  induction r with
  | zero =>
    intro p hp n hn
    obtain ⟨m, rfl⟩ : ∃ m, n = m + 1 := ⟨n - 1, by omega⟩
    have e : p = S := by omega
    subst e
    exact br_t (nI_le (Nat.le_refl p) (by omega)) (nm_r (nI_1 i) h)
  | succ r ih =>
    intro p hp n hn
    obtain ⟨m, rfl⟩ : ∃ m, n = m + 1 := ⟨n - 1, by omega⟩
    refine br_f (nI_ge (by omega) (by omega)) (qw_yc H hS (by omega) hi hN (nm_r (nI_1 p) ?_))
    exact ih (p + 1) (by omega) m (by omega)
theorem qy_16 {post : Int32 → SY → Prop} (H : qw_WF N S ao ax aa bb) (hN : N ≤ 8) (hS : S ≤ 6) {t : wl_St}
    (h : post 1 ((nI N), (nI W), (nI S), rn, ao, ax, aa, bb, (wl_ri (qw_pg ao ax aa bb) S t N).1, (wl_ri (qw_pg ao ax aa bb) S t N).2, yd)) : ∀ r i, i + r = N → ∀ n, r < n → wY_finish_16 post n (nI i) (nI N) (nI W) (nI S) rn ao ax aa bb ((wl_ri (qw_pg ao ax aa bb) S t i).1) ((wl_ri (qw_pg ao ax aa bb) S t i).2) yd := by
  intro r
  induction r with
  | zero =>
    intro i hi n hn
    obtain ⟨m, rfl⟩ : ∃ m, n = m + 1 := ⟨n - 1, by omega⟩
    have e : i = N := by omega
    subst e
    exact br_t (nI_le (Nat.le_refl i) (by omega)) h
  | succ r ih =>
    intro i hi n hn
    obtain ⟨m, rfl⟩ : ∃ m, n = m + 1 := ⟨n - 1, by omega⟩
    refine br_f (nI_ge (by omega) (by omega)) ⟨S + 1, ?_⟩
    have K := ih (i + 1) (by omega) m (by omega)
    have k := qy_26 (W := W) (rn := rn) (yd := yd) (post := post) (J := wY_finish_16 post m) (t := wl_ri (qw_pg ao ax aa bb) S t i) H hN hS (show i < N by omega) K S 0 (by omega) (S + 1) (by omega)
    rw [nI_0] at k
    exact k
theorem qy_fin {post : Int32 → SY → Prop} (H : qw_WF N S ao ax aa bb) (hN : N ≤ 8) (hS : S ≤ 6)
    (h : post 1 ((nI N), (nI W), (nI S), 0, ao, ax, aa, bb, (wl_ri (qw_pg ao ax aa bb) S (sc, ce) N).1, (wl_ri (qw_pg ao ax aa bb) S (sc, ce) N).2, yd)) : wpY_finish post ((nI N), (nI W), (nI S), 1, ao, ax, aa, bb, sc, ce, yd) := by
  unfold wpY_finish
  dsimp only
  refine br_f qr_n10 ⟨N + 1, ?_⟩
  have k := qy_16 (W := W) (rn := 0) (yd := yd) (t := (sc, ce)) H hN hS h N 0 (by omega) (N + 1) (by omega)
  rw [nI_0] at k
  exact k
theorem qy_57 {post : Int32 → SY → Prop} {x4 sh : Int32} {d : Nat → Nat} (H : qw_WF N S ao ax aa bb) (hN : N ≤ 8) (hW0 : 1 ≤ W) (hW : W ≤ 4) (hS : S ≤ 6) (hsh : sh = qr_b (qp_PA N S ao ax aa bb)) (hyd : ∀ u, u < W → yd u = nI (d u)) (hd : ∀ u, u < W → d u ≤ qw_TT sh S N W u)
    (hgo : (∃ u, u < W ∧ d u < qw_TT sh S N W u) → post x4 ((nI N), (nI W), (nI S), 1, ao, ax, aa, bb, sc, ce, yd)) (hend : (∀ u, u < W → qw_TT sh S N W u ≤ d u) → post x4 ((nI N), (nI W), (nI S), 0, ao, ax, aa, bb, (wl_ri (qw_pg ao ax aa bb) S (sc, ce) N).1, (wl_ri (qw_pg ao ax aa bb) S (sc, ce) N).2, yd)) :
    ∀ r u, u + r = W → ∀ n, r < n → wY_step_57 post x4 (nI N) (nI W) (nI S) 1 ao ax aa bb sc ce yd n (nI (qy_sm (fun u => qw_TT sh S N W u - d u) u)) (nI u) := by
  have hb : ∀ u, u < W → qw_TT sh S N W u - d u ≤ 48 := by
    intro u hu
    have := qw_TT48 (sh := sh) hS hN hW0 hu
    omega
  intro r
  induction r with
  | zero =>
    intro u hu n hn
    obtain ⟨m, rfl⟩ : ∃ m, n = m + 1 := ⟨n - 1, by omega⟩
    have e : u = W := by omega
    subst e
    have sb := qy_smb hb u (Nat.le_refl u)
    refine br_t (nI_le (Nat.le_refl u) (by omega)) (br_c (fun z => ?_) (fun z => ?_))
    · have z' : qy_sm (fun v => qw_TT sh S N u v - d v) u = 0 := (nI_eq (b := 0) (by omega) (by omega)).mp z
      have al := (qy_sm0 u).mp z'
      refine qy_fin H hN hS (hend (fun v hv => ?_))
      have := al v hv
      omega
    · refine hgo (Classical.byContradiction fun q => z ?_)
      have al : qy_sm (fun v => qw_TT sh S N u v - d v) u = 0 := by
        refine (qy_sm0 u).mpr (fun v hv => ?_)
        have k : ¬ d v < qw_TT sh S N u v := fun k => q ⟨v, hv, k⟩
        show qw_TT sh S N u v - d v = 0
        omega
      rw [al]
      exact nI_0
  | succ r ih =>
    intro u hu n hn
    obtain ⟨m, rfl⟩ : ∃ m, n = m + 1 := ⟨n - 1, by omega⟩
    refine br_f (nI_ge (by omega) (by omega)) ?_
    refine qy_left H hN hW0 hW hS hsh (by omega) (hyd u (by omega)) (hd u (by omega)) ?_
    refine nm_r (nI_add _ _) (nm_r (nI_1 u) ?_)
    exact ih (u + 1) (by omega) m (by omega)
theorem qy_st {post : Int32 → SY → Prop} {w c : Nat} {v2 sh : Int32} {d d' : Nat → Nat} (H : qw_WF N S ao ax aa bb) (hN : N ≤ 8) (hW0 : 1 ≤ W) (hW : W ≤ 4) (hS : S ≤ 6) (hsh : sh = qr_b (qp_PA N S ao ax aa bb)) (hw : w < W) (hyd : ∀ u, u < W → yd u = nI (d u)) (hd : ∀ u, u < W → d u ≤ qw_TT sh S N W u)
    (hc : (v2 < 0 ∧ c = 0) ∨ (∃ k : Nat, k < 2 ^ 31 ∧ v2 = nI k ∧ ((k ≤ qw_TT sh S N W w - d w ∧ c = k) ∨ (qw_TT sh S N W w - d w < k ∧ c = qw_TT sh S N W w - d w))))
    (e1 : d' w = d w + c) (e2 : ∀ u, u < W → u ≠ w → d' u = d u)
    (hgo : (∃ u, u < W ∧ d' u < qw_TT sh S N W u) → post (nI c) ((nI N), (nI W), (nI S), 1, ao, ax, aa, bb, sc, ce, upd yd w (nI (d' w)))) (hend : (∀ u, u < W → qw_TT sh S N W u ≤ d' u) → post (nI c) ((nI N), (nI W), (nI S), 0, ao, ax, aa, bb, (wl_ri (qw_pg ao ax aa bb) S (sc, ce) N).1, (wl_ri (qw_pg ao ax aa bb) S (sc, ce) N).2, upd yd w (nI (d' w)))) :
    wpY_step post ((nI N), (nI W), (nI S), 1, ao, ax, aa, bb, sc, ce, yd) (nI w) v2 := by
  have hi : vp_in (nI w) 4 := vp_in_nI (by omega) (by omega)
  have hcw : (nI w).toNatClampNeg = w := nI_clamp (by omega)
  have hT := qw_TT48 (sh := sh) hS hN hW0 hw
  have hdw := hd w hw
  have hcl : d w + c ≤ qw_TT sh S N W w := by
    rcases hc with ⟨_, z⟩ | ⟨k, _, _, ⟨a, b⟩ | ⟨a, b⟩⟩ <;> omega
  have G : wY_step_34 post (nI w) (nI c) (nI N) (nI W) (nI S) 1 ao ax aa bb sc ce yd := by
    unfold wY_step_34
    rw [hcw, hyd w hw, nI_add, ← e1]
    refine ⟨hi, hi, nm_e ⟨W + 1, ?_⟩⟩
    have k := qy_57 (yd := upd yd w (nI (d' w))) (d := d') H hN hW0 hW hS hsh (fun u hu => ?_) (fun u hu => ?_) hgo hend W 0 (by omega) (W + 1) (by omega)
    · rw [nI_0] at k
      exact k
    · by_cases q : u = w
      · rw [q, pk_us]
      · rw [pk_un q, hyd u hu, e2 u hu q]
    · by_cases q : u = w
      · rw [q, e1]; exact hcl
      · rw [e2 u hu q]; exact hd u hu
  unfold wpY_step wpY_worker
  dsimp only
  refine br_f qr_n10 (br_f (nI_pos (by omega)) (br_f (nI_ge hw (by omega)) (br_f qr_n10 ?_)))
  refine qy_left H hN hW0 hW hS hsh hw (hyd w hw) hdw ?_
  rcases hc with ⟨n0, z⟩ | ⟨k, hk, ek, ⟨a, b⟩ | ⟨a, b⟩⟩
  · rw [z, nI_0] at G
    exact br_f (fun q => absurd n0 (Int32.not_lt.mpr q)) G
  · rw [b, ← ek] at G
    refine br_t (by rw [ek]; exact nI_pos' hk) (br_t ?_ G)
    rw [ek]
    exact nI_le a (by omega)
  · rw [b] at G
    refine br_t (by rw [ek]; exact nI_pos' hk) (br_f ?_ G)
    rw [ek]
    exact nI_ge a hk
end
end
section
/-! adding a statement: what is refused -/
theorem qa_rg {z : Int32} : (∃ n : Nat, n < 16 ∧ z = nI n) ↔ (¬ z < 0 ∧ ¬ 16 ≤ z) := by
  constructor
  · rintro ⟨n, hn, e⟩
    rw [e]
    exact ⟨nI_pos (by omega), nI_ge (b := 16) hn (by omega)⟩
  · rintro ⟨a, b⟩
    rcases pk_ix z (n := 16) (by omega) with h | h | h
    · exact absurd h a
    · exact absurd h b
    · exact h
theorem qa_15 {z : Int32} : (15 : Int32) < z ↔ 16 ≤ z := by
  rw [Int32.lt_iff_toInt_lt, Int32.le_iff_toInt_le, show (15 : Int32).toInt = 15 by decide, show (16 : Int32).toInt = 16 by decide]
  omega
theorem qa_s4 {z : Int32} : (∃ n : Nat, n < 4 ∧ z = nI n) ↔ (¬ z < 0 ∧ ¬ 4 ≤ z) := by
  constructor
  · rintro ⟨n, hn, e⟩
    rw [e]
    exact ⟨nI_pos (by omega), nI_ge (b := 4) hn (by omega)⟩
  · rintro ⟨a, b⟩
    rcases pk_ix z (n := 4) (by omega) with h | h | h
    · exact absurd h a
    · exact absurd h b
    · exact h
theorem qa_3 {z : Int32} : (3 : Int32) < z ↔ 4 ≤ z := by
  rw [Int32.lt_iff_toInt_lt, Int32.le_iff_toInt_le, show (3 : Int32).toInt = 3 by decide, show (4 : Int32).toInt = 4 by decide]
  omega
theorem qa_le3 {z : Int32} : z ≤ 3 ↔ ¬ 4 ≤ z := by
  rw [Int32.le_iff_toInt_le, Int32.le_iff_toInt_le, show (3 : Int32).toInt = 3 by decide, show (4 : Int32).toInt = 4 by decide]
  omega
theorem qa_le15 {z : Int32} : z ≤ 15 ↔ ¬ 16 ≤ z := by
  rw [Int32.le_iff_toInt_le, Int32.le_iff_toInt_le, show (15 : Int32).toInt = 15 by decide, show (16 : Int32).toInt = 16 by decide]
  omega
theorem qa_lt16 {z : Int32} : z < 16 ↔ ¬ 16 ≤ z := by
  rw [Int32.lt_iff_toInt_lt, Int32.le_iff_toInt_le, show (16 : Int32).toInt = 16 by decide]
  omega
theorem qa_o5 {z : Int32} : (∃ n : Nat, n ≤ 5 ∧ z = nI n) ↔ (¬ z < 0 ∧ ¬ 5 < z) := by
  constructor
  · rintro ⟨n, hn, e⟩
    rw [e]
    exact ⟨nI_pos (by omega), nI_nlt (a := 5) hn (by omega)⟩
  · rintro ⟨a, b⟩
    obtain ⟨j, hj, e⟩ := nI_of a
    rw [e] at b
    exact ⟨j, Classical.byContradiction fun q => b (nI_lt (a := 5) (by omega) hj), e⟩
theorem qa_m2 {a : Int32} : a < -2 ↔ ¬ -2 ≤ a.toInt := by
  rw [Int32.lt_iff_toInt_lt, show (-2 : Int32).toInt = -2 by decide]
  omega
theorem qa_p2 {a : Int32} : 2 < a ↔ ¬ a.toInt ≤ 2 := by
  rw [Int32.lt_iff_toInt_lt, show (2 : Int32).toInt = 2 by decide]
  omega
def qa_in (N : Nat) (a b : Int32) : Prop := (∃ n : Nat, n < 16 ∧ b = nI n) ∧ -2 ≤ a.toInt ∧ a.toInt ≤ 2 ∧ ∀ i, i < N → ∃ n : Nat, n < 16 ∧ a * nI i + b = nI n
def qa_ok (z : Int32) : Bool := !decide (z < 0) && !decide (16 ≤ z)
def qa_tab : Bool := (List.range 8).all fun n => (List.range 5).all fun a => (List.range 16).all fun b => !qa_ok ((nI a - nI 2) * (nI (n + 1) - 1) + nI b) || (List.range (n + 1)).all fun i => qa_ok ((nI a - nI 2) * nI i + nI b)
theorem qa_tabT : qa_tab = true := by decide +kernel
theorem qa_okU {z : Int32} : qa_ok z = true ↔ ∃ n : Nat, n < 16 ∧ z = nI n := by
  rw [qa_rg]
  unfold qa_ok
  rw [Bool.and_eq_true, Bool.not_eq_true', Bool.not_eq_true', decide_eq_false_iff_not, decide_eq_false_iff_not]
theorem qa_end {N : Nat} {a b : Int32} (hN1 : 1 ≤ N) (hN : N ≤ 8) (hb : ∃ n : Nat, n < 16 ∧ b = nI n) (h1 : -2 ≤ a.toInt) (h2 : a.toInt ≤ 2) (he : ∃ n : Nat, n < 16 ∧ a * (nI N - 1) + b = nI n) : ∀ i, i < N → ∃ n : Nat, n < 16 ∧ a * nI i + b = nI n := by
  obtain ⟨k, hk, ek⟩ := qc_sm h1 h2
  obtain ⟨c, hc, ec⟩ := hb
  have t := qa_tabT
  unfold qa_tab at t
  have t1 := List.all_eq_true.mp t (N - 1) (List.mem_range.mpr (by omega))
  have t2 := List.all_eq_true.mp t1 k (List.mem_range.mpr hk)
  have t3 := List.all_eq_true.mp t2 c (List.mem_range.mpr hc)
  rw [show N - 1 + 1 = N by omega, ← ek, ← ec, qa_okU.mpr he] at t3
  intro i hi
  have t4 : ((List.range N).all fun i => qa_ok (a * nI i + b)) = true := t3
  exact qa_okU.mp (List.all_eq_true.mp t4 i (List.mem_range.mpr hi))
section
variable {N W S : Nat} {rn sh dv sr : Int32} {sc ce ao ax aa ab aw an af ad al ar bb yd : Nat → Int32}
theorem qa_xs {post : Int32 → Prop} {x : Int32} (h : post (qr_b (∃ n : Nat, n < 4 ∧ x = nI n))) : wpX_isScalar post x := by
  unfold wpX_isScalar
  exact br_c (fun z => qr_0 (fun q => (qa_s4.mp q).1 z) h) (fun z => br_c (fun w => qr_0 (fun q => (qa_s4.mp q).2 w) h) (fun w => qr_1 (qa_s4.mpr ⟨z, w⟩) h))
theorem qa_xi {post : Int32 → Prop} {a b : Int32} (hN1 : 1 ≤ N) (hN : N ≤ 8) (h : post (qr_b (qa_in N a b))) : wpX_cellsOk post ((nI N), (nI W), (nI S), rn, sh, dv, sr, sc, ce, ao, ax, aa, ab, aw, an, af, ad, al, ar) a b := by
  unfold wpX_cellsOk
  dsimp only
  refine br_c (fun z => qr_0 (fun q => qa_m2.mp z q.2.1) h) (fun z1 => br_c (fun z => qr_0 (fun q => qa_p2.mp z q.2.2.1) h) (fun z2 => br_c (fun z => qr_0 (fun q => (qa_rg.mp q.1).1 z) h) (fun z3 => br_c (fun z4 => nm_e (br_c (fun z => qr_0 (fun q => ?_) h) (fun z5 => br_c (fun z => qr_0 (fun q => ?_) h) (fun z6 => qr_1 ?_ h)))) (fun z4 => qr_0 (fun q => z4 (qa_lt16.mpr (qa_rg.mp q.1).2)) h))))
  · have k := (qa_rg.mp (q.2.2.2 (N - 1) (by omega))).1
    rw [← show nI N - 1 = nI (N - 1) from pk_sub (b := 1) hN1] at k
    exact k z
  · have k := (qa_rg.mp (q.2.2.2 (N - 1) (by omega))).2
    rw [← show nI N - 1 = nI (N - 1) from pk_sub (b := 1) hN1] at k
    exact k z
  · have hb : ∃ n : Nat, n < 16 ∧ b = nI n := qa_rg.mpr ⟨z3, qa_lt16.mp z4⟩
    have h1 : -2 ≤ a.toInt := Classical.byContradiction fun q => z1 (qa_m2.mpr q)
    have h2 : a.toInt ≤ 2 := Classical.byContradiction fun q => z2 (qa_p2.mpr q)
    exact ⟨hb, h1, h2, qa_end hN1 hN hb h1 h2 (qa_rg.mpr ⟨z5, z6⟩)⟩
theorem qa_y28 {post : Int32 → Prop} {a b : Int32} (hN : N ≤ 8) {k : Prop} (h : post (qr_b (k ∧ ∀ i, i < N → ∃ n : Nat, n < 16 ∧ a * nI i + b = nI n))) : ∀ r i, i + r = N → ∀ n, r < n → ∀ x3, x3 = qr_b (k ∧ ∀ j, j < i → ∃ n : Nat, n < 16 ∧ a * nI j + b = nI n) → wY_inside_28 post a b (nI N) (nI W) (nI S) rn ao ax aa bb sc ce yd n x3 (nI i) := by
  intro r
  induction r with
  | zero =>
    intro i hi n hn x3 e3
    obtain ⟨m, rfl⟩ : ∃ m, n = m + 1 := ⟨n - 1, by omega⟩
    have e : i = N := by omega
    subst e
    rw [e3]
    exact br_t (nI_le (Nat.le_refl i) (by omega)) ⟨qr_nb _, h⟩
  | succ r ih =>
    intro i hi n hn x3 e3
    obtain ⟨m, rfl⟩ : ∃ m, n = m + 1 := ⟨n - 1, by omega⟩
    have K := ih (i + 1) (by omega) m (by omega)
    rw [e3]
    refine br_f (nI_ge (by omega) (by omega)) (br_c (fun z => nm_r (nI_1 i) ?_) (fun z => br_c (fun w => nm_r (nI_1 i) ?_) (fun w => br_c (fun v => nm_r (nI_1 i) ?_) (fun v => nm_r (nI_1 i) ?_))))
    · exact K 0 (qr_bf (fun q => qr_b0 z ⟨q.1, fun j hj => q.2 j (by omega)⟩)).symm
    · exact K 0 (qr_bf (fun q => (qa_rg.mp (q.2 i (by omega))).1 w)).symm
    · exact K 0 (qr_bf (fun q => (qa_rg.mp (q.2 i (by omega))).2 (qa_15.mp v))).symm
    · refine K 1 (qr_bt ⟨(qr_bn z).1, fun j hj => ?_⟩).symm
      by_cases e : j = i
      · rw [e]; exact qa_rg.mpr ⟨w, fun q => v (qa_15.mpr q)⟩
      · exact (qr_bn z).2 j (by omega)
theorem qa_yi {post : Int32 → Prop} {a b : Int32} (hN : N ≤ 8) (h : post (qr_b (qa_in N a b))) : wpY_inside post ((nI N), (nI W), (nI S), rn, ao, ax, aa, bb, sc, ce, yd) a b := by
  unfold wpY_inside
  dsimp only
  refine br_c (fun z => qr_0 (fun q => qa_m2.mp z q.2.1) h) (fun z1 => br_c (fun z => qr_0 (fun q => qa_p2.mp z q.2.2.1) h) (fun z2 => br_c (fun z => qr_0 (fun q => (qa_rg.mp q.1).1 z) h) (fun z3 => br_c (fun z4 => ⟨N + 1, ?_⟩) (fun z4 => qr_0 (fun q => z4 (qa_le15.mpr (qa_rg.mp q.1).2)) h))))
  have hb : ∃ n : Nat, n < 16 ∧ b = nI n := qa_rg.mpr ⟨z3, qa_le15.mp z4⟩
  have h1 : -2 ≤ a.toInt := Classical.byContradiction fun q => z1 (qa_m2.mpr q)
  have h2 : a.toInt ≤ 2 := Classical.byContradiction fun q => z2 (qa_p2.mpr q)
  have k := qa_y28 (W := W) (S := S) (rn := rn) (ao := ao) (ax := ax) (aa := aa) (bb := bb) (sc := sc) (ce := ce) (yd := yd) (post := post) (a := a) (b := b) (k := True) hN ?_ N 0 (by omega) (N + 1) (by omega) 1 (qr_bt ⟨trivial, fun j hj => absurd hj (Nat.not_lt_zero j)⟩).symm
  · rw [nI_0] at k
    exact k
  · have e : qr_b (qa_in N a b) = qr_b (True ∧ ∀ i, i < N → ∃ n : Nat, n < 16 ∧ a * nI i + b = nI n) := qr_bc ⟨fun q => ⟨trivial, q.2.2.2⟩, fun q => ⟨hb, h1, h2, q.2⟩⟩
    rw [← e]
    exact h
/-! add: three outcomes -/
theorem qa_x69 {post : Int32 → SX → Prop} {o x a b : Int32} (hS : S ≤ 6) (ho : ∃ n : Nat, n ≤ 5 ∧ o = nI n) (hx : ∃ n : Nat, n < 4 ∧ x = nI n) (h2 : ¬ S < 6 → post (-2) ((nI N), (nI W), (nI S), 0, sh, dv, sr, sc, ce, ao, ax, aa, fun j => bb j &&& 15, aw, an, af, ad, al, ar)) (h3 : S < 6 → post (nI S) ((nI N), (nI W), nI (S + 1), 0, sh, dv, sr, sc, ce, upd ao S o, upd ax S x, upd aa S a, fun j => upd bb S b j &&& 15, aw, an, af, ad, al, ar)) : wX_add_69 post o x a b (nI N) (nI W) (nI S) 0 sh dv sr sc ce ao ax aa (fun j => bb j &&& 15) aw an af ad al ar := by
  have hc : (nI S).toNatClampNeg = S := nI_clamp (by omega)
  obtain ⟨n, hn, en⟩ := ho
  obtain ⟨m, hm, em⟩ := hx
  obtain ⟨c, hc16, ec⟩ := pk_andE b (m := 15) 4 (by decide)
  have e1 : vp_nar .byte o.toInt8.toInt32 = o := by rw [en]; exact qw_by (by omega)
  have e2 : vp_nar .byte x.toInt8.toInt32 = x := by rw [em]; exact qw_by (by omega)
  have e3 : vp_nar .byte (b &&& 15).toInt8.toInt32 = b &&& 15 := by rw [ec]; exact qw_by (by omega)
  have e4 : upd (fun j => bb j &&& 15) S (b &&& 15) = fun j => upd bb S b j &&& 15 := by
    funext j
    by_cases q : j = S
    · rw [q, pk_us, pk_us]
    · rw [pk_un q, pk_un q]
  unfold wX_add_69
  rw [hc, e1, e2, e3, e4]
  refine pk_lt S 6 (fun z => ?_) (fun z => h2 (by omega))
  have hi : vp_in (nI S) 6 := vp_in_nI z (by omega)
  refine ⟨hi, nm_e ⟨hi, nm_e ⟨hi, nm_e ⟨hi, nm_e (nm_r (nI_1 S) ?_)⟩⟩⟩⟩
  rw [nI_pred]
  exact h3 z
theorem qa_y69 {post : Int32 → SY → Prop} {o x a b : Int32} (hS : S ≤ 6) (h2 : ¬ S < 6 → post (-2) ((nI N), (nI W), (nI S), 0, ao, ax, aa, bb, sc, ce, yd)) (h3 : S < 6 → post (nI S) ((nI N), (nI W), nI (S + 1), 0, upd ao S o, upd ax S x, upd aa S a, upd bb S b, sc, ce, yd)) : wY_add_69 post o x a b (nI N) (nI W) (nI S) 0 ao ax aa bb sc ce yd := by
  have hc : (nI S).toNatClampNeg = S := nI_clamp (by omega)
  unfold wY_add_69
  rw [hc]
  refine pk_lt S 6 (fun z => ?_) (fun z => h2 (by omega))
  have hi : vp_in (nI S) 6 := vp_in_nI z (by omega)
  refine ⟨hi, nm_e ⟨hi, nm_e ⟨hi, nm_e ⟨hi, nm_e (nm_r (nI_1 S) ?_)⟩⟩⟩⟩
  rw [nI_pred]
  exact h3 z
theorem qa_n3 : ¬ ((3 : Int32) = 1 ∨ (3 : Int32) = 2) := by decide
theorem qa_x {post : Int32 → SX → Prop} {o x a b : Int32} (hN1 : 1 ≤ N) (hN : N ≤ 8) (hS : S ≤ 6) (h1 : ¬ qw_wf N o x a b → post (-1) ((nI N), (nI W), (nI S), 0, sh, dv, sr, sc, ce, ao, ax, aa, fun j => bb j &&& 15, aw, an, af, ad, al, ar)) (h2 : qw_wf N o x a b → ¬ S < 6 → post (-2) ((nI N), (nI W), (nI S), 0, sh, dv, sr, sc, ce, ao, ax, aa, fun j => bb j &&& 15, aw, an, af, ad, al, ar)) (h3 : qw_wf N o x a b → S < 6 → post (nI S) ((nI N), (nI W), nI (S + 1), 0, sh, dv, sr, sc, ce, upd ao S o, upd ax S x, upd aa S a, fun j => upd bb S b j &&& 15, aw, an, af, ad, al, ar)) : wpX_add post ((nI N), (nI W), (nI S), 0, sh, dv, sr, sc, ce, ao, ax, aa, fun j => bb j &&& 15, aw, an, af, ad, al, ar) o x a b := by
  have c69 : qw_wf N o x a b → wX_add_69 post o x a b (nI N) (nI W) (nI S) 0 sh dv sr sc ce ao ax aa (fun j => bb j &&& 15) aw an af ad al ar := fun w => qa_x69 hS w.1 w.2.1 (h2 w) (h3 w)
  have c50 : (∃ n : Nat, n ≤ 5 ∧ o = nI n) → (∃ n : Nat, n < 4 ∧ x = nI n) → ((o = 1 ∨ o = 2) → qa_in N a b) → wX_add_50 post o x a b (nI N) (nI W) (nI S) 0 sh dv sr sc ce ao ax aa (fun j => bb j &&& 15) aw an af ad al ar := by
    intro ho hx hin
    have c60 : (o = 3 ∨ o = 4) → wX_add_60 post o x a b (nI N) (nI W) (nI S) 0 sh dv sr sc ce ao ax aa (fun j => bb j &&& 15) aw an af ad al ar := by
      intro z
      unfold wX_add_60
      exact qa_xs (br_c (fun e => h1 (fun w => qr_b0 e (w.2.2.2 z))) (fun e => c69 ⟨ho, hx, hin, fun _ => qr_bn e⟩))
    unfold wX_add_50
    exact br_c (fun z => c60 (Or.inl z)) (fun z3 => br_c (fun z => c60 (Or.inr z)) (fun z4 => c69 ⟨ho, hx, hin, fun q => absurd q (fun q => q.elim z3 z4)⟩))
  have c38 : (∃ n : Nat, n ≤ 5 ∧ o = nI n) → (∃ n : Nat, n < 4 ∧ x = nI n) → (o = 1 ∨ o = 2) → wX_add_38 post o x a b (nI N) (nI W) (nI S) 0 sh dv sr sc ce ao ax aa (fun j => bb j &&& 15) aw an af ad al ar := by
    intro ho hx z
    unfold wX_add_38
    exact qa_xi hN1 hN (br_c (fun e => h1 (fun w => qr_b0 e (w.2.2.1 z))) (fun e => c50 ho hx (fun _ => qr_bn e)))
  unfold wpX_add
  dsimp only
  refine br_t rfl (br_c (fun z => h1 (fun w => (qa_o5.mp w.1).1 z)) (fun z1 => br_c (fun z => h1 (fun w => (qa_o5.mp w.1).2 z)) (fun z2 => qa_xs (br_c (fun e => h1 (fun w => qr_b0 e w.2.1)) (fun e => ?_)))))
  have ho := qa_o5.mpr ⟨z1, z2⟩
  have hx := qr_bn e
  exact br_c (fun z => c38 ho hx (Or.inl z)) (fun y1 => br_c (fun z => c38 ho hx (Or.inr z)) (fun y2 => c50 ho hx (fun q => absurd q (fun q => q.elim y1 y2))))
theorem qa_y {post : Int32 → SY → Prop} {o x a b : Int32} (hN : N ≤ 8) (hS : S ≤ 6) (h1 : ¬ qw_wf N o x a b → post (-1) ((nI N), (nI W), (nI S), 0, ao, ax, aa, bb, sc, ce, yd)) (h2 : qw_wf N o x a b → ¬ S < 6 → post (-2) ((nI N), (nI W), (nI S), 0, ao, ax, aa, bb, sc, ce, yd)) (h3 : qw_wf N o x a b → S < 6 → post (nI S) ((nI N), (nI W), nI (S + 1), 0, upd ao S o, upd ax S x, upd aa S a, upd bb S b, sc, ce, yd)) : wpY_add post ((nI N), (nI W), (nI S), 0, ao, ax, aa, bb, sc, ce, yd) o x a b := by
  have c69 : qw_wf N o x a b → wY_add_69 post o x a b (nI N) (nI W) (nI S) 0 ao ax aa bb sc ce yd := fun w => qa_y69 hS (h2 w) (h3 w)
  have c48 : (∃ n : Nat, n ≤ 5 ∧ o = nI n) → (∃ n : Nat, n < 4 ∧ x = nI n) → ((o = 1 ∨ o = 2) → qa_in N a b) → wY_add_48 post o x a b (nI N) (nI W) (nI S) 0 ao ax aa bb sc ce yd := by
    intro ho hx hin
    have c58 : (o = 3 ∨ o = 4) → wY_add_58 post o x a b (nI N) (nI W) (nI S) 0 ao ax aa bb sc ce yd := by
      intro z
      unfold wY_add_58
      exact br_c (fun e => h1 (fun w => (qa_s4.mp (w.2.2.2 z)).1 e)) (fun e1 => br_c (fun e2 => c69 ⟨ho, hx, hin, fun _ => qa_s4.mpr ⟨e1, qa_le3.mp e2⟩⟩) (fun e2 => h1 (fun w => e2 (qa_le3.mpr (qa_s4.mp (w.2.2.2 z)).2))))
    unfold wY_add_48
    exact br_c (fun z => c58 (Or.inl z)) (fun z3 => br_c (fun z => c58 (Or.inr z)) (fun z4 => c69 ⟨ho, hx, hin, fun q => absurd q (fun q => q.elim z3 z4)⟩))
  have c38 : (∃ n : Nat, n ≤ 5 ∧ o = nI n) → (∃ n : Nat, n < 4 ∧ x = nI n) → (o = 1 ∨ o = 2) → wY_add_38 post o x a b (nI N) (nI W) (nI S) 0 ao ax aa bb sc ce yd := by
    intro ho hx z
    unfold wY_add_38
    exact qa_yi hN (br_c (fun e => h1 (fun w => qr_b0 e (w.2.2.1 z))) (fun e => c48 ho hx (fun _ => qr_bn e)))
  unfold wpY_add
  dsimp only
  refine br_t rfl (br_c (fun z => h1 (fun w => (qa_o5.mp w.1).1 z)) (fun z1 => br_c (fun z => h1 (fun w => (qa_o5.mp w.1).2 z)) (fun z2 => br_c (fun z => h1 (fun w => (qa_s4.mp w.2.1).1 z)) (fun z3 => br_c (fun z => h1 (fun w => (qa_s4.mp w.2.1).2 (qa_3.mp z))) (fun z4 => ?_)))))
  have ho := qa_o5.mpr ⟨z1, z2⟩
  have hx := qa_s4.mpr ⟨z3, fun q => z4 (qa_3.mpr q)⟩
  exact br_c (fun z => c38 ho hx (Or.inl z)) (fun y1 => br_c (fun z => c38 ho hx (Or.inr z)) (fun y2 => c48 ho hx (fun q => absurd q (fun q => q.elim y1 y2))))
end
end
section
/-! the relation -/
def qi_B (N W S : Nat) (ao ax aa bb : Nat → Int32) : Prop := (1 ≤ N ∧ N ≤ 8) ∧ (1 ≤ W ∧ W ≤ 4) ∧ S ≤ 6 ∧ qw_WF N S ao ax aa bb
def qi_run (N W S : Nat) (sh : Int32) (sc ce ao ax aa bb aw an af ad al ar yd : Nat → Int32) : Prop :=
  0 < S ∧ sh = qr_b (qp_PA N S ao ax aa bb) ∧ (∀ y, y < 4 → ar y = qr_rl S ao ax aa (nI y)) ∧ ∃ d : Nat → Nat, (∀ u, u < W → af u = nI (qw_FI sh N W u)) ∧ (∀ u, u < W → al u = nI (qw_TT sh S N W u)) ∧ (∀ u, u < W → ad u = nI (d u)) ∧ (∀ u, u < W → yd u = nI (d u)) ∧ (∀ u, u < W → d u ≤ qw_TT sh S N W u) ∧ (∃ u, u < W ∧ d u < qw_TT sh S N W u) ∧ qw_RI sh (qw_pg ao ax aa bb) S N W sc ce (qw_ro S ao ax aa) an (qw_cp aw ce 16) d
/-- the relation: the body, the scalars and the cells alike; in a run the workers' scalars and cells as the run's invariant says -/
def i_Rel (_ : Nat) (u : SX) (v : SY) : Prop := ∃ (N W S : Nat) (sh dv sr : Int32) (sc ce ao ax aa aw an af ad al ar bb yd : Nat → Int32), qi_B N W S ao ax aa bb ∧ ((u = ((nI N), (nI W), (nI S), 0, sh, dv, sr, sc, ce, ao, ax, aa, fun j => bb j &&& 15, aw, an, af, ad, al, ar) ∧ v = ((nI N), (nI W), (nI S), 0, ao, ax, aa, bb, sc, ce, yd)) ∨ (u = ((nI N), (nI W), (nI S), 1, sh, dv, sr, sc, ce, ao, ax, aa, fun j => bb j &&& 15, aw, an, af, ad, al, ar) ∧ v = ((nI N), (nI W), (nI S), 1, ao, ax, aa, bb, sc, ce, yd) ∧ qi_run N W S sh sc ce ao ax aa bb aw an af ad al ar yd))
theorem qi_el {k : Nat} {u : SX} {v : SY} {Q : SX → SY → Prop} (h0 : ∀ (N W S : Nat) (sh dv sr : Int32) (sc ce ao ax aa aw an af ad al ar bb yd : Nat → Int32), qi_B N W S ao ax aa bb → Q ((nI N), (nI W), (nI S), 0, sh, dv, sr, sc, ce, ao, ax, aa, fun j => bb j &&& 15, aw, an, af, ad, al, ar) ((nI N), (nI W), (nI S), 0, ao, ax, aa, bb, sc, ce, yd)) (h1 : ∀ (N W S : Nat) (sh dv sr : Int32) (sc ce ao ax aa aw an af ad al ar bb yd : Nat → Int32), qi_B N W S ao ax aa bb → qi_run N W S sh sc ce ao ax aa bb aw an af ad al ar yd → Q ((nI N), (nI W), (nI S), 1, sh, dv, sr, sc, ce, ao, ax, aa, fun j => bb j &&& 15, aw, an, af, ad, al, ar) ((nI N), (nI W), (nI S), 1, ao, ax, aa, bb, sc, ce, yd)) (I : i_Rel k u v) : Q u v := by
  obtain ⟨N, W, S, sh, dv, sr, sc, ce, ao, ax, aa, aw, an, af, ad, al, ar, bb, yd, hB, hI⟩ := I
  rcases hI with ⟨e1, e2⟩ | ⟨e1, e2, hR⟩
  · rw [e1, e2]; exact h0 N W S sh dv sr sc ce ao ax aa aw an af ad al ar bb yd hB
  · rw [e1, e2]; exact h1 N W S sh dv sr sc ce ao ax aa aw an af ad al ar bb yd hB hR
section
variable {N W S : Nat} {rn sh dv sr : Int32} {sc ce ao ax aa ab aw an af ad al ar bb yd : Nat → Int32}
theorem qi_0 {k : Nat} (hB : qi_B N W S ao ax aa bb) : i_Rel k ((nI N), (nI W), (nI S), 0, sh, dv, sr, sc, ce, ao, ax, aa, fun j => bb j &&& 15, aw, an, af, ad, al, ar) ((nI N), (nI W), (nI S), 0, ao, ax, aa, bb, sc, ce, yd) := ⟨N, W, S, sh, dv, sr, sc, ce, ao, ax, aa, aw, an, af, ad, al, ar, bb, yd, hB, Or.inl ⟨rfl, rfl⟩⟩
theorem qi_1 {k : Nat} (hB : qi_B N W S ao ax aa bb) (hR : qi_run N W S sh sc ce ao ax aa bb aw an af ad al ar yd) : i_Rel k ((nI N), (nI W), (nI S), 1, sh, dv, sr, sc, ce, ao, ax, aa, fun j => bb j &&& 15, aw, an, af, ad, al, ar) ((nI N), (nI W), (nI S), 1, ao, ax, aa, bb, sc, ce, yd) := ⟨N, W, S, sh, dv, sr, sc, ce, ao, ax, aa, aw, an, af, ad, al, ar, bb, yd, hB, Or.inr ⟨rfl, rfl, hR⟩⟩
end
theorem i_up {k : Nat} {u : SX} {v : SY} (h : i_Rel k u v) : i_Rel (k + 5) u v := h
theorem qi_z {k N W : Nat} (hN : 1 ≤ N ∧ N ≤ 8) (hW : 1 ≤ W ∧ W ≤ 4) : i_Rel k (nI N, nI W, 0, 0, 0, 0, 0, (fun _ => 0), (fun _ => 0), (fun _ => 0), (fun _ => 0), (fun _ => 0), (fun _ => 0), (fun _ => 0), (fun _ => 0), (fun _ => 0), (fun _ => 0), (fun _ => 0), (fun _ => 0)) (nI N, nI W, 0, 0, (fun _ => 0), (fun _ => 0), (fun _ => 0), (fun _ => 0), (fun _ => 0), (fun _ => 0), (fun _ => 0)) := by
  have e : (fun _ : Nat => (0 : Int32)) = fun j => (fun _ : Nat => (0 : Int32)) j &&& 15 := by
    funext j
    show (0 : Int32) = 0 &&& 15
    decide
  have k0 := qi_0 (k := k) (N := N) (W := W) (S := 0) (sh := 0) (dv := 0) (sr := 0) (sc := fun _ => 0) (ce := fun _ => 0) (ao := fun _ => 0) (ax := fun _ => 0) (aa := fun _ => 0) (aw := fun _ => 0) (an := fun _ => 0) (af := fun _ => 0) (ad := fun _ => 0) (al := fun _ => 0) (ar := fun _ => 0) (bb := fun _ => 0) (yd := fun _ => 0) ⟨hN, hW, by omega, fun p hp => absurd hp (Nat.not_lt_zero p)⟩
  rw [← e] at k0
  exact k0
theorem qi_cl {x : Int32} {m : Nat} {M : Int32} (hm : M = nI m) (h : m < 2 ^ 31) (h1 : 1 ≤ x) (h2 : x ≤ M) : ∃ n : Nat, 1 ≤ n ∧ n ≤ m ∧ x = nI n := by
  have h0 : ¬ x < 0 := by
    rw [Int32.lt_iff_toInt_lt]
    rw [Int32.le_iff_toInt_le] at h1
    rw [show (0 : Int32).toInt = 0 by decide]
    rw [show (1 : Int32).toInt = 1 by decide] at h1
    omega
  obtain ⟨j, hj, e⟩ := nI_of h0
  rw [e, hm, nI_leI hj h] at h2
  rw [e] at h1
  exact ⟨j, (nI_leI (a := 1) (by omega) hj).mp h1, h2, e⟩
theorem i_vc0 (k0 : Int32) (k1 : Int32) : wpX_init (fun u => wpY_init (fun v => i_Rel 2 u v) k0 k1) k0 k1 := by
  have M : ∀ (N : Nat) (z : Int32), 1 ≤ N ∧ N ≤ 8 → z = nI N → (∀ post : SY → Prop, wY_init_80 post k1 z 0 0 0 0 (fun _ => 0) (fun _ => 0) (fun _ => 0) (fun _ => 0) (fun _ => 0) (fun _ => 0) (fun _ => 0) → wpY_init post k0 k1) → wX_init_117 (fun u => wpY_init (fun v => i_Rel 2 u v) k0 k1) k1 z 0 0 0 0 0 0 0 (fun _ => 0) (fun _ => 0) (fun _ => 0) (fun _ => 0) (fun _ => 0) (fun _ => 0) (fun _ => 0) (fun _ => 0) (fun _ => 0) (fun _ => 0) (fun _ => 0) (fun _ => 0) := by
    intro N z hN ez hY
    rw [ez] at hY ⊢
    unfold wX_init_117
    refine br_c (fun a => br_c (fun b => hY _ (br_t a (br_t b ?_))) (fun b => hY _ (br_t a (br_f b ?_)))) (fun a => hY _ (br_f a ?_))
    · obtain ⟨W, h1, h2, e⟩ := qi_cl (m := 4) rfl (by omega) a b
      rw [e]
      exact qi_z hN ⟨h1, h2⟩
    · exact qi_z (W := 4) hN (by omega)
    · exact qi_z (W := 1) hN (by omega)
  unfold wpX_init
  refine br_c (fun a => br_c (fun b => ?_) (fun b => ?_)) (fun a => ?_)
  · obtain ⟨N, h1, h2, e⟩ := qi_cl (m := 8) rfl (by omega) a b
    exact M N k0 ⟨h1, h2⟩ e (fun post h => br_t a (br_t b h))
  · exact M 8 8 (by omega) rfl (fun post h => br_t a (br_f b h))
  · exact M 1 1 (by omega) rfl (fun post h => br_f a h)
theorem i_vc_add {k : Nat} {u : SX} {v : SY} (I : i_Rel k u v) (hk : k + 5 ≤ 2562) (v1 : Int32) (v2 : Int32) (v3 : Int32) (v4 : Int32) : wpX_add (fun r u' => wpY_add (fun r' v' => r' = r ∧ i_Rel (k + 5) u' v') v v1 v2 v3 v4) u v1 v2 v3 v4 := by
  refine qi_el (Q := fun u v => wpX_add (fun r u' => wpY_add (fun r' v' => r' = r ∧ i_Rel (k + 5) u' v') v v1 v2 v3 v4) u v1 v2 v3 v4) ?_ ?_ I
  · intro N W S sh dv sr sc ce ao ax aa aw an af ad al ar bb yd hB
    obtain ⟨⟨hN1, hN⟩, hWW, hS, H⟩ := hB
    refine qa_x hN1 hN hS (fun w => ?_) (fun w l => ?_) (fun w l => ?_)
    · exact qa_y hN hS (fun _ => ⟨rfl, qi_0 ⟨⟨hN1, hN⟩, hWW, hS, H⟩⟩) (fun q => absurd q w) (fun q => absurd q w)
    · exact qa_y hN hS (fun q => absurd w q) (fun _ _ => ⟨rfl, qi_0 ⟨⟨hN1, hN⟩, hWW, hS, H⟩⟩) (fun _ q => absurd q l)
    · refine qa_y hN hS (fun q => absurd w q) (fun _ q => absurd l q) (fun _ _ => ⟨rfl, qi_0 ⟨⟨hN1, hN⟩, hWW, by omega, ?_⟩⟩)
      intro p hp
      by_cases q : p = S
      · rw [q, pk_us, pk_us, pk_us, pk_us]; exact w
      · rw [pk_un q, pk_un q, pk_un q, pk_un q]; exact H p (by omega)
  · intro N W S sh dv sr sc ce ao ax aa aw an af ad al ar bb yd hB hR
    unfold wpX_add wpY_add
    dsimp only
    exact br_f qr_n10 (br_f qr_n10 ⟨rfl, qi_1 hB hR⟩)
theorem i_vc_drop {k : Nat} {u : SX} {v : SY} (I : i_Rel k u v) (hk : k + 5 ≤ 2562) : wpX_drop (fun r u' => wpY_drop (fun r' v' => r' = r ∧ i_Rel (k + 5) u' v') v) u := by
  refine qi_el (Q := fun u v => wpX_drop (fun r u' => wpY_drop (fun r' v' => r' = r ∧ i_Rel (k + 5) u' v') v) u) ?_ ?_ I
  · intro N W S sh dv sr sc ce ao ax aa aw an af ad al ar bb yd hB
    unfold wpX_drop wpY_drop
    dsimp only
    refine br_t rfl (br_c (fun z => br_t rfl (br_t z ⟨rfl, qi_0 hB⟩)) (fun z => ?_))
    obtain ⟨hNN, hWW, hS, H⟩ := hB
    have hS0 : 1 ≤ S := Classical.byContradiction fun q => z (by rw [show S = 0 by omega]; exact nI_0)
    have e : nI S - 1 = nI (S - 1) := pk_sub (b := 1) hS0
    refine nm_r e (br_t rfl (br_f z (nm_r e ⟨rfl, qi_0 ⟨hNN, hWW, by omega, fun p hp => H p (by omega)⟩⟩)))
  · intro N W S sh dv sr sc ce ao ax aa aw an af ad al ar bb yd hB hR
    unfold wpX_drop wpY_drop
    dsimp only
    exact br_f qr_n10 (br_f qr_n10 ⟨rfl, qi_1 hB hR⟩)
theorem i_vc_length {k : Nat} {u : SX} {v : SY} (I : i_Rel k u v) (hk : k + 5 ≤ 2562) : wpX_length (fun r => wpY_length (fun r' => r' = r ∧ i_Rel (k + 5) u v) v) u := by
  refine qi_el (Q := fun u v => wpX_length (fun r => wpY_length (fun r' => r' = r ∧ i_Rel (k + 5) u v) v) u) ?_ ?_ I
  · intro N W S sh dv sr sc ce ao ax aa aw an af ad al ar bb yd hB
    unfold wpX_length wpY_length
    dsimp only
    exact ⟨rfl, qi_0 hB⟩
  · intro N W S sh dv sr sc ce ao ax aa aw an af ad al ar bb yd hB hR
    unfold wpX_length wpY_length
    dsimp only
    exact ⟨rfl, qi_1 hB hR⟩
theorem i_vc_setScalar {k : Nat} {u : SX} {v : SY} (I : i_Rel k u v) (hk : k + 5 ≤ 2562) (v1 : Int32) (v2 : Int32) : wpX_setScalar (fun r u' => wpY_setScalar (fun r' v' => r' = r ∧ i_Rel (k + 5) u' v') v v1 v2) u v1 v2 := by
  refine qi_el (Q := fun u v => wpX_setScalar (fun r u' => wpY_setScalar (fun r' v' => r' = r ∧ i_Rel (k + 5) u' v') v v1 v2) u v1 v2) ?_ ?_ I
  · intro N W S sh dv sr sc ce ao ax aa aw an af ad al ar bb yd hB
    unfold wpX_setScalar wpY_setScalar
    dsimp only
    refine br_t rfl (qa_xs (br_c (fun z => ?_) (fun z => ?_)))
    · exact br_t rfl (br_c (fun _ => ⟨rfl, qi_0 hB⟩) (fun a => br_c (fun b => absurd (qa_s4.mpr ⟨a, qa_le3.mp b⟩) (qr_b0 z)) (fun _ => ⟨rfl, qi_0 hB⟩)))
    · obtain ⟨n, hn, e⟩ := qr_bn z
      rw [e]
      have hi : vp_in (nI n) 4 := vp_in_nI hn (by omega)
      exact ⟨hi, nm_e (br_t rfl (br_f (nI_pos (by omega)) (br_t (nI_le (b := 3) (by omega) (by omega)) ⟨hi, nm_e ⟨rfl, qi_0 hB⟩⟩)))⟩
  · intro N W S sh dv sr sc ce ao ax aa aw an af ad al ar bb yd hB hR
    unfold wpX_setScalar wpY_setScalar
    dsimp only
    exact br_f qr_n10 (br_f qr_n10 ⟨rfl, qi_1 hB hR⟩)
theorem i_vc_setCell {k : Nat} {u : SX} {v : SY} (I : i_Rel k u v) (hk : k + 5 ≤ 2562) (v1 : Int32) (v2 : Int32) : wpX_setCell (fun r u' => wpY_setCell (fun r' v' => r' = r ∧ i_Rel (k + 5) u' v') v v1 v2) u v1 v2 := by
  refine qi_el (Q := fun u v => wpX_setCell (fun r u' => wpY_setCell (fun r' v' => r' = r ∧ i_Rel (k + 5) u' v') v v1 v2) u v1 v2) ?_ ?_ I
  · intro N W S sh dv sr sc ce ao ax aa aw an af ad al ar bb yd hB
    unfold wpX_setCell wpY_setCell
    dsimp only
    refine br_t rfl (br_c (fun a => br_t rfl (br_t a ⟨rfl, qi_0 hB⟩)) (fun a => br_c (fun b => ?_) (fun b => br_t rfl (br_f a (br_f (fun q => b (qa_lt16.mpr (qa_le15.mp q))) ⟨rfl, qi_0 hB⟩)))))
    obtain ⟨n, hn, e⟩ := qa_rg.mpr ⟨a, qa_lt16.mp b⟩
    have hi : vp_in v1 16 := by rw [e]; exact vp_in_nI hn (by omega)
    exact ⟨hi, nm_e (br_t rfl (br_f a (br_t (qa_le15.mpr (qa_lt16.mp b)) ⟨hi, nm_e ⟨rfl, qi_0 hB⟩⟩)))⟩
  · intro N W S sh dv sr sc ce ao ax aa aw an af ad al ar bb yd hB hR
    unfold wpX_setCell wpY_setCell
    dsimp only
    exact br_f qr_n10 (br_f qr_n10 ⟨rfl, qi_1 hB hR⟩)
section
variable {N W S : Nat} {rn sh dv sr : Int32} {sc ce ao ax aa ab aw an af ad al ar bb yd : Nat → Int32}
theorem qi_sc {v1 : Int32} {K : Prop} (hK : K) : wpX_scalar (fun r => wpY_scalar (fun r' => r' = r ∧ K) ((nI N), (nI W), (nI S), rn, ao, ax, aa, bb, sc, ce, yd) v1) ((nI N), (nI W), (nI S), rn, sh, dv, sr, sc, ce, ao, ax, aa, ab, aw, an, af, ad, al, ar) v1 := by
  unfold wpX_scalar wpY_scalar
  dsimp only
  refine qa_xs (br_c (fun z => ?_) (fun z => ?_))
  · exact br_c (fun _ => ⟨rfl, hK⟩) (fun a => br_c (fun b => absurd (qa_s4.mpr ⟨a, qa_le3.mp b⟩) (qr_b0 z)) (fun _ => ⟨rfl, hK⟩))
  · obtain ⟨n, hn, e⟩ := qr_bn z
    rw [e]
    have hi : vp_in (nI n) 4 := vp_in_nI hn (by omega)
    exact ⟨hi, br_f (nI_pos (by omega)) (br_t (nI_le (b := 3) (by omega) (by omega)) ⟨hi, rfl, hK⟩)⟩
theorem qi_ce {v1 : Int32} {K : Prop} (hK : K) : wpX_cell (fun r => wpY_cell (fun r' => r' = r ∧ K) ((nI N), (nI W), (nI S), rn, ao, ax, aa, bb, sc, ce, yd) v1) ((nI N), (nI W), (nI S), rn, sh, dv, sr, sc, ce, ao, ax, aa, ab, aw, an, af, ad, al, ar) v1 := by
  unfold wpX_cell wpY_cell
  dsimp only
  refine br_c (fun a => br_t a ⟨rfl, hK⟩) (fun a => br_c (fun b => ?_) (fun b => br_f a (br_f (fun q => b (qa_lt16.mpr (qa_le15.mp q))) ⟨rfl, hK⟩)))
  obtain ⟨n, hn, e⟩ := qa_rg.mpr ⟨a, qa_lt16.mp b⟩
  have hi : vp_in v1 16 := by rw [e]; exact vp_in_nI hn (by omega)
  exact ⟨hi, br_f a (br_t (qa_le15.mpr (qa_lt16.mp b)) ⟨hi, rfl, hK⟩)⟩
theorem qi_ro {v1 : Int32} {K : Prop} (hS : S ≤ 6) (H : qw_WF N S ao ax aa bb) (hK : K) : wpX_role (fun r => wpY_role (fun r' => r' = r ∧ K) ((nI N), (nI W), (nI S), rn, ao, ax, aa, bb, sc, ce, yd) v1) ((nI N), (nI W), (nI S), rn, sh, dv, sr, sc, ce, ao, ax, aa, ab, aw, an, af, ad, al, ar) v1 := by
  unfold wpX_role
  dsimp only
  refine qa_xs (br_c (fun z => ?_) (fun z => ?_))
  · unfold wpY_role
    dsimp only
    exact br_c (fun _ => ⟨rfl, hK⟩) (fun a => br_c (fun b => absurd (qa_s4.mpr ⟨a, qa_le3.mp b⟩) (qr_b0 z)) (fun _ => ⟨rfl, hK⟩))
  · obtain ⟨n, hn, e⟩ := qr_bn z
    rw [e]
    exact qr_x hS (qr_y hS (qw_oo H) hn ⟨rfl, hK⟩)
theorem qi_cx {v1 v2 : Int32} {K : Prop} {Q : SX → Prop} (hN1 : 1 ≤ N) (hN : N ≤ 8) (hS : S ≤ 6) (H : qw_WF N S ao ax aa bb) (hK : ∀ dv sr : Int32, Q ((nI N), (nI W), (nI S), rn, sh, dv, sr, sc, ce, ao, ax, aa, fun j => bb j &&& 15, aw, an, af, ad, al, ar)) : wpX_clash (fun r u' => wpY_clash (fun r' => r' = r ∧ Q u') ((nI N), (nI W), (nI S), rn, ao, ax, aa, bb, sc, ce, yd) v1 v2) ((nI N), (nI W), (nI S), rn, sh, dv, sr, sc, ce, ao, ax, aa, fun j => bb j &&& 15, aw, an, af, ad, al, ar) v1 v2 := by
  unfold wpX_clash
  dsimp only
  refine br_c (fun a => ?_) (fun a => br_c (fun b => ?_) (fun b => br_c (fun c => ?_) (fun c => br_c (fun d => ?_) (fun d => ?_))))
  · unfold wpY_clash
    dsimp only
    exact br_t a ⟨rfl, hK dv sr⟩
  · unfold wpY_clash
    dsimp only
    exact br_f a (br_t b ⟨rfl, hK dv sr⟩)
  · unfold wpY_clash
    dsimp only
    exact br_f a (br_f b (br_t c ⟨rfl, hK dv sr⟩))
  · obtain ⟨p, hp, ep⟩ := nI_of a
    obtain ⟨q, hq, eq⟩ := nI_of c
    rw [ep, nI_leI (by omega) hp] at b
    rw [eq, nI_ltI hq (by omega)] at d
    rw [ep, eq]
    refine qc_x hN1 hN (by omega) (by omega) (qw_g H (by omega)) (qw_g H d) ?_
    intro dv' sr'
    refine ⟨qr_nb _, ?_⟩
    exact qc_y hN hS (by omega) d ⟨rfl, hK dv' sr'⟩
  · have d' : nI S ≤ v2 := Int32.not_lt.mp d
    unfold wpY_clash
    dsimp only
    exact br_f a (br_f b (br_f c (br_t d' ⟨rfl, hK dv sr⟩)))
theorem qi_pa {Q : SX → Prop} (hN1 : 1 ≤ N) (hN : N ≤ 8) (hS : S ≤ 6) (H : qw_WF N S ao ax aa bb) (hK : ∀ dv sr : Int32, Q ((nI N), (nI W), (nI S), rn, sh, dv, sr, sc, ce, ao, ax, aa, fun j => bb j &&& 15, aw, an, af, ad, al, ar)) : wpX_parallel (fun r u' => wpY_parallel (fun r' => r' = r ∧ Q u') ((nI N), (nI W), (nI S), rn, ao, ax, aa, bb, sc, ce, yd)) ((nI N), (nI W), (nI S), rn, sh, dv, sr, sc, ce, ao, ax, aa, fun j => bb j &&& 15, aw, an, af, ad, al, ar) :=
  qp_x hN1 hN hS (fun p hp => qw_g H hp) (fun dv' sr' => qp_y hN hS (qw_oo H) ⟨rfl, hK dv' sr'⟩)
end
theorem i_vc_scalar {k : Nat} {u : SX} {v : SY} (I : i_Rel k u v) (hk : k + 5 ≤ 2562) (v1 : Int32) : wpX_scalar (fun r => wpY_scalar (fun r' => r' = r ∧ i_Rel (k + 5) u v) v v1) u v1 := by
  refine qi_el (Q := fun u v => wpX_scalar (fun r => wpY_scalar (fun r' => r' = r ∧ i_Rel (k + 5) u v) v v1) u v1) ?_ ?_ I
  · intro N W S sh dv sr sc ce ao ax aa aw an af ad al ar bb yd hB
    exact qi_sc (qi_0 hB)
  · intro N W S sh dv sr sc ce ao ax aa aw an af ad al ar bb yd hB hR
    exact qi_sc (qi_1 hB hR)
theorem i_vc_cell {k : Nat} {u : SX} {v : SY} (I : i_Rel k u v) (hk : k + 5 ≤ 2562) (v1 : Int32) : wpX_cell (fun r => wpY_cell (fun r' => r' = r ∧ i_Rel (k + 5) u v) v v1) u v1 := by
  refine qi_el (Q := fun u v => wpX_cell (fun r => wpY_cell (fun r' => r' = r ∧ i_Rel (k + 5) u v) v v1) u v1) ?_ ?_ I
  · intro N W S sh dv sr sc ce ao ax aa aw an af ad al ar bb yd hB
    exact qi_ce (qi_0 hB)
  · intro N W S sh dv sr sc ce ao ax aa aw an af ad al ar bb yd hB hR
    exact qi_ce (qi_1 hB hR)
theorem i_vc_role {k : Nat} {u : SX} {v : SY} (I : i_Rel k u v) (hk : k + 5 ≤ 2562) (v1 : Int32) : wpX_role (fun r => wpY_role (fun r' => r' = r ∧ i_Rel (k + 5) u v) v v1) u v1 := by
  refine qi_el (Q := fun u v => wpX_role (fun r => wpY_role (fun r' => r' = r ∧ i_Rel (k + 5) u v) v v1) u v1) ?_ ?_ I
  · intro N W S sh dv sr sc ce ao ax aa aw an af ad al ar bb yd hB
    exact qi_ro hB.2.2.1 hB.2.2.2 (qi_0 hB)
  · intro N W S sh dv sr sc ce ao ax aa aw an af ad al ar bb yd hB hR
    exact qi_ro hB.2.2.1 hB.2.2.2 (qi_1 hB hR)
theorem i_vc_clash {k : Nat} {u : SX} {v : SY} (I : i_Rel k u v) (hk : k + 5 ≤ 2562) (v1 : Int32) (v2 : Int32) : wpX_clash (fun r u' => wpY_clash (fun r' => r' = r ∧ i_Rel (k + 5) u' v) v v1 v2) u v1 v2 := by
  refine qi_el (Q := fun u v => wpX_clash (fun r u' => wpY_clash (fun r' => r' = r ∧ i_Rel (k + 5) u' v) v v1 v2) u v1 v2) ?_ ?_ I
  · intro N W S sh dv sr sc ce ao ax aa aw an af ad al ar bb yd hB
    exact qi_cx (K := True) (Q := fun u' => i_Rel (k + 5) u' ((nI N), (nI W), (nI S), 0, ao, ax, aa, bb, sc, ce, yd)) hB.1.1 hB.1.2 hB.2.2.1 hB.2.2.2 (fun dv sr => qi_0 hB)
  · intro N W S sh dv sr sc ce ao ax aa aw an af ad al ar bb yd hB hR
    exact qi_cx (K := True) (Q := fun u' => i_Rel (k + 5) u' ((nI N), (nI W), (nI S), 1, ao, ax, aa, bb, sc, ce, yd)) hB.1.1 hB.1.2 hB.2.2.1 hB.2.2.2 (fun dv sr => qi_1 hB hR)
theorem i_vc_parallel {k : Nat} {u : SX} {v : SY} (I : i_Rel k u v) (hk : k + 5 ≤ 2562) : wpX_parallel (fun r u' => wpY_parallel (fun r' => r' = r ∧ i_Rel (k + 5) u' v) v) u := by
  refine qi_el (Q := fun u v => wpX_parallel (fun r u' => wpY_parallel (fun r' => r' = r ∧ i_Rel (k + 5) u' v) v) u) ?_ ?_ I
  · intro N W S sh dv sr sc ce ao ax aa aw an af ad al ar bb yd hB
    exact qi_pa (Q := fun u' => i_Rel (k + 5) u' ((nI N), (nI W), (nI S), 0, ao, ax, aa, bb, sc, ce, yd)) hB.1.1 hB.1.2 hB.2.2.1 hB.2.2.2 (fun dv sr => qi_0 hB)
  · intro N W S sh dv sr sc ce ao ax aa aw an af ad al ar bb yd hB hR
    exact qi_pa (Q := fun u' => i_Rel (k + 5) u' ((nI N), (nI W), (nI S), 1, ao, ax, aa, bb, sc, ce, yd)) hB.1.1 hB.1.2 hB.2.2.1 hB.2.2.2 (fun dv sr => qi_1 hB hR)
end
section
/-! runs: start, step, left, finish, abandon -/
theorem qi_TTp {sh : Int32} {S N W : Nat} (hS : 0 < S) (hN : 1 ≤ N) (hW : 1 ≤ W) : ∃ w, w < W ∧ 0 < qw_TT sh S N W w := by
  by_cases z : sh = 0
  · refine ⟨0, by omega, ?_⟩
    rw [qw_TT0 z, if_pos rfl]
    exact Nat.mul_pos (by omega) hS
  · refine ⟨W - 1, by omega, ?_⟩
    rw [qw_TT1 z, show W - 1 + 1 = W by omega, wl_FW N (by omega)]
    have k := wl_Fl (N := N) (W := W) (by omega) (by omega)
    exact Nat.mul_pos (by omega) hS
theorem qi_TTz {sh : Int32} {S N W w : Nat} (hS : S = 0) : qw_TT sh S N W w = 0 := by
  by_cases z : sh = 0
  · rw [qw_TT0 z, hS, Nat.mul_zero]
    by_cases q : w = 0
    · rw [if_pos q]
    · rw [if_neg q]
  · rw [qw_TT1 z, hS, Nat.mul_zero]
section
variable {N W S : Nat} {rn sh dv sr : Int32} {sc ce ao ax aa ab aw an af ad al ar bb yd : Nat → Int32}
theorem qi_ys {post : Int32 → SY → Prop} (hS : S ≤ 6) (h0 : S = 0 → post 1 ((nI N), (nI W), (nI S), 0, ao, ax, aa, bb, sc, ce, qw_cp (fun _ => 0) yd 4)) (h1 : 0 < S → post 1 ((nI N), (nI W), (nI S), 1, ao, ax, aa, bb, sc, ce, qw_cp (fun _ => 0) yd 4)) : wpY_start post ((nI N), (nI W), (nI S), 0, ao, ax, aa, bb, sc, ce, yd) := by
  have L : ∀ o : Int32, post 1 ((nI N), (nI W), (nI S), o, ao, ax, aa, bb, sc, ce, qw_cp (fun _ => 0) yd 4) → ∀ r w, w + r = 4 → ∀ n, r < n → wY_start_27 post (nI N) (nI W) (nI S) o n (nI w) ao ax aa bb sc ce (qw_cp (fun _ => 0) yd w) := by
    intro o h r
    induction r with
    | zero =>
      intro w hw n hn
      obtain ⟨m, rfl⟩ : ∃ m, n = m + 1 := ⟨n - 1, by omega⟩
      have e : w = 4 := by omega
      subst e
      exact br_t (nI_le (a := 4) (Nat.le_refl 4) (by omega)) h
    | succ r ih =>
      intro w hw n hn
      obtain ⟨m, rfl⟩ : ∃ m, n = m + 1 := ⟨n - 1, by omega⟩
      have K := ih (w + 1) (by omega) m (by omega)
      have hi : vp_in (nI w) 4 := vp_in_nI (by omega) (by omega)
      have hc : (nI w).toNatClampNeg = w := nI_clamp (by omega)
      refine br_f (nI_ge (b := 4) (by omega) (by omega)) ?_
      rw [hc]
      exact ⟨hi, nm_r (qw_cps (fun _ => 0) yd w) (nm_r (nI_1 w) K)⟩
  unfold wpY_start
  dsimp only
  refine br_t rfl (br_c (fun z => ⟨5, ?_⟩) (fun z => ⟨5, ?_⟩))
  · have z' : S = 0 := by
      have q := (nI_leI (b := 0) (by omega) (by omega)).mp z
      omega
    have k := L 0 (h0 z') 4 0 (by omega) 5 (by omega)
    rw [nI_0, qw_cp0] at k
    exact k
  · have z' : 0 < S := Classical.byContradiction fun q => z (by rw [show S = 0 by omega, nI_0]; decide)
    have k := L 1 (h1 z') 4 0 (by omega) 5 (by omega)
    rw [nI_0, qw_cp0] at k
    exact k
/-- the invariant at the start of a run -/
theorem qi_R0 (H : qw_WF N S ao ax aa bb) (hW0 : 1 ≤ W) (hr : ∀ y, y < 4 → ar y = qr_rl S ao ax aa (nI y)) (hc : ∀ k, k < 16 → aw k = ce k) (E : qw_E sh S N W W ar sc af ad al an) : qw_RI sh (qw_pg ao ax aa bb) S N W sc ce (qw_ro S ao ax aa) an (qw_cp aw ce 16) (fun _ => 0) := by
  have e : qw_cp aw ce 16 = ce := by
    funext j
    by_cases l : j < 16
    · rw [qw_cpl l]; exact hc j l
    · rw [qw_cpg (by omega)]
  rw [e]
  constructor
  · intro z
    refine wl_RP0 _ S N W _ sc ce (fun w hw y hy => ?_) (fun _ _ => rfl)
    obtain ⟨_, _, _, b⟩ := E w hw
    rw [b y hy]
    unfold qw_bv wl_b
    rw [if_neg z]
    obtain ⟨er, h5⟩ := qw_roe S ao ax aa y
    have i3 : ar y = nI 3 ↔ qw_ro S ao ax aa y = 3 := by
      rw [hr y hy, er]
      exact nI_eq (by omega) (by omega)
    by_cases q : qw_ro S ao ax aa y = 3
    · rw [if_pos q]
      exact if_pos (i3.mpr q)
    · rw [if_neg q]
      exact if_neg (fun w => q (i3.mp w))
  · intro z
    rw [wl_sd0]
    refine ⟨rfl, fun y hy => ?_⟩
    obtain ⟨_, _, _, b⟩ := E 0 (by omega)
    have k := b y hy
    rw [Nat.zero_mul, Nat.zero_add] at k
    rw [k]
    exact if_pos z
end
theorem i_vc_start {k : Nat} {u : SX} {v : SY} (I : i_Rel k u v) (hk : k + 5 ≤ 2562) : wpX_start (fun r u' => wpY_start (fun r' v' => r' = r ∧ i_Rel (k + 5) u' v') v) u := by
  refine qi_el (Q := fun u v => wpX_start (fun r u' => wpY_start (fun r' v' => r' = r ∧ i_Rel (k + 5) u' v') v) u) ?_ ?_ I
  · intro N W S sh dv sr sc ce ao ax aa aw an af ad al ar bb yd hB
    obtain ⟨⟨hN1, hN⟩, ⟨hW0, hW⟩, hS, H⟩ := hB
    refine qw_xs hN1 hN hW0 hW hS H (sh' := qr_b (qp_PA N S ao ax aa bb)) rfl ?_
    intro dv sr aw an af ad al ar hr hc E
    constructor
    · rintro ⟨w, hw, hpos⟩
      refine qi_ys hS (fun z => ?_) (fun z => ⟨rfl, qi_1 ⟨⟨hN1, hN⟩, ⟨hW0, hW⟩, hS, H⟩ ⟨z, rfl, hr, fun _ => 0, fun u hu => (E u hu).1, fun u hu => (E u hu).2.2.1, fun u hu => (E u hu).2.1.trans nI_0.symm, fun u hu => ?_, fun _ _ => Nat.zero_le _, ⟨w, hw, hpos⟩, qi_R0 H hW0 hr hc E⟩⟩)
      · rw [qi_TTz z] at hpos
        exact absurd hpos (by omega)
      · exact (qw_cpl (show u < 4 by omega)).trans nI_0.symm
    · intro hall
      refine qi_ys hS (fun z => ⟨rfl, ?_⟩) (fun z => ?_)
      · have PA : qp_PA N S ao ax aa bb := by
          refine ⟨fun y hy q => ?_, fun p hp => absurd hp (by omega)⟩
          rw [qr_v0 (fun q hq => absurd hq (by omega))] at q
          exact absurd q (by decide)
        have ec : qw_cp aw ce 16 = ce := by
          funext j
          by_cases l : j < 16
          · rw [qw_cpl l]; exact hc j l
          · rw [qw_cpg (by omega)]
        have es : qw_cp (qw_fv (qr_b (qp_PA N S ao ax aa bb)) W sc an ar) sc 4 = sc := by
          funext j
          by_cases l : j < 4
          · have e0 : ar j = 0 := by
              rw [hr j l]
              exact qr_v0 (fun q hq => absurd hq (by omega))
            rw [qw_cpl l]
            unfold qw_fv qw_gv
            rw [qr_bt PA, if_neg qr_n10, e0, if_neg (by decide), if_neg (by decide), if_neg (by decide)]
          · rw [qw_cpg (by omega)]
        rw [ec, es]
        exact qi_0 ⟨⟨hN1, hN⟩, ⟨hW0, hW⟩, hS, H⟩
      · obtain ⟨w, hw, hpos⟩ := qi_TTp (sh := qr_b (qp_PA N S ao ax aa bb)) z hN1 hW0
        rw [hall w hw] at hpos
        exact absurd hpos (by omega)
  · intro N W S sh dv sr sc ce ao ax aa aw an af ad al ar bb yd hB hR
    unfold wpX_start wpY_start
    dsimp only
    exact br_f qr_n10 (br_f qr_n10 ⟨rfl, qi_1 hB hR⟩)
theorem i_vc_step {k : Nat} {u : SX} {v : SY} (I : i_Rel k u v) (hk : k + 5 ≤ 2562) (v1 : Int32) (v2 : Int32) : wpX_step (fun r u' => wpY_step (fun r' v' => r' = r ∧ i_Rel (k + 5) u' v') v v1 v2) u v1 v2 := by
  refine qi_el (Q := fun u v => wpX_step (fun r u' => wpY_step (fun r' v' => r' = r ∧ i_Rel (k + 5) u' v') v v1 v2) u v1 v2) ?_ ?_ I
  · intro N W S sh dv sr sc ce ao ax aa aw an af ad al ar bb yd hB
    unfold wpX_step wpY_step wpY_worker
    dsimp only
    exact br_t rfl (br_t rfl (br_t rfl ⟨rfl, qi_0 hB⟩))
  · intro N W S sh dv sr sc ce ao ax aa aw an af ad al ar bb yd hB hR
    by_cases a : v1 < 0
    · unfold wpX_step wpY_step wpY_worker wpX_isWorker
      dsimp only
      exact br_f qr_n10 (br_t a (br_t rfl (br_f qr_n10 (br_t a (br_t rfl ⟨rfl, qi_1 hB hR⟩)))))
    · by_cases b : nI W ≤ v1
      · unfold wpX_step wpY_step wpY_worker wpX_isWorker
        dsimp only
        exact br_f qr_n10 (br_f a (br_t b (br_t rfl (br_f qr_n10 (br_f a (br_t b (br_t rfl ⟨rfl, qi_1 hB hR⟩)))))))
      · obtain ⟨w, hw31, ew⟩ := nI_of a
        have hB' := hB
        obtain ⟨⟨hN1, hN⟩, ⟨hW0, hW⟩, hS, H⟩ := hB'
        rw [ew, nI_leI (by omega) hw31] at b
        have hw : w < W := by omega
        obtain ⟨hS0, hsh, har, d, haf, hal, had, hyd, hdl, hex, R⟩ := hR
        have hT := qw_TT48 (sh := sh) hS hN hW0 hw
        have hdw := hdl w hw
        obtain ⟨c, hc⟩ : ∃ c : Nat, (v2 < 0 ∧ c = 0) ∨ (∃ k : Nat, k < 2 ^ 31 ∧ v2 = nI k ∧ ((k ≤ qw_TT sh S N W w - d w ∧ c = k) ∨ (qw_TT sh S N W w - d w < k ∧ c = qw_TT sh S N W w - d w))) := by
          by_cases n0 : v2 < 0
          · exact ⟨0, Or.inl ⟨n0, rfl⟩⟩
          · obtain ⟨k, hk31, ek⟩ := nI_of n0
            by_cases l : k ≤ qw_TT sh S N W w - d w
            · exact ⟨k, Or.inr ⟨k, hk31, ek, Or.inl ⟨l, rfl⟩⟩⟩
            · exact ⟨_, Or.inr ⟨k, hk31, ek, Or.inr ⟨by omega, rfl⟩⟩⟩
        have c1 : ∀ j, j < c → ¬ v2 ≤ nI j := by
          intro j hj
          rcases hc with ⟨_, z⟩ | ⟨k, hk31, ek, hh⟩
          · exact absurd hj (by omega)
          · rw [ek]
            have : j < k := by rcases hh with ⟨p, q⟩ | ⟨p, q⟩ <;> omega
            exact nI_ge this hk31
        have c2 : d w + c ≤ qw_TT sh S N W w := by
          rcases hc with ⟨_, z⟩ | ⟨k, hk31, ek, ⟨p, q⟩ | ⟨p, q⟩⟩ <;> omega
        have c3 : v2 ≤ nI c ∨ qw_TT sh S N W w ≤ d w + c := by
          rcases hc with ⟨n0, z⟩ | ⟨k, hk31, ek, ⟨p, q⟩ | ⟨p, q⟩⟩
          · left
            rw [z, nI_0]
            exact Int32.le_of_lt n0
          · left
            rw [ek, q]
            exact nI_le (Nat.le_refl k) hk31
          · right; omega
        rw [ew]
        refine qw_xst (c := c) H hN hW0 hW hS0 hS hsh hw haf hal had hdl R c1 c2 c3 ?_
        intro aw' an' ad' d' R' had' e1 e2
        have hl' : ∀ u, u < W → d' u ≤ qw_TT sh S N W u := by
          intro u hu
          by_cases q : u = w
          · rw [q, e1]; exact c2
          · rw [e2 u hu q]; exact hdl u hu
        have hy' : ∀ u, u < W → upd yd w (nI (d' w)) u = nI (d' u) := by
          intro u hu
          by_cases q : u = w
          · rw [q, pk_us]
          · rw [pk_un q, hyd u hu, e2 u hu q]
        constructor
        · intro hex'
          refine qy_st H hN hW0 hW hS hsh hw hyd hdl hc e1 e2 (fun _ => ?_) (fun hall => ?_)
          · exact ⟨rfl, qi_1 hB ⟨hS0, hsh, har, d', haf, hal, had', hy', hl', hex', R'⟩⟩
          · obtain ⟨u, hu, hlt⟩ := hex'
            exact absurd (hall u hu) (by omega)
        · intro hall
          refine qy_st H hN hW0 hW hS hsh hw hyd hdl hc e1 e2 (fun hex' => ?_) (fun _ => ?_)
          · obtain ⟨u, hu, hlt⟩ := hex'
            exact absurd (hall u hu) (by omega)
          · obtain ⟨f1, f2⟩ := qw_fin H hN1 hW0 hS0 hsh har R' hl' hall
            rw [← f1, ← f2]
            exact ⟨rfl, qi_0 hB⟩
theorem i_vc_left {k : Nat} {u : SX} {v : SY} (I : i_Rel k u v) (hk : k + 5 ≤ 2562) (v1 : Int32) : wpX_left (fun r => wpY_left (fun r' => r' = r ∧ i_Rel (k + 5) u v) v v1) u v1 := by
  refine qi_el (Q := fun u v => wpX_left (fun r => wpY_left (fun r' => r' = r ∧ i_Rel (k + 5) u v) v v1) u v1) ?_ ?_ I
  · intro N W S sh dv sr sc ce ao ax aa aw an af ad al ar bb yd hB
    unfold wpX_left wpY_left wpY_worker
    dsimp only
    exact br_t rfl (br_t rfl (br_t rfl ⟨rfl, qi_0 hB⟩))
  · intro N W S sh dv sr sc ce ao ax aa aw an af ad al ar bb yd hB hR
    by_cases a : v1 < 0
    · unfold wpX_left wpY_left wpY_worker wpX_isWorker
      dsimp only
      exact br_f qr_n10 (br_t a (br_t rfl (br_f qr_n10 (br_t a (br_t rfl ⟨rfl, qi_1 hB hR⟩)))))
    · by_cases b : nI W ≤ v1
      · unfold wpX_left wpY_left wpY_worker wpX_isWorker
        dsimp only
        exact br_f qr_n10 (br_f a (br_t b (br_t rfl (br_f qr_n10 (br_f a (br_t b (br_t rfl ⟨rfl, qi_1 hB hR⟩)))))))
      · obtain ⟨w, hw31, ew⟩ := nI_of a
        have hB' := hB
        have hR' := hR
        obtain ⟨⟨hN1, hN⟩, ⟨hW0, hW⟩, hS, H⟩ := hB'
        obtain ⟨hS0, hsh, har, d, haf, hal, had, hyd, hdl, hex, R⟩ := hR'
        rw [ew, nI_leI (by omega) hw31] at b
        have hw : w < W := by omega
        have hi : vp_in (nI w) 4 := vp_in_nI (by omega) (by omega)
        have hc : (nI w).toNatClampNeg = w := nI_clamp (by omega)
        rw [ew]
        unfold wpX_left wpX_isWorker
        dsimp only
        refine br_f qr_n10 (br_f (nI_pos hw31) (br_f (nI_ge hw (by omega)) (br_f qr_n10 ⟨hi, hi, ?_⟩)))
        rw [hc, hal w hw, had w hw, pk_sub (hdl w hw)]
        exact qy_left H hN hW0 hW hS hsh hw (hyd w hw) (hdl w hw) ⟨rfl, qi_1 hB hR⟩
theorem i_vc_finish {k : Nat} {u : SX} {v : SY} (I : i_Rel k u v) (hk : k + 5 ≤ 2562) : wpX_finish (fun r u' => wpY_finish (fun r' v' => r' = r ∧ i_Rel (k + 5) u' v') v) u := by
  refine qi_el (Q := fun u v => wpX_finish (fun r u' => wpY_finish (fun r' v' => r' = r ∧ i_Rel (k + 5) u' v') v) u) ?_ ?_ I
  · intro N W S sh dv sr sc ce ao ax aa aw an af ad al ar bb yd hB
    unfold wpX_finish wpY_finish
    dsimp only
    exact br_t rfl (br_t rfl ⟨rfl, qi_0 hB⟩)
  · intro N W S sh dv sr sc ce ao ax aa aw an af ad al ar bb yd hB hR
    have hB' := hB
    obtain ⟨⟨hN1, hN⟩, ⟨hW0, hW⟩, hS, H⟩ := hB'
    obtain ⟨hS0, hsh, har, d, haf, hal, had, hyd, hdl, hex, R⟩ := hR
    unfold wpX_finish
    dsimp only
    refine br_f qr_n10 ⟨W + 2, ?_⟩
    have kk := qw_xfn (dv := dv) (sr := sr) (ar := ar) (post := fun r u' => wpY_finish (fun r' v' => r' = r ∧ i_Rel (k + 5) u' v') ((nI N), (nI W), (nI S), 1, ao, ax, aa, bb, sc, ce, yd)) H hN hW0 hW hS0 hS hsh haf hal ?_ W 0 (by omega) (W + 2) (by omega) aw an ad d R had hdl (fun u hu => absurd hu (Nat.not_lt_zero u)) hex
    · rw [nI_0] at kk
      exact kk
    · intro aw' an' ad' d' R' hl' hall
      obtain ⟨f1, f2⟩ := qw_fin H hN1 hW0 hS0 hsh har R' hl' hall
      refine qy_fin H hN hS ?_
      rw [← f1, ← f2]
      exact ⟨rfl, qi_0 hB⟩
theorem i_vc_abandon {k : Nat} {u : SX} {v : SY} (I : i_Rel k u v) (hk : k + 5 ≤ 2562) : wpX_abandon (fun r u' => wpY_abandon (fun r' v' => r' = r ∧ i_Rel (k + 5) u' v') v) u := by
  refine qi_el (Q := fun u v => wpX_abandon (fun r u' => wpY_abandon (fun r' v' => r' = r ∧ i_Rel (k + 5) u' v') v) u) ?_ ?_ I
  · intro N W S sh dv sr sc ce ao ax aa aw an af ad al ar bb yd hB
    unfold wpX_abandon wpY_abandon
    dsimp only
    exact ⟨narrow_b0, br_t rfl ⟨rfl, qi_0 hB⟩⟩
  · intro N W S sh dv sr sc ce ao ax aa aw an af ad al ar bb yd hB hR
    unfold wpX_abandon wpY_abandon
    dsimp only
    exact ⟨narrow_b1, br_f qr_n10 ⟨rfl, qi_0 hB⟩⟩
end
