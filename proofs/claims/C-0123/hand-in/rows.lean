section
/-! rows of kit/rows (starting texts): stores, nI arithmetic, branches by naturals, bits -/
theorem pk_us {f : Nat → Int32} {k : Nat} {x : Int32} : upd f k x k = x := if_pos rfl
theorem pk_un {f : Nat → Int32} {k j : Nat} {x : Int32} (h : j ≠ k) : upd f k x j = f j := if_neg h
theorem pk_sub {a b : Nat} (h : b ≤ a) : nI a - nI b = nI (a - b) := by
  obtain ⟨c, rfl⟩ : ∃ c, a = c + b := ⟨a - b, by omega⟩
  rw [← nI_add, Int32.add_sub_cancel, Nat.add_sub_cancel]
theorem pk_mul (a b : Nat) : nI a * nI b = nI (a * b) := (Int32.ofNat_mul a b).symm
theorem pk_ix (x : Int32) {n : Nat} (hn : n < 2 ^ 31) : x < 0 ∨ nI n ≤ x ∨ ∃ j : Nat, j < n ∧ x = nI j := by
  by_cases h : x < 0
  · exact Or.inl h
  · obtain ⟨j, hj, rfl⟩ := nI_of h
    by_cases h2 : j < n
    · exact Or.inr (Or.inr ⟨j, h2, rfl⟩)
    · exact Or.inr (Or.inl (nI_le (by omega) hj))
theorem pk_le {x y : Int32} {A B : Prop} (a b : Nat) (f : a ≤ b → A) (g : b < a → B) (hx : x = nI a := by rfl) (hy : y = nI b := by rfl) (ha : a < 2 ^ 31 := by omega) (hb : b < 2 ^ 31 := by omega) : (x ≤ y → A) ∧ (¬ x ≤ y → B) := by
  subst hx hy
  rw [nI_leI ha hb]
  exact ⟨f, fun z => g (by omega)⟩
theorem pk_lt {x y : Int32} {A B : Prop} (a b : Nat) (f : a < b → A) (g : b ≤ a → B) (hx : x = nI a := by rfl) (hy : y = nI b := by rfl) (ha : a < 2 ^ 31 := by omega) (hb : b < 2 ^ 31 := by omega) : (x < y → A) ∧ (¬ x < y → B) := by
  subst hx hy
  rw [nI_ltI ha hb]
  exact ⟨f, fun z => g (by omega)⟩
theorem pk_eq {x y : Int32} {A B : Prop} (a b : Nat) (f : a = b → A) (g : a ≠ b → B) (hx : x = nI a := by rfl) (hy : y = nI b := by rfl) (ha : a < 2 ^ 31 := by omega) (hb : b < 2 ^ 31 := by omega) : (x = y → A) ∧ (¬ x = y → B) := by
  subst hx hy
  rw [nI_eq ha hb]
  exact ⟨f, g⟩
theorem pk_in {x : Int32} (n N : Nat) (h : n < N) (hx : x = nI n := by rfl) (hN : N < 2 ^ 31 := by omega) : vp_in x N := by
  subst hx
  exact vp_in_nI h hN
theorem pk_cl {x : Int32} (n : Nat) (hx : x = nI n := by rfl) (h : n < 2 ^ 31 := by omega) : x.toNatClampNeg = n := by
  subst hx
  exact nI_clamp h
theorem pk_tn {n : Nat} (h : n < 2 ^ 32) : (nI n).toBitVec.toNat = n := Nat.mod_eq_of_lt h
def bt (x : Int32) (i : Nat) : Bool := x.toBitVec.getLsbD i
theorem b_ext {x y : Int32} (h : ∀ i, i < 32 → bt x i = bt y i) : x = y := Int32.toBitVec_inj.mp (BitVec.eq_of_getLsbD_eq (fun i hi => h i hi))
theorem b_or (x y : Int32) (i : Nat) : bt (x ||| y) i = (bt x i || bt y i) := by unfold bt; rw [Int32.toBitVec_or, BitVec.getLsbD_or]
theorem b_and (x y : Int32) (i : Nat) : bt (x &&& y) i = (bt x i && bt y i) := by unfold bt; rw [Int32.toBitVec_and, BitVec.getLsbD_and]
theorem b_xor (x y : Int32) (i : Nat) : bt (x ^^^ y) i = (bt x i ^^ bt y i) := by unfold bt; rw [Int32.toBitVec_xor, BitVec.getLsbD_xor]
theorem b_m1 : ∀ i, i < 32 → bt (-1) i = true := by decide +kernel
theorem b_0 (i : Nat) : bt 0 i = false := BitVec.getLsbD_zero
theorem s_l : ∀ n, n < 32 → ((nI n &&& 31).toBitVec.smod 32).toNat = n := by decide +kernel
theorem b_shl (n : Nat) (hn : n < 32) (x : Int32) {i : Nat} (hi : i < 32) : bt (x <<< (nI n &&& 31)) i = (decide (n ≤ i) && bt x (i - n)) := by
  unfold bt
  rw [Int32.toBitVec_shiftLeft]
  show (x.toBitVec <<< ((nI n &&& 31).toBitVec.smod 32).toNat).getLsbD i = _
  rw [s_l n hn, BitVec.getLsbD_shiftLeft]
  rcases Nat.lt_or_ge i n with h | h
  · simp [h, Nat.not_le.mpr h]
  · simp [hi, h, Nat.not_lt.mpr h]
theorem b_sshr (n : Nat) (hn : n < 32) (x : Int32) {i : Nat} (hi : i < 32) : bt (x >>> (nI n &&& 31)) i = if n + i < 32 then bt x (n + i) else bt x 31 := by
  unfold bt
  rw [Int32.toBitVec_shiftRight]
  show (x.toBitVec.sshiftRight ((nI n &&& 31).toBitVec.smod 32).toNat).getLsbD i = _
  rw [s_l n hn, BitVec.getLsbD_sshiftRight, BitVec.msb_eq_getLsbD_last]
  simp [hi]
theorem nx_and (a b : Nat) : nI a &&& nI b = nI (a &&& b) := by
  apply Int32.toBitVec_inj.1
  show BitVec.ofNat 32 a &&& BitVec.ofNat 32 b = BitVec.ofNat 32 (a &&& b)
  apply BitVec.eq_of_getLsbD_eq
  intro i hi
  simp [hi]
/-! ===== own rows: sets as naturals ===== -/
theorem ag_bt (n i : Nat) (hi : i < 32) : bt (nI n) i = n.testBit i := by
  show (BitVec.ofNat 32 n).getLsbD i = _
  rw [BitVec.getLsbD_ofNat]
  simp [hi]
theorem ag_or (a b : Nat) : nI a ||| nI b = nI (a ||| b) := by
  apply b_ext
  intro i hi
  rw [b_or, ag_bt _ _ hi, ag_bt _ _ hi, ag_bt _ _ hi, Nat.testBit_or]
/-- a without b -/
def df (a b : Nat) : Nat := a ^^^ (a &&& b)
theorem df_tb (a b i : Nat) : (df a b).testBit i = (a.testBit i && !b.testBit i) := by
  unfold df
  rw [Nat.testBit_xor, Nat.testBit_and]
  cases a.testBit i <;> cases b.testBit i <;> rfl
theorem ag_df (a b : Nat) : nI a &&& (nI b ^^^ (-1)) = nI (df a b) := by
  apply b_ext
  intro i hi
  rw [b_and, b_xor, b_m1 i hi, ag_bt _ _ hi, ag_bt _ _ hi, ag_bt _ _ hi, df_tb]
  cases a.testBit i <;> cases b.testBit i <;> rfl
/-- a is part of b -/
def sbs (a b : Nat) : Prop := ∀ i, a.testBit i = true → b.testBit i = true
theorem df_0 {a b : Nat} : df a b = 0 ↔ sbs a b := by
  constructor
  · intro h i ha
    have t := df_tb a b i
    rw [h, Nat.zero_testBit, ha] at t
    cases hb : b.testBit i
    · rw [hb] at t
      exact absurd t (by decide)
    · rfl
  · intro h
    apply Nat.eq_of_testBit_eq
    intro i
    rw [df_tb, Nat.zero_testBit]
    cases ha : a.testBit i
    · rfl
    · rw [h i ha]
      rfl
theorem sbs_and {a b : Nat} : a &&& b = a ↔ sbs a b := by
  constructor
  · intro h i ha
    have t := Nat.testBit_and a b i
    rw [h, ha] at t
    cases hb : b.testBit i
    · rw [hb] at t
      exact absurd t (by decide)
    · rfl
  · intro h
    apply Nat.eq_of_testBit_eq
    intro i
    rw [Nat.testBit_and]
    cases ha : a.testBit i
    · rfl
    · rw [h i ha]
      rfl
theorem sbs_le {a b : Nat} (h : sbs a b) : a ≤ b := by
  have e := sbs_and.mpr h
  have t : a &&& b ≤ b := Nat.and_le_right
  omega
theorem sbs_rf (a : Nat) : sbs a a := fun _ h => h
theorem sbs_tr {a b c : Nat} (h : sbs a b) (k : sbs b c) : sbs a c := fun i z => k i (h i z)
theorem sbs_an {a b : Nat} (h : sbs a b) (k : sbs b a) : a = b := Nat.le_antisymm (sbs_le h) (sbs_le k)
theorem sbs_0 (a : Nat) : sbs 0 a := by
  intro i h
  rw [Nat.zero_testBit] at h
  exact absurd h (by decide)
theorem sbs_df (a b : Nat) : sbs (df a b) a := by
  intro i h
  rw [df_tb] at h
  cases ha : a.testBit i
  · rw [ha] at h
    exact absurd h Bool.false_ne_true
  · rfl
theorem df_le (a b : Nat) : df a b ≤ a := sbs_le (sbs_df a b)
theorem sbs_orL (a b : Nat) : sbs a (a ||| b) := by
  intro i h
  rw [Nat.testBit_or, h]
  rfl
theorem sbs_orR (a b : Nat) : sbs b (a ||| b) := by
  intro i h
  rw [Nat.testBit_or, h, Bool.or_true]
theorem sbs_or {a b c : Nat} : sbs (a ||| b) c ↔ sbs a c ∧ sbs b c := by
  constructor
  · intro h
    exact ⟨sbs_tr (sbs_orL a b) h, sbs_tr (sbs_orR a b) h⟩
  · rintro ⟨h, k⟩ i z
    rw [Nat.testBit_or, Bool.or_eq_true] at z
    exact z.elim (h i) (k i)
theorem sbs_lt {a b n : Nat} (h : sbs a b) (hb : b < 2 ^ n) : a < 2 ^ n := Nat.lt_of_le_of_lt (sbs_le h) hb
theorem tb_lt {a n i : Nat} (h : a < 2 ^ n) (hi : a.testBit i = true) : i < n := by
  rcases Nat.lt_or_ge i n with c | c
  · exact c
  · have t : a.testBit i = false := Nat.testBit_lt_two_pow (Nat.lt_of_lt_of_le h (Nat.pow_le_pow_right (by decide) c))
    rw [t] at hi
    exact absurd hi (by decide)
theorem tb_pow {i j : Nat} : (2 ^ i).testBit j = true ↔ i = j := by
  rw [Nat.testBit_two_pow, decide_eq_true_iff]
theorem sbs_pow {i b : Nat} : sbs (2 ^ i) b ↔ b.testBit i = true := by
  constructor
  · intro h
    exact h i (tb_pow.mpr rfl)
  · intro h j hj
    rw [← tb_pow.mp hj]
    exact h
theorem ag_z {a : Nat} (h : a < 2 ^ 31) : nI a = 0 ↔ a = 0 := by
  rw [← nI_0, nI_eq h (by decide)]
theorem ag_sub {a b : Nat} (h : a < 2 ^ 31) : nI a &&& (nI b ^^^ (-1)) = 0 ↔ sbs a b := by
  rw [ag_df, ag_z (Nat.lt_of_le_of_lt (df_le a b) h), df_0]
theorem ag_sub2 {a b : Nat} (ha : a < 2 ^ 31) : nI a &&& nI b = nI a ↔ sbs a b := by
  rw [nx_and, nI_eq (Nat.lt_of_le_of_lt Nat.and_le_left ha) ha, sbs_and]
theorem ag_sub3 {a b : Nat} (ha : a < 2 ^ 31) : nI b &&& nI a = nI a ↔ sbs a b := by
  rw [nx_and, Nat.and_comm, nI_eq (Nat.lt_of_le_of_lt Nat.and_le_left ha) ha, sbs_and]
/-- a Boolean as the machine keeps it -/
def bI (b : Bool) : Int32 := cond b 1 0
theorem bI_1 {b : Bool} : bI b = 1 ↔ b = true := by cases b <;> decide
theorem bI_0 {b : Bool} : bI b = 0 ↔ b = false := by cases b <;> decide
theorem bI_n (b : Bool) : narrow .boolean (.int (bI b)) = .int (bI b) := by cases b <;> rfl
theorem b_1 : ∀ j, j < 32 → bt 1 j = decide (j = 0) := by decide +kernel
theorem ag_sh (a i : Nat) (hi : i < 32) : (nI a >>> (nI i &&& 31)) &&& 1 = bI (a.testBit i) := by
  apply b_ext
  intro j hj
  rw [b_and, b_1 j hj]
  rcases Nat.eq_zero_or_pos j with h | h
  · subst h
    rw [b_sshr i hi _ hj, if_pos (by omega), Nat.add_zero, ag_bt _ _ hi]
    cases a.testBit i <;> rfl
  · rw [decide_eq_false (by omega), Bool.and_false]
    cases a.testBit i
    · exact (b_0 j).symm
    · show false = bt 1 j
      rw [b_1 j hj, decide_eq_false (by omega)]
theorem ag_1 : ∀ i, i < 31 → (1 : Int32) <<< (nI i &&& 31) = nI (2 ^ i) := by decide +kernel
theorem ag_t1 {a i : Nat} (hi : i < 32) : (nI a >>> (nI i &&& 31)) &&& 1 = 1 ↔ a.testBit i = true := by
  rw [ag_sh a i hi, bI_1]
theorem ag_t0 {a i : Nat} (hi : i < 32) : (nI a >>> (nI i &&& 31)) &&& 1 = 0 ↔ a.testBit i = false := by
  rw [ag_sh a i hi, bI_0]
theorem tb_or {a b i : Nat} : (a ||| b).testBit i = true ↔ a.testBit i = true ∨ b.testBit i = true := by
  rw [Nat.testBit_or, Bool.or_eq_true]
theorem tb_and {a b i : Nat} : (a &&& b).testBit i = true ↔ a.testBit i = true ∧ b.testBit i = true := by
  rw [Nat.testBit_and, Bool.and_eq_true]
theorem tb_df {a b i : Nat} : (df a b).testBit i = true ↔ a.testBit i = true ∧ ¬ b.testBit i = true := by
  rw [df_tb, Bool.and_eq_true]
  cases b.testBit i <;> simp
theorem tb_ext {a b : Nat} (h : ∀ i, a.testBit i = true ↔ b.testBit i = true) : a = b :=
  sbs_an (fun i z => (h i).mp z) (fun i z => (h i).mpr z)
theorem tb_0 {i : Nat} : ¬ (0 : Nat).testBit i = true := by
  rw [Nat.zero_testBit]
  decide
theorem tb_ex {a : Nat} (h : a ≠ 0) : ∃ i, a.testBit i = true := Nat.exists_testBit_of_ne_zero h
theorem pow2_lt {i n : Nat} (h : i < n) : 2 ^ i < 2 ^ n := Nat.pow_lt_pow_right (by decide) h
theorem ag_meet {a b : Nat} (ha : a < 2 ^ 31) : nI a &&& nI b = 0 ↔ ∀ i, ¬ (a.testBit i = true ∧ b.testBit i = true) := by
  rw [nx_and, ag_z (Nat.lt_of_le_of_lt Nat.and_le_left ha)]
  constructor
  · intro h i z
    have t := tb_and.mpr z
    rw [h] at t
    exact tb_0 t
  · intro h
    apply tb_ext
    intro i
    constructor
    · intro z
      exact absurd (tb_and.mp z) (h i)
    · intro z
      exact absurd z tb_0
end
section
/-! ===== weights of sets, ranks, and rounds of rules: plain ===== -/
def cst (w : Nat → Nat) (S : Nat) : Nat → Nat
  | 0 => 0
  | n + 1 => cst w S n + (if S.testBit n = true then w n else 0)
theorem cst_mono {w : Nat → Nat} {S S' : Nat} (h : sbs S S') : ∀ n, cst w S n ≤ cst w S' n := by
  intro n
  induction n with
  | zero => exact Nat.le_refl _
  | succ n ih =>
    show cst w S n + _ ≤ cst w S' n + _
    by_cases c : S.testBit n = true
    · rw [if_pos c, if_pos (h n c)]
      omega
    · rw [if_neg c]
      omega
theorem cst_lt {w : Nat → Nat} {S S' i : Nat} (h : sbs S S') (hi : S'.testBit i = true) (hn : ¬ S.testBit i = true) (hw : 0 < w i) : ∀ n, i < n → cst w S n < cst w S' n := by
  intro n
  induction n with
  | zero => intro z; omega
  | succ n ih =>
    intro z
    show cst w S n + _ < cst w S' n + _
    by_cases e : i = n
    · subst e
      rw [if_neg hn, if_pos hi]
      have := cst_mono (w := w) h i
      omega
    · have t := ih (by omega)
      by_cases c : S.testBit n = true
      · rw [if_pos c, if_pos (h n c)]
        omega
      · rw [if_neg c]
        omega
theorem cst_0 (w : Nat → Nat) : ∀ n, cst w 0 n = 0 := by
  intro n
  induction n with
  | zero => rfl
  | succ n ih =>
    show cst w 0 n + _ = 0
    rw [if_neg tb_0, ih]
theorem cst_eq {w : Nat → Nat} {S S' : Nat} : ∀ n, (∀ i, i < n → (S.testBit i = true ↔ S'.testBit i = true)) → cst w S n = cst w S' n := by
  intro n
  induction n with
  | zero => intro _; rfl
  | succ n ih =>
    intro h
    show cst w S n + _ = cst w S' n + _
    rw [ih (fun i hi => h i (by omega))]
    by_cases c : S.testBit n = true
    · rw [if_pos c, if_pos ((h n (by omega)).mp c)]
    · rw [if_neg c, if_neg (fun z => c ((h n (by omega)).mpr z))]
theorem cst_add {w : Nat → Nat} {S f : Nat} (hf : ¬ S.testBit f = true) : ∀ n, f < n → cst w (S ||| 2 ^ f) n = cst w S n + w f := by
  intro n
  induction n with
  | zero => intro z; omega
  | succ n ih =>
    intro z
    show cst w (S ||| 2 ^ f) n + _ = cst w S n + _ + _
    by_cases e : f = n
    · subst e
      rw [if_neg hf, if_pos (tb_or.mpr (Or.inr (tb_pow.mpr rfl)))]
      rw [cst_eq (S := S ||| 2 ^ f) (S' := S) f (fun i hi => ⟨fun z => (tb_or.mp z).elim id (fun q => absurd (tb_pow.mp q) (by omega)), fun z => tb_or.mpr (Or.inl z)⟩)]
      omega
    · rw [ih (by omega)]
      by_cases c : S.testBit n = true
      · rw [if_pos c, if_pos (tb_or.mpr (Or.inl c))]
        omega
      · rw [if_neg c, if_neg (fun q => (tb_or.mp q).elim c (fun q => e (tb_pow.mp q)))]
        omega
theorem cst_bd {w : Nat → Nat} {S B : Nat} : ∀ n, (∀ i, i < n → w i ≤ B) → cst w S n ≤ n * B := by
  intro n
  induction n with
  | zero => intro _; exact Nat.le_of_eq (Nat.zero_mul B).symm
  | succ n ih =>
    intro h
    show cst w S n + _ ≤ _
    have t := ih (fun i hi => h i (by omega))
    have s := h n (by omega)
    rw [Nat.succ_mul]
    by_cases c : S.testBit n = true
    · rw [if_pos c]
      omega
    · rw [if_neg c]
      omega
theorem cst_w {w w' : Nat → Nat} {S : Nat} : ∀ n, (∀ i, i < n → S.testBit i = true → w i = w' i) → cst w S n = cst w' S n := by
  intro n
  induction n with
  | zero => intro _; rfl
  | succ n ih =>
    intro h
    show cst w S n + _ = cst w' S n + _
    rw [ih (fun i hi => h i (by omega))]
    by_cases c : S.testBit n = true
    · rw [if_pos c, if_pos c, h n (by omega) c]
    · rw [if_neg c, if_neg c]
/-- the number of members -/
def on1 : Nat → Nat := fun _ => 1
theorem pc_le (S n : Nat) : cst on1 S n ≤ n := by
  have t := cst_bd (w := on1) (S := S) (B := 1) n (fun _ _ => Nat.le_refl 1)
  omega
theorem sb_diff {a b : Nat} (h : sbs a b) (n : a ≠ b) : ∃ i, b.testBit i = true ∧ ¬ a.testBit i = true := by
  obtain ⟨i, hi⟩ := Nat.exists_testBit_ne_of_ne n
  refine ⟨i, ?_⟩
  cases ha : a.testBit i
  · rw [ha] at hi
    cases hb : b.testBit i
    · rw [hb] at hi
      exact absurd rfl hi
    · exact ⟨rfl, by decide⟩
  · rw [ha, h i ha] at hi
    exact absurd rfl hi
/-! rounds of rules -/
def rl_st (nd yl : Nat → Nat) (s k : Nat) : Nat := if df (nd k) s = 0 then s ||| 2 ^ (yl k) else s
def rl_k (nd yl : Nat → Nat) (s : Nat) : Nat → Nat
  | 0 => s
  | k + 1 => rl_st nd yl (rl_k nd yl s k) k
def rl_it (nd yl : Nat → Nat) (c s : Nat) : Nat → Nat
  | 0 => s
  | r + 1 => rl_k nd yl (rl_it nd yl c s r) c
def rch (nd yl : Nat → Nat) (c s : Nat) : Nat := rl_it nd yl c s 12
section
variable {nd yl : Nat → Nat}
theorem st_le (s k : Nat) : sbs s (rl_st nd yl s k) := by
  unfold rl_st
  split
  · exact sbs_orL _ _
  · exact sbs_rf _
theorem rk_le (s : Nat) : ∀ k, sbs s (rl_k nd yl s k) := by
  intro k
  induction k with
  | zero => exact sbs_rf _
  | succ k ih => exact sbs_tr ih (st_le _ _)
theorem st_bd (hy : ∀ k, yl k < 12) {s : Nat} (k : Nat) (hs : s < 4096) : rl_st nd yl s k < 4096 := by
  unfold rl_st
  split
  · exact Nat.or_lt_two_pow (n := 12) hs (pow2_lt (hy k))
  · exact hs
theorem rk_bd (hy : ∀ k, yl k < 12) {s : Nat} (hs : s < 4096) : ∀ k, rl_k nd yl s k < 4096 := by
  intro k
  induction k with
  | zero => exact hs
  | succ k ih => exact st_bd hy k ih
theorem it_bd (hy : ∀ k, yl k < 12) {c s : Nat} (hs : s < 4096) : ∀ r, rl_it nd yl c s r < 4096 := by
  intro r
  induction r with
  | zero => exact hs
  | succ r ih => exact rk_bd hy ih c
theorem st_mono {s s' : Nat} (h : sbs s s') (k : Nat) : sbs (rl_st nd yl s k) (rl_st nd yl s' k) := by
  unfold rl_st
  by_cases c : df (nd k) s = 0
  · rw [if_pos c, if_pos (df_0.mpr (sbs_tr (df_0.mp c) h))]
    exact sbs_or.mpr ⟨sbs_tr h (sbs_orL _ _), sbs_orR _ _⟩
  · rw [if_neg c]
    exact sbs_tr h (st_le (nd := nd) (yl := yl) s' k)
theorem rk_mono {s s' : Nat} (h : sbs s s') : ∀ k, sbs (rl_k nd yl s k) (rl_k nd yl s' k) := by
  intro k
  induction k with
  | zero => exact h
  | succ k ih => exact st_mono ih k
theorem it_mono {c s s' : Nat} (h : sbs s s') : ∀ r, sbs (rl_it nd yl c s r) (rl_it nd yl c s' r) := by
  intro r
  induction r with
  | zero => exact h
  | succ r ih => exact rk_mono ih c
theorem rch_mono {c s s' : Nat} (h : sbs s s') : sbs (rch nd yl c s) (rch nd yl c s') := it_mono h 12
theorem it_fx {c s r : Nat} (h : rl_it nd yl c s (r + 1) = rl_it nd yl c s r) : ∀ d, rl_it nd yl c s (r + d) = rl_it nd yl c s r := by
  intro d
  induction d with
  | zero => rfl
  | succ d ih =>
    show rl_k nd yl (rl_it nd yl c s (r + d)) c = _
    rw [ih]
    exact h
theorem it_pr (hy : ∀ k, yl k < 12) {c s : Nat} (hs : s < 4096) : ∀ r, rl_it nd yl c s (r + 1) = rl_it nd yl c s r ∨ r + 1 ≤ cst on1 (rl_it nd yl c s (r + 1)) 12 := by
  intro r
  have up : ∀ q, rl_it nd yl c s (q + 1) = rl_it nd yl c s q ∨ cst on1 (rl_it nd yl c s q) 12 < cst on1 (rl_it nd yl c s (q + 1)) 12 := by
    intro q
    by_cases e : rl_it nd yl c s (q + 1) = rl_it nd yl c s q
    · exact Or.inl e
    · have h : sbs (rl_it nd yl c s q) (rl_it nd yl c s (q + 1)) := rk_le _ c
      obtain ⟨i, h1, h2⟩ := sb_diff h (fun z => e z.symm)
      exact Or.inr (cst_lt h h1 h2 (Nat.one_pos : 0 < on1 i) 12 (tb_lt (n := 12) (it_bd hy hs _) h1))
  induction r with
  | zero => exact (up 0).imp id (fun h => by omega)
  | succ r ih =>
    rcases ih with e | l
    · exact Or.inl ((it_fx e 2).trans (it_fx e 1).symm)
    · exact (up (r + 1)).imp id (fun h => by omega)
theorem it_12 (hy : ∀ k, yl k < 12) {c s r : Nat} (hs : s < 4096) (hr : 12 ≤ r) : rl_it nd yl c s r = rch nd yl c s := by
  have h : rl_it nd yl c s (12 + 1) = rl_it nd yl c s 12 := by
    rcases it_pr (nd := nd) hy hs 12 with e | l
    · exact e
    · have := pc_le (rl_it nd yl c s (12 + 1)) 12
      omega
  obtain ⟨d, rfl⟩ : ∃ d, r = 12 + d := ⟨r - 12, by omega⟩
  exact it_fx h d
theorem it_st (hy : ∀ k, yl k < 12) {c s r : Nat} (hs : s < 4096) (h : rl_it nd yl c s (r + 1) = rl_it nd yl c s r) : rl_it nd yl c s r = rch nd yl c s := by
  rcases Nat.lt_or_ge r 12 with l | g
  · have t := it_fx h (12 - r)
    rw [show r + (12 - r) = 12 by omega] at t
    exact t.symm
  · exact it_12 hy hs g
end
end
section
/-! ===== index sets and fact sets: plain ===== -/
def rk (G f : Nat) : Nat := cst on1 G f
theorem rk_s (G f : Nat) : rk G (f + 1) = rk G f + (if G.testBit f = true then 1 else 0) := rfl
theorem rk_up {G f g : Nat} (h : f ≤ g) : rk G f ≤ rk G g := by
  obtain ⟨d, rfl⟩ : ∃ d, g = f + d := ⟨g - f, by omega⟩
  induction d with
  | zero => exact Nat.le_refl _
  | succ d ih =>
    have t := ih (by omega)
    have s := rk_s G (f + d)
    rw [show f + (d + 1) = f + d + 1 by omega]
    omega
theorem rk_lt {G f g : Nat} (h : f < g) (hf : G.testBit f = true) : rk G f < rk G g := by
  have s := rk_s G f
  rw [if_pos hf] at s
  have t := rk_up (G := G) (show f + 1 ≤ g from h)
  omega
theorem rk_inj {G f g : Nat} (hf : G.testBit f = true) (hg : G.testBit g = true) (e : rk G f = rk G g) : f = g := by
  rcases Nat.lt_trichotomy f g with l | l | l
  · have := rk_lt l hf
    omega
  · exact l
  · have := rk_lt l hg
    omega
theorem rk_surj {G i : Nat} : ∀ n, i < rk G n → ∃ f, f < n ∧ G.testBit f = true ∧ rk G f = i := by
  intro n
  induction n with
  | zero => intro h; exact absurd h (Nat.not_lt_zero i)
  | succ n ih =>
    intro h
    rw [rk_s] at h
    by_cases c : i < rk G n
    · obtain ⟨f, a, b⟩ := ih c
      exact ⟨f, by omega, b⟩
    · by_cases b : G.testBit n = true
      · rw [if_pos b] at h
        exact ⟨n, by omega, b, by omega⟩
      · rw [if_neg b] at h
        omega
def asFk (G T : Nat) : Nat → Nat
  | 0 => 0
  | f + 1 => asFk G T f ||| (if G.testBit f = true ∧ T.testBit (rk G f) = true then 2 ^ f else 0)
def asF (G T : Nat) : Nat := asFk G T 12
theorem tb_asFk {G T f : Nat} : ∀ n, (asFk G T n).testBit f = true ↔ f < n ∧ G.testBit f = true ∧ T.testBit (rk G f) = true := by
  intro n
  induction n with
  | zero => exact ⟨fun h => absurd h tb_0, fun h => absurd h.1 (Nat.not_lt_zero f)⟩
  | succ n ih =>
    show (asFk G T n ||| _).testBit f = true ↔ _
    rw [tb_or, ih]
    by_cases c : G.testBit n = true ∧ T.testBit (rk G n) = true
    · rw [if_pos c, tb_pow]
      constructor
      · rintro (⟨a, b⟩ | rfl)
        · exact ⟨by omega, b⟩
        · exact ⟨by omega, c⟩
      · rintro ⟨a, b⟩
        by_cases e : n = f
        · exact Or.inr e
        · exact Or.inl ⟨by omega, b⟩
    · rw [if_neg c]
      constructor
      · rintro (⟨a, b⟩ | z)
        · exact ⟨by omega, b⟩
        · exact absurd z tb_0
      · rintro ⟨a, b⟩
        by_cases e : f = n
        · subst e
          exact absurd b c
        · exact Or.inl ⟨by omega, b⟩
theorem tb_asF {G T f : Nat} : (asF G T).testBit f = true ↔ f < 12 ∧ G.testBit f = true ∧ T.testBit (rk G f) = true := tb_asFk 12
theorem asF_lt (G T : Nat) : asF G T < 4096 := by
  apply Nat.lt_pow_two_of_testBit (n := 12)
  intro i hi
  cases c : (asF G T).testBit i
  · rfl
  · have := (tb_asF.mp c).1
    omega
theorem asF_sub (G T : Nat) : sbs (asF G T) G := fun _ h => (tb_asF.mp h).2.1
theorem asF_mono {G T T' : Nat} (h : sbs T T') : sbs (asF G T) (asF G T') := fun _ z => tb_asF.mpr ⟨(tb_asF.mp z).1, (tb_asF.mp z).2.1, h _ (tb_asF.mp z).2.2⟩
theorem asF_refl {G T T' : Nat} (hT : T < 2 ^ rk G 12) (h : sbs (asF G T) (asF G T')) : sbs T T' := by
  intro i hi
  obtain ⟨f, a, b, c⟩ := rk_surj 12 (tb_lt hT hi)
  have t := tb_asF.mp (h f (tb_asF.mpr ⟨a, b, by rw [c]; exact hi⟩))
  rw [c] at t
  exact t.2.2
theorem asF_inj {G T T' : Nat} (hT : T < 2 ^ rk G 12) (hT' : T' < 2 ^ rk G 12) (h : asF G T = asF G T') : T = T' :=
  sbs_an (asF_refl hT (by rw [h]; exact sbs_rf _)) (asF_refl hT' (by rw [h]; exact sbs_rf _))
def asIk (G S : Nat) : Nat → Nat
  | 0 => 0
  | f + 1 => asIk G S f ||| (if S.testBit f = true then 2 ^ rk G f else 0)
def asI (G S : Nat) : Nat := asIk G S 12
theorem tb_asIk {G S i : Nat} : ∀ n, (asIk G S n).testBit i = true ↔ ∃ f, f < n ∧ S.testBit f = true ∧ rk G f = i := by
  intro n
  induction n with
  | zero => exact ⟨fun h => absurd h tb_0, fun ⟨f, h⟩ => absurd h.1 (Nat.not_lt_zero f)⟩
  | succ n ih =>
    show (asIk G S n ||| _).testBit i = true ↔ _
    rw [tb_or, ih]
    by_cases c : S.testBit n = true
    · rw [if_pos c, tb_pow]
      constructor
      · rintro (⟨f, a, b⟩ | e)
        · exact ⟨f, by omega, b⟩
        · exact ⟨n, by omega, c, e⟩
      · rintro ⟨f, a, b, d⟩
        by_cases e : f = n
        · subst e
          exact Or.inr d
        · exact Or.inl ⟨f, by omega, b, d⟩
    · rw [if_neg c]
      constructor
      · rintro (⟨f, a, b⟩ | z)
        · exact ⟨f, by omega, b⟩
        · exact absurd z tb_0
      · rintro ⟨f, a, b, d⟩
        by_cases e : f = n
        · subst e
          exact absurd b c
        · exact Or.inl ⟨f, by omega, b, d⟩
theorem asI_lt {G S : Nat} (h : sbs S G) : asI G S < 2 ^ rk G 12 := by
  apply Nat.lt_pow_two_of_testBit
  intro i hi
  cases c : (asI G S).testBit i
  · rfl
  · obtain ⟨f, a, b, d⟩ := (tb_asIk 12).mp c
    have := rk_lt a (h f b)
    omega
theorem asF_asI {G S : Nat} (hG : G < 4096) (h : sbs S G) : asF G (asI G S) = S := by
  apply tb_ext
  intro f
  rw [tb_asF]
  constructor
  · rintro ⟨a, b, c⟩
    obtain ⟨g, a', b', c'⟩ := (tb_asIk 12).mp c
    rw [← rk_inj (h g b') b c']
    exact b'
  · intro z
    exact ⟨tb_lt (n := 12) hG (h f z), h f z, (tb_asIk 12).mpr ⟨f, tb_lt (n := 12) hG (h f z), z, rfl⟩⟩
/-! the order of numbers by their bits -/
theorem bt_top {x y i : Nat} (hx : ¬ x.testBit i = true) (hy : y.testBit i = true) (h : ∀ j, i < j → x.testBit j = y.testBit j) : x < y := by
  have e : x / 2 ^ (i + 1) = y / 2 ^ (i + 1) := by
    apply Nat.eq_of_testBit_eq
    intro j
    rw [Nat.testBit_div_two_pow, Nat.testBit_div_two_pow]
    exact h _ (by omega)
  have l : x % 2 ^ (i + 1) < 2 ^ i := by
    apply Nat.lt_pow_two_of_testBit
    intro j hj
    rw [Nat.testBit_mod_two_pow]
    by_cases c : j = i
    · subst c
      cases q : x.testBit j
      · exact Bool.and_false _
      · exact absurd q hx
    · rw [decide_eq_false (by omega), Bool.false_and]
  have g : y % 2 ^ (i + 1) ≥ 2 ^ i := by
    apply Nat.ge_two_pow_of_testBit
    rw [Nat.testBit_mod_two_pow, hy, decide_eq_true (by omega)]
    rfl
  have a := Nat.div_add_mod x (2 ^ (i + 1))
  have b := Nat.div_add_mod y (2 ^ (i + 1))
  rw [e] at a
  generalize 2 ^ (i + 1) * (y / 2 ^ (i + 1)) = q at a b
  omega
theorem bt_max {x y : Nat} (n : x ≠ y) : ∀ k, (∀ j, k ≤ j → x.testBit j = y.testBit j) → ∃ i, x.testBit i ≠ y.testBit i ∧ ∀ j, i < j → x.testBit j = y.testBit j := by
  intro k
  induction k with
  | zero =>
    intro h
    exact absurd (Nat.eq_of_testBit_eq (fun i => h i (Nat.zero_le i))) n
  | succ k ih =>
    intro h
    by_cases c : x.testBit k = y.testBit k
    · exact ih (fun j hj => if e : j = k then by rw [e]; exact c else h j (by omega))
    · exact ⟨k, c, fun j hj => h j hj⟩
theorem bt_lt {x y : Nat} (h : x < y) : ∃ i, ¬ x.testBit i = true ∧ y.testBit i = true ∧ ∀ j, i < j → x.testBit j = y.testBit j := by
  have hy : y < 2 ^ y := Nat.lt_two_pow_self
  obtain ⟨i, a, b⟩ := bt_max (show x ≠ y by omega) y (fun j hj => by
    have p : 2 ^ y ≤ 2 ^ j := Nat.pow_le_pow_right (by decide) hj
    rw [Nat.testBit_lt_two_pow (show x < 2 ^ j by omega), Nat.testBit_lt_two_pow (show y < 2 ^ j by omega)])
  refine ⟨i, ?_⟩
  cases p : x.testBit i
  · cases q : y.testBit i
    · rw [p, q] at a
      exact absurd rfl a
    · exact ⟨by decide, rfl, b⟩
  · cases q : y.testBit i
    · have t := bt_top (x := y) (y := x) (i := i) (by rw [q]; decide) p (fun j hj => (b j hj).symm)
      omega
    · rw [p, q] at a
      exact absurd rfl a
theorem asF_ord {G T T' : Nat} (hT : T' < 2 ^ rk G 12) (h : T < T') : asF G T < asF G T' := by
  obtain ⟨i, a, b, c⟩ := bt_lt h
  obtain ⟨f, p, q, e⟩ := rk_surj 12 (tb_lt hT b)
  refine bt_top (i := f) (fun z => ?_) (tb_asF.mpr ⟨p, q, by rw [e]; exact b⟩) (fun j hj => ?_)
  · have t := (tb_asF.mp z).2.2
    rw [e] at t
    exact a t
  · apply Bool.eq_iff_iff.mpr
    rw [tb_asF, tb_asF]
    constructor
    · rintro ⟨x, y, z⟩
      have l := rk_lt hj q
      rw [c _ (by omega)] at z
      exact ⟨x, y, z⟩
    · rintro ⟨x, y, z⟩
      have l := rk_lt hj q
      rw [← c _ (by omega)] at z
      exact ⟨x, y, z⟩
theorem asF_ordI {G T T' : Nat} (hT : T < 2 ^ rk G 12) (hT' : T' < 2 ^ rk G 12) : asF G T ≤ asF G T' ↔ T ≤ T' := by
  constructor
  · intro h
    rcases Nat.lt_or_ge T' T with l | g
    · have := asF_ord hT l
      omega
    · exact g
  · intro h
    rcases Nat.eq_or_lt_of_le h with e | l
    · rw [e]
      exact Nat.le_refl _
    · exact Nat.le_of_lt (asF_ord hT' l)
/-- all indices but those of T -/
theorem asF_co (G T : Nat) : asF G (df (2 ^ rk G 12 - 1) T) = df (asF G (2 ^ rk G 12 - 1)) (asF G T) := by
  apply tb_ext
  intro f
  rw [tb_asF, tb_df, tb_df, tb_asF, tb_asF]
  constructor
  · rintro ⟨a, b, c, d⟩
    exact ⟨⟨a, b, c⟩, fun z => d z.2.2⟩
  · rintro ⟨⟨a, b, c⟩, d⟩
    exact ⟨a, b, c, fun z => d ⟨a, b, z⟩⟩
theorem asF_full {G : Nat} (hG : G < 4096) : asF G (2 ^ rk G 12 - 1) = G := by
  apply tb_ext
  intro f
  rw [tb_asF, Nat.testBit_two_pow_sub_one, decide_eq_true_iff]
  constructor
  · exact fun h => h.2.1
  · intro h
    have l := tb_lt (n := 12) hG h
    exact ⟨l, h, rk_lt l h⟩
theorem asF_0 (G : Nat) : asF G 0 = 0 := by
  apply tb_ext
  intro f
  rw [tb_asF]
  exact ⟨fun h => absurd h.2.2 tb_0, fun h => absurd h tb_0⟩
theorem tb_mod {x j i : Nat} : (x % 2 ^ j).testBit i = true ↔ i < j ∧ x.testBit i = true := by
  rw [Nat.testBit_mod_two_pow, Bool.and_eq_true, decide_eq_true_iff]
/-- one more index -/
theorem asF_step {G T f : Nat} (hf : f < 12) (hG : G.testBit f = true) : asF G (T % 2 ^ (rk G f + 1)) = if T.testBit (rk G f) = true then asF G (T % 2 ^ rk G f) ||| 2 ^ f else asF G (T % 2 ^ rk G f) := by
  by_cases c : T.testBit (rk G f) = true
  · rw [if_pos c]
    apply tb_ext
    intro g
    rw [tb_or, tb_asF, tb_asF, tb_pow, tb_mod, tb_mod]
    constructor
    · rintro ⟨a, b, d, e⟩
      by_cases q : rk G g = rk G f
      · exact Or.inr (rk_inj hG b q.symm)
      · exact Or.inl ⟨a, b, by omega, e⟩
    · rintro (⟨a, b, d, e⟩ | rfl)
      · exact ⟨a, b, by omega, e⟩
      · exact ⟨hf, hG, by omega, c⟩
  · rw [if_neg c]
    apply tb_ext
    intro g
    rw [tb_asF, tb_asF, tb_mod, tb_mod]
    constructor
    · rintro ⟨a, b, d, e⟩
      by_cases q : rk G g = rk G f
      · rw [q] at e
        exact absurd e c
      · exact ⟨a, b, by omega, e⟩
    · rintro ⟨a, b, d, e⟩
      exact ⟨a, b, by omega, e⟩
theorem asF_new {G T f : Nat} : ¬ (asF G (T % 2 ^ rk G f)).testBit f = true := by
  intro h
  have t := (tb_mod.mp (tb_asF.mp h).2.2).1
  omega
theorem cst_step {w : Nat → Nat} {G T f : Nat} (hf : f < 12) (hG : G.testBit f = true) : cst w (asF G (T % 2 ^ (rk G f + 1))) 12 = cst w (asF G (T % 2 ^ rk G f)) 12 + (if T.testBit (rk G f) = true then w f else 0) := by
  rw [asF_step hf hG]
  by_cases c : T.testBit (rk G f) = true
  · rw [if_pos c, if_pos c, cst_add asF_new 12 hf]
  · rw [if_neg c, if_neg c]
    rfl
end
section
/-! ===== lists of sets: covers, antichains, at most 70 of them ===== -/
def cov (L : List Nat) (T : Nat) : Prop := ∃ m, m ∈ L ∧ sbs m T
def cvb (L : List Nat) (T : Nat) : Bool := L.any (fun m => decide (df m T = 0))
theorem cvb_t {L : List Nat} {T : Nat} : cvb L T = true ↔ cov L T := by
  unfold cvb cov
  rw [List.any_eq_true]
  constructor
  · rintro ⟨x, h, k⟩
    exact ⟨x, h, df_0.mp (of_decide_eq_true k)⟩
  · rintro ⟨x, h, k⟩
    exact ⟨x, h, decide_eq_true (df_0.mpr k)⟩
theorem cov_up {L : List Nat} {S T : Nat} (h : sbs S T) (k : cov L S) : cov L T := by
  obtain ⟨m, a, b⟩ := k
  exact ⟨m, a, sbs_tr b h⟩
theorem cov_nil (T : Nat) : ¬ cov [] T := fun ⟨_, h, _⟩ => absurd h List.not_mem_nil
theorem cov_cons {x : Nat} {L : List Nat} {T : Nat} : cov (x :: L) T ↔ sbs x T ∨ cov L T := by
  constructor
  · rintro ⟨m, a, b⟩
    rcases List.mem_cons.mp a with rfl | a
    · exact Or.inl b
    · exact Or.inr ⟨m, a, b⟩
  · rintro (a | ⟨m, a, b⟩)
    · exact ⟨x, List.mem_cons_self, a⟩
    · exact ⟨m, List.mem_cons_of_mem _ a, b⟩
def icp (a b : Nat) : Prop := ¬ sbs a b ∧ ¬ sbs b a
def AC (L : List Nat) : Prop := L.Pairwise icp
/-- every member's bits are below q -/
def bdl (q : Nat) (L : List Nat) : Prop := ∀ m, m ∈ L → m < 2 ^ q
/-- what of a list stays when s is added -/
def flt (s : Nat) (L : List Nat) : List Nat := L.filter (fun m => !decide (df s m = 0))
def addN (L : List Nat) (s : Nat) : List Nat := if cvb L s = true then L else flt s L ++ [s]
theorem flt_mem {s x : Nat} {L : List Nat} : x ∈ flt s L ↔ x ∈ L ∧ ¬ sbs s x := by
  unfold flt
  rw [List.mem_filter]
  constructor
  · rintro ⟨a, b⟩
    refine ⟨a, fun z => ?_⟩
    rw [decide_eq_true (df_0.mpr z)] at b
    exact absurd b (by decide)
  · rintro ⟨a, b⟩
    refine ⟨a, ?_⟩
    rw [decide_eq_false (fun z => b (df_0.mp z))]
    rfl
theorem flt_nil (s : Nat) : flt s [] = [] := rfl
theorem flt_skip {s m : Nat} (L : List Nat) (h : sbs s m) : flt s (m :: L) = flt s L := by
  unfold flt
  rw [List.filter_cons, if_neg]
  rw [decide_eq_true (df_0.mpr h)]
  decide
theorem flt_keep {s m : Nat} (L : List Nat) (h : ¬ sbs s m) : flt s (m :: L) = m :: flt s L := by
  unfold flt
  rw [List.filter_cons, if_pos]
  rw [decide_eq_false (fun z => h (df_0.mp z))]
  rfl
theorem addN_t {L : List Nat} {s : Nat} (h : cov L s) : addN L s = L := if_pos (cvb_t.mpr h)
theorem addN_f {L : List Nat} {s : Nat} (h : ¬ cov L s) : addN L s = flt s L ++ [s] := if_neg (fun z => h (cvb_t.mp z))
theorem addN_cov {L : List Nat} {s T : Nat} : cov (addN L s) T ↔ cov L T ∨ sbs s T := by
  by_cases c : cov L s
  · rw [addN_t c]
    exact ⟨Or.inl, fun z => z.elim id (fun z => cov_up z c)⟩
  · rw [addN_f c]
    constructor
    · rintro ⟨m, a, b⟩
      rcases List.mem_append.mp a with a | a
      · exact Or.inl ⟨m, (flt_mem.mp a).1, b⟩
      · rw [List.mem_singleton.mp a] at b
        exact Or.inr b
    · rintro (⟨m, a, b⟩ | z)
      · by_cases d : sbs s m
        · exact ⟨s, List.mem_append.mpr (Or.inr (List.mem_singleton.mpr rfl)), sbs_tr d b⟩
        · exact ⟨m, List.mem_append.mpr (Or.inl (flt_mem.mpr ⟨a, d⟩)), b⟩
      · exact ⟨s, List.mem_append.mpr (Or.inr (List.mem_singleton.mpr rfl)), z⟩
theorem addN_AC {L : List Nat} {s : Nat} (h : AC L) : AC (addN L s) := by
  by_cases c : cov L s
  · rw [addN_t c]
    exact h
  · rw [addN_f c]
    refine List.pairwise_append.mpr ⟨List.Pairwise.filter _ h, List.pairwise_singleton _ _, ?_⟩
    intro a ha b hb
    rw [List.mem_singleton.mp hb]
    exact ⟨fun z => c ⟨a, (flt_mem.mp ha).1, z⟩, (flt_mem.mp ha).2⟩
theorem addN_bd {q : Nat} {L : List Nat} {s : Nat} (h : bdl q L) (hs : s < 2 ^ q) : bdl q (addN L s) := by
  by_cases c : cov L s
  · rw [addN_t c]
    exact h
  · rw [addN_f c]
    intro m hm
    rcases List.mem_append.mp hm with a | a
    · exact h m (flt_mem.mp a).1
    · rw [List.mem_singleton.mp a]
      exact hs
def addA (L xs : List Nat) : List Nat := xs.foldl addN L
theorem addA_nil (L : List Nat) : addA L [] = L := rfl
theorem addA_cons (L xs : List Nat) (x : Nat) : addA L (x :: xs) = addA (addN L x) xs := rfl
theorem addA_cov {T : Nat} : ∀ (xs L : List Nat), cov (addA L xs) T ↔ cov L T ∨ cov xs T := by
  intro xs
  induction xs with
  | nil => exact fun L => ⟨Or.inl, fun z => z.elim id (fun z => absurd z (cov_nil T))⟩
  | cons x xs ih =>
    intro L
    rw [addA_cons, ih, addN_cov, cov_cons, or_assoc]
theorem addA_AC : ∀ (xs L : List Nat), AC L → AC (addA L xs) := by
  intro xs
  induction xs with
  | nil => exact fun L h => h
  | cons x xs ih => exact fun L h => ih _ (addN_AC h)
theorem addA_bd {q : Nat} : ∀ (xs L : List Nat), bdl q L → bdl q xs → bdl q (addA L xs) := by
  intro xs
  induction xs with
  | nil => exact fun L h _ => h
  | cons x xs ih => exact fun L h k => ih _ (addN_bd h (k x List.mem_cons_self)) (fun m hm => k m (List.mem_cons_of_mem _ hm))
theorem AC_nil : AC [] := List.Pairwise.nil
theorem bdl_nil (q : Nat) : bdl q [] := fun _ h => absurd h List.not_mem_nil
theorem bdl_cons {q x : Nat} {L : List Nat} (h : bdl q (x :: L)) : x < 2 ^ q ∧ bdl q L := ⟨h x List.mem_cons_self, fun m hm => h m (List.mem_cons_of_mem _ hm)⟩
/-- all unions of w and a member -/
def uni (w : Nat) (F : List Nat) : List Nat := F.map (fun m => w ||| m)
theorem uni_cov {w T : Nat} : ∀ F : List Nat, cov (uni w F) T ↔ sbs w T ∧ cov F T := by
  intro F
  constructor
  · rintro ⟨x, a, b⟩
    obtain ⟨m, hm, rfl⟩ := List.mem_map.mp a
    exact ⟨(sbs_or.mp b).1, m, hm, (sbs_or.mp b).2⟩
  · rintro ⟨a, m, hm, b⟩
    exact ⟨w ||| m, List.mem_map.mpr ⟨m, hm, rfl⟩, sbs_or.mpr ⟨a, b⟩⟩
theorem uni_bd {q w : Nat} {F : List Nat} (hw : w < 2 ^ q) (h : bdl q F) : bdl q (uni w F) := by
  intro x hx
  obtain ⟨m, hm, rfl⟩ := List.mem_map.mp hx
  exact Nat.or_lt_two_pow hw (h m hm)
def crs (F : List Nat) (L W : List Nat) : List Nat := W.foldl (fun L w => addA L (uni w F)) L
theorem crs_nil (F L : List Nat) : crs F L [] = L := rfl
theorem crs_cons (F L W : List Nat) (w : Nat) : crs F L (w :: W) = crs F (addA L (uni w F)) W := rfl
theorem crs_cov {F : List Nat} {T : Nat} : ∀ W L : List Nat, cov (crs F L W) T ↔ cov L T ∨ (cov W T ∧ cov F T) := by
  intro W
  induction W with
  | nil => exact fun L => ⟨Or.inl, fun z => z.elim id (fun z => absurd z.1 (cov_nil T))⟩
  | cons w W ih =>
    intro L
    rw [crs_cons, ih, addA_cov, uni_cov, cov_cons]
    constructor
    · rintro ((a | ⟨a, b⟩) | ⟨a, b⟩)
      · exact Or.inl a
      · exact Or.inr ⟨Or.inl a, b⟩
      · exact Or.inr ⟨Or.inr a, b⟩
    · rintro (a | ⟨a | a, b⟩)
      · exact Or.inl (Or.inl a)
      · exact Or.inl (Or.inr ⟨a, b⟩)
      · exact Or.inr ⟨a, b⟩
theorem crs_AC {F : List Nat} : ∀ W L : List Nat, AC L → AC (crs F L W) := by
  intro W
  induction W with
  | nil => exact fun L h => h
  | cons w W ih => exact fun L h => ih _ (addA_AC _ _ h)
theorem crs_bd {q : Nat} {F : List Nat} (hF : bdl q F) : ∀ W L : List Nat, bdl q L → bdl q W → bdl q (crs F L W) := by
  intro W
  induction W with
  | nil => exact fun L h _ => h
  | cons w W ih => exact fun L h k => ih _ (addA_bd _ _ h (uni_bd (bdl_cons k).1 hF)) (bdl_cons k).2
/-! no more than 70: the 256 sets in 70 chains -/
def ch_L : List (List Nat) := [[0, 1, 3, 7, 15, 31, 63, 127, 255], [2, 6, 14, 30, 62, 126, 254], [4, 5, 13, 29, 61, 125, 253], [8, 9, 11, 27, 59, 123, 251], [10, 26, 58, 122, 250], [12, 28, 60, 124, 252], [16, 17, 19, 23, 55, 119, 247], [18, 22, 54, 118, 246], [20, 21, 53, 117, 245], [24, 25, 57, 121, 249], [32, 33, 35, 39, 47, 111, 239], [34, 38, 46, 110, 238], [36, 37, 45, 109, 237], [40, 41, 43, 107, 235], [42, 106, 234], [44, 108, 236], [48, 49, 51, 115, 243], [50, 114, 242], [52, 116, 244], [56, 120, 248], [64, 65, 67, 71, 79, 95, 223], [66, 70, 78, 94, 222], [68, 69, 77, 93, 221], [72, 73, 75, 91, 219], [74, 90, 218], [76, 92, 220], [80, 81, 83, 87, 215], [82, 86, 214], [84, 85, 213], [88, 89, 217], [96, 97, 99, 103, 231], [98, 102, 230], [100, 101, 229], [104, 105, 233], [112, 113, 241], [128, 129, 131, 135, 143, 159, 191], [130, 134, 142, 158, 190], [132, 133, 141, 157, 189], [136, 137, 139, 155, 187], [138, 154, 186], [140, 156, 188], [144, 145, 147, 151, 183], [146, 150, 182], [148, 149, 181], [152, 153, 185], [160, 161, 163, 167, 175], [162, 166, 174], [164, 165, 173], [168, 169, 171], [170], [172], [176, 177, 179], [178], [180], [184], [192, 193, 195, 199, 207], [194, 198, 206], [196, 197, 205], [200, 201, 203], [202], [204], [208, 209, 211], [210], [212], [216], [224, 225, 227], [226], [228], [232], [240]]
def ch_i (x : Nat) : Nat := ch_L.findIdx (fun l => l.any (fun y => y == x))
theorem ch_mem : ∀ x, x < 256 → (ch_i x < 70 ∧ ((ch_L.getD (ch_i x) []).any (fun y => y == x)) = true) := by decide +kernel
theorem ch_cmp : ∀ i, i < 70 → ((ch_L.getD i []).all (fun x => (ch_L.getD i []).all (fun y => decide (df x y = 0) || decide (df y x = 0)))) = true := by decide +kernel
theorem ch_ne {x y : Nat} (hx : x < 256) (hy : y < 256) (h : icp x y) : ch_i x ≠ ch_i y := by
  intro e
  obtain ⟨hi, mx⟩ := ch_mem x hx
  obtain ⟨_, my⟩ := ch_mem y hy
  rw [← e] at my
  obtain ⟨x', ax, bx⟩ := List.any_eq_true.mp mx
  obtain ⟨y', ay, by'⟩ := List.any_eq_true.mp my
  have ex : x' = x := eq_of_beq bx
  have ey : y' = y := eq_of_beq by'
  rw [ex] at ax
  rw [ey] at ay
  have t := List.all_eq_true.mp (List.all_eq_true.mp (ch_cmp _ hi) x ax) y ay
  rcases (Bool.or_eq_true _ _).mp t with z | z
  · exact h.1 (df_0.mp (of_decide_eq_true z))
  · exact h.2 (df_0.mp (of_decide_eq_true z))
theorem ac_70 {L : List Nat} (h : AC L) (hb : ∀ m, m ∈ L → m < 256) : L.length ≤ 70 := by
  have h1 : (L.map ch_i).Nodup := by
    rw [List.nodup_iff_pairwise_ne, List.pairwise_map]
    exact List.Pairwise.imp_of_mem (fun {a b} ha hb' k => ch_ne (hb a ha) (hb b hb') k) h
  have h2 : L.map ch_i ⊆ List.range 70 := by
    intro x hx
    obtain ⟨m, hm, rfl⟩ := List.mem_map.mp hx
    exact List.mem_range.mpr (ch_mem m (hb m hm)).1
  have t := List.Nodup.length_le_of_subset h1 h2
  rw [List.length_map, List.length_range] at t
  exact t
theorem bdl_256 {q : Nat} {L : List Nat} (hq : q ≤ 8) (h : bdl q L) : ∀ m, m ∈ L → m < 256 := fun m hm =>
  Nat.lt_of_lt_of_le (h m hm) (Nat.pow_le_pow_right (by decide) hq)
theorem ac_len {q : Nat} {L : List Nat} (hq : q ≤ 8) (h : AC L) (hb : bdl q L) : L.length ≤ 70 := ac_70 h (bdl_256 hq hb)
/-! lists in arrays -/
def sg (a : Nat → Int32) : Nat → List Nat → Prop
  | _, [] => True
  | o, x :: L => a o = nI x ∧ sg a (o + 1) L
theorem sg_ext {a b : Nat → Int32} : ∀ (L : List Nat) (o : Nat), (∀ j, o ≤ j → j < o + L.length → b j = a j) → sg a o L → sg b o L := by
  intro L
  induction L with
  | nil => exact fun _ _ _ => trivial
  | cons x L ih =>
    intro o h s
    have e : (x :: L).length = L.length + 1 := rfl
    exact ⟨(h o (Nat.le_refl _) (by omega)).trans s.1, ih (o + 1) (fun j h1 h2 => h j (by omega) (by omega)) s.2⟩
theorem sg_upd {a : Nat → Int32} {k : Nat} {v : Int32} {L : List Nat} {o : Nat} (h : k < o ∨ o + L.length ≤ k) (s : sg a o L) : sg (upd a k v) o L :=
  sg_ext L o (fun j h1 h2 => pk_un (by omega)) s
theorem sg_app {a : Nat → Int32} : ∀ (K : List Nat) (L : List Nat) (o : Nat), sg a o (K ++ L) ↔ sg a o K ∧ sg a (o + K.length) L := by
  intro K
  induction K with
  | nil => exact fun L o => ⟨fun h => ⟨trivial, h⟩, fun h => h.2⟩
  | cons x K ih =>
    intro L o
    have e : o + (x :: K).length = o + 1 + K.length := by
      rw [List.length_cons]
      omega
    rw [e]
    show a o = nI x ∧ sg a (o + 1) (K ++ L) ↔ (a o = nI x ∧ sg a (o + 1) K) ∧ _
    rw [ih, and_assoc]
theorem sg_one {a : Nat → Int32} {o x : Nat} : sg a o [x] ↔ a o = nI x := ⟨fun h => h.1, fun h => ⟨h, trivial⟩⟩
/-- one more at the end -/
theorem sg_put {a : Nat → Int32} {K : List Nat} {o k m : Nat} {v : Int32} (hk : k = o + K.length) (hv : v = nI m) (s : sg a o K) : sg (upd a k v) o (K ++ [m]) := by
  subst hk hv
  exact (sg_app K [m] o).mpr ⟨sg_upd (Or.inr (Nat.le_refl _)) s, sg_one.mpr pk_us⟩
end
section
/-! ===== the component's small walks: sizeOf, reach, addNext, nextToWork ===== -/
theorem ag_ix (f j : Nat) : (nI f * 72) + nI j = nI (f * 72 + j) := by
  rw [show (72 : Int32) = nI 72 from rfl, pk_mul, nI_add]
theorem nI_bI (a : Nat) (b : Bool) : nI a + bI b = nI (a + (if b = true then 1 else 0)) := by
  cases b
  · exact Int32.add_zero _
  · exact nI_1 a
section
variable {f_givenSet f_count f_goal f_indices f_ready f_workSize f_nextSize f_byCount f_bestCost f_bestSet f_stacked : Int32} {a_price a_needs a_yield a_factAt a_size a_family a_work a_next a_chosen a_barred : Nat → Int32}
theorem xs_size {post : Int32 → Prop} {G : Nat} (h : post (nI (cst on1 G 12))) : wpX_sizeOf post (f_givenSet, f_count, f_goal, f_indices, f_ready, f_workSize, f_nextSize, f_byCount, f_bestCost, f_bestSet, f_stacked, a_price, a_needs, a_yield, a_factAt, a_size, a_family, a_work, a_next, a_chosen, a_barred) (nI G) := by
  refine loop_0 (fun n i s => wX_sizeOf_4 post (nI G) f_givenSet f_count f_goal f_indices f_ready f_workSize f_nextSize f_byCount f_bestCost f_bestSet f_stacked a_price a_needs a_yield a_factAt a_size a_family a_work a_next a_chosen a_barred n s (nI i)) (fun i s => s = nI (cst on1 G i)) 12 0 rfl ?_ ?_
  · intro n s e
    subst e
    exact br_t (nI_le (Nat.le_refl 12) (by decide)) h
  · intro n i s hi e k
    subst e
    refine br_f (nI_ge (b := 12) hi (by decide)) (nm_r (e' := nI (cst on1 G (i + 1))) ?_ (nm_r (nI_1 i) (k _ rfl)))
    rw [ag_sh G i (by omega), nI_bI]
    rfl
variable {nd yl : Nat → Nat}
theorem xr_in {post : Int32 → Prop} {J : Int32 → Int32 → Prop} {s r c : Nat} (hn : ∀ k, a_needs k = nI (nd k) ∧ nd k < 4096) (hy : ∀ k, a_yield k = nI (yl k) ∧ yl k < 12) (hc : c ≤ 14) (h : J (nI (rl_k nd yl s c)) (nI (r + 1))) : ∃ n, wX_reach_13 post J (nI r) f_givenSet (nI c) f_goal f_indices f_ready f_workSize f_nextSize f_byCount f_bestCost f_bestSet f_stacked a_price a_needs a_yield a_factAt a_size a_family a_work a_next a_chosen a_barred n (nI s) 0 := by
  refine loop_0 (fun n i s => wX_reach_13 post J (nI r) f_givenSet (nI c) f_goal f_indices f_ready f_workSize f_nextSize f_byCount f_bestCost f_bestSet f_stacked a_price a_needs a_yield a_factAt a_size a_family a_work a_next a_chosen a_barred n s (nI i)) (fun i s' => s' = nI (rl_k nd yl s i)) c (nI s) rfl ?_ ?_
  · intro n s e
    subst e
    exact br_t (nI_le (Nat.le_refl c) (by omega)) (nm_r (nI_1 r) h)
  · intro n i s' hi e k
    subst e
    refine br_f (nI_ge hi (by omega)) ⟨vp_in_nI (by omega) (by decide), ?_⟩
    rw [nI_clamp (show i < 2 ^ 31 by omega), (hn i).1, (hy i).1]
    by_cases d : sbs (nd i) (rl_k nd yl s i)
    · refine br_t ((ag_sub (by have := (hn i).2; omega)).mpr d) ⟨vp_in_nI (by omega) (by decide), nm_r (e' := nI (rl_k nd yl s (i + 1))) ?_ (nm_r (nI_1 i) (k _ rfl))⟩
      rw [ag_1 _ (by have := (hy i).2; omega), ag_or]
      show _ = nI (rl_st nd yl (rl_k nd yl s i) i)
      rw [rl_st, if_pos (df_0.mpr d)]
    · refine br_f (fun z => d ((ag_sub (by have := (hn i).2; omega)).mp z)) (nm_r (nI_1 i) (k _ ?_))
      show _ = nI (rl_st nd yl (rl_k nd yl s i) i)
      rw [rl_st, if_neg (fun z => d (df_0.mp z))]
theorem xr {post : Int32 → Prop} {s c : Nat} (hn : ∀ k, a_needs k = nI (nd k) ∧ nd k < 4096) (hy : ∀ k, a_yield k = nI (yl k) ∧ yl k < 12) (hc : c ≤ 14) (h : post (nI (rch nd yl c s))) : wpX_reach post (f_givenSet, nI c, f_goal, f_indices, f_ready, f_workSize, f_nextSize, f_byCount, f_bestCost, f_bestSet, f_stacked, a_price, a_needs, a_yield, a_factAt, a_size, a_family, a_work, a_next, a_chosen, a_barred) (nI s) := by
  refine loop_0 (fun n i s => wX_reach_4 post f_givenSet (nI c) f_goal f_indices f_ready f_workSize f_nextSize f_byCount f_bestCost f_bestSet f_stacked a_price a_needs a_yield a_factAt a_size a_family a_work a_next a_chosen a_barred n s (nI i)) (fun i s' => s' = nI (rl_it nd yl c s i)) 12 (nI s) rfl ?_ ?_
  · intro n s e
    subst e
    exact br_t (nI_le (Nat.le_refl 12) (by decide)) h
  · intro n i s' hi e k
    subst e
    exact br_f (nI_ge (b := 12) hi (by decide)) (xr_in hn hy hc (k _ rfl))
/-! addNext -/
theorem xa_34 {post : SX → Prop} {s N : Nat} (hs : s < 256) (hN : N ≤ 70) : ∀ (R K : List Nat) (i n : Nat) (a_next : Nat → Int32), K.length ≤ i → i + R.length = N → K.length + (flt s R).length + 1 ≤ 70 → sg a_next 0 K → sg a_next i R → R.length < n → (∀ a', sg a' 0 (K ++ (flt s R ++ [s])) → post (f_givenSet, f_count, f_goal, f_indices, f_ready, f_workSize, nI (K.length + (flt s R).length + 1), f_byCount, f_bestCost, f_bestSet, f_stacked, a_price, a_needs, a_yield, a_factAt, a_size, a_family, a_work, a', a_chosen, a_barred)) → wX_addNext_34 post (nI s) f_givenSet f_count f_goal f_indices f_ready f_workSize (nI N) f_byCount f_bestCost f_bestSet f_stacked n (nI K.length) (nI i) a_price a_needs a_yield a_factAt a_size a_family a_work a_next a_chosen a_barred := by
  intro R
  induction R with
  | nil =>
    intro K i n a_next hK hi hL sK sR hn J
    obtain ⟨n, rfl⟩ : ∃ m, n = m + 1 := ⟨n - 1, by omega⟩
    rw [flt_nil, List.length_nil] at hL J
    rw [List.length_nil] at hi
    refine pk_le N i (fun _ => ?_) (fun z => absurd z (by omega))
    refine br_f (nI_ge (b := 70) (by omega) (by decide)) ⟨vp_in_nI (by omega) (by decide), nm_r (e' := upd a_next K.length (nI s)) (by rw [nI_clamp (by omega)]) (nm_r (nI_1 _) ?_)⟩
    exact J _ (sg_put (Nat.zero_add _).symm rfl sK)
  | cons m R ih =>
    intro K i n a_next hK hi hL sK sR hn J
    obtain ⟨n, rfl⟩ : ∃ m, n = m + 1 := ⟨n - 1, by omega⟩
    rw [List.length_cons] at hi hn
    refine pk_le N i (fun z => absurd z (by omega)) (fun _ => ⟨vp_in_nI (by omega) (by decide), ?_⟩)
    rw [nI_clamp (show i < 2 ^ 31 by omega), sR.1]
    by_cases c : sbs s m
    · rw [flt_skip R c] at hL J
      exact br_t ((ag_sub (by omega)).mpr c) (nm_r (nI_1 i) (ih K (i + 1) n a_next (by omega) (by omega) hL sK sR.2 (by omega) J))
    · rw [flt_keep R c] at hL J
      rw [List.length_cons] at hL J
      refine br_f (fun z => c ((ag_sub (by omega)).mp z)) ⟨vp_in_nI (by omega) (by decide), vp_in_nI (by omega) (by decide), nm_r (e' := upd a_next K.length (nI m)) (by rw [nI_clamp (by omega)]) (nm_r (nI_1 _) (nm_r (nI_1 i) ?_))⟩
      have e : (K ++ [m]).length = K.length + 1 := by rw [List.length_append]; rfl
      have t := ih (K ++ [m]) (i + 1) n (upd a_next K.length (nI m)) (by omega) (by omega) (by omega) (sg_put (Nat.zero_add _).symm rfl sK) (sg_upd (Or.inl (by omega)) sR.2) (by omega) (fun a' s' => by
        rw [List.append_assoc] at s'
        have q := J a' s'
        rw [e, show K.length + 1 + (flt s R).length + 1 = K.length + ((flt s R).length + 1) + 1 by omega]
        exact q)
      rw [e] at t
      exact t
theorem xa_2 {post : SX → Prop} {s N : Nat} (hs : s < 256) (hN : N ≤ 70) : ∀ (R : List Nat) (i n : Nat), i + R.length = N → (∀ m, m ∈ R → m < 256) → sg a_next i R → R.length < n → (cov R s → post (f_givenSet, f_count, f_goal, f_indices, f_ready, f_workSize, nI N, f_byCount, f_bestCost, f_bestSet, f_stacked, a_price, a_needs, a_yield, a_factAt, a_size, a_family, a_work, a_next, a_chosen, a_barred)) → (¬ cov R s → ∃ n34 : Nat, wX_addNext_34 post (nI s) f_givenSet f_count f_goal f_indices f_ready f_workSize (nI N) f_byCount f_bestCost f_bestSet f_stacked n34 0 0 a_price a_needs a_yield a_factAt a_size a_family a_work a_next a_chosen a_barred) → wX_addNext_2 post (nI s) f_givenSet f_count f_goal f_indices f_ready f_workSize (nI N) f_byCount f_bestCost f_bestSet f_stacked a_price a_needs a_yield a_factAt a_size a_family a_work a_next a_chosen a_barred n (nI i) := by
  intro R
  induction R with
  | nil =>
    intro i n hi hb sR hn H1 H2
    obtain ⟨n, rfl⟩ : ∃ m, n = m + 1 := ⟨n - 1, by omega⟩
    rw [List.length_nil] at hi
    exact pk_le N i (fun _ => H2 (cov_nil s)) (fun z => absurd z (by omega))
  | cons m R ih =>
    intro i n hi hb sR hn H1 H2
    obtain ⟨n, rfl⟩ : ∃ m, n = m + 1 := ⟨n - 1, by omega⟩
    rw [List.length_cons] at hi hn
    have hm := hb m List.mem_cons_self
    refine pk_le N i (fun z => absurd z (by omega)) (fun _ => ⟨vp_in_nI (by omega) (by decide), ?_⟩)
    rw [nI_clamp (show i < 2 ^ 31 by omega), sR.1]
    by_cases c : sbs m s
    · exact br_t ((ag_sub (by omega)).mpr c) (H1 (cov_cons.mpr (Or.inl c)))
    · exact br_f (fun z => c ((ag_sub (by omega)).mp z)) (nm_r (nI_1 i) (ih (i + 1) n (by omega) (fun m hm => hb m (List.mem_cons_of_mem _ hm)) sR.2 (by omega) (fun z => H1 (cov_cons.mpr (Or.inr z))) (fun z => H2 (fun q => (cov_cons.mp q).elim c z))))
theorem xa {post : SX → Prop} {q s : Nat} {L : List Nat} (hq : q ≤ 8) (hA : AC L) (hb : bdl q L) (hs : s < 2 ^ q) (sL : sg a_next 0 L) (J : ∀ a', sg a' 0 (addN L s) → post (f_givenSet, f_count, f_goal, f_indices, f_ready, f_workSize, nI (addN L s).length, f_byCount, f_bestCost, f_bestSet, f_stacked, a_price, a_needs, a_yield, a_factAt, a_size, a_family, a_work, a', a_chosen, a_barred)) : wpX_addNext post (f_givenSet, f_count, f_goal, f_indices, f_ready, f_workSize, nI L.length, f_byCount, f_bestCost, f_bestSet, f_stacked, a_price, a_needs, a_yield, a_factAt, a_size, a_family, a_work, a_next, a_chosen, a_barred) (nI s) := by
  have hs' : s < 256 := Nat.lt_of_lt_of_le hs (Nat.pow_le_pow_right (by decide) hq)
  have l1 : L.length ≤ 70 := ac_len hq hA hb
  have l2 : (addN L s).length ≤ 70 := ac_len hq (addN_AC hA) (addN_bd hb hs)
  refine ⟨L.length + 1, xa_2 hs' l1 L 0 _ (Nat.zero_add _) (bdl_256 hq hb) sL (Nat.lt_succ_self _) (fun c => ?_) (fun c => ⟨L.length + 1, ?_⟩)⟩
  · rw [addN_t c] at J
    exact J a_next sL
  · rw [addN_f c] at J l2
    have e : (flt s L ++ [s]).length = 0 + (flt s L).length + 1 := by
      rw [List.length_append, Nat.zero_add]
      rfl
    rw [e] at J l2
    exact xa_34 hs' l1 L [] 0 _ a_next (Nat.le_refl _) (Nat.zero_add _) l2 trivial sL (Nat.lt_succ_self _) J
/-! nextToWork -/
theorem xw_10 {post : SX → Prop} {N : Nat} (hN : N ≤ 70) : ∀ (R K : List Nat) (i n : Nat) (a_work : Nat → Int32), K.length = i → i + R.length = N → sg a_work 0 K → sg a_next i R → R.length < n → (∀ a', sg a' 0 (K ++ R) → post (f_givenSet, f_count, f_goal, f_indices, f_ready, f_workSize, 0, f_byCount, f_bestCost, f_bestSet, f_stacked, a_price, a_needs, a_yield, a_factAt, a_size, a_family, a', a_next, a_chosen, a_barred)) → wX_nextToWork_10 post f_givenSet f_count f_goal f_indices f_ready f_workSize (nI N) f_byCount f_bestCost f_bestSet f_stacked n (nI i) a_price a_needs a_yield a_factAt a_size a_family a_work a_next a_chosen a_barred := by
  intro R
  induction R with
  | nil =>
    intro K i n a_work hK hi sK sR hn J
    obtain ⟨n, rfl⟩ : ∃ m, n = m + 1 := ⟨n - 1, by omega⟩
    rw [List.length_nil] at hi
    rw [List.append_nil] at J
    exact pk_le N i (fun _ => J a_work sK) (fun z => absurd z (by omega))
  | cons m R ih =>
    intro K i n a_work hK hi sK sR hn J
    obtain ⟨n, rfl⟩ : ∃ m, n = m + 1 := ⟨n - 1, by omega⟩
    rw [List.length_cons] at hi hn
    have e : (K ++ [m]).length = i + 1 := by rw [List.length_append, hK]; rfl
    refine pk_le N i (fun z => absurd z (by omega)) (fun _ => ⟨vp_in_nI (by omega) (by decide), vp_in_nI (by omega) (by decide), nm_r (e' := upd a_work i (nI m)) (by rw [nI_clamp (show i < 2 ^ 31 by omega), sR.1]) (nm_r (nI_1 i) ?_)⟩)
    exact ih (K ++ [m]) (i + 1) n (upd a_work i (nI m)) e (by omega) (sg_put (by omega) rfl sK) sR.2 (by omega) (fun a' s' => J a' (by rw [List.append_assoc] at s'; exact s'))
theorem xw {post : SX → Prop} {L : List Nat} (hL : L.length ≤ 70) (sL : sg a_next 0 L) (J : ∀ a', sg a' 0 L → post (f_givenSet, f_count, f_goal, f_indices, f_ready, nI L.length, 0, f_byCount, f_bestCost, f_bestSet, f_stacked, a_price, a_needs, a_yield, a_factAt, a_size, a_family, a', a_next, a_chosen, a_barred)) : wpX_nextToWork post (f_givenSet, f_count, f_goal, f_indices, f_ready, f_workSize, nI L.length, f_byCount, f_bestCost, f_bestSet, f_stacked, a_price, a_needs, a_yield, a_factAt, a_size, a_family, a_work, a_next, a_chosen, a_barred) :=
  ⟨L.length + 1, xw_10 hL L [] 0 _ a_work rfl (Nat.zero_add _) trivial sL (Nat.lt_succ_self _) J⟩
end
end
section
/-! ===== the component's families: cross, covers, merge, fire ===== -/
section
variable {f_givenSet f_count f_goal f_indices f_ready f_workSize f_nextSize f_byCount f_bestCost f_bestSet f_stacked : Int32} {a_price a_needs a_yield a_factAt a_size a_family a_work a_next a_chosen a_barred : Nat → Int32}
theorem xc_17 {post : SX → Prop} {J7 : Int32 → Int32 → Int32 → Int32 → Int32 → Int32 → Int32 → Int32 → Int32 → Int32 → Int32 → Int32 → (Nat → Int32) → (Nat → Int32) → (Nat → Int32) → (Nat → Int32) → (Nat → Int32) → (Nat → Int32) → (Nat → Int32) → (Nat → Int32) → (Nat → Int32) → (Nat → Int32) → Prop} {q f i w N : Nat} (hq : q ≤ 8) (hf : f < 12) (hi : i < 72) (hw : w < 2 ^ q) (hN : N ≤ 70) (hsz : a_size f = nI N) (hwk : a_work i = nI w) : ∀ (R : List Nat) (j n : Nat) (L : List Nat) (a_next : Nat → Int32), j + R.length = N → sg a_family (f * 72 + j) R → bdl q R → AC L → bdl q L → sg a_next 0 L → R.length < n → (∀ a', sg a' 0 (addA L (uni w R)) → J7 (nI (i + 1)) f_givenSet f_count f_goal f_indices f_ready f_workSize (nI (addA L (uni w R)).length) f_byCount f_bestCost f_bestSet f_stacked a_price a_needs a_yield a_factAt a_size a_family a_work a' a_chosen a_barred) → wX_cross_17 post J7 (nI f) (nI i) n (nI j) f_givenSet f_count f_goal f_indices f_ready f_workSize (nI L.length) f_byCount f_bestCost f_bestSet f_stacked a_price a_needs a_yield a_factAt a_size a_family a_work a_next a_chosen a_barred := by
  intro R
  induction R with
  | nil =>
    intro j n L a_next hj sR hb hA hL sL hn J
    obtain ⟨n, rfl⟩ : ∃ m, n = m + 1 := ⟨n - 1, by omega⟩
    rw [List.length_nil] at hj
    refine ⟨vp_in_nI hf (by decide), ?_⟩
    rw [nI_clamp (show f < 2 ^ 31 by omega), hsz]
    exact pk_le N j (fun _ => nm_r (nI_1 i) (J a_next sL)) (fun z => absurd z (by omega))
  | cons m R ih =>
    intro j n L a_next hj sR hb hA hL sL hn J
    obtain ⟨n, rfl⟩ : ∃ m, n = m + 1 := ⟨n - 1, by omega⟩
    rw [List.length_cons] at hj hn
    refine ⟨vp_in_nI hf (by decide), ?_⟩
    rw [nI_clamp (show f < 2 ^ 31 by omega), hsz]
    refine pk_le N j (fun z => absurd z (by omega)) (fun _ => ⟨vp_in_nI hi (by decide), ?_⟩)
    rw [ag_ix, nI_clamp (show i < 2 ^ 31 by omega), nI_clamp (show f * 72 + j < 2 ^ 31 by omega), hwk, sR.1, ag_or]
    have hm := Nat.or_lt_two_pow hw (bdl_cons hb).1
    refine ⟨vp_in_nI (by omega) (by decide), xa hq hA hL hm sL (fun a' s' => nm_r (nI_1 j) ?_)⟩
    exact ih (j + 1) n (addN L (w ||| m)) a' (by omega) sR.2 (bdl_cons hb).2 (addN_AC hA) (addN_bd hL hm) s' (by omega) J
theorem xc_7 {post : SX → Prop} {q f NW : Nat} {F : List Nat} (hq : q ≤ 8) (hf : f < 12) (hNW : NW ≤ 70) (hF : F.length ≤ 70) (hsz : a_size f = nI F.length) (sF : sg a_family (f * 72) F) (bF : bdl q F) : ∀ (R : List Nat) (i n : Nat) (L : List Nat) (a_next : Nat → Int32), i + R.length = NW → sg a_work i R → bdl q R → AC L → bdl q L → sg a_next 0 L → R.length < n → (∀ aw an, sg aw 0 (crs F L R) → post (f_givenSet, f_count, f_goal, f_indices, f_ready, nI (crs F L R).length, 0, f_byCount, f_bestCost, f_bestSet, f_stacked, a_price, a_needs, a_yield, a_factAt, a_size, a_family, aw, an, a_chosen, a_barred)) → wX_cross_7 post (nI f) n (nI i) f_givenSet f_count f_goal f_indices f_ready (nI NW) (nI L.length) f_byCount f_bestCost f_bestSet f_stacked a_price a_needs a_yield a_factAt a_size a_family a_work a_next a_chosen a_barred := by
  intro R
  induction R with
  | nil =>
    intro i n L a_next hi sR hb hA hL sL hn J
    obtain ⟨n, rfl⟩ : ∃ m, n = m + 1 := ⟨n - 1, by omega⟩
    rw [List.length_nil] at hi
    exact pk_le NW i (fun _ => xw (ac_len hq hA hL) sL (fun a' s' => J a' a_next s')) (fun z => absurd z (by omega))
  | cons w R ih =>
    intro i n L a_next hi sR hb hA hL sL hn J
    obtain ⟨n, rfl⟩ : ∃ m, n = m + 1 := ⟨n - 1, by omega⟩
    rw [List.length_cons] at hi hn
    have hw := (bdl_cons hb).1
    refine pk_le NW i (fun z => absurd z (by omega)) (fun _ => ⟨F.length + 1, ?_⟩)
    refine xc_17 (q := q) (w := w) (N := F.length) hq hf (by omega) hw hF hsz sR.1 F 0 _ L a_next (Nat.zero_add _) sF bF hA hL sL (Nat.lt_succ_self _) (fun a' s' => ?_)
    exact ih (i + 1) n (addA L (uni w F)) a' (by omega) sR.2 (bdl_cons hb).2 (addA_AC _ _ hA) (addA_bd _ _ hL (uni_bd hw bF)) s' (by omega) J
theorem xc {post : SX → Prop} {q f : Nat} {F W : List Nat} (hq : q ≤ 8) (hf : f < 12) (hW : W.length ≤ 70) (hF : F.length ≤ 70) (hsz : a_size f = nI F.length) (sF : sg a_family (f * 72) F) (bF : bdl q F) (sW : sg a_work 0 W) (bW : bdl q W) (J : ∀ aw an, sg aw 0 (crs F [] W) → post (f_givenSet, f_count, f_goal, f_indices, f_ready, nI (crs F [] W).length, 0, f_byCount, f_bestCost, f_bestSet, f_stacked, a_price, a_needs, a_yield, a_factAt, a_size, a_family, aw, an, a_chosen, a_barred)) : wpX_cross post (f_givenSet, f_count, f_goal, f_indices, f_ready, nI W.length, f_nextSize, f_byCount, f_bestCost, f_bestSet, f_stacked, a_price, a_needs, a_yield, a_factAt, a_size, a_family, a_work, a_next, a_chosen, a_barred) (nI f) :=
  ⟨W.length + 1, xc_7 hq hf hW hF hsz sF bF W 0 _ [] a_next (Nat.zero_add _) sW bW AC_nil (bdl_nil q) trivial (Nat.lt_succ_self _) J⟩
/-! covers -/
theorem cvb_cons (m : Nat) (R : List Nat) (s : Nat) : cvb (m :: R) s = (decide (df m s = 0) || cvb R s) := rfl
theorem xv_5 {post : Int32 → Prop} {f s N : Nat} (hf : f < 12) (hN : N ≤ 70) (hsz : a_size f = nI N) : ∀ (R : List Nat) (j n : Nat) (b : Bool), j + R.length = N → sg a_family (f * 72 + j) R → bdl 8 R → R.length < n → post (bI (b || cvb R s)) → wX_covers_5 post (nI f) (nI s) f_givenSet f_count f_goal f_indices f_ready f_workSize f_nextSize f_byCount f_bestCost f_bestSet f_stacked a_price a_needs a_yield a_factAt a_size a_family a_work a_next a_chosen a_barred n (bI b) (nI j) := by
  intro R
  induction R with
  | nil =>
    intro j n b hj sR hb hn J
    obtain ⟨n, rfl⟩ : ∃ m, n = m + 1 := ⟨n - 1, by omega⟩
    rw [List.length_nil] at hj
    refine ⟨vp_in_nI hf (by decide), ?_⟩
    rw [nI_clamp (show f < 2 ^ 31 by omega), hsz]
    have e : (b || cvb [] s) = b := Bool.or_false b
    rw [e] at J
    exact pk_le N j (fun _ => ⟨bI_n b, J⟩) (fun z => absurd z (by omega))
  | cons m R ih =>
    intro j n b hj sR hb hn J
    obtain ⟨n, rfl⟩ : ∃ m, n = m + 1 := ⟨n - 1, by omega⟩
    rw [List.length_cons] at hj hn
    have hm : m < 256 := (bdl_cons hb).1
    refine ⟨vp_in_nI hf (by decide), ?_⟩
    rw [nI_clamp (show f < 2 ^ 31 by omega), hsz]
    refine pk_le N j (fun z => absurd z (by omega)) (fun _ => ?_)
    rw [ag_ix, nI_clamp (show f * 72 + j < 2 ^ 31 by omega), sR.1]
    rw [cvb_cons] at J
    cases b
    · refine br_t rfl ⟨vp_in_nI (by omega) (by decide), ?_⟩
      by_cases c : sbs m s
      · rw [decide_eq_true (df_0.mpr c)] at J
        exact br_t ((ag_sub (by omega)).mpr c) (nm_r (nI_1 j) (ih (j + 1) n true (by omega) sR.2 (bdl_cons hb).2 (by omega) J))
      · rw [decide_eq_false (fun z => c (df_0.mp z))] at J
        exact br_f (fun z => c ((ag_sub (by omega)).mp z)) (nm_r (nI_1 j) (ih (j + 1) n false (by omega) sR.2 (bdl_cons hb).2 (by omega) J))
    · exact br_f (by decide) (nm_r (nI_1 j) (ih (j + 1) n true (by omega) sR.2 (bdl_cons hb).2 (by omega) J))
theorem xv {post : Int32 → Prop} {f s : Nat} {F : List Nat} (hf : f < 12) (hF : F.length ≤ 70) (hsz : a_size f = nI F.length) (sF : sg a_family (f * 72) F) (bF : bdl 8 F) (J : post (bI (cvb F s))) : wpX_covers post (f_givenSet, f_count, f_goal, f_indices, f_ready, f_workSize, f_nextSize, f_byCount, f_bestCost, f_bestSet, f_stacked, a_price, a_needs, a_yield, a_factAt, a_size, a_family, a_work, a_next, a_chosen, a_barred) (nI f) (nI s) :=
  ⟨F.length + 1, xv_5 hf hF hsz F 0 _ false (Nat.zero_add _) sF bF (Nat.lt_succ_self _) (by rw [Bool.false_or]; exact J)⟩
/-! merge -/
theorem xm_106 {post : Int32 → SX → Prop} {f N : Nat} {b : Bool} {a0 : Nat → Int32} (hf : f < 12) (hN : N ≤ 70) : ∀ (R K : List Nat) (j n : Nat) (a_family : Nat → Int32), K.length = j → j + R.length = N → sg a_family (f * 72) K → (∀ k, k < f * 72 ∨ f * 72 + 72 ≤ k → a_family k = a0 k) → sg a_next j R → R.length < n → (∀ a', sg a' (f * 72) (K ++ R) → (∀ k, k < f * 72 ∨ f * 72 + 72 ≤ k → a' k = a0 k) → post (bI b) (f_givenSet, f_count, f_goal, f_indices, f_ready, f_workSize, 0, f_byCount, f_bestCost, f_bestSet, f_stacked, a_price, a_needs, a_yield, a_factAt, a_size, a', a_work, a_next, a_chosen, a_barred)) → wX_merge_106 post (nI f) (bI b) f_givenSet f_count f_goal f_indices f_ready f_workSize (nI N) f_byCount f_bestCost f_bestSet f_stacked n (nI j) a_price a_needs a_yield a_factAt a_size a_family a_work a_next a_chosen a_barred := by
  intro R
  induction R with
  | nil =>
    intro K j n a_family hK hj sK fr sR hn J
    obtain ⟨n, rfl⟩ : ∃ m, n = m + 1 := ⟨n - 1, by omega⟩
    rw [List.length_nil] at hj
    rw [List.append_nil] at J
    exact pk_le N j (fun _ => ⟨bI_n b, J a_family sK fr⟩) (fun z => absurd z (by omega))
  | cons m R ih =>
    intro K j n a_family hK hj sK fr sR hn J
    obtain ⟨n, rfl⟩ : ∃ m, n = m + 1 := ⟨n - 1, by omega⟩
    rw [List.length_cons] at hj hn
    have e : (K ++ [m]).length = j + 1 := by rw [List.length_append, hK]; rfl
    refine pk_le N j (fun z => absurd z (by omega)) (fun _ => ⟨vp_in_nI (by omega) (by decide), ?_⟩)
    rw [ag_ix, nI_clamp (show j < 2 ^ 31 by omega), nI_clamp (show f * 72 + j < 2 ^ 31 by omega), sR.1]
    refine ⟨vp_in_nI (by omega) (by decide), nm_e (nm_r (nI_1 j) ?_)⟩
    exact ih (K ++ [m]) (j + 1) n (upd a_family (f * 72 + j) (nI m)) e (by omega) (sg_put (by omega) rfl sK) (fun k hk => (pk_un (by omega)).trans (fr k hk)) sR.2 (by omega) (fun a' s' => J a' (by rw [List.append_assoc] at s'; exact s'))
theorem xm_42 {post : Int32 → SX → Prop} {q f NW : Nat} {F : List Nat} (hq : q ≤ 8) (hf : f < 12) (hNW : NW ≤ 70) (hF : F.length ≤ 70) (hsz : a_size f = nI F.length) (sF : sg a_family (f * 72) F) (bF : bdl q F) : ∀ (R : List Nat) (i n : Nat) (b : Bool) (L : List Nat) (a_next : Nat → Int32), i + R.length = NW → sg a_work i R → bdl q R → AC L → bdl q L → sg a_next 0 L → R.length < n → (∀ an af, sg af (f * 72) (addA L R) → (∀ k, k < f * 72 ∨ f * 72 + 72 ≤ k → af k = a_family k) → post (bI (b || R.any (fun w => !cvb F w))) (f_givenSet, f_count, f_goal, f_indices, f_ready, nI NW, 0, f_byCount, f_bestCost, f_bestSet, f_stacked, a_price, a_needs, a_yield, a_factAt, upd a_size f (nI (addA L R).length), af, a_work, an, a_chosen, a_barred)) → wX_merge_42 post (nI f) n (bI b) (nI i) f_givenSet f_count f_goal f_indices f_ready (nI NW) (nI L.length) f_byCount f_bestCost f_bestSet f_stacked a_price a_needs a_yield a_factAt a_size a_family a_work a_next a_chosen a_barred := by
  intro R
  induction R with
  | nil =>
    intro i n b L a_next hi sR hb hA hL sL hn J
    obtain ⟨n, rfl⟩ : ∃ m, n = m + 1 := ⟨n - 1, by omega⟩
    rw [List.length_nil] at hi
    have e : (b || ([] : List Nat).any (fun w => !cvb F w)) = b := Bool.or_false b
    rw [e] at J
    have lL : L.length ≤ 70 := ac_len hq hA hL
    refine pk_le NW i (fun _ => ⟨vp_in_nI hf (by decide), nm_r (e' := upd a_size f (nI L.length)) (by rw [nI_clamp (show f < 2 ^ 31 by omega)]) ⟨L.length + 1, ?_⟩⟩) (fun z => absurd z (by omega))
    exact xm_106 (a0 := a_family) hf lL L [] 0 _ a_family rfl (Nat.zero_add _) trivial (fun _ _ => rfl) sL (Nat.lt_succ_self _) (fun a' s' fr => J a_next a' s' fr)
  | cons w R ih =>
    intro i n b L a_next hi sR hb hA hL sL hn J
    obtain ⟨n, rfl⟩ : ∃ m, n = m + 1 := ⟨n - 1, by omega⟩
    rw [List.length_cons] at hi hn
    have hw := (bdl_cons hb).1
    have e : (b || (w :: R).any (fun w => !cvb F w)) = ((b || !cvb F w) || R.any (fun w => !cvb F w)) := by
      rw [List.any_cons, Bool.or_assoc]
    rw [e] at J
    have go : ∀ b' : Bool, (b || !cvb F w) = b' → wX_merge_77 post (wX_merge_42 post (nI f) n) (nI f) (nI i) (bI b') f_givenSet f_count f_goal f_indices f_ready (nI NW) (nI L.length) f_byCount f_bestCost f_bestSet f_stacked a_price a_needs a_yield a_factAt a_size a_family a_work a_next a_chosen a_barred := by
      intro b' eb
      rw [eb] at J
      refine ⟨vp_in_nI (by omega) (by decide), ?_⟩
      rw [nI_clamp (show i < 2 ^ 31 by omega), sR.1]
      exact xa hq hA hL hw sL (fun a' s' => nm_r (nI_1 i) (ih (i + 1) n b' (addN L w) a' (by omega) sR.2 (bdl_cons hb).2 (addN_AC hA) (addN_bd hL hw) s' (by omega) J))
    refine pk_le NW i (fun z => absurd z (by omega)) (fun _ => ⟨vp_in_nI (by omega) (by decide), ?_⟩)
    rw [nI_clamp (show i < 2 ^ 31 by omega), sR.1]
    refine xv hf hF hsz sF (bdl_256 hq bF) ?_
    cases b
    · refine br_t rfl ?_
      cases c : cvb F w
      · exact br_t rfl (go true (by rw [c]; rfl))
      · exact br_f (by decide) (go false (by rw [c]; rfl))
    · exact br_f (by decide) (go true (Bool.true_or _))
theorem xm_7 {post : Int32 → SX → Prop} {q f : Nat} {F W : List Nat} (hq : q ≤ 8) (hf : f < 12) (hW : W.length ≤ 70) (hF : F.length ≤ 70) (hsz : a_size f = nI F.length) (sF : sg a_family (f * 72) F) (bF : bdl q F) (sW : sg a_work 0 W) (bW : bdl q W) : ∀ (R : List Nat) (j n : Nat) (L : List Nat) (a_next : Nat → Int32), j + R.length = F.length → sg a_family (f * 72 + j) R → bdl q R → AC L → bdl q L → sg a_next 0 L → R.length < n → (∀ an af, sg af (f * 72) (addA (addA L R) W) → (∀ k, k < f * 72 ∨ f * 72 + 72 ≤ k → af k = a_family k) → post (bI (W.any (fun w => !cvb F w))) (f_givenSet, f_count, f_goal, f_indices, f_ready, nI W.length, 0, f_byCount, f_bestCost, f_bestSet, f_stacked, a_price, a_needs, a_yield, a_factAt, upd a_size f (nI (addA (addA L R) W).length), af, a_work, an, a_chosen, a_barred)) → wX_merge_7 post (nI f) n (nI j) f_givenSet f_count f_goal f_indices f_ready (nI W.length) (nI L.length) f_byCount f_bestCost f_bestSet f_stacked a_price a_needs a_yield a_factAt a_size a_family a_work a_next a_chosen a_barred := by
  intro R
  induction R with
  | nil =>
    intro j n L a_next hj sR hb hA hL sL hn J
    obtain ⟨n, rfl⟩ : ∃ m, n = m + 1 := ⟨n - 1, by omega⟩
    rw [List.length_nil] at hj
    refine ⟨vp_in_nI hf (by decide), ?_⟩
    rw [nI_clamp (show f < 2 ^ 31 by omega), hsz]
    refine pk_le F.length j (fun _ => ⟨W.length + 1, ?_⟩) (fun z => absurd z (by omega))
    exact xm_42 hq hf hW hF hsz sF bF W 0 _ false L a_next (Nat.zero_add _) sW bW hA hL sL (Nat.lt_succ_self _) (by rw [Bool.false_or]; exact J)
  | cons m R ih =>
    intro j n L a_next hj sR hb hA hL sL hn J
    obtain ⟨n, rfl⟩ : ∃ m, n = m + 1 := ⟨n - 1, by omega⟩
    rw [List.length_cons] at hj hn
    have hm := (bdl_cons hb).1
    refine ⟨vp_in_nI hf (by decide), ?_⟩
    rw [nI_clamp (show f < 2 ^ 31 by omega), hsz]
    refine pk_le F.length j (fun z => absurd z (by omega)) (fun _ => ?_)
    rw [ag_ix, nI_clamp (show f * 72 + j < 2 ^ 31 by omega), sR.1]
    refine ⟨vp_in_nI (by omega) (by decide), xa hq hA hL hm sL (fun a' s' => nm_r (nI_1 j) ?_)⟩
    exact ih (j + 1) n (addN L m) a' (by omega) sR.2 (bdl_cons hb).2 (addN_AC hA) (addN_bd hL hm) s' (by omega) J
def mrg (F W : List Nat) : List Nat := addA (addA [] F) W
theorem xm {post : Int32 → SX → Prop} {q f : Nat} {F W : List Nat} (hq : q ≤ 8) (hf : f < 12) (hW : W.length ≤ 70) (hF : F.length ≤ 70) (hsz : a_size f = nI F.length) (sF : sg a_family (f * 72) F) (bF : bdl q F) (sW : sg a_work 0 W) (bW : bdl q W) (J : ∀ an af, sg af (f * 72) (mrg F W) → (∀ k, k < f * 72 ∨ f * 72 + 72 ≤ k → af k = a_family k) → post (bI (W.any (fun w => !cvb F w))) (f_givenSet, f_count, f_goal, f_indices, f_ready, nI W.length, 0, f_byCount, f_bestCost, f_bestSet, f_stacked, a_price, a_needs, a_yield, a_factAt, upd a_size f (nI (mrg F W).length), af, a_work, an, a_chosen, a_barred)) : wpX_merge post (f_givenSet, f_count, f_goal, f_indices, f_ready, nI W.length, f_nextSize, f_byCount, f_bestCost, f_bestSet, f_stacked, a_price, a_needs, a_yield, a_factAt, a_size, a_family, a_work, a_next, a_chosen, a_barred) (nI f) :=
  ⟨F.length + 1, xm_7 hq hf hW hF hsz sF bF sW bW F 0 _ [] a_next (Nat.zero_add _) sF bF AC_nil (bdl_nil q) trivial (Nat.lt_succ_self _) J⟩
end
end
section
/-! ===== fire and prepare ===== -/
def FE (q : Nat) (Fm : Nat → List Nat) (aS aF : Nat → Int32) : Prop := ∀ f, f < 12 → aS f = nI (Fm f).length ∧ sg aF (f * 72) (Fm f) ∧ AC (Fm f) ∧ bdl q (Fm f)
theorem mrg_cov {F W : List Nat} {T : Nat} : cov (mrg F W) T ↔ cov F T ∨ cov W T := by
  unfold mrg
  rw [addA_cov, addA_cov]
  exact ⟨fun z => z.imp (fun z => z.elim (fun z => absurd z (cov_nil T)) id) id, fun z => z.imp Or.inr id⟩
theorem mrg_same {F W : List Nat} {T : Nat} (h : W.any (fun w => !cvb F w) = false) (k : cov W T) : cov F T := by
  obtain ⟨w, a, b⟩ := k
  have t := List.any_eq_false.mp h w a
  cases c : cvb F w
  · rw [c] at t
    exact absurd rfl t
  · exact cov_up b (cvb_t.mp c)
theorem FE_put {q y : Nat} {Fm : Nat → List Nat} {aS aF af : Nat → Int32} {L : List Nat} (hq : q ≤ 8) (hy : y < 12) (E : FE q Fm aS aF) (s : sg af (y * 72) L) (fr : ∀ k, k < y * 72 ∨ y * 72 + 72 ≤ k → af k = aF k) (hA : AC L) (hb : bdl q L) : FE q (fun g => if g = y then L else Fm g) (upd aS y (nI L.length)) af := by
  intro g hg
  by_cases e : g = y
  · subst e
    show upd aS g (nI L.length) g = nI (if g = g then L else Fm g).length ∧ sg af (g * 72) (if g = g then L else Fm g) ∧ AC (if g = g then L else Fm g) ∧ bdl q (if g = g then L else Fm g)
    rw [if_pos rfl]
    exact ⟨pk_us, s, hA, hb⟩
  · show upd aS y (nI L.length) g = nI (if g = y then L else Fm g).length ∧ sg af (g * 72) (if g = y then L else Fm g) ∧ AC (if g = y then L else Fm g) ∧ bdl q (if g = y then L else Fm g)
    rw [if_neg e]
    obtain ⟨e1, e2, e3, e4⟩ := E g hg
    have l := ac_len hq e3 e4
    exact ⟨(pk_un e).trans e1, sg_ext _ _ (fun j h1 h2 => fr j (by omega)) e2, e3, e4⟩
section
variable {f_givenSet f_count f_goal f_indices f_ready f_workSize f_nextSize f_byCount f_bestCost f_bestSet f_stacked : Int32} {a_price a_needs a_yield a_factAt a_size a_family a_work a_next a_chosen a_barred : Nat → Int32}
theorem xf_14 {post : Int32 → SX → Prop} {q k m y : Nat} {Fm : Nat → List Nat} (hq : q ≤ 8) (hk : k < 14) (hnd : a_needs k = nI m) (hyl : a_yield k = nI y) (hy : y < 12) (E : FE q Fm a_size a_family) (J : ∀ (b : Bool) (Fm' : Nat → List Nat) (ws ns : Int32) (aS aF aW aN : Nat → Int32), FE q Fm' aS aF → (∀ g, g < 12 → ∀ T, (cov (Fm' g) T ↔ cov (Fm g) T ∨ (g = y ∧ ∀ h, h < 12 → m.testBit h = true → cov (Fm h) T))) → (b = false → ∀ g, g < 12 → ∀ T, cov (Fm' g) T → cov (Fm g) T) → post (bI b) (f_givenSet, f_count, f_goal, f_indices, f_ready, ws, ns, f_byCount, f_bestCost, f_bestSet, f_stacked, a_price, a_needs, a_yield, a_factAt, aS, aF, aW, aN, a_chosen, a_barred)) : ∀ (d f n : Nat) (W : List Nat) (f_nextSize : Int32) (a_work a_next : Nat → Int32), f + d = 12 → AC W → bdl q W → sg a_work 0 W → (∀ T, (cov W T ↔ ∀ g, g < f → m.testBit g = true → cov (Fm g) T)) → d < n → wX_fire_14 post (nI k) n (nI f) f_givenSet f_count f_goal f_indices f_ready (nI W.length) f_nextSize f_byCount f_bestCost f_bestSet f_stacked a_price a_needs a_yield a_factAt a_size a_family a_work a_next a_chosen a_barred := by
  intro d
  induction d with
  | zero =>
    intro f n W f_nextSize a_work a_next hf hA hb sW cW hn
    obtain ⟨n, rfl⟩ : ∃ m, n = m + 1 := ⟨n - 1, by omega⟩
    have hf' : f = 12 := by omega
    subst hf'
    refine br_t (nI_le (Nat.le_refl 12) (by decide)) ⟨vp_in_nI hk (by decide), ?_⟩
    rw [nI_clamp (show k < 2 ^ 31 by omega), hyl]
    obtain ⟨e1, e2, e3, e4⟩ := E y hy
    refine xm hq hy (ac_len hq hA hb) (ac_len hq e3 e4) e1 e2 e4 sW hb (fun an af s fr => ⟨bI_n _, ?_⟩)
    refine J _ (fun g => if g = y then mrg (Fm y) W else Fm g) _ _ _ _ _ _ (FE_put hq hy E s fr (addA_AC _ _ (addA_AC _ _ AC_nil)) (addA_bd _ _ (addA_bd _ _ (bdl_nil q) e4) hb)) ?_ ?_
    · intro g hg T
      show cov (if g = y then mrg (Fm y) W else Fm g) T ↔ _
      by_cases e : g = y
      · subst e
        rw [if_pos rfl, mrg_cov, cW T]
        exact ⟨fun z => z.imp id (fun z => ⟨rfl, z⟩), fun z => z.imp id (fun z => z.2)⟩
      · rw [if_neg e]
        exact ⟨Or.inl, fun z => z.elim id (fun z => absurd z.1 e)⟩
    · intro hb g hg T
      show cov (if g = y then mrg (Fm y) W else Fm g) T → _
      by_cases e : g = y
      · subst e
        rw [if_pos rfl, mrg_cov]
        exact fun z => z.elim id (mrg_same hb)
      · rw [if_neg e]
        exact id
  | succ d ih =>
    intro f n W f_nextSize a_work a_next hf hA hb sW cW hn
    obtain ⟨n, rfl⟩ : ∃ m, n = m + 1 := ⟨n - 1, by omega⟩
    have hf' : f < 12 := by omega
    refine br_f (nI_ge (b := 12) hf' (by decide)) ⟨vp_in_nI hk (by decide), ?_⟩
    rw [nI_clamp (show k < 2 ^ 31 by omega), hnd]
    by_cases c : m.testBit f = true
    · obtain ⟨e1, e2, e3, e4⟩ := E f hf'
      refine br_t ((ag_t1 (by omega)).mpr c) (xc hq hf' (ac_len hq hA hb) (ac_len hq e3 e4) e1 e2 e4 sW hb (fun aw an s => nm_r (nI_1 f) ?_))
      refine ih (f + 1) n (crs (Fm f) [] W) 0 aw an (by omega) (crs_AC _ _ AC_nil) (crs_bd e4 _ _ (bdl_nil q) hb) s (fun T => ?_) (by omega)
      rw [crs_cov, cW T]
      constructor
      · rintro (z | ⟨z, z'⟩) g hg hm
        · exact absurd z (cov_nil T)
        · by_cases e : g = f
          · subst e
            exact z'
          · exact z g (by omega) hm
      · intro z
        exact Or.inr ⟨fun g hg hm => z g (by omega) hm, z f (by omega) c⟩
    · refine br_f (fun z => c ((ag_t1 (by omega)).mp z)) (nm_r (nI_1 f) ?_)
      refine ih (f + 1) n W f_nextSize a_work a_next (by omega) hA hb sW (fun T => ?_) (by omega)
      rw [cW T]
      constructor
      · intro z g hg hm
        by_cases e : g = f
        · subst e
          exact absurd hm c
        · exact z g (by omega) hm
      · intro z g hg hm
        exact z g (by omega) hm
theorem xf {post : Int32 → SX → Prop} {q k m y : Nat} {Fm : Nat → List Nat} (hq : q ≤ 8) (hk : k < 14) (hnd : a_needs k = nI m) (hyl : a_yield k = nI y) (hy : y < 12) (E : FE q Fm a_size a_family) (J : ∀ (b : Bool) (Fm' : Nat → List Nat) (ws ns : Int32) (aS aF aW aN : Nat → Int32), FE q Fm' aS aF → (∀ g, g < 12 → ∀ T, (cov (Fm' g) T ↔ cov (Fm g) T ∨ (g = y ∧ ∀ h, h < 12 → m.testBit h = true → cov (Fm h) T))) → (b = false → ∀ g, g < 12 → ∀ T, cov (Fm' g) T → cov (Fm g) T) → post (bI b) (f_givenSet, f_count, f_goal, f_indices, f_ready, ws, ns, f_byCount, f_bestCost, f_bestSet, f_stacked, a_price, a_needs, a_yield, a_factAt, aS, aF, aW, aN, a_chosen, a_barred)) : wpX_fire post (f_givenSet, f_count, f_goal, f_indices, f_ready, f_workSize, f_nextSize, f_byCount, f_bestCost, f_bestSet, f_stacked, a_price, a_needs, a_yield, a_factAt, a_size, a_family, a_work, a_next, a_chosen, a_barred) (nI k) := by
  refine nm_e ⟨13, ?_⟩
  have b0 : bdl q [0] := fun x hx => by
    rw [List.mem_singleton.mp hx]
    exact Nat.two_pow_pos q
  exact xf_14 hq hk hnd hyl hy E J 12 0 13 [0] f_nextSize (upd a_work 0 0) a_next rfl (List.pairwise_singleton _ _) b0 ⟨pk_us.trans nI_0.symm, trivial⟩ (fun T => ⟨fun _ g hg => absurd hg (Nat.not_lt_zero g), fun _ => ⟨0, List.mem_singleton.mpr rfl, sbs_0 T⟩⟩) (by decide)
variable {nd yl : Nat → Nat}
theorem tb_st {s k g : Nat} : (rl_st nd yl s k).testBit g = true ↔ s.testBit g = true ∨ (g = yl k ∧ sbs (nd k) s) := by
  unfold rl_st
  by_cases c : df (nd k) s = 0
  · rw [if_pos c, tb_or, tb_pow]
    exact ⟨fun z => z.imp id (fun z => ⟨z.symm, df_0.mp c⟩), fun z => z.imp id (fun z => z.1.symm)⟩
  · rw [if_neg c]
    exact ⟨Or.inl, fun z => z.elim id (fun z => absurd (df_0.mpr z.2) c)⟩
def RP (nd yl : Nat → Nat) (c G r k : Nat) (Fm : Nat → List Nat) : Prop := ∀ f, f < 12 → ∀ T, (cov (Fm f) T ↔ (rl_k nd yl (rl_it nd yl c (asF G T) r) k).testBit f = true)
def NG (nd yl : Nat → Nat) (c G r : Nat) (Fm : Nat → List Nat) : Prop := ∀ f, f < 12 → ∀ T, cov (Fm f) T → (rl_it nd yl c (asF G T) r).testBit f = true
theorem RP_st {c G r k : Nat} {Fm Fm' : Nat → List Nat} (hm : nd k < 4096) (h : RP nd yl c G r k Fm) (hc : ∀ g, g < 12 → ∀ T, (cov (Fm' g) T ↔ cov (Fm g) T ∨ (g = yl k ∧ ∀ h, h < 12 → (nd k).testBit h = true → cov (Fm h) T))) : RP nd yl c G r (k + 1) Fm' := by
  intro f hf T
  show _ ↔ (rl_st nd yl (rl_k nd yl (rl_it nd yl c (asF G T) r) k) k).testBit f = true
  rw [tb_st, hc f hf T, h f hf T]
  constructor
  · rintro (z | ⟨e, z⟩)
    · exact Or.inl z
    · exact Or.inr ⟨e, fun i hi => (h i (tb_lt (n := 12) hm hi) T).mp (z i (tb_lt (n := 12) hm hi) hi)⟩
  · rintro (z | ⟨e, z⟩)
    · exact Or.inl z
    · exact Or.inr ⟨e, fun i hi hm' => (h i hi T).mpr (z i hm')⟩
theorem xp_115 {post : SX → Prop} {J101 : Int32 → Int32 → Int32 → Int32 → Int32 → Int32 → Int32 → Int32 → Int32 → Int32 → Int32 → Int32 → Int32 → (Nat → Int32) → (Nat → Int32) → (Nat → Int32) → (Nat → Int32) → (Nat → Int32) → (Nat → Int32) → (Nat → Int32) → (Nat → Int32) → (Nat → Int32) → (Nat → Int32) → Prop} {q c G r : Nat} (hq : q ≤ 8) (hc : c ≤ 14) (hn : ∀ k, a_needs k = nI (nd k) ∧ nd k < 4096) (hy : ∀ k, a_yield k = nI (yl k) ∧ yl k < 12) (J : ∀ (b : Bool) (Fm : Nat → List Nat) (ws ns : Int32) (aS aF aW aN : Nat → Int32), FE q Fm aS aF → RP nd yl c G r c Fm → (b = false → NG nd yl c G r Fm) → J101 (bI b) (nI (r + 1)) f_givenSet (nI c) f_goal f_indices f_ready ws ns f_byCount f_bestCost f_bestSet f_stacked a_price a_needs a_yield a_factAt aS aF aW aN a_chosen a_barred) : ∀ (d k n : Nat) (b : Bool) (Fm : Nat → List Nat) (f_workSize f_nextSize : Int32) (a_size a_family a_work a_next : Nat → Int32), k + d = c → FE q Fm a_size a_family → RP nd yl c G r k Fm → (b = false → NG nd yl c G r Fm) → d < n → wX_prepare_115 post J101 (nI r) n (bI b) (nI k) f_givenSet (nI c) f_goal f_indices f_ready f_workSize f_nextSize f_byCount f_bestCost f_bestSet f_stacked a_price a_needs a_yield a_factAt a_size a_family a_work a_next a_chosen a_barred := by
  intro d
  induction d with
  | zero =>
    intro k n b Fm f_workSize f_nextSize a_size a_family a_work a_next hk E hR hb hd
    obtain ⟨n, rfl⟩ : ∃ m, n = m + 1 := ⟨n - 1, by omega⟩
    have hk' : k = c := by omega
    subst hk'
    exact br_t (nI_le (Nat.le_refl k) (by omega)) (nm_r (nI_1 r) (J b Fm _ _ _ _ _ _ E hR hb))
  | succ d ih =>
    intro k n b Fm f_workSize f_nextSize a_size a_family a_work a_next hk E hR hb hd
    obtain ⟨n, rfl⟩ : ∃ m, n = m + 1 := ⟨n - 1, by omega⟩
    refine br_f (nI_ge (show k < c by omega) (by omega)) (xf hq (by omega) (hn k).1 (hy k).1 (hy k).2 E (fun b7 Fm' ws ns aS aF aW aN E' hc' hb' => ?_))
    have go : ∀ b' : Bool, (b || b7) = b' → wX_prepare_115 post J101 (nI r) n (bI b') (nI (k + 1)) f_givenSet (nI c) f_goal f_indices f_ready ws ns f_byCount f_bestCost f_bestSet f_stacked a_price a_needs a_yield a_factAt aS aF aW aN a_chosen a_barred := by
      intro b' e
      refine ih (k + 1) n b' Fm' ws ns aS aF aW aN (by omega) E' (RP_st (hn k).2 hR hc') (fun z => ?_) (by omega)
      rw [z] at e
      cases b
      · cases b7
        · exact fun f hf T hT => hb rfl f hf T (hb' rfl f hf T hT)
        · exact absurd e (by decide)
      · exact absurd e (by simp)
    cases b
    · refine br_t rfl ?_
      cases b7
      · exact br_t rfl (nm_r (nI_1 k) (go false rfl))
      · exact br_f (by decide) (nm_r (nI_1 k) (go true rfl))
    · exact br_f (by decide) (nm_r (nI_1 k) (go true (Bool.true_or _)))
theorem xp_101 {post : SX → Prop} {q c G : Nat} (hq : q ≤ 8) (hc : c ≤ 14) (hn : ∀ k, a_needs k = nI (nd k) ∧ nd k < 4096) (hy : ∀ k, a_yield k = nI (yl k) ∧ yl k < 12) (J : ∀ (Fm : Nat → List Nat) (ws ns : Int32) (aS aF aW aN : Nat → Int32), FE q Fm aS aF → (∀ f, f < 12 → ∀ T, (cov (Fm f) T ↔ (rch nd yl c (asF G T)).testBit f = true)) → post (f_givenSet, nI c, f_goal, f_indices, 1, ws, ns, f_byCount, f_bestCost, f_bestSet, f_stacked, a_price, a_needs, a_yield, a_factAt, aS, aF, aW, aN, a_chosen, a_barred)) : ∀ (d r n : Nat) (b : Bool) (Fm : Nat → List Nat) (f_workSize f_nextSize : Int32) (a_size a_family a_work a_next : Nat → Int32), r + d = 20 → FE q Fm a_size a_family → RP nd yl c G r 0 Fm → (b = false → ∀ T, rl_it nd yl c (asF G T) r = rch nd yl c (asF G T)) → d < n → wX_prepare_101 post n (bI b) (nI r) f_givenSet (nI c) f_goal f_indices f_ready f_workSize f_nextSize f_byCount f_bestCost f_bestSet f_stacked a_price a_needs a_yield a_factAt a_size a_family a_work a_next a_chosen a_barred := by
  have hy' : ∀ k, yl k < 12 := fun k => (hy k).2
  intro d
  induction d with
  | zero =>
    intro r n b Fm f_workSize f_nextSize a_size a_family a_work a_next hr E hR hb hd
    obtain ⟨n, rfl⟩ : ∃ m, n = m + 1 := ⟨n - 1, by omega⟩
    have hr' : r = 20 := by omega
    subst hr'
    refine br_t (nI_le (Nat.le_refl 20) (by decide)) (J Fm _ _ _ _ _ _ E (fun f hf T => ?_))
    rw [← it_12 hy' (asF_lt G T) (show 12 ≤ 20 by decide)]
    exact hR f hf T
  | succ d ih =>
    intro r n b Fm f_workSize f_nextSize a_size a_family a_work a_next hr E hR hb hd
    obtain ⟨n, rfl⟩ : ∃ m, n = m + 1 := ⟨n - 1, by omega⟩
    refine br_f (nI_ge (b := 20) (show r < 20 by omega) (by decide)) ?_
    cases b
    · refine br_t rfl (J Fm _ _ _ _ _ _ E (fun f hf T => ?_))
      rw [← hb rfl T]
      exact hR f hf T
    · refine br_f (by decide) ⟨c + 1, xp_115 (q := q) (G := G) hq hc hn hy ?_ c 0 _ false Fm _ _ _ _ _ _ (Nat.zero_add _) E hR (fun _ f hf T hT => (hR f hf T).mp hT) (Nat.lt_succ_self _)⟩
      intro b Fm' ws ns aS aF aW aN E' hR' hb'
      refine ih (r + 1) n b Fm' ws ns aS aF aW aN (by omega) E' hR' (fun z T => ?_) (by omega)
      have sub : sbs (rl_it nd yl c (asF G T) (r + 1)) (rl_it nd yl c (asF G T) r) := fun i hi => by
        have hi' : i < 12 := tb_lt (n := 12) (it_bd hy' (asF_lt G T) (r + 1)) hi
        exact hb' z i hi' T ((hR' i hi' T).mpr hi)
      have e : rl_it nd yl c (asF G T) (r + 1) = rl_it nd yl c (asF G T) r := sbs_an sub (rk_le _ c)
      rw [e]
      exact it_st hy' (asF_lt G T) e
/-- the families are made, for these rules and these given facts -/
def RDY (G c : Nat) (nd yl : Nat → Nat) (fi : Int32) (aA aS aF : Nat → Int32) : Prop := fi = nI (rk G 12) ∧ (∀ f, f < 12 → G.testBit f = true → aA (rk G f) = nI f) ∧ ∃ Fm : Nat → List Nat, FE (rk G 12) Fm aS aF ∧ ∀ f, f < 12 → ∀ T, (cov (Fm f) T ↔ (rch nd yl c (asF G T)).testBit f = true)
/-- the first loop of prepare, up to fact f -/
def PI (G f : Nat) (aA aS aF : Nat → Int32) : Prop := ∀ g, g < f → (G.testBit g = true → aA (rk G g) = nI g ∧ aS g = 1 ∧ aF (g * 72) = nI (2 ^ rk G g)) ∧ (¬ G.testBit g = true → aS g = 0)
def fm_0 (G g : Nat) : List Nat := if G.testBit g = true then [2 ^ rk G g] else []
theorem PI_FE {G : Nat} {aA aS aF : Nat → Int32} (h : PI G 12 aA aS aF) : FE (rk G 12) (fm_0 G) aS aF := by
  intro g hg
  unfold fm_0
  by_cases c : G.testBit g = true
  · rw [if_pos c]
    obtain ⟨h1, h2, h3⟩ := (h g hg).1 c
    refine ⟨h2, ⟨h3, trivial⟩, List.pairwise_singleton _ _, fun m hm => ?_⟩
    rw [List.mem_singleton.mp hm]
    exact pow2_lt (rk_lt hg c)
  · rw [if_neg c]
    exact ⟨(h g hg).2 c, trivial, List.Pairwise.nil, bdl_nil _⟩
theorem PI_RP {c G : Nat} : RP nd yl c G 0 0 (fm_0 G) := by
  intro g hg T
  show cov (fm_0 G g) T ↔ (asF G T).testBit g = true
  rw [tb_asF]
  unfold fm_0
  by_cases d : G.testBit g = true
  · rw [if_pos d, cov_cons, sbs_pow]
    exact ⟨fun z => z.elim (fun z => ⟨hg, d, z⟩) (fun z => absurd z (cov_nil T)), fun z => Or.inl z.2.2⟩
  · rw [if_neg d]
    exact ⟨fun z => absurd z (cov_nil T), fun z => absurd z.2.1 d⟩
theorem xp_15 {post : SX → Prop} {c G : Nat} (hq : rk G 12 ≤ 8) (hc : c ≤ 14) (hn : ∀ k, a_needs k = nI (nd k) ∧ nd k < 4096) (hy : ∀ k, a_yield k = nI (yl k) ∧ yl k < 12) (J : ∀ (fi ws ns : Int32) (aA aS aF aW aN : Nat → Int32), RDY G c nd yl fi aA aS aF → post (nI G, nI c, f_goal, fi, 1, ws, ns, f_byCount, f_bestCost, f_bestSet, f_stacked, a_price, a_needs, a_yield, aA, aS, aF, aW, aN, a_chosen, a_barred)) : ∀ (d f n : Nat) (a_factAt a_size a_family : Nat → Int32), f + d = 12 → PI G f a_factAt a_size a_family → d < n → wX_prepare_15 post (nI G) (nI c) f_goal f_ready f_workSize f_nextSize f_byCount f_bestCost f_bestSet f_stacked n (nI f) (nI (rk G f)) a_price a_needs a_yield a_factAt a_size a_family a_work a_next a_chosen a_barred := by
  intro d
  induction d with
  | zero =>
    intro f n a_factAt a_size a_family hf hP hd
    obtain ⟨n, rfl⟩ : ∃ m, n = m + 1 := ⟨n - 1, by omega⟩
    have hf' : f = 12 := by omega
    subst hf'
    refine br_t (nI_le (Nat.le_refl 12) (by decide)) ⟨21, ?_⟩
    refine xp_101 (nd := nd) (yl := yl) (q := rk G 12) (G := G) hq hc hn hy ?_ 20 0 21 true (fm_0 G) _ _ _ _ _ _ rfl (PI_FE hP) PI_RP (fun z => absurd z (by decide)) (by decide)
    intro Fm ws ns aS aF aW aN E h
    exact J _ ws ns _ aS aF aW aN ⟨rfl, fun f hf hb => ((hP f hf).1 hb).1, Fm, E, h⟩
  | succ d ih =>
    intro f n a_factAt a_size a_family hf hP hd
    obtain ⟨n, rfl⟩ : ∃ m, n = m + 1 := ⟨n - 1, by omega⟩
    have hf' : f < 12 := by omega
    refine br_f (nI_ge (b := 12) hf' (by decide)) ⟨vp_in_nI hf' (by decide), nm_r (e' := upd a_size f 0) (by rw [nI_clamp (show f < 2 ^ 31 by omega)]) ?_⟩
    have hs := rk_s G f
    by_cases b : G.testBit f = true
    · rw [if_pos b] at hs
      have lt := rk_lt hf' b
      refine br_t ((ag_t1 (by omega)).mpr b) (br_f (nI_ge (b := 8) (by omega) (by decide)) ⟨vp_in_nI (by omega) (by decide), nm_r (e' := upd a_factAt (rk G f) (nI f)) (by rw [nI_clamp (by omega)]) ?_⟩)
      rw [show nI f * 72 = nI (f * 72) from by rw [show (72 : Int32) = nI 72 from rfl, pk_mul], ag_1 _ (by omega)]
      refine ⟨vp_in_nI (by omega) (by decide), nm_r (e' := upd a_family (f * 72) (nI (2 ^ rk G f))) (by rw [nI_clamp (by omega)]) ⟨vp_in_nI hf' (by decide), nm_r (e' := upd (upd a_size f 0) f 1) (by rw [nI_clamp (by omega)]) (nm_r (nI_1 _) (nm_r (nI_1 f) ?_))⟩⟩
      rw [← hs]
      refine ih (f + 1) n _ _ _ (by omega) (fun g hg => ⟨fun hb => ?_, fun hb => ?_⟩) (by omega)
      · by_cases e : g = f
        · subst e
          exact ⟨pk_us, pk_us, pk_us⟩
        · have l2 : rk G g < rk G f := rk_lt (by omega) hb
          obtain ⟨h1, h2, h3⟩ := (hP g (by omega)).1 hb
          exact ⟨(pk_un (by omega)).trans h1, (pk_un e).trans ((pk_un e).trans h2), (pk_un (by omega)).trans h3⟩
      · have e : g ≠ f := fun z => hb (by rw [z]; exact b)
        exact (pk_un e).trans ((pk_un e).trans ((hP g (by omega)).2 hb))
    · rw [if_neg b] at hs
      refine br_f (fun z => b ((ag_t1 (by omega)).mp z)) (nm_r (nI_1 f) ?_)
      rw [show nI (rk G f) = nI (rk G (f + 1)) from congrArg nI (by omega)]
      refine ih (f + 1) n _ _ _ (by omega) (fun g hg => ⟨fun hb => ?_, fun hb => ?_⟩) (by omega)
      · have e : g ≠ f := fun z => b (by rw [← z]; exact hb)
        obtain ⟨h1, h2, h3⟩ := (hP g (by omega)).1 hb
        exact ⟨h1, (pk_un e).trans h2, h3⟩
      · by_cases e : g = f
        · subst e
          exact pk_us
        · exact (pk_un e).trans ((hP g (by omega)).2 hb)
theorem xp {post : SX → Prop} {c G : Nat} (hq : rk G 12 ≤ 8) (hc : c ≤ 14) (hn : ∀ k, a_needs k = nI (nd k) ∧ nd k < 4096) (hy : ∀ k, a_yield k = nI (yl k) ∧ yl k < 12) (hR : f_ready = 0 ∨ (f_ready = 1 ∧ RDY G c nd yl f_indices a_factAt a_size a_family)) (J : ∀ (fi ws ns : Int32) (aA aS aF aW aN : Nat → Int32), RDY G c nd yl fi aA aS aF → post (nI G, nI c, f_goal, fi, 1, ws, ns, f_byCount, f_bestCost, f_bestSet, f_stacked, a_price, a_needs, a_yield, aA, aS, aF, aW, aN, a_chosen, a_barred)) : wpX_prepare post (nI G, nI c, f_goal, f_indices, f_ready, f_workSize, f_nextSize, f_byCount, f_bestCost, f_bestSet, f_stacked, a_price, a_needs, a_yield, a_factAt, a_size, a_family, a_work, a_next, a_chosen, a_barred) := by
  rcases hR with rfl | ⟨rfl, hR⟩
  · exact br_t rfl ⟨13, xp_15 hq hc hn hy J 12 0 13 _ _ _ rfl (fun g hg => absurd hg (Nat.not_lt_zero g)) (by decide)⟩
  · exact br_f (by decide) (J _ _ _ _ _ _ _ _ hR)
end
end
section
/-! ===== costs, facts, and the search's small walks ===== -/
theorem asF_mod (G T : Nat) : asF G (T % 2 ^ rk G 12) = asF G T := by
  apply tb_ext
  intro f
  rw [tb_asF, tb_asF, tb_mod]
  exact ⟨fun z => ⟨z.1, z.2.1, z.2.2.2⟩, fun z => ⟨z.1, z.2.1, rk_lt z.1 z.2.1, z.2.2⟩⟩
/-- what a fact weighs: its price, or one -/
def CW (G : Nat) (bc : Int32) (aP : Nat → Int32) (wt : Nat → Nat) : Prop := (bc = 0 ∧ ∀ f, f < 12 → G.testBit f = true → aP f = nI (wt f)) ∨ (bc = 1 ∧ wt = on1)
/-- the factAt table -/
def FA (G : Nat) (aA : Nat → Int32) : Prop := ∀ f, f < 12 → G.testBit f = true → aA (rk G f) = nI f
def mts (m T : Nat) : Prop := ∃ i, m.testBit i = true ∧ T.testBit i = true
theorem ag_mts {a b : Nat} (ha : a < 2 ^ 31) : nI a &&& nI b = 0 ↔ ¬ mts a b := by
  rw [ag_meet ha]
  exact ⟨fun h ⟨i, z⟩ => h i z, fun h i z => h ⟨i, z⟩⟩
theorem ag_bz {a i : Nat} (ha : a < 2 ^ 31) : nI a &&& nI (2 ^ i) = 0 ↔ ¬ a.testBit i = true := by
  rw [ag_mts ha]
  constructor
  · exact fun h z => h ⟨i, z, tb_pow.mpr rfl⟩
  · rintro h ⟨j, a, b⟩
    rw [← tb_pow.mp b] at a
    exact h a
section
variable {f_givenSet f_count f_goal f_indices f_ready f_workSize f_nextSize f_byCount f_bestCost f_bestSet f_stacked : Int32} {a_price a_needs a_yield a_factAt a_size a_family a_work a_next a_chosen a_barred : Nat → Int32}
theorem xo {post : Int32 → Prop} {G T : Nat} {wt : Nat → Nat} (hq : rk G 12 ≤ 8) (hA : FA G a_factAt) (hw : CW G f_byCount a_price wt) (h : post (nI (cst wt (asF G T) 12))) : wpX_costOf post (f_givenSet, f_count, f_goal, nI (rk G 12), f_ready, f_workSize, f_nextSize, f_byCount, f_bestCost, f_bestSet, f_stacked, a_price, a_needs, a_yield, a_factAt, a_size, a_family, a_work, a_next, a_chosen, a_barred) (nI T) := by
  refine loop_0 (fun n i s => wX_costOf_4 post (nI T) f_givenSet f_count f_goal (nI (rk G 12)) f_ready f_workSize f_nextSize f_byCount f_bestCost f_bestSet f_stacked a_price a_needs a_yield a_factAt a_size a_family a_work a_next a_chosen a_barred n s (nI i)) (fun i s => s = nI (cst wt (asF G (T % 2 ^ i)) 12)) (rk G 12) 0 ?_ ?_ ?_
  · show (0 : Int32) = nI (cst wt (asF G (T % 2 ^ 0)) 12)
    rw [show T % 2 ^ 0 = 0 from Nat.mod_one T, asF_0, cst_0]
    rfl
  · intro n s e
    rw [asF_mod] at e
    subst e
    exact br_t (nI_le (Nat.le_refl _) (by omega)) h
  · intro n i s hi e k
    subst e
    obtain ⟨f, hf, hg, rfl⟩ := rk_surj 12 hi
    have st := cst_step (w := wt) (T := T) hf hg
    refine br_f (nI_ge hi (by omega)) ?_
    rw [nI_clamp (show rk G f < 2 ^ 31 by omega), hA f hf hg, nI_clamp (show f < 2 ^ 31 by omega)]
    by_cases c : T.testBit (rk G f) = true
    · rw [if_pos c] at st
      refine br_t ((ag_t1 (by omega)).mpr c) ?_
      rcases hw with ⟨z, hp⟩ | ⟨z, hp⟩
      · rw [hp f hf hg]
        exact br_t z ⟨vp_in_nI (by omega) (by decide), vp_in_nI hf (by decide), nm_r (nI_add _ _) (nm_r (nI_1 _) (k _ (by rw [st])))⟩
      · subst hp
        exact br_f (by rw [z]; decide) (nm_r (nI_1 _) (nm_r (nI_1 _) (k _ (by rw [st]; rfl))))
    · rw [if_neg c] at st
      exact br_f (fun z => c ((ag_t1 (by omega)).mp z)) (nm_r (nI_1 _) (k _ (by rw [st]; rfl)))
theorem xz {post : Int32 → Prop} {G T : Nat} (hq : rk G 12 ≤ 8) (hA : FA G a_factAt) (h : post (nI (asF G T))) : wpX_asFacts post (f_givenSet, f_count, f_goal, nI (rk G 12), f_ready, f_workSize, f_nextSize, f_byCount, f_bestCost, f_bestSet, f_stacked, a_price, a_needs, a_yield, a_factAt, a_size, a_family, a_work, a_next, a_chosen, a_barred) (nI T) := by
  refine loop_0 (fun n i s => wX_asFacts_4 post (nI T) f_givenSet f_count f_goal (nI (rk G 12)) f_ready f_workSize f_nextSize f_byCount f_bestCost f_bestSet f_stacked a_price a_needs a_yield a_factAt a_size a_family a_work a_next a_chosen a_barred n s (nI i)) (fun i s => s = nI (asF G (T % 2 ^ i))) (rk G 12) 0 ?_ ?_ ?_
  · show (0 : Int32) = nI (asF G (T % 2 ^ 0))
    rw [show T % 2 ^ 0 = 0 from Nat.mod_one T, asF_0]
    rfl
  · intro n s e
    rw [asF_mod] at e
    subst e
    exact br_t (nI_le (Nat.le_refl _) (by omega)) h
  · intro n i s hi e k
    subst e
    obtain ⟨f, hf, hg, rfl⟩ := rk_surj 12 hi
    have st := asF_step (T := T) hf hg
    refine br_f (nI_ge hi (by omega)) ?_
    rw [nI_clamp (show rk G f < 2 ^ 31 by omega), hA f hf hg, ag_1 f (by omega), ag_or]
    by_cases c : T.testBit (rk G f) = true
    · rw [if_pos c] at st
      exact br_t ((ag_t1 (by omega)).mpr c) ⟨vp_in_nI (by omega) (by decide), nm_e (nm_r (nI_1 _) (k _ (by rw [st])))⟩
    · rw [if_neg c] at st
      exact br_f (fun z => c ((ag_t1 (by omega)).mp z)) (nm_r (nI_1 _) (k _ (by rw [st])))
/-! unmet -/
theorem xu_2 {post : Int32 → Prop} {g T N : Nat} (hg : g < 12) (hN : N ≤ 70) (hsz : a_size g = nI N) : ∀ (R : List Nat) (j n : Nat), j + R.length = N → sg a_family (g * 72 + j) R → bdl 8 R → R.length < n → ((∀ m, m ∈ R → mts m T) → post (-1)) → (∀ m, m ∈ R → ¬ mts m T → post (nI m)) → wX_unmet_2 post (nI T) f_givenSet f_count (nI g) f_indices f_ready f_workSize f_nextSize f_byCount f_bestCost f_bestSet f_stacked a_price a_needs a_yield a_factAt a_size a_family a_work a_next a_chosen a_barred n (nI j) := by
  intro R
  induction R with
  | nil =>
    intro j n hj sR hb hn J1 J2
    obtain ⟨n, rfl⟩ : ∃ m, n = m + 1 := ⟨n - 1, by omega⟩
    rw [List.length_nil] at hj
    refine ⟨vp_in_nI hg (by decide), ?_⟩
    rw [nI_clamp (show g < 2 ^ 31 by omega), hsz]
    exact pk_le N j (fun _ => J1 (fun m hm => absurd hm List.not_mem_nil)) (fun z => absurd z (by omega))
  | cons m R ih =>
    intro j n hj sR hb hn J1 J2
    obtain ⟨n, rfl⟩ : ∃ m, n = m + 1 := ⟨n - 1, by omega⟩
    rw [List.length_cons] at hj hn
    have hm : m < 256 := (bdl_cons hb).1
    refine ⟨vp_in_nI hg (by decide), ?_⟩
    rw [nI_clamp (show g < 2 ^ 31 by omega), hsz]
    refine pk_le N j (fun z => absurd z (by omega)) (fun _ => ?_)
    rw [ag_ix, nI_clamp (show g * 72 + j < 2 ^ 31 by omega), sR.1]
    refine ⟨vp_in_nI (by omega) (by decide), ?_⟩
    by_cases c : mts m T
    · refine br_f (fun z => (ag_mts (by omega)).mp z c) (nm_r (nI_1 j) (ih (j + 1) n (by omega) sR.2 (bdl_cons hb).2 (by omega) (fun h => J1 (fun x hx => ?_)) (fun x hx => J2 x (List.mem_cons_of_mem _ hx))))
      rcases List.mem_cons.mp hx with rfl | hx
      · exact c
      · exact h x hx
    · exact br_t ((ag_mts (by omega)).mpr c) ⟨vp_in_nI (by omega) (by decide), J2 m List.mem_cons_self c⟩
theorem xu {post : Int32 → Prop} {g T : Nat} {F : List Nat} (hg : g < 12) (hF : F.length ≤ 70) (hsz : a_size g = nI F.length) (sF : sg a_family (g * 72) F) (bF : bdl 8 F) (J1 : (∀ m, m ∈ F → mts m T) → post (-1)) (J2 : ∀ m, m ∈ F → ¬ mts m T → post (nI m)) : wpX_unmet post (f_givenSet, f_count, nI g, f_indices, f_ready, f_workSize, f_nextSize, f_byCount, f_bestCost, f_bestSet, f_stacked, a_price, a_needs, a_yield, a_factAt, a_size, a_family, a_work, a_next, a_chosen, a_barred) (nI T) :=
  ⟨F.length + 1, xu_2 hg hF hsz F 0 _ (Nat.zero_add _) sF bF (Nat.lt_succ_self _) J1 J2⟩
end
/-! the stack, its top first -/
def sk (a b : Nat → Int32) : List (Nat × Nat) → Prop
  | [] => True
  | p :: L => a L.length = nI p.1 ∧ b L.length = nI p.2 ∧ sk a b L
theorem sk_ext {a b a' b' : Nat → Int32} : ∀ L : List (Nat × Nat), (∀ j, j < L.length → a' j = a j ∧ b' j = b j) → sk a b L → sk a' b' L := by
  intro L
  induction L with
  | nil => exact fun _ _ => trivial
  | cons p L ih =>
    intro h s
    have e : (p :: L).length = L.length + 1 := rfl
    exact ⟨((h L.length (by omega)).1).trans s.1, ((h L.length (by omega)).2).trans s.2.1, ih (fun j hj => h j (by omega)) s.2.2⟩
theorem sk_push {a b : Nat → Int32} {L : List (Nat × Nat)} {s t : Nat} (h : sk a b L) : sk (upd a L.length (nI s)) (upd b L.length (nI t)) ((s, t) :: L) :=
  ⟨pk_us, pk_us, sk_ext L (fun j hj => ⟨pk_un (by omega), pk_un (by omega)⟩) h⟩
/-- how many of eight indices are free -/
def fre (x : Nat) : Nat := 8 - cst on1 x 8
theorem fre_add {x i : Nat} (hi : i < 8) (h : ¬ x.testBit i = true) : fre x = fre (x ||| 2 ^ i) + 1 := by
  have e := cst_add (w := on1) h 8 hi
  have l := pc_le (x ||| 2 ^ i) 8
  unfold fre
  rw [e] at l ⊢
  have o : on1 i = 1 := rfl
  rw [o] at l ⊢
  omega
def SP : List (Nat × Nat) → Prop
  | [] => True
  | p :: L => L.length + fre (p.1 ||| p.2) ≤ 8 ∧ SP L
def SM : List (Nat × Nat) → Nat
  | [] => 0
  | p :: L => 2 ^ fre (p.1 ||| p.2) + SM L
def dsj (a b : Nat) : Prop := ∀ i, ¬ (a.testBit i = true ∧ b.testBit i = true)
/-- what an item is: sets of indices below q, apart, the first one with all of must -/
def SI (q must : Nat) (p : Nat × Nat) : Prop := p.1 < 2 ^ q ∧ p.2 < 2 ^ q ∧ dsj p.1 p.2 ∧ sbs must p.1
def SW (q must : Nat) (L : List (Nat × Nat)) : Prop := ∀ p, p ∈ L → SI q must p
def CV (L : List (Nat × Nat)) (T : Nat) : Prop := ∃ p, p ∈ L ∧ sbs p.1 T ∧ dsj p.2 T
theorem CV_cons {p : Nat × Nat} {L : List (Nat × Nat)} {T : Nat} (h : CV L T) : CV (p :: L) T := by
  obtain ⟨x, a, b⟩ := h
  exact ⟨x, List.mem_cons_of_mem _ a, b⟩
theorem SW_cons {q must : Nat} {p : Nat × Nat} {L : List (Nat × Nat)} (h : SI q must p) (k : SW q must L) : SW q must (p :: L) := by
  intro x hx
  rcases List.mem_cons.mp hx with rfl | hx
  · exact h
  · exact k x hx
section
variable {f_givenSet f_count f_goal f_indices f_ready f_workSize f_nextSize f_byCount f_bestCost f_bestSet f_stacked : Int32} {a_price a_needs a_yield a_factAt a_size a_family a_work a_next a_chosen a_barred : Nat → Int32}
theorem xh {post : SX → Prop} {s b l : Nat} (hl : l < 96) (h : post (f_givenSet, f_count, f_goal, f_indices, f_ready, f_workSize, f_nextSize, f_byCount, f_bestCost, f_bestSet, nI (l + 1), a_price, a_needs, a_yield, a_factAt, a_size, a_family, a_work, a_next, upd a_chosen l (nI s), upd a_barred l (nI b))) : wpX_push post (f_givenSet, f_count, f_goal, f_indices, f_ready, f_workSize, f_nextSize, f_byCount, f_bestCost, f_bestSet, nI l, a_price, a_needs, a_yield, a_factAt, a_size, a_family, a_work, a_next, a_chosen, a_barred) (nI s) (nI b) := by
  refine ⟨vp_in_nI hl (by decide), ?_⟩
  rw [nI_clamp (show l < 2 ^ 31 by omega)]
  exact nm_e ⟨vp_in_nI hl (by decide), nm_e (nm_r (nI_1 l) h)⟩
theorem xb_6 {post : SX → Prop} {q must mem s M0 : Nat} {Q : Nat → Prop} (hq : q ≤ 8) (hm : mem < 2 ^ q) (hs : s < 2 ^ q) (hms : ¬ mts mem s) (hmu : sbs must s) (J : ∀ (L : List (Nat × Nat)) (aC aB : Nat → Int32), SW q must L → SP L → SM L < M0 → sk aC aB L → (∀ T, Q T → CV L T) → post (f_givenSet, f_count, f_goal, nI q, f_ready, f_workSize, f_nextSize, f_byCount, f_bestCost, f_bestSet, nI L.length, a_price, a_needs, a_yield, a_factAt, a_size, a_family, a_work, a_next, aC, aB)) : ∀ (d i n cl : Nat) (L : List (Nat × Nat)) (a_chosen a_barred : Nat → Int32), i + d = q → cl < 2 ^ q → dsj s cl → SW q must L → SP L → L.length + fre (s ||| cl) ≤ 8 → SM L + 2 ^ fre (s ||| cl) = M0 → sk a_chosen a_barred L → (∀ T, Q T → CV L T ∨ (sbs s T ∧ dsj cl T ∧ ∃ j, i ≤ j ∧ mem.testBit j = true ∧ T.testBit j = true)) → d < n → wX_branch_6 post (nI mem) (nI s) n (nI cl) (nI i) f_givenSet f_count f_goal (nI q) f_ready f_workSize f_nextSize f_byCount f_bestCost f_bestSet (nI L.length) a_price a_needs a_yield a_factAt a_size a_family a_work a_next a_chosen a_barred := by
  have p8 : 2 ^ q ≤ 256 := Nat.pow_le_pow_right (n := 2) (by decide) hq
  intro d
  induction d with
  | zero =>
    intro i n cl L a_chosen a_barred hi hcl hd hW hP hl hM hk hc hn
    obtain ⟨n, rfl⟩ : ∃ m, n = m + 1 := ⟨n - 1, by omega⟩
    have hi' : i = q := by omega
    subst hi'
    have pp := Nat.two_pow_pos (fre (s ||| cl))
    refine br_t (nI_le (Nat.le_refl _) (by omega)) (J L _ _ hW hP (by omega) hk (fun T hT => ?_))
    rcases hc T hT with z | ⟨_, _, j, h1, h2, _⟩
    · exact z
    · have := tb_lt hm h2
      omega
  | succ d ih =>
    intro i n cl L a_chosen a_barred hi hcl hd hW hP hl hM hk hc hn
    obtain ⟨n, rfl⟩ : ∃ m, n = m + 1 := ⟨n - 1, by omega⟩
    refine br_f (nI_ge (show i < q by omega) (by omega)) (nm_r (ag_1 i (by omega)) ?_)
    rw [ag_df mem cl]
    have l1 := df_le mem cl
    by_cases c : (df mem cl).testBit i = true
    · obtain ⟨c1, c2⟩ := tb_df.mp c
      have c3 : ¬ s.testBit i = true := fun z => hms ⟨i, c1, z⟩
      have c4 : ¬ (s ||| cl).testBit i = true := fun z => (tb_or.mp z).elim c3 c2
      have e1 := fre_add (show i < 8 by omega) c4
      have e2 : s ||| (cl ||| 2 ^ i) = s ||| cl ||| 2 ^ i := (Nat.or_assoc s cl (2 ^ i)).symm
      have e3 : s ||| 2 ^ i ||| cl = s ||| cl ||| 2 ^ i := by rw [Nat.or_assoc, Nat.or_comm (2 ^ i) cl, Nat.or_assoc]
      have e4 : 2 ^ fre (s ||| cl) = 2 ^ fre (s ||| cl ||| 2 ^ i) + 2 ^ fre (s ||| cl ||| 2 ^ i) := by rw [e1, Nat.pow_succ]; omega
      have pi : 2 ^ i < 2 ^ q := pow2_lt (by omega)
      refine br_f (fun z => (ag_bz (by omega)).mp z c) ?_
      rw [ag_or s (2 ^ i)]
      refine xh (by omega) (nm_r (ag_or cl (2 ^ i)) (nm_r (nI_1 i) ?_))
      refine ih (i + 1) n (cl ||| 2 ^ i) ((s ||| 2 ^ i, cl) :: L) _ _ (by omega) (Nat.or_lt_two_pow hcl pi) ?_ (SW_cons ⟨Nat.or_lt_two_pow hs pi, hcl, ?_, sbs_tr hmu (sbs_orL _ _)⟩ hW) ⟨?_, hP⟩ ?_ ?_ (sk_push hk) ?_ (by omega)
      · rintro j ⟨z1, z2⟩
        rcases tb_or.mp z2 with z2 | z2
        · exact hd j ⟨z1, z2⟩
        · rw [← tb_pow.mp z2] at z1
          exact c3 z1
      · rintro j ⟨z1, z2⟩
        rcases tb_or.mp z1 with z1 | z1
        · exact hd j ⟨z1, z2⟩
        · rw [← tb_pow.mp z1] at z2
          exact c2 z2
      · show L.length + fre (s ||| 2 ^ i ||| cl) ≤ 8
        rw [e3]
        omega
      · show L.length + 1 + fre (s ||| (cl ||| 2 ^ i)) ≤ 8
        rw [e2]
        omega
      · show 2 ^ fre (s ||| 2 ^ i ||| cl) + SM L + 2 ^ fre (s ||| (cl ||| 2 ^ i)) = M0
        rw [e2, e3]
        omega
      · intro T hT
        rcases hc T hT with z | ⟨z1, z2, j, z3, z4, z5⟩
        · exact Or.inl (CV_cons z)
        · by_cases t : T.testBit i = true
          · exact Or.inl ⟨(s ||| 2 ^ i, cl), List.mem_cons_self, sbs_or.mpr ⟨z1, sbs_pow.mpr t⟩, z2⟩
          · refine Or.inr ⟨z1, ?_, j, ?_, z4, z5⟩
            · rintro k ⟨y1, y2⟩
              rcases tb_or.mp y1 with y1 | y1
              · exact z2 k ⟨y1, y2⟩
              · rw [← tb_pow.mp y1] at y2
                exact t y2
            · rcases Nat.eq_or_lt_of_le z3 with e | l
              · rw [← e] at z5
                exact absurd z5 t
              · exact l
    · refine br_t ((ag_bz (by omega)).mpr c) (nm_r (nI_1 i) (ih (i + 1) n cl L a_chosen a_barred (by omega) hcl hd hW hP hl hM hk (fun T hT => ?_) (by omega)))
      rcases hc T hT with z | ⟨z1, z2, j, z3, z4, z5⟩
      · exact Or.inl z
      · refine Or.inr ⟨z1, z2, j, ?_, z4, z5⟩
        rcases Nat.eq_or_lt_of_le z3 with e | l
        · rw [← e] at z4 z5
          by_cases t : cl.testBit i = true
          · exact absurd ⟨t, z5⟩ (z2 i)
          · exact absurd (tb_df.mpr ⟨z4, t⟩) c
        · exact l
theorem xb {post : SX → Prop} {q must mem s b : Nat} {L : List (Nat × Nat)} {Q : Nat → Prop} (hq : q ≤ 8) (hm : mem < 2 ^ q) (hp : SI q must (s, b)) (hms : ¬ mts mem s) (hW : SW q must L) (hP : SP L) (hl : L.length + fre (s ||| b) ≤ 8) (hk : sk a_chosen a_barred L) (hc : ∀ T, Q T → CV L T ∨ (sbs s T ∧ dsj b T ∧ mts mem T)) (J : ∀ (L' : List (Nat × Nat)) (aC aB : Nat → Int32), SW q must L' → SP L' → SM L' < SM ((s, b) :: L) → sk aC aB L' → (∀ T, Q T → CV L' T) → post (f_givenSet, f_count, f_goal, nI q, f_ready, f_workSize, f_nextSize, f_byCount, f_bestCost, f_bestSet, nI L'.length, a_price, a_needs, a_yield, a_factAt, a_size, a_family, a_work, a_next, aC, aB)) : wpX_branch post (f_givenSet, f_count, f_goal, nI q, f_ready, f_workSize, f_nextSize, f_byCount, f_bestCost, f_bestSet, nI L.length, a_price, a_needs, a_yield, a_factAt, a_size, a_family, a_work, a_next, a_chosen, a_barred) (nI mem) (nI s) (nI b) := by
  refine ⟨q + 1, xb_6 (M0 := SM ((s, b) :: L)) hq hm hp.1 hms hp.2.2.2 J q 0 _ b L a_chosen a_barred (Nat.zero_add q) hp.2.1 hp.2.2.1 hW hP hl (Nat.add_comm _ _) hk (fun T hT => ?_) (Nat.lt_succ_self q)⟩
  rcases hc T hT with z | ⟨z1, z2, j, z3⟩
  · exact Or.inl z
  · exact Or.inr ⟨z1, z2, j, Nat.zero_le j, z3⟩
end
end
section
/-! ===== the search ===== -/
/-- what an index set costs -/
def cc (wt : Nat → Nat) (G T : Nat) : Nat := cst wt (asF G T) 12
theorem cc_mono {wt : Nat → Nat} {G S T : Nat} (h : sbs S T) : cc wt G S ≤ cc wt G T := cst_mono (asF_mono h) 12
theorem cc_bd {wt : Nat → Nat} {G T : Nat} (h : ∀ f, f < 12 → wt f ≤ 20) : cc wt G T ≤ 240 := cst_bd 12 h
def bcI (C : Nat → Nat) (o : Option Nat) : Nat := match o with
  | none => 100000
  | some B => C B
def bsI (o : Option Nat) : Int32 := match o with
  | none => -1
  | some B => nI B
def BB (C : Nat → Nat) (o : Option Nat) (T : Nat) : Prop := ∃ B, o = some B ∧ (C B < C T ∨ (C B = C T ∧ B ≤ T))
def QT (q must : Nat) (F : List Nat) (T : Nat) : Prop := T < 2 ^ q ∧ sbs must T ∧ ∀ m, m ∈ F → mts m T
theorem bcI_bd {wt : Nat → Nat} {G : Nat} {o : Option Nat} (h : ∀ f, f < 12 → wt f ≤ 20) : bcI (cc wt G) o ≤ 100000 := by
  cases o with
  | none => exact Nat.le_refl _
  | some B =>
    have t := cc_bd (G := G) (T := B) h
    show cc wt G B ≤ 100000
    omega
section
variable {f_givenSet f_count f_goal f_indices f_ready f_workSize f_nextSize f_byCount f_bestCost f_bestSet f_stacked : Int32} {a_price a_needs a_yield a_factAt a_size a_family a_work a_next a_chosen a_barred : Nat → Int32}
theorem xe_28 {post : SX → Prop} {G must g : Nat} {F : List Nat} {wt : Nat → Nat} (hq : rk G 12 ≤ 8) (hA : FA G a_factAt) (hw : CW G f_byCount a_price wt) (h20 : ∀ f, f < 12 → wt f ≤ 20) (hg : g < 12) (hF : F.length ≤ 70) (hsz : a_size g = nI F.length) (sF : sg a_family (g * 72) F) (bF : bdl (rk G 12) F) (J : ∀ (o : Option Nat) (st : Int32) (aC aB : Nat → Int32), (∀ B, o = some B → QT (rk G 12) must F B) → (∀ T, QT (rk G 12) must F T → BB (cc wt G) o T) → post (f_givenSet, f_count, nI g, nI (rk G 12), f_ready, f_workSize, f_nextSize, f_byCount, nI (bcI (cc wt G) o), bsI o, st, a_price, a_needs, a_yield, a_factAt, a_size, a_family, a_work, a_next, aC, aB)) : ∀ (n r : Nat) (o : Option Nat) (L : List (Nat × Nat)) (a_chosen a_barred : Nat → Int32), SM L < n → r + SM L ≤ 5000 → SW (rk G 12) must L → SP L → sk a_chosen a_barred L → (∀ B, o = some B → QT (rk G 12) must F B) → (∀ T, QT (rk G 12) must F T → BB (cc wt G) o T ∨ CV L T) → wX_search_28 post n (nI r) f_givenSet f_count (nI g) (nI (rk G 12)) f_ready f_workSize f_nextSize f_byCount (nI (bcI (cc wt G) o)) (bsI o) (nI L.length) a_price a_needs a_yield a_factAt a_size a_family a_work a_next a_chosen a_barred := by
  have p8 : 2 ^ rk G 12 ≤ 256 := Nat.pow_le_pow_right (n := 2) (by decide) hq
  intro n
  induction n with
  | zero =>
    intro r o L a_chosen a_barred hM
    exact absurd hM (Nat.not_lt_zero _)
  | succ n ih =>
    intro r o L a_chosen a_barred hM hr hW hP hk ho hc
    cases L with
    | nil =>
      have fin := J o (nI 0) a_chosen a_barred ho (fun T hT => (hc T hT).elim id (fun ⟨p, hp, _⟩ => absurd hp List.not_mem_nil))
      have hr' : r ≤ 5000 := by omega
      exact pk_le 5000 r (fun _ => fin) (fun _ => br_t (show nI 0 ≤ 0 by decide) fin)
    | cons p L =>
      obtain ⟨s, b⟩ := p
      have m1 : SM ((s, b) :: L) = 2 ^ fre (s ||| b) + SM L := rfl
      have pp := Nat.two_pow_pos (fre (s ||| b))
      obtain ⟨k1, k2, k3⟩ := hk
      have hI := hW (s, b) List.mem_cons_self
      have i1 : s < 2 ^ rk G 12 := hI.1
      have i4 : sbs must s := hI.2.2.2
      have hW' : SW (rk G 12) must L := fun p hp => hW p (List.mem_cons_of_mem _ hp)
      have hP' := hP.2
      have hl : L.length + fre (s ||| b) ≤ 8 := hP.1
      have hs240 := cc_bd (G := G) (T := s) h20
      have hbc := bcI_bd (G := G) (o := o) h20
      have hr' : r < 5000 := by omega
      have k1' : a_chosen L.length = nI s := k1
      have k2' : a_barred L.length = nI b := k2
      refine pk_le 5000 r (fun z => absurd z (by omega)) (fun _ => ?_)
      refine br_f (nI_nle (Nat.succ_pos _) (show L.length + 1 < 2 ^ 31 by omega)) (nm_r (nI_pred L.length) ⟨vp_in_nI (by omega) (by decide), ?_⟩)
      rw [nI_clamp (show L.length < 2 ^ 31 by omega), k1', k2']
      refine nm_e ⟨vp_in_nI (by omega) (by decide), nm_e (xo hq hA hw ?_)⟩
      have cT : ∀ T, CV ((s, b) :: L) T → (sbs s T ∧ dsj b T) ∨ CV L T := by
        rintro T ⟨p, hp, h1, h2⟩
        rcases List.mem_cons.mp hp with rfl | hp
        · exact Or.inl ⟨h1, h2⟩
        · exact Or.inr ⟨p, hp, h1, h2⟩
      refine pk_lt (bcI (cc wt G) o) (cc wt G s) (fun z => ?_) (fun z => ?_)
      · refine nm_r (nI_1 r) (ih (r + 1) o L a_chosen a_barred (by omega) (by omega) hW' hP' k3 ho (fun T hT => ?_))
        rcases hc T hT with h | h
        · exact Or.inl h
        · rcases cT T h with ⟨h1, _⟩ | h
          · cases o with
            | none =>
              have e : bcI (cc wt G) none = 100000 := rfl
              omega
            | some B =>
              exact Or.inl ⟨B, rfl, Or.inl (Nat.lt_of_lt_of_le z (cc_mono h1))⟩
          · exact Or.inr h
      · have up : (∀ m, m ∈ F → mts m s) → (∀ B, o = some B → (cc wt G s < cc wt G B ∨ (cc wt G s = cc wt G B ∧ s ≤ B))) → wX_search_135 post (wX_search_28 post n) (nI r) (nI s) (nI (cc wt G s)) f_givenSet f_count (nI g) (nI (rk G 12)) f_ready f_workSize f_nextSize f_byCount (nI (bcI (cc wt G) o)) (bsI o) (nI L.length) a_price a_needs a_yield a_factAt a_size a_family a_work a_next a_chosen a_barred := by
          intro hall hb
          refine nm_r (nI_1 r) (ih (r + 1) (some s) L a_chosen a_barred (by omega) (by omega) hW' hP' k3 (fun B e => ?_) (fun T hT => ?_))
          · cases e
            exact ⟨i1, i4, hall⟩
          · rcases hc T hT with ⟨B, e, h⟩ | h
            · have t := hb B e
              exact Or.inl ⟨s, rfl, by omega⟩
            · rcases cT T h with ⟨h1, _⟩ | h
              · have t1 := cc_mono (wt := wt) (G := G) h1
                have t2 := sbs_le h1
                exact Or.inl ⟨s, rfl, by omega⟩
              · exact Or.inr h
        refine xu hg hF hsz sF (bdl_256 hq bF) (fun hall => ?_) (fun m hm hno => ?_)
        · refine br_t (show (-1 : Int32) ≤ 0 by decide) (br_f (show ¬ (0 : Int32) ≤ -1 by decide) ?_)
          refine pk_lt (cc wt G s) (bcI (cc wt G) o) (fun z2 => ?_) (fun z2 => ?_)
          · refine up hall (fun B e => ?_)
            subst e
            exact Or.inl z2
          · cases o with
            | none =>
              have e : bcI (cc wt G) none = 100000 := rfl
              omega
            | some B =>
              have hB : B < 2 ^ rk G 12 := (ho B rfl).1
              have e : bcI (cc wt G) (some B) = cc wt G B := rfl
              refine pk_le B s (fun z3 => ?_) (fun z3 => ?_)
              · refine nm_r (nI_1 r) (ih (r + 1) (some B) L a_chosen a_barred (by omega) (by omega) hW' hP' k3 ho (fun T hT => ?_))
                rcases hc T hT with h | h
                · exact Or.inl h
                · rcases cT T h with ⟨h1, _⟩ | h
                  · have t1 := cc_mono (wt := wt) (G := G) h1
                    have t2 := sbs_le h1
                    exact Or.inl ⟨B, rfl, by omega⟩
                  · exact Or.inr h
              · refine up hall (fun B' e' => ?_)
                cases e'
                exact Or.inr ⟨by omega, by omega⟩
        · have hm256 : m < 2 ^ rk G 12 := bF m hm
          refine pk_le m 0 (fun z0 => ?_) (fun z0 => ?_)
          · refine br_t (nI_pos' (by omega)) (nm_r (nI_1 r) (ih (r + 1) o L a_chosen a_barred (by omega) (by omega) hW' hP' k3 ho (fun T hT => ?_)))
            obtain ⟨i, hi, _⟩ := hT.2.2 m hm
            have e : m = 0 := by omega
            rw [e] at hi
            exact absurd hi tb_0
          · refine xb (Q := fun T => QT (rk G 12) must F T ∧ CV ((s, b) :: L) T) hq hm256 hI hno hW' hP' hl k3 (fun T hT => ?_) (fun L' aC aB hW2 hP2 hM2 hk2 hc2 => nm_r (nI_1 r) ?_)
            · rcases cT T hT.2 with ⟨h1, h2⟩ | h
              · exact Or.inr ⟨h1, h2, hT.1.2.2 m hm⟩
              · exact Or.inl h
            · exact ih (r + 1) o L' aC aB (by omega) (by omega) hW2 hP2 hk2 ho (fun T hT => (hc T hT).imp id (fun h => hc2 T ⟨hT, h⟩))
/-- a set that keeps the goal out of reach, with all of must -/
def PT (nd yl : Nat → Nat) (c G g must T : Nat) : Prop := T < 2 ^ rk G 12 ∧ sbs must T ∧ ¬ (rch nd yl c (df G (asF G T))).testBit g = true
theorem QT_PT {nd yl : Nat → Nat} {c G g must T : Nat} {F : List Nat} (hG : G < 4096) (bF : bdl (rk G 12) F) (cF : ∀ T, (cov F T ↔ (rch nd yl c (asF G T)).testBit g = true)) : QT (rk G 12) must F T ↔ PT nd yl c G g must T := by
  unfold QT PT
  rw [show df G (asF G T) = asF G (df (2 ^ rk G 12 - 1) T) from by rw [asF_co, asF_full hG], ← cF]
  constructor
  · rintro ⟨h1, h2, h3⟩
    refine ⟨h1, h2, ?_⟩
    rintro ⟨m, a, b⟩
    obtain ⟨i, z1, z2⟩ := h3 m a
    exact (tb_df.mp (b i z1)).2 z2
  · rintro ⟨h1, h2, h3⟩
    refine ⟨h1, h2, fun m hm => ?_⟩
    by_cases c : mts m T
    · exact c
    · refine absurd ⟨m, hm, fun i hi => tb_df.mpr ⟨?_, fun z => c ⟨i, hi, z⟩⟩⟩ h3
      rw [Nat.testBit_two_pow_sub_one, decide_eq_true_iff]
      exact tb_lt (bF m hm) hi
theorem fre_le (x : Nat) : fre x ≤ 8 := by
  unfold fre
  omega
theorem xe {post : SX → Prop} {nd yl wt : Nat → Nat} {G c g must : Nat} (hG : G < 4096) (hq : rk G 12 ≤ 8) (hc : c ≤ 14) (hg : g < 12) (hmu : must < 2 ^ rk G 12) (hn : ∀ k, a_needs k = nI (nd k) ∧ nd k < 4096) (hy : ∀ k, a_yield k = nI (yl k) ∧ yl k < 12) (hw : CW G f_byCount a_price wt) (h20 : ∀ f, f < 12 → wt f ≤ 20) (hR : f_ready = 0 ∨ (f_ready = 1 ∧ RDY G c nd yl f_indices a_factAt a_size a_family)) (J : ∀ (ws ns : Int32) (aA aS aF aW aN : Nat → Int32) (o : Option Nat) (st : Int32) (aC aB : Nat → Int32), RDY G c nd yl (nI (rk G 12)) aA aS aF → (∀ B, o = some B → PT nd yl c G g must B) → (∀ T, PT nd yl c G g must T → BB (cc wt G) o T) → post (nI G, nI c, nI g, nI (rk G 12), 1, ws, ns, f_byCount, nI (bcI (cc wt G) o), bsI o, st, a_price, a_needs, a_yield, aA, aS, aF, aW, aN, aC, aB)) : wpX_search post (nI G, nI c, nI g, f_indices, f_ready, f_workSize, f_nextSize, f_byCount, f_bestCost, f_bestSet, f_stacked, a_price, a_needs, a_yield, a_factAt, a_size, a_family, a_work, a_next, a_chosen, a_barred) (nI must) := by
  refine xp hq hc hn hy hR ?_
  intro fi ws ns aA aS aF aW aN hD
  have hD' := hD
  obtain ⟨rfl, hA, Fm, E, cF⟩ := hD'
  obtain ⟨e1, e2, e3, e4⟩ := E g hg
  refine xh (l := 0) (b := 0) (by decide) ⟨257, ?_⟩
  have hm0 : dsj must 0 := fun i z => tb_0 z.2
  have hf := fre_le (must ||| 0)
  have hM : SM [(must, 0)] ≤ 256 := by
    show 2 ^ fre (must ||| 0) + 0 ≤ 256
    have : 2 ^ fre (must ||| 0) ≤ 2 ^ 8 := Nat.pow_le_pow_right (by decide) hf
    omega
  refine xe_28 (G := G) (must := must) (g := g) (F := Fm g) (wt := wt) hq hA hw h20 hg (ac_len hq e3 e4) e1 e2 e4 ?_ 257 0 none [(must, 0)] _ _ (by omega) (by omega) ?_ ⟨?_, trivial⟩ (sk_push (L := []) trivial) (fun B e => absurd e (by simp)) ?_
  · intro o st aC aB h1 h2
    exact J ws ns aA aS aF aW aN o st aC aB hD (fun B e => (QT_PT hG e4 (cF g hg)).mp (h1 B e)) (fun T hT => h2 T ((QT_PT hG e4 (cF g hg)).mpr hT))
  · intro p hp
    rw [List.mem_singleton.mp hp]
    exact ⟨hmu, Nat.two_pow_pos _, hm0, sbs_rf must⟩
  · show 0 + fre (must ||| 0) ≤ 8
    omega
  · intro T hT
    exact Or.inr ⟨(must, 0), List.mem_singleton.mpr rfl, hT.2.1, fun i z => tb_0 z.1⟩
end
end
section
/-! ===== the reference's small walks ===== -/
/-- the reference's prices: 0 for what is not given -/
def PRC (G : Nat) (pr : Nat → Nat) (aP : Nat → Int32) : Prop := ∀ f, f < 12 → aP f = nI (pr f) ∧ pr f ≤ 20 ∧ (G.testBit f = true ↔ 0 < pr f)
def sp (nd yl : Nat → Nat) (c g S : Nat) : Bool := (rch nd yl c S).testBit g
def LST (nd yl : Nat → Nat) (c g S : Nat) : Prop := sp nd yl c g S = true ∧ ∀ f, f < 12 → S.testBit f = true → sp nd yl c g (df S (2 ^ f)) = false
def SH (nd yl : Nat → Nat) (c g G S : Nat) : Prop := sbs S G ∧ sp nd yl c g (df G S) = false
theorem fc_cases (x : Int32) : (x < 0 ∨ nI 12 ≤ x) ∨ ∃ f : Nat, f < 12 ∧ x = nI f := by
  rcases pk_ix x (n := 12) (by decide) with h | h | h
  · exact Or.inl (Or.inl h)
  · exact Or.inl (Or.inr h)
  · exact Or.inr h
theorem mod_add {G i : Nat} (h : G.testBit i = true) : G % 2 ^ i ||| 2 ^ i = G % 2 ^ (i + 1) := by
  apply tb_ext
  intro j
  rw [tb_or, tb_mod, tb_mod, tb_pow]
  constructor
  · rintro (⟨a, b⟩ | rfl)
    · exact ⟨by omega, b⟩
    · exact ⟨by omega, h⟩
  · rintro ⟨a, b⟩
    by_cases e : i = j
    · exact Or.inr e
    · exact Or.inl ⟨by omega, b⟩
theorem mod_skip {G i : Nat} (h : ¬ G.testBit i = true) : G % 2 ^ i = G % 2 ^ (i + 1) := by
  apply tb_ext
  intro j
  rw [tb_mod, tb_mod]
  constructor
  · rintro ⟨a, b⟩
    exact ⟨by omega, b⟩
  · rintro ⟨a, b⟩
    by_cases e : j = i
    · subst e
      exact absurd b h
    · exact ⟨by omega, b⟩
section
variable {f_givenSet f_count f_goal f_indices f_ready f_workSize f_nextSize f_byCount f_bestCost f_bestSet f_stacked : Int32} {a_price a_needs a_yield a_factAt a_size a_family a_work a_next a_chosen a_barred : Nat → Int32}
theorem xk_bad {post : Int32 → Prop} {x : Int32} (hx : x < 0 ∨ nI 12 ≤ x) (h : post 1) : wpX_badFact post (f_givenSet, f_count, f_goal, f_indices, f_ready, f_workSize, f_nextSize, f_byCount, f_bestCost, f_bestSet, f_stacked, a_price, a_needs, a_yield, a_factAt, a_size, a_family, a_work, a_next, a_chosen, a_barred) x := by
  refine br_c (fun _ => h) (fun z => br_f (fun z2 => ?_) h)
  rcases hx with q | q
  · exact z q
  · exact absurd z2 (Int32.not_lt.mpr q)
theorem xk_ok {post : Int32 → Prop} {f : Nat} (hf : f < 12) (h : post 0) : wpX_badFact post (f_givenSet, f_count, f_goal, f_indices, f_ready, f_workSize, f_nextSize, f_byCount, f_bestCost, f_bestSet, f_stacked, a_price, a_needs, a_yield, a_factAt, a_size, a_family, a_work, a_next, a_chosen, a_barred) (nI f) :=
  br_f (nI_pos (by omega)) (br_t (nI_lt (b := 12) hf (by decide)) h)
end
section
variable {f_count f_goal : Int32} {a_prices a_needs a_yields : Nat → Int32}
theorem yk_bad {post : Int32 → Prop} {x : Int32} (hx : x < 0 ∨ nI 12 ≤ x) (h : post 0) : wpY_isFact post (f_count, f_goal, a_prices, a_needs, a_yields) x := by
  refine br_c (fun _ => h) (fun z => br_t ?_ h)
  rcases hx with q | q
  · exact absurd q z
  · have t : nI 11 < nI 12 := nI_lt (by decide) (by decide)
    exact Int32.lt_of_lt_of_le t q
theorem yk_ok {post : Int32 → Prop} {f : Nat} (hf : f < 12) (h : post 1) : wpY_isFact post (f_count, f_goal, a_prices, a_needs, a_yields) (nI f) :=
  br_f (nI_pos (by omega)) (br_f (nI_nlt (a := 11) (by omega) (by decide)) h)
theorem yh {post : Int32 → Prop} {S f : Nat} (hf : f < 32) (h : post (bI (S.testBit f))) : wpY_has post (f_count, f_goal, a_prices, a_needs, a_yields) (nI S) (nI f) := by
  cases c : S.testBit f
  · rw [c] at h
    exact br_f (fun z => absurd (c.symm.trans ((ag_t1 hf).mp z)) (by decide)) h
  · rw [c] at h
    exact br_t ((ag_t1 hf).mpr c) h
theorem ys_size {post : Int32 → Prop} {G : Nat} (h : post (nI (cst on1 G 12))) : wpY_sizeOf post (f_count, f_goal, a_prices, a_needs, a_yields) (nI G) := by
  refine loop_0 (fun n i s => wY_sizeOf_4 post (nI G) f_count f_goal a_prices a_needs a_yields n s (nI i)) (fun i s => s = nI (cst on1 G i)) 12 0 rfl ?_ ?_
  · intro n s e
    subst e
    exact br_t (nI_le (Nat.le_refl 12) (by decide)) h
  · intro n i s hi e k
    subst e
    refine br_f (nI_ge (b := 12) hi (by decide)) (nm_r (e' := nI (cst on1 G (i + 1))) ?_ (nm_r (nI_1 i) (k _ rfl)))
    rw [ag_sh G i (by omega), nI_bI]
    rfl
variable {nd yl pr : Nat → Nat} {G c g : Nat}
theorem yo {post : Int32 → Prop} {S : Nat} (hp : PRC G pr a_prices) (h : post (nI (cst pr S 12))) : wpY_costOf post (f_count, f_goal, a_prices, a_needs, a_yields) (nI S) := by
  refine loop_0 (fun n i s => wY_costOf_4 post (nI S) f_count f_goal a_prices a_needs a_yields n s (nI i)) (fun i s => s = nI (cst pr S i)) 12 0 rfl ?_ ?_
  · intro n s e
    subst e
    exact br_t (nI_le (Nat.le_refl 12) (by decide)) h
  · intro n i s hi e k
    subst e
    refine br_f (nI_ge (b := 12) hi (by decide)) (yh (by omega) ?_)
    have st : cst pr S (i + 1) = cst pr S i + (if S.testBit i = true then pr i else 0) := rfl
    rw [nI_clamp (show i < 2 ^ 31 by omega), (hp i hi).1]
    cases d : S.testBit i
    · rw [d] at st
      exact br_t rfl (nm_r (nI_1 i) (k _ (by rw [st]; rfl)))
    · rw [d] at st
      exact br_f (by decide) ⟨vp_in_nI hi (by decide), nm_r (nI_add _ _) (nm_r (nI_1 i) (k _ (by rw [st]; rfl)))⟩
theorem yg {post : Int32 → Prop} (hG : G < 4096) (hp : PRC G pr a_prices) (h : post (nI G)) : wpY_given post (f_count, f_goal, a_prices, a_needs, a_yields) := by
  refine loop_0 (fun n i s => wY_given_4 post f_count f_goal a_prices a_needs a_yields n s (nI i)) (fun i s => s = nI (G % 2 ^ i)) 12 0 ?_ ?_ ?_
  · show (0 : Int32) = nI (G % 2 ^ 0)
    rw [show G % 2 ^ 0 = 0 from Nat.mod_one G]
    rfl
  · intro n s e
    rw [Nat.mod_eq_of_lt (show G < 2 ^ 12 from hG)] at e
    subst e
    exact br_t (nI_le (Nat.le_refl 12) (by decide)) h
  · intro n i s hi e k
    subst e
    refine br_f (nI_ge (b := 12) hi (by decide)) ⟨vp_in_nI hi (by decide), ?_⟩
    obtain ⟨p1, p2, p3⟩ := hp i hi
    rw [nI_clamp (show i < 2 ^ 31 by omega), p1]
    by_cases d : G.testBit i = true
    · have pos := p3.mp d
      exact br_f (nI_nle pos (by omega)) (nm_r (e' := nI (G % 2 ^ (i + 1))) (by rw [ag_1 i (by omega), ag_or, mod_add d]) (nm_r (nI_1 i) (k _ rfl)))
    · have z : pr i = 0 := by
        rcases Nat.eq_zero_or_pos (pr i) with q | q
        · exact q
        · exact absurd (p3.mpr q) d
      rw [z]
      exact br_t (show nI 0 ≤ 0 by decide) (nm_r (nI_1 i) (k _ (by rw [mod_skip d])))
theorem yr_in {post : Int32 → Prop} {J : Int32 → Int32 → Prop} {s r : Nat} (hn : ∀ k, a_needs k = nI (nd k) ∧ nd k < 4096) (hy : ∀ k, a_yields k = nI (yl k) ∧ yl k < 12) (hc : c ≤ 14) (h : J (nI (rl_k nd yl s c)) (nI (r + 1))) : ∃ n, wY_reach_13 post J (nI r) (nI c) f_goal a_prices a_needs a_yields n (nI s) 0 := by
  refine loop_0 (fun n i s => wY_reach_13 post J (nI r) (nI c) f_goal a_prices a_needs a_yields n s (nI i)) (fun i s' => s' = nI (rl_k nd yl s i)) c (nI s) rfl ?_ ?_
  · intro n s e
    subst e
    exact br_t (nI_le (Nat.le_refl c) (by omega)) (nm_r (nI_1 r) h)
  · intro n i s' hi e k
    subst e
    refine br_f (nI_ge hi (by omega)) ⟨vp_in_nI (by omega) (by decide), vp_in_nI (by omega) (by decide), ?_⟩
    rw [nI_clamp (show i < 2 ^ 31 by omega), (hn i).1, (hy i).1]
    by_cases d : sbs (nd i) (rl_k nd yl s i)
    · refine br_t ((ag_sub3 (by have := (hn i).2; omega)).mpr d) ⟨vp_in_nI (by omega) (by decide), nm_r (e' := nI (rl_k nd yl s (i + 1))) ?_ (nm_r (nI_1 i) (k _ rfl))⟩
      rw [ag_1 _ (by have := (hy i).2; omega), ag_or]
      show _ = nI (rl_st nd yl (rl_k nd yl s i) i)
      rw [rl_st, if_pos (df_0.mpr d)]
    · refine br_f (fun z => d ((ag_sub3 (by have := (hn i).2; omega)).mp z)) (nm_r (nI_1 i) (k _ ?_))
      show _ = nI (rl_st nd yl (rl_k nd yl s i) i)
      rw [rl_st, if_neg (fun z => d (df_0.mp z))]
theorem yr {post : Int32 → Prop} {s : Nat} (hn : ∀ k, a_needs k = nI (nd k) ∧ nd k < 4096) (hy : ∀ k, a_yields k = nI (yl k) ∧ yl k < 12) (hc : c ≤ 14) (h : post (nI (rch nd yl c s))) : wpY_reach post (nI c, f_goal, a_prices, a_needs, a_yields) (nI s) := by
  refine loop_0 (fun n i s => wY_reach_4 post (nI c) f_goal a_prices a_needs a_yields n s (nI i)) (fun i s' => s' = nI (rl_it nd yl c s i)) 12 (nI s) rfl ?_ ?_
  · intro n s e
    subst e
    exact br_t (nI_le (Nat.le_refl 12) (by decide)) h
  · intro n i s' hi e k
    subst e
    exact br_f (nI_ge (b := 12) hi (by decide)) (yr_in hn hy hc (k _ rfl))
theorem yi {post : Int32 → Prop} {s : Nat} (hn : ∀ k, a_needs k = nI (nd k) ∧ nd k < 4096) (hy : ∀ k, a_yields k = nI (yl k) ∧ yl k < 12) (hc : c ≤ 14) (hg : g < 12) (h : post (bI (sp nd yl c g s))) : wpY_isSupport post (nI c, nI g, a_prices, a_needs, a_yields) (nI s) :=
  yr hn hy hc (yh (by omega) ⟨bI_n _, h⟩)
theorem ye_12 {post : Int32 → Prop} {S : Nat} (hn : ∀ k, a_needs k = nI (nd k) ∧ nd k < 4096) (hy : ∀ k, a_yields k = nI (yl k) ∧ yl k < 12) (hc : c ≤ 14) (hg : g < 12) : ∀ (d f n : Nat), f + d = 12 → d < n → ((∀ h, f ≤ h → h < 12 → S.testBit h = true → sp nd yl c g (df S (2 ^ h)) = false) → post 1) → (∀ h, h < 12 → S.testBit h = true → sp nd yl c g (df S (2 ^ h)) = true → post 0) → wY_isLeast_12 post (nI S) (nI c) (nI g) a_prices a_needs a_yields n (nI f) := by
  intro d
  induction d with
  | zero =>
    intro f n hf hn' J1 J2
    obtain ⟨n, rfl⟩ : ∃ m, n = m + 1 := ⟨n - 1, by omega⟩
    have hf' : f = 12 := by omega
    subst hf'
    exact br_t (nI_le (Nat.le_refl 12) (by decide)) (J1 (fun h h1 h2 => absurd h2 (by omega)))
  | succ d ih =>
    intro f n hf hn' J1 J2
    obtain ⟨n, rfl⟩ : ∃ m, n = m + 1 := ⟨n - 1, by omega⟩
    have hf' : f < 12 := by omega
    refine br_f (nI_ge (b := 12) hf' (by decide)) (yh (by omega) ?_)
    rw [ag_1 f (by omega), ag_df]
    cases e : S.testBit f
    · refine br_t rfl (nm_r (nI_1 f) (ih (f + 1) n (by omega) (by omega) (fun q => J1 (fun h h1 h2 h3 => ?_)) J2))
      by_cases z : h = f
      · subst z
        rw [e] at h3
        exact absurd h3 (by decide)
      · exact q h (by omega) h2 h3
    · refine br_f (by decide) (yi hn hy hc hg ?_)
      cases e2 : sp nd yl c g (df S (2 ^ f))
      · refine br_t rfl (nm_r (nI_1 f) (ih (f + 1) n (by omega) (by omega) (fun q => J1 (fun h h1 h2 h3 => ?_)) J2))
        by_cases z : h = f
        · subst z
          exact e2
        · exact q h (by omega) h2 h3
      · exact br_f (by decide) (J2 f hf' e e2)
theorem ye {post : Int32 → Prop} {S : Nat} (hn : ∀ k, a_needs k = nI (nd k) ∧ nd k < 4096) (hy : ∀ k, a_yields k = nI (yl k) ∧ yl k < 12) (hc : c ≤ 14) (hg : g < 12) (J1 : LST nd yl c g S → post 1) (J2 : ¬ LST nd yl c g S → post 0) : wpY_isLeast post (nI c, nI g, a_prices, a_needs, a_yields) (nI S) := by
  refine yi hn hy hc hg ?_
  cases e : sp nd yl c g S
  · exact br_t rfl (J2 (fun z => absurd (e.symm.trans z.1) (by decide)))
  · refine br_f (by decide) ⟨13, ye_12 hn hy hc hg 12 0 13 rfl (by decide) (fun q => J1 ⟨e, fun f hf hs => q f (Nat.zero_le f) hf hs⟩) (fun h h1 h2 h3 => J2 (fun z => ?_))⟩
    exact absurd ((z.2 h h1 h2).symm.trans h3) (by decide)
theorem yd {post : Int32 → Prop} {S : Nat} (hG : G < 4096) (hS : S < 2 ^ 31) (hp : PRC G pr a_prices) (hn : ∀ k, a_needs k = nI (nd k) ∧ nd k < 4096) (hy : ∀ k, a_yields k = nI (yl k) ∧ yl k < 12) (hc : c ≤ 14) (hg : g < 12) (J1 : SH nd yl c g G S → post 1) (J2 : ¬ SH nd yl c g G S → post 0) : wpY_isShield post (nI c, nI g, a_prices, a_needs, a_yields) (nI S) := by
  refine yg hG hp ?_
  by_cases d : sbs S G
  · refine br_t ((ag_sub2 hS).mpr d) ?_
    rw [ag_df]
    refine yi hn hy hc hg ?_
    cases e : sp nd yl c g (df G S)
    · exact br_t rfl (J1 ⟨d, e⟩)
    · exact br_f (by decide) (J2 (fun z => absurd (z.2.symm.trans e) (by decide)))
  · exact br_f (fun z => d ((ag_sub2 hS).mp z)) (J2 (fun z => d z.1))
end
end
section
/-! ===== the reference's loops over all sets, against specifications ===== -/
def rI (o : Option Nat) : Int32 := match o with
  | none => -4
  | some m => nI m
/-- o is the least value of C over P -/
def MN (P : Nat → Prop) (C : Nat → Nat) (o : Option Nat) : Prop := (∀ m, o = some m → ∃ S, P S ∧ C S = m) ∧ ∀ T, P T → ∃ m, o = some m ∧ m ≤ C T
/-- o is the least number of those that have the least value of C over P -/
def AM (P : Nat → Prop) (C : Nat → Nat) (o : Option Nat) : Prop := (∀ B, o = some B → P B) ∧ ∀ T, P T → BB C o T
theorem MN_uq {P : Nat → Prop} {C : Nat → Nat} {o o' : Option Nat} (h : MN P C o) (h' : MN P C o') : o = o' := by
  cases o with
  | none =>
    cases o' with
    | none => rfl
    | some m =>
      obtain ⟨S, a, _⟩ := h'.1 m rfl
      obtain ⟨x, e, _⟩ := h.2 S a
      exact absurd e (by simp)
  | some n =>
    obtain ⟨S, a, b⟩ := h.1 n rfl
    obtain ⟨m, e, l⟩ := h'.2 S a
    subst e
    obtain ⟨S', a', b'⟩ := h'.1 m rfl
    obtain ⟨x, e', l'⟩ := h.2 S' a'
    cases e'
    exact congrArg some (by omega)
theorem AM_uq {P : Nat → Prop} {C : Nat → Nat} {o o' : Option Nat} (h : AM P C o) (h' : AM P C o') : o = o' := by
  cases o with
  | none =>
    cases o' with
    | none => rfl
    | some m =>
      obtain ⟨x, e, _⟩ := h.2 m (h'.1 m rfl)
      exact absurd e (by simp)
  | some n =>
    obtain ⟨m, e, l⟩ := h'.2 n (h.1 n rfl)
    subst e
    obtain ⟨x, e', l'⟩ := h.2 m (h'.1 m rfl)
    cases e'
    exact congrArg some (by omega)
theorem AM_MN {P : Nat → Prop} {C : Nat → Nat} {o : Option Nat} (h : AM P C o) : MN P C (o.map C) := by
  constructor
  · intro m e
    cases o with
    | none => exact absurd e (by simp)
    | some B =>
      cases e
      exact ⟨B, h.1 B rfl, rfl⟩
  · intro T hT
    obtain ⟨B, e, l⟩ := h.2 T hT
    subst e
    exact ⟨C B, rfl, by omega⟩
def blw (P : Nat → Prop) (i : Nat) : Nat → Prop := fun S => S < i ∧ P S
theorem MN_0 {P : Nat → Prop} {C : Nat → Nat} : MN (blw P 0) C none := ⟨fun m e => absurd e (by simp), fun T h => absurd h.1 (Nat.not_lt_zero T)⟩
theorem MN_skip {P : Nat → Prop} {C : Nat → Nat} {i : Nat} {o : Option Nat} (hn : ¬ P i) (h : MN (blw P i) C o) : MN (blw P (i + 1)) C o := by
  refine ⟨fun m e => ?_, fun T hT => ?_⟩
  · obtain ⟨S, a, b⟩ := h.1 m e
    exact ⟨S, ⟨by have := a.1; omega, a.2⟩, b⟩
  · by_cases e : T = i
    · subst e
      exact absurd hT.2 hn
    · exact h.2 T ⟨by have := hT.1; omega, hT.2⟩
theorem MN_keep {P : Nat → Prop} {C : Nat → Nat} {i m : Nat} (hm : m ≤ C i) (h : MN (blw P i) C (some m)) : MN (blw P (i + 1)) C (some m) := by
  refine ⟨fun m e => ?_, fun T hT => ?_⟩
  · obtain ⟨S, a, b⟩ := h.1 m e
    exact ⟨S, ⟨by have := a.1; omega, a.2⟩, b⟩
  · by_cases e : T = i
    · subst e
      exact ⟨m, rfl, hm⟩
    · exact h.2 T ⟨by have := hT.1; omega, hT.2⟩
theorem MN_new {P : Nat → Prop} {C : Nat → Nat} {i : Nat} {o : Option Nat} (hp : P i) (hl : ∀ m, o = some m → C i < m) (h : MN (blw P i) C o) : MN (blw P (i + 1)) C (some (C i)) := by
  refine ⟨fun m e => ?_, fun T hT => ⟨C i, rfl, ?_⟩⟩
  · cases e
    exact ⟨i, ⟨Nat.lt_succ_self i, hp⟩, rfl⟩
  · by_cases e : T = i
    · subst e
      exact Nat.le_refl _
    · obtain ⟨m, e', l⟩ := h.2 T ⟨by have := hT.1; omega, hT.2⟩
      have := hl m e'
      omega
theorem MN_all {P : Nat → Prop} {C : Nat → Nat} {G : Nat} {o : Option Nat} (hG : ∀ S, P S → S ≤ G) (h : MN (blw P (G + 1)) C o) : MN P C o := by
  refine ⟨fun m e => ?_, fun T hT => h.2 T ⟨Nat.lt_succ_of_le (hG T hT), hT⟩⟩
  obtain ⟨S, a, b⟩ := h.1 m e
  exact ⟨S, a.2, b⟩
theorem AM_0 {P : Nat → Prop} {C : Nat → Nat} : AM (blw P 0) C none := ⟨fun m e => absurd e (by simp), fun T h => absurd h.1 (Nat.not_lt_zero T)⟩
theorem AM_skip {P : Nat → Prop} {C : Nat → Nat} {i : Nat} {o : Option Nat} (hn : ¬ P i) (h : AM (blw P i) C o) : AM (blw P (i + 1)) C o := by
  refine ⟨fun m e => ?_, fun T hT => ?_⟩
  · have a := h.1 m e
    exact ⟨by have := a.1; omega, a.2⟩
  · by_cases e : T = i
    · subst e
      exact absurd hT.2 hn
    · exact h.2 T ⟨by have := hT.1; omega, hT.2⟩
theorem AM_keep {P : Nat → Prop} {C : Nat → Nat} {i B : Nat} (hm : C B ≤ C i) (h : AM (blw P i) C (some B)) : AM (blw P (i + 1)) C (some B) := by
  refine ⟨fun m e => ?_, fun T hT => ?_⟩
  · have a := h.1 m e
    exact ⟨by have := a.1; omega, a.2⟩
  · by_cases e : T = i
    · subst e
      have a := (h.1 B rfl).1
      exact ⟨B, rfl, by omega⟩
    · exact h.2 T ⟨by have := hT.1; omega, hT.2⟩
theorem AM_new {P : Nat → Prop} {C : Nat → Nat} {i : Nat} {o : Option Nat} (hp : P i) (hl : ∀ B, o = some B → C i < C B) (h : AM (blw P i) C o) : AM (blw P (i + 1)) C (some i) := by
  refine ⟨fun m e => ?_, fun T hT => ⟨i, rfl, ?_⟩⟩
  · cases e
    exact ⟨Nat.lt_succ_self i, hp⟩
  · by_cases e : T = i
    · subst e
      omega
    · obtain ⟨B, e', l⟩ := h.2 T ⟨by have := hT.1; omega, hT.2⟩
      have := hl B e'
      omega
theorem AM_all {P : Nat → Prop} {C : Nat → Nat} {G : Nat} {o : Option Nat} (hG : ∀ S, P S → S ≤ G) (h : AM (blw P (G + 1)) C o) : AM P C o :=
  ⟨fun B e => (h.1 B e).2, fun T hT => h.2 T ⟨Nat.lt_succ_of_le (hG T hT), hT⟩⟩
theorem rI_ne {m : Nat} (h : m < 2 ^ 31) : ¬ nI m = -4 := by
  intro e
  have t := nI_pos h
  rw [e] at t
  exact t (by decide)
/-- the sets of given facts that reach the goal, that reach it and least so, that keep it out of reach with all of w -/
def SU (nd yl : Nat → Nat) (c g G S : Nat) : Prop := sbs S G ∧ sp nd yl c g S = true
def LU (nd yl : Nat → Nat) (c g G S : Nat) : Prop := sbs S G ∧ LST nd yl c g S
def SD (nd yl : Nat → Nat) (c g G w S : Nat) : Prop := sbs w S ∧ SH nd yl c g G S
section
variable {f_count f_goal : Int32} {a_prices a_needs a_yields : Nat → Int32}
variable {nd yl pr : Nat → Nat} {G c g : Nat}
theorem y_cs {post : Int32 → Prop} (hG : G < 4096) (hp : PRC G pr a_prices) (hn : ∀ k, a_needs k = nI (nd k) ∧ nd k < 4096) (hy : ∀ k, a_yields k = nI (yl k) ∧ yl k < 12) (hc : c ≤ 14) (hg : g < 12) (J : ∀ o, MN (SU nd yl c g G) (fun S => cst pr S 12) o → post (rI o)) : wpY_cheapestSupport post (nI c, nI g, a_prices, a_needs, a_yields) := by
  have bd : ∀ S, cst pr S 12 ≤ 240 := fun S => cst_bd 12 (fun f hf => (hp f hf).2.1)
  refine yg hG hp ?_
  refine loop_0 (fun n i s => wY_cheapestSupport_10 post (nI G) (nI c) (nI g) a_prices a_needs a_yields n s (nI i)) (fun i s => ∃ o, s = rI o ∧ MN (blw (SU nd yl c g G) i) (fun S => cst pr S 12) o) (G + 1) (-4) ⟨none, rfl, MN_0⟩ ?_ ?_
  · rintro n s ⟨o, rfl, h⟩
    exact br_t (nI_lt (Nat.lt_succ_self G) (by omega)) (J o (MN_all (fun S hS => sbs_le hS.1) h))
  · rintro n i s hi ⟨o, rfl, h⟩ k
    refine br_f (nI_nlt (by omega) (by omega)) ?_
    by_cases d : sbs i G
    · have go : (∀ m, o = some m → cst pr i 12 < m) → wY_cheapestSupport_37 post (wY_cheapestSupport_10 post (nI G) (nI c) (nI g) a_prices a_needs a_yields n) (nI G) (rI o) (nI i) (nI c) (nI g) a_prices a_needs a_yields := by
        intro hl
        refine yi hn hy hc hg ?_
        cases e : sp nd yl c g i
        · exact br_t rfl (nm_r (nI_1 i) (k _ ⟨o, rfl, MN_skip (fun z => absurd (e.symm.trans z.2) (by decide)) h⟩))
        · exact br_f (by decide) (yo hp (nm_r (nI_1 i) (k _ ⟨some (cst pr i 12), rfl, MN_new ⟨d, e⟩ hl h⟩)))
      refine br_t ((ag_sub2 (by omega)).mpr d) ?_
      cases o with
      | none => exact br_t rfl (go (fun m e => absurd e (by simp)))
      | some m =>
        have hm : m ≤ 240 := by
          obtain ⟨S, _, e⟩ := h.1 m rfl
          rw [← e]
          exact bd S
        have hi240 := bd i
        refine br_f (rI_ne (by omega)) (yo hp ?_)
        exact pk_le m (cst pr i 12) (fun z => nm_r (nI_1 i) (k _ ⟨some m, rfl, MN_keep z h⟩)) (fun z => go (fun m' e => by cases e; exact z))
    · exact br_f (fun z => d ((ag_sub2 (by omega)).mp z)) (nm_r (nI_1 i) (k _ ⟨o, rfl, MN_skip (fun z => d z.1) h⟩))
theorem y_ss {post : Int32 → Prop} (hG : G < 4096) (hp : PRC G pr a_prices) (hn : ∀ k, a_needs k = nI (nd k) ∧ nd k < 4096) (hy : ∀ k, a_yields k = nI (yl k) ∧ yl k < 12) (hc : c ≤ 14) (hg : g < 12) (J : ∀ o, MN (SH nd yl c g G) (fun S => cst on1 S 12) o → post (rI o)) : wpY_smallestShield post (nI c, nI g, a_prices, a_needs, a_yields) := by
  have bd : ∀ S, cst on1 S 12 ≤ 12 := fun S => pc_le S 12
  refine yg hG hp ?_
  refine loop_0 (fun n i s => wY_smallestShield_10 post (nI G) (nI c) (nI g) a_prices a_needs a_yields n s (nI i)) (fun i s => ∃ o, s = rI o ∧ MN (blw (SH nd yl c g G) i) (fun S => cst on1 S 12) o) (G + 1) (-4) ⟨none, rfl, MN_0⟩ ?_ ?_
  · rintro n s ⟨o, rfl, h⟩
    exact br_t (nI_lt (Nat.lt_succ_self G) (by omega)) (J o (MN_all (fun S hS => sbs_le hS.1) h))
  · rintro n i s hi ⟨o, rfl, h⟩ k
    refine br_f (nI_nlt (by omega) (by omega)) ?_
    have go : (∀ m, o = some m → cst on1 i 12 < m) → wY_smallestShield_30 post (wY_smallestShield_10 post (nI G) (nI c) (nI g) a_prices a_needs a_yields n) (nI G) (rI o) (nI i) (nI c) (nI g) a_prices a_needs a_yields := by
      intro hl
      refine yd hG (by omega) hp hn hy hc hg (fun z => ?_) (fun z => ?_)
      · exact br_f (by decide) (ys_size (nm_r (nI_1 i) (k _ ⟨some (cst on1 i 12), rfl, MN_new z hl h⟩)))
      · exact br_t rfl (nm_r (nI_1 i) (k _ ⟨o, rfl, MN_skip z h⟩))
    cases o with
    | none => exact br_t rfl (go (fun m e => absurd e (by simp)))
    | some m =>
      have hm : m ≤ 12 := by
        obtain ⟨S, _, e⟩ := h.1 m rfl
        rw [← e]
        exact bd S
      have hi240 := bd i
      refine br_f (rI_ne (by omega)) (ys_size ?_)
      exact pk_le m (cst on1 i 12) (fun z => nm_r (nI_1 i) (k _ ⟨some m, rfl, MN_keep z h⟩)) (fun z => go (fun m' e => by cases e; exact z))
def coN (C : Nat → Nat) (o : Option Nat) : Nat := match o with
  | none => 1000
  | some B => C B
theorem y_ch {post : Int32 → Prop} {w : Nat} (hw : w < 4096) (hG : G < 4096) (hp : PRC G pr a_prices) (hn : ∀ k, a_needs k = nI (nd k) ∧ nd k < 4096) (hy : ∀ k, a_yields k = nI (yl k) ∧ yl k < 12) (hc : c ≤ 14) (hg : g < 12) (J : ∀ o, AM (SD nd yl c g G w) (fun S => cst pr S 12) o → post (rI o)) : wpY_cheapest post (nI c, nI g, a_prices, a_needs, a_yields) (nI w) := by
  have bd : ∀ S, cst pr S 12 ≤ 240 := fun S => cst_bd 12 (fun f hf => (hp f hf).2.1)
  have bo : ∀ o, coN (fun S => cst pr S 12) o ≤ 1000 := by
    intro o
    cases o with
    | none => exact Nat.le_refl _
    | some B =>
      have t := bd B
      show cst pr B 12 ≤ 1000
      omega
  refine yg hG hp ?_
  refine loop_0 (fun n i (s : Int32 × Int32) => wY_cheapest_16 post (nI w) (nI G) (nI c) (nI g) a_prices a_needs a_yields n s.1 s.2 (nI i)) (fun i s => ∃ o, s = (rI o, nI (coN (fun S => cst pr S 12) o)) ∧ AM (blw (SD nd yl c g G w) i) (fun S => cst pr S 12) o) (G + 1) (-4, 1000) ⟨none, rfl, AM_0⟩ ?_ ?_
  · rintro n s ⟨o, rfl, h⟩
    exact br_t (nI_lt (Nat.lt_succ_self G) (by omega)) (J o (AM_all (fun S hS => sbs_le hS.2.1) h))
  · rintro n i s hi ⟨o, rfl, h⟩ k
    refine br_f (nI_nlt (by omega) (by omega)) ?_
    by_cases d : sbs w i
    · refine br_t ((ag_sub3 (by omega)).mpr d) (yo hp ?_)
      have b1 := bo o
      have b2 := bd i
      refine pk_le (coN (fun S => cst pr S 12) o) (cst pr i 12) (fun z => ?_) (fun z => ?_)
      · refine nm_r (nI_1 i) (k (rI o, nI (coN (fun S => cst pr S 12) o)) ⟨o, rfl, ?_⟩)
        cases o with
        | none =>
          have e : coN (fun S => cst pr S 12) none = 1000 := rfl
          omega
        | some B => exact AM_keep z h
      · refine yd hG (by omega) hp hn hy hc hg (fun y => ?_) (fun y => ?_)
        · refine br_f (by decide) (yo hp (nm_r (nI_1 i) (k (nI i, nI (cst pr i 12)) ⟨some i, rfl, AM_new ⟨d, y⟩ (fun B e => ?_) h⟩)))
          subst e
          exact z
        · exact br_t rfl (nm_r (nI_1 i) (k (rI o, nI (coN (fun S => cst pr S 12) o)) ⟨o, rfl, AM_skip (fun q => y q.2) h⟩))
    · exact br_f (fun z => d ((ag_sub3 (by omega)).mp z)) (nm_r (nI_1 i) (k (rI o, nI (coN (fun S => cst pr S 12) o)) ⟨o, rfl, AM_skip (fun q => d q.1) h⟩))
theorem y_ls {post : Int32 → Prop} (hG : G < 4096) (hp : PRC G pr a_prices) (hn : ∀ k, a_needs k = nI (nd k) ∧ nd k < 4096) (hy : ∀ k, a_yields k = nI (yl k) ∧ yl k < 12) (hc : c ≤ 14) (hg : g < 12) (J : ∀ l : List Nat, l.Nodup → (∀ x, x ∈ l ↔ LU nd yl c g G x) → post (nI l.length)) : wpY_leastSupports post (nI c, nI g, a_prices, a_needs, a_yields) := by
  refine yg hG hp ?_
  refine loop_0 (fun n i s => wY_leastSupports_9 post (nI G) (nI c) (nI g) a_prices a_needs a_yields n s (nI i)) (fun i s => ∃ l : List Nat, s = nI l.length ∧ l.Nodup ∧ ∀ x, x ∈ l ↔ x < i ∧ LU nd yl c g G x) (G + 1) 0 ⟨[], rfl, List.nodup_nil, fun x => ⟨fun z => absurd z List.not_mem_nil, fun z => absurd z.1 (Nat.not_lt_zero x)⟩⟩ ?_ ?_
  · rintro n s ⟨l, rfl, h1, h2⟩
    exact br_t (nI_lt (Nat.lt_succ_self G) (by omega)) (J l h1 (fun x => (h2 x).trans ⟨fun z => z.2, fun z => ⟨Nat.lt_succ_of_le (sbs_le z.1), z⟩⟩))
  · rintro n i s hi ⟨l, rfl, h1, h2⟩ k
    have sk' : ¬ LU nd yl c g G i → ∀ x, x ∈ l ↔ x < i + 1 ∧ LU nd yl c g G x := by
      intro hn x
      rw [h2 x]
      constructor
      · exact fun z => ⟨by have := z.1; omega, z.2⟩
      · intro z
        by_cases e : x = i
        · subst e
          exact absurd z.2 hn
        · exact ⟨by have := z.1; omega, z.2⟩
    refine br_f (nI_nlt (by omega) (by omega)) ?_
    by_cases d : sbs i G
    · refine br_t ((ag_sub2 (by omega)).mpr d) (ye hn hy hc hg (fun q => ?_) (fun q => ?_))
      · refine br_f (by decide) (nm_r (nI_1 _) (nm_r (nI_1 i) (k _ ⟨i :: l, rfl, List.nodup_cons.mpr ⟨fun z => ?_, h1⟩, fun x => ?_⟩)))
        · have := ((h2 i).mp z).1
          omega
        · rw [List.mem_cons, h2 x]
          constructor
          · rintro (rfl | z)
            · exact ⟨by omega, d, q⟩
            · exact ⟨by have := z.1; omega, z.2⟩
          · intro z
            by_cases e : x = i
            · exact Or.inl e
            · exact Or.inr ⟨by have := z.1; omega, z.2⟩
      · exact br_t rfl (nm_r (nI_1 i) (k _ ⟨l, rfl, h1, sk' (fun z => q z.2)⟩))
    · exact br_f (fun z => d ((ag_sub2 (by omega)).mp z)) (nm_r (nI_1 i) (k _ ⟨l, rfl, h1, sk' (fun z => d z.1)⟩))
theorem y_us {post : Int32 → Prop} (hG : G < 4096) (hp : PRC G pr a_prices) (hn : ∀ k, a_needs k = nI (nd k) ∧ nd k < 4096) (hy : ∀ k, a_yields k = nI (yl k) ∧ yl k < 12) (hc : c ≤ 14) (hg : g < 12) (J : ∀ v : Nat, (∀ f, v.testBit f = true ↔ ∃ S, LU nd yl c g G S ∧ S.testBit f = true) → post (nI v)) : wpY_useful post (nI c, nI g, a_prices, a_needs, a_yields) := by
  refine yg hG hp ?_
  refine loop_0 (fun n i s => wY_useful_9 post (nI G) (nI c) (nI g) a_prices a_needs a_yields n s (nI i)) (fun i s => ∃ v : Nat, s = nI v ∧ ∀ f, v.testBit f = true ↔ ∃ S, (S < i ∧ LU nd yl c g G S) ∧ S.testBit f = true) (G + 1) 0 ⟨0, rfl, fun f => ⟨fun z => absurd z tb_0, fun ⟨S, z, _⟩ => absurd z.1 (Nat.not_lt_zero S)⟩⟩ ?_ ?_
  · rintro n s ⟨v, rfl, h2⟩
    exact br_t (nI_lt (Nat.lt_succ_self G) (by omega)) (J v (fun x => (h2 x).trans ⟨fun ⟨S, z, y⟩ => ⟨S, z.2, y⟩, fun ⟨S, z, y⟩ => ⟨S, ⟨Nat.lt_succ_of_le (sbs_le z.1), z⟩, y⟩⟩))
  · rintro n i s hi ⟨v, rfl, h2⟩ k
    have sk' : ¬ LU nd yl c g G i → ∀ f, v.testBit f = true ↔ ∃ S, (S < i + 1 ∧ LU nd yl c g G S) ∧ S.testBit f = true := by
      intro hn x
      rw [h2 x]
      constructor
      · exact fun ⟨S, z, y⟩ => ⟨S, ⟨by have := z.1; omega, z.2⟩, y⟩
      · rintro ⟨S, z, y⟩
        by_cases e : S = i
        · subst e
          exact absurd z.2 hn
        · exact ⟨S, ⟨by have := z.1; omega, z.2⟩, y⟩
    refine br_f (nI_nlt (by omega) (by omega)) ?_
    by_cases d : sbs i G
    · refine br_t ((ag_sub2 (by omega)).mpr d) (ye hn hy hc hg (fun q => ?_) (fun q => ?_))
      · refine br_f (by decide) (nm_r (ag_or v i) (nm_r (nI_1 i) (k _ ⟨v ||| i, rfl, fun f => ?_⟩)))
        rw [tb_or, h2 f]
        constructor
        · rintro (⟨S, z, y⟩ | z)
          · exact ⟨S, ⟨by have := z.1; omega, z.2⟩, y⟩
          · exact ⟨i, ⟨by omega, d, q⟩, z⟩
        · rintro ⟨S, z, y⟩
          by_cases e : S = i
          · subst e
            exact Or.inr y
          · exact Or.inl ⟨S, ⟨by have := z.1; omega, z.2⟩, y⟩
      · exact br_t rfl (nm_r (nI_1 i) (k _ ⟨v, rfl, sk' (fun z => q z.2)⟩))
    · exact br_f (fun z => d ((ag_sub2 (by omega)).mp z)) (nm_r (nI_1 i) (k _ ⟨v, rfl, sk' (fun z => d z.1)⟩))
theorem y_vt {post : Int32 → Prop} (hG : G < 4096) (hp : PRC G pr a_prices) (hn : ∀ k, a_needs k = nI (nd k) ∧ nd k < 4096) (hy : ∀ k, a_yields k = nI (yl k) ∧ yl k < 12) (hc : c ≤ 14) (hg : g < 12) (J0 : (∀ S, ¬ SU nd yl c g G S) → post 0) (J1 : ∀ v : Nat, (∃ S, SU nd yl c g G S) → (∀ f, v.testBit f = true ↔ G.testBit f = true ∧ ∀ S, SU nd yl c g G S → S.testBit f = true) → post (nI v)) : wpY_vital post (nI c, nI g, a_prices, a_needs, a_yields) := by
  refine yg hG hp ?_
  refine loop_0 (fun n i (s : Int32 × Int32) => wY_vital_12 post (nI G) (nI c) (nI g) a_prices a_needs a_yields n s.1 s.2 (nI i)) (fun i s => ∃ (v : Nat) (b : Bool), s = (nI v, bI b) ∧ (b = true ↔ ∃ S, S < i ∧ SU nd yl c g G S) ∧ ∀ f, v.testBit f = true ↔ G.testBit f = true ∧ ∀ S, S < i → SU nd yl c g G S → S.testBit f = true) (G + 1) (nI G, 0) ⟨G, false, rfl, ⟨fun z => absurd z (by decide), fun ⟨S, z⟩ => absurd z.1 (Nat.not_lt_zero S)⟩, fun f => ⟨fun z => ⟨z, fun S q => absurd q (Nat.not_lt_zero S)⟩, fun z => z.1⟩⟩ ?_ ?_
  · rintro n s ⟨v, b, rfl, h1, h2⟩
    refine br_t (nI_lt (Nat.lt_succ_self G) (by omega)) ?_
    cases b
    · refine br_t rfl (J0 (fun S hS => ?_))
      exact absurd (h1.mpr ⟨S, Nat.lt_succ_of_le (sbs_le hS.1), hS⟩) (by decide)
    · refine br_f (show ¬ bI true = 0 by decide) (J1 v ?_ (fun f => (h2 f).trans ⟨fun z => ⟨z.1, fun S hS => z.2 S (Nat.lt_succ_of_le (sbs_le hS.1)) hS⟩, fun z => ⟨z.1, fun S _ hS => z.2 S hS⟩⟩))
      obtain ⟨S, _, hS⟩ := h1.mp rfl
      exact ⟨S, hS⟩
  · rintro n i s hi ⟨v, b, rfl, h1, h2⟩ k
    have sk1 : ¬ SU nd yl c g G i → (b = true ↔ ∃ S, S < i + 1 ∧ SU nd yl c g G S) := by
      intro hn
      rw [h1]
      constructor
      · exact fun ⟨S, z, y⟩ => ⟨S, by omega, y⟩
      · rintro ⟨S, z, y⟩
        by_cases e : S = i
        · subst e
          exact absurd y hn
        · exact ⟨S, by omega, y⟩
    have sk2 : ¬ SU nd yl c g G i → ∀ f, v.testBit f = true ↔ G.testBit f = true ∧ ∀ S, S < i + 1 → SU nd yl c g G S → S.testBit f = true := by
      intro hn f
      rw [h2 f]
      constructor
      · refine fun z => ⟨z.1, fun S hS y => ?_⟩
        by_cases e : S = i
        · subst e
          exact absurd y hn
        · exact z.2 S (by omega) y
      · exact fun z => ⟨z.1, fun S hS y => z.2 S (by omega) y⟩
    refine br_f (nI_nlt (by omega) (by omega)) ?_
    by_cases d : sbs i G
    · refine br_t ((ag_sub2 (by omega)).mpr d) (yi hn hy hc hg ?_)
      cases e : sp nd yl c g i
      · have ne : ¬ SU nd yl c g G i := fun z => absurd (e.symm.trans z.2) (by decide)
        exact br_t rfl (nm_r (nI_1 i) (k (nI v, bI b) ⟨v, b, rfl, sk1 ne, sk2 ne⟩))
      · refine br_f (by decide) (nm_r (nx_and v i) (nm_r (nI_1 i) (k (nI (v &&& i), bI true) ⟨v &&& i, true, rfl, ⟨fun _ => ⟨i, by omega, d, e⟩, fun _ => rfl⟩, fun f => ?_⟩)))
        rw [tb_and, h2 f]
        constructor
        · rintro ⟨⟨z1, z2⟩, z3⟩
          refine ⟨z1, fun S hS y => ?_⟩
          by_cases e : S = i
          · subst e
            exact z3
          · exact z2 S (by omega) y
        · rintro ⟨z1, z2⟩
          exact ⟨⟨z1, fun S hS y => z2 S (by omega) y⟩, z2 i (by omega) ⟨d, e⟩⟩
    · have ne : ¬ SU nd yl c g G i := fun z => d z.1
      exact br_f (fun z => d ((ag_sub2 (by omega)).mp z)) (nm_r (nI_1 i) (k (nI v, bI b) ⟨v, b, rfl, sk1 ne, sk2 ne⟩))
end
end
section
/-! ===== the plain law: families of index sets against sets of facts ===== -/
theorem AC_eq : ∀ {L : List Nat}, AC L → ∀ {a b : Nat}, a ∈ L → b ∈ L → sbs a b → a = b := by
  intro L
  induction L with
  | nil => exact fun _ _ _ h => absurd h List.not_mem_nil
  | cons x L ih =>
    intro h a b ha hb s
    obtain ⟨h1, h2⟩ := List.pairwise_cons.mp h
    rcases List.mem_cons.mp ha with e | ha'
    · rcases List.mem_cons.mp hb with e' | hb'
      · rw [e, e']
      · rw [e] at s
        exact absurd s (h1 b hb').1
    · rcases List.mem_cons.mp hb with e' | hb'
      · rw [e'] at s
        exact absurd s (h1 a ha').2
      · exact ih h2 ha' hb' s
theorem asF_del {G T f : Nat} (hG : G.testBit f = true) : asF G (df T (2 ^ rk G f)) = df (asF G T) (2 ^ f) := by
  apply tb_ext
  intro h
  rw [tb_asF, tb_df, tb_df, tb_asF, tb_pow, tb_pow]
  constructor
  · rintro ⟨a, b, x, y⟩
    exact ⟨⟨a, b, x⟩, fun e => y (by rw [e])⟩
  · rintro ⟨⟨a, b, x⟩, y⟩
    exact ⟨a, b, x, fun e => y (rk_inj hG b e)⟩
theorem asF_bit {G f : Nat} (hf : f < 12) (hG : G.testBit f = true) : asF G (2 ^ rk G f) = 2 ^ f := by
  apply tb_ext
  intro h
  rw [tb_asF, tb_pow, tb_pow]
  constructor
  · rintro ⟨a, b, e⟩
    exact rk_inj hG b e
  · intro e
    subst e
    exact ⟨hf, hG, rfl⟩
theorem sp_mono {nd yl : Nat → Nat} {c g S T : Nat} (h : sbs S T) (k : sp nd yl c g S = true) : sp nd yl c g T = true := rch_mono h g k
section
variable {nd yl : Nat → Nat} {c g G : Nat} {F : List Nat}
/-- a member is a least support -/
theorem lw_mem (hA : AC F) (cF : ∀ T, (cov F T ↔ sp nd yl c g (asF G T) = true)) {x : Nat} (hx : x ∈ F) : LU nd yl c g G (asF G x) := by
  refine ⟨asF_sub G x, (cF x).mp ⟨x, hx, sbs_rf x⟩, fun f hf hs => ?_⟩
  obtain ⟨_, b, d⟩ := tb_asF.mp hs
  cases e : sp nd yl c g (df (asF G x) (2 ^ f))
  · rfl
  · rw [← asF_del b, ← cF] at e
    obtain ⟨m, hm, s⟩ := e
    have q := AC_eq hA hm hx (sbs_tr s (sbs_df _ _))
    subst q
    exact absurd (tb_pow.mpr rfl) (tb_df.mp (s _ d)).2
theorem lw_get (hG : G < 4096) (cF : ∀ T, (cov F T ↔ sp nd yl c g (asF G T) = true)) {S : Nat} (h : LU nd yl c g G S) : ∃ x, x ∈ F ∧ asF G x = S := by
  have e := asF_asI hG h.1
  obtain ⟨m, hm, s⟩ := (cF (asI G S)).mpr (by rw [e]; exact h.2.1)
  refine ⟨m, hm, ?_⟩
  by_cases q : m = asI G S
  · rw [q]
    exact e
  · obtain ⟨i, h1, h2⟩ := sb_diff s q
    obtain ⟨f, f1, f2, rfl⟩ := rk_surj 12 (tb_lt (asI_lt h.1) h1)
    have t : sbs m (df (asI G S) (2 ^ rk G f)) := fun j hj => tb_df.mpr ⟨s j hj, fun z => h2 (by rw [tb_pow.mp z]; exact hj)⟩
    have u := (cF _).mp ⟨m, hm, t⟩
    rw [asF_del f2, e] at u
    have v := h.2.2 f f1 (by rw [← e]; exact tb_asF.mpr ⟨f1, f2, h1⟩)
    rw [u] at v
    exact absurd v (by decide)
theorem lw_len (hG : G < 4096) (hA : AC F) (bF : bdl (rk G 12) F) (cF : ∀ T, (cov F T ↔ sp nd yl c g (asF G T) = true)) {l : List Nat} (hl : l.Nodup) (hm : ∀ x, x ∈ l ↔ LU nd yl c g G x) : l.length = F.length := by
  have n : (F.map (asF G)).Nodup := by
    rw [List.nodup_iff_pairwise_ne, List.pairwise_map]
    refine List.Pairwise.imp_of_mem (fun {a b} ha hb k e => ?_) hA
    have q := asF_inj (bF a ha) (bF b hb) e
    subst q
    exact k.1 (sbs_rf a)
  have s1 : F.map (asF G) ⊆ l := by
    intro y hy
    obtain ⟨x, hx, rfl⟩ := List.mem_map.mp hy
    exact (hm _).mpr (lw_mem hA cF hx)
  have s2 : l ⊆ F.map (asF G) := by
    intro y hy
    obtain ⟨x, hx, e⟩ := lw_get hG cF ((hm y).mp hy)
    exact List.mem_map.mpr ⟨x, hx, e⟩
  have a := List.Nodup.length_le_of_subset n s1
  have b := List.Nodup.length_le_of_subset hl s2
  rw [List.length_map] at a b
  omega
/-- a support holds a member -/
theorem lw_sup (hG : G < 4096) (cF : ∀ T, (cov F T ↔ sp nd yl c g (asF G T) = true)) {S : Nat} (h : SU nd yl c g G S) : ∃ x, x ∈ F ∧ sbs (asF G x) S := by
  have e := asF_asI hG h.1
  obtain ⟨m, hm, s⟩ := (cF (asI G S)).mpr (by rw [e]; exact h.2)
  have t := asF_mono (G := G) s
  rw [e] at t
  exact ⟨m, hm, t⟩
theorem lw_mn {wt : Nat → Nat} (hG : G < 4096) (hA : AC F) (cF : ∀ T, (cov F T ↔ sp nd yl c g (asF G T) = true)) {o : Option Nat} (h : MN (fun x => x ∈ F) (cc wt G) o) : MN (SU nd yl c g G) (fun S => cst wt S 12) o := by
  refine ⟨fun m e => ?_, fun S hS => ?_⟩
  · obtain ⟨x, hx, q⟩ := h.1 m e
    have t := lw_mem hA cF hx
    exact ⟨asF G x, ⟨t.1, t.2.1⟩, q⟩
  · obtain ⟨x, hx, s⟩ := lw_sup hG cF hS
    obtain ⟨m, e, l⟩ := h.2 x hx
    exact ⟨m, e, Nat.le_trans l (cst_mono s 12)⟩
def andL (v : Nat) (R : List Nat) : Nat := R.foldl (fun a b => a &&& b) v
def orL (v : Nat) (R : List Nat) : Nat := R.foldl (fun a b => a ||| b) v
theorem tb_andL {i : Nat} : ∀ (R : List Nat) (v : Nat), (andL v R).testBit i = true ↔ v.testBit i = true ∧ ∀ x, x ∈ R → x.testBit i = true := by
  intro R
  induction R with
  | nil => exact fun v => ⟨fun h => ⟨h, fun x hx => absurd hx List.not_mem_nil⟩, fun h => h.1⟩
  | cons m R ih =>
    intro v
    show (andL (v &&& m) R).testBit i = true ↔ _
    rw [ih, tb_and]
    constructor
    · rintro ⟨⟨a, b⟩, d⟩
      refine ⟨a, fun x hx => ?_⟩
      rcases List.mem_cons.mp hx with rfl | hx
      · exact b
      · exact d x hx
    · rintro ⟨a, b⟩
      exact ⟨⟨a, b m List.mem_cons_self⟩, fun x hx => b x (List.mem_cons_of_mem _ hx)⟩
theorem tb_orL {i : Nat} : ∀ (R : List Nat) (v : Nat), (orL v R).testBit i = true ↔ v.testBit i = true ∨ ∃ x, x ∈ R ∧ x.testBit i = true := by
  intro R
  induction R with
  | nil => exact fun v => ⟨Or.inl, fun h => h.elim id (fun ⟨x, hx, _⟩ => absurd hx List.not_mem_nil)⟩
  | cons m R ih =>
    intro v
    show (orL (v ||| m) R).testBit i = true ↔ _
    rw [ih, tb_or]
    constructor
    · rintro ((a | b) | ⟨x, hx, d⟩)
      · exact Or.inl a
      · exact Or.inr ⟨m, List.mem_cons_self, b⟩
      · exact Or.inr ⟨x, List.mem_cons_of_mem _ hx, d⟩
    · rintro (a | ⟨x, hx, d⟩)
      · exact Or.inl (Or.inl a)
      · rcases List.mem_cons.mp hx with rfl | hx
        · exact Or.inl (Or.inr d)
        · exact Or.inr ⟨x, hx, d⟩
theorem lw_vt (hG : G < 4096) (hq : rk G 12 ≤ 8) (hA : AC F) (cF : ∀ T, (cov F T ↔ sp nd yl c g (asF G T) = true)) {v : Nat} (hv : ∀ f, v.testBit f = true ↔ G.testBit f = true ∧ ∀ S, SU nd yl c g G S → S.testBit f = true) : v = asF G (andL 255 F) := by
  apply tb_ext
  intro f
  rw [hv, tb_asF, tb_andL]
  constructor
  · rintro ⟨a, b⟩
    have hf : f < 12 := tb_lt (n := 12) hG a
    have l := rk_lt hf a
    refine ⟨hf, a, ?_, fun x hx => ?_⟩
    · show (2 ^ 8 - 1).testBit (rk G f) = true
      rw [Nat.testBit_two_pow_sub_one, decide_eq_true_iff]
      omega
    · have t := lw_mem hA cF hx
      exact (tb_asF.mp (b _ ⟨t.1, t.2.1⟩)).2.2
  · rintro ⟨hf, a, _, b⟩
    refine ⟨a, fun S hS => ?_⟩
    obtain ⟨x, hx, s⟩ := lw_sup hG cF hS
    exact s f (tb_asF.mpr ⟨hf, a, b x hx⟩)
theorem lw_us (hG : G < 4096) (hA : AC F) (cF : ∀ T, (cov F T ↔ sp nd yl c g (asF G T) = true)) {v : Nat} (hv : ∀ f, v.testBit f = true ↔ ∃ S, LU nd yl c g G S ∧ S.testBit f = true) : v = asF G (orL 0 F) := by
  apply tb_ext
  intro f
  rw [hv, tb_asF, tb_orL]
  constructor
  · rintro ⟨S, h, b⟩
    obtain ⟨x, hx, rfl⟩ := lw_get hG cF h
    obtain ⟨h1, h2, h3⟩ := tb_asF.mp b
    exact ⟨h1, h2, Or.inr ⟨x, hx, h3⟩⟩
  · rintro ⟨h1, h2, z | ⟨x, hx, h3⟩⟩
    · exact absurd z tb_0
    · exact ⟨asF G x, lw_mem hA cF hx, tb_asF.mpr ⟨h1, h2, h3⟩⟩
/-- the search's answer in facts -/
theorem lw_am {wt : Nat → Nat} {must : Nat} (hG : G < 4096) (hmu : must < 2 ^ rk G 12) {o : Option Nat} (h1 : ∀ B, o = some B → PT nd yl c G g must B) (h2 : ∀ T, PT nd yl c G g must T → BB (cc wt G) o T) : AM (SD nd yl c g G (asF G must)) (fun S => cst wt S 12) (o.map (asF G)) := by
  constructor
  · intro S e
    cases o with
    | none => exact absurd e (by simp)
    | some B =>
      cases e
      obtain ⟨a, b, d⟩ := h1 B rfl
      refine ⟨asF_mono b, asF_sub G B, ?_⟩
      cases q : sp nd yl c g (df G (asF G B))
      · rfl
      · exact absurd q d
  · intro S hS
    have e := asF_asI hG hS.2.1
    have l := asI_lt hS.2.1
    have p : PT nd yl c G g must (asI G S) := by
      refine ⟨l, asF_refl hmu (by rw [e]; exact hS.1), ?_⟩
      rw [e]
      intro z
      exact absurd (hS.2.2.symm.trans z) (by decide)
    obtain ⟨B, e', z⟩ := h2 _ p
    subst e'
    have t := (asF_ordI (h1 B rfl).1 l)
    unfold cc at z
    rw [e] at z t
    refine ⟨asF G B, rfl, ?_⟩
    rcases z with z | ⟨z, z'⟩
    · exact Or.inl z
    · exact Or.inr ⟨z, t.mpr z'⟩
theorem lw_sh {w : Nat} {C : Nat → Nat} {o : Option Nat} (hw : w = 0) (h : MN (SD nd yl c g G w) C o) : MN (SH nd yl c g G) C o := by
  subst hw
  refine ⟨fun m e => ?_, fun T hT => h.2 T ⟨sbs_0 T, hT⟩⟩
  obtain ⟨S, a, b⟩ := h.1 m e
  exact ⟨S, a.2, b⟩
end
end
section
/-! ===== the component's methods over a made family ===== -/
section
variable {f_givenSet f_count f_goal f_indices f_ready f_workSize f_nextSize f_byCount f_bestCost f_bestSet f_stacked : Int32} {a_price a_needs a_yield a_factAt a_size a_family a_work a_next a_chosen a_barred : Nat → Int32}
variable {nd yl : Nat → Nat}
def MK (K : Nat → Prop) (m : Nat) : Nat → Prop := fun x => K x ∨ x = m
theorem MN_iff {P P' : Nat → Prop} {C : Nat → Nat} {o : Option Nat} (e : ∀ x, P x ↔ P' x) (h : MN P C o) : MN P' C o := by
  refine ⟨fun m q => ?_, fun T hT => h.2 T ((e T).mpr hT)⟩
  obtain ⟨S, a, b⟩ := h.1 m q
  exact ⟨S, (e S).mp a, b⟩
theorem MK_new {K : Nat → Prop} {C : Nat → Nat} {m : Nat} {o : Option Nat} (hl : ∀ k, o = some k → C m < k) (h : MN K C o) : MN (MK K m) C (some (C m)) := by
  refine ⟨fun k e => ?_, fun T hT => ⟨C m, rfl, ?_⟩⟩
  · cases e
    exact ⟨m, Or.inr rfl, rfl⟩
  · rcases hT with hT | rfl
    · obtain ⟨k, e', l⟩ := h.2 T hT
      have := hl k e'
      omega
    · exact Nat.le_refl _
theorem MK_keep {K : Nat → Prop} {C : Nat → Nat} {m k : Nat} (hk : k ≤ C m) (h : MN K C (some k)) : MN (MK K m) C (some k) := by
  refine ⟨fun j e => ?_, fun T hT => ?_⟩
  · obtain ⟨S, a, b⟩ := h.1 j e
    exact ⟨S, Or.inl a, b⟩
  · rcases hT with hT | rfl
    · exact h.2 T hT
    · exact ⟨k, rfl, hk⟩
theorem xcs_14 {post : Int32 → SX → Prop} {G g N : Nat} {wt : Nat → Nat} (hq : rk G 12 ≤ 8) (hA : FA G a_factAt) (hw : CW G f_byCount a_price wt) (h20 : ∀ f, f < 12 → wt f ≤ 20) (hg : g < 12) (hN : N ≤ 70) (hsz : a_size g = nI N) : ∀ (R : List Nat) (j n : Nat) (K : Nat → Prop) (o : Option Nat), j + R.length = N → sg a_family (g * 72 + j) R → MN K (cc wt G) o → R.length < n → (∀ o, MN (fun x => K x ∨ x ∈ R) (cc wt G) o → post (rI o) (f_givenSet, f_count, nI g, nI (rk G 12), f_ready, f_workSize, f_nextSize, f_byCount, f_bestCost, f_bestSet, f_stacked, a_price, a_needs, a_yield, a_factAt, a_size, a_family, a_work, a_next, a_chosen, a_barred)) → wX_cheapestSupport_14 post f_givenSet f_count (nI g) (nI (rk G 12)) f_ready f_workSize f_nextSize f_byCount f_bestCost f_bestSet f_stacked a_price a_needs a_yield a_factAt a_size a_family a_work a_next a_chosen a_barred n (rI o) (nI j) := by
  intro R
  induction R with
  | nil =>
    intro j n K o hj sR hK hn J
    obtain ⟨n, rfl⟩ : ∃ m, n = m + 1 := ⟨n - 1, by omega⟩
    rw [List.length_nil] at hj
    refine ⟨vp_in_nI hg (by decide), ?_⟩
    rw [nI_clamp (show g < 2 ^ 31 by omega), hsz]
    exact pk_le N j (fun _ => J o (MN_iff (fun x => ⟨Or.inl, fun z => z.elim id (fun z => absurd z List.not_mem_nil)⟩) hK)) (fun z => absurd z (by omega))
  | cons m R ih =>
    intro j n K o hj sR hK hn J
    obtain ⟨n, rfl⟩ : ∃ m, n = m + 1 := ⟨n - 1, by omega⟩
    rw [List.length_cons] at hj hn
    refine ⟨vp_in_nI hg (by decide), ?_⟩
    rw [nI_clamp (show g < 2 ^ 31 by omega), hsz]
    refine pk_le N j (fun z => absurd z (by omega)) (fun _ => ?_)
    rw [ag_ix, nI_clamp (show g * 72 + j < 2 ^ 31 by omega), sR.1]
    refine ⟨vp_in_nI (by omega) (by decide), xo hq hA hw ?_⟩
    have J' : ∀ o, MN (fun x => MK K m x ∨ x ∈ R) (cc wt G) o → post (rI o) (f_givenSet, f_count, nI g, nI (rk G 12), f_ready, f_workSize, f_nextSize, f_byCount, f_bestCost, f_bestSet, f_stacked, a_price, a_needs, a_yield, a_factAt, a_size, a_family, a_work, a_next, a_chosen, a_barred) := fun o h => J o (MN_iff (fun x => by
      show (K x ∨ x = m) ∨ x ∈ R ↔ K x ∨ x ∈ m :: R
      rw [List.mem_cons, or_assoc]) h)
    have hm240 := cc_bd (G := G) (T := m) h20
    cases o with
    | none => exact br_t (show (-4 : Int32) < 0 by decide) (nm_r (nI_1 j) (ih (j + 1) n (MK K m) (some (cc wt G m)) (by omega) sR.2 (MK_new (fun k e => absurd e (by simp)) hK) (by omega) J'))
    | some k =>
      have hk : k ≤ 240 := by
        obtain ⟨S, _, e⟩ := hK.1 k rfl
        rw [← e]
        exact cc_bd h20
      refine br_f (nI_pos (by omega)) (pk_le k (cc wt G m) (fun z => ?_) (fun z => ?_))
      · exact nm_r (nI_1 j) (ih (j + 1) n (MK K m) (some k) (by omega) sR.2 (MK_keep z hK) (by omega) J')
      · exact nm_r (nI_1 j) (ih (j + 1) n (MK K m) (some (cc wt G m)) (by omega) sR.2 (MK_new (fun k' e => by cases e; exact z) hK) (by omega) J')
theorem xvt_10 {post : Int32 → SX → Prop} {G g N : Nat} (hq : rk G 12 ≤ 8) (hA : FA G a_factAt) (hg : g < 12) (hN : N ≤ 70) (hsz : a_size g = nI N) : ∀ (R : List Nat) (j n v : Nat), j + R.length = N → sg a_family (g * 72 + j) R → R.length < n → (N = 0 → post 0 (f_givenSet, f_count, nI g, nI (rk G 12), f_ready, f_workSize, f_nextSize, f_byCount, f_bestCost, f_bestSet, f_stacked, a_price, a_needs, a_yield, a_factAt, a_size, a_family, a_work, a_next, a_chosen, a_barred)) → (N ≠ 0 → post (nI (asF G (andL v R))) (f_givenSet, f_count, nI g, nI (rk G 12), f_ready, f_workSize, f_nextSize, f_byCount, f_bestCost, f_bestSet, f_stacked, a_price, a_needs, a_yield, a_factAt, a_size, a_family, a_work, a_next, a_chosen, a_barred)) → wX_vital_10 post f_givenSet f_count (nI g) (nI (rk G 12)) f_ready f_workSize f_nextSize f_byCount f_bestCost f_bestSet f_stacked a_price a_needs a_yield a_factAt a_size a_family a_work a_next a_chosen a_barred n (nI v) (nI j) := by
  intro R
  induction R with
  | nil =>
    intro j n v hj sR hn J0 J1
    obtain ⟨n, rfl⟩ : ∃ m, n = m + 1 := ⟨n - 1, by omega⟩
    rw [List.length_nil] at hj
    refine ⟨vp_in_nI hg (by decide), ?_⟩
    rw [nI_clamp (show g < 2 ^ 31 by omega), hsz]
    exact pk_le N j (fun _ => ⟨vp_in_nI hg (by decide), pk_eq N 0 J0 (fun z => xz hq hA (J1 z))⟩) (fun z => absurd z (by omega))
  | cons m R ih =>
    intro j n v hj sR hn J0 J1
    obtain ⟨n, rfl⟩ : ∃ m, n = m + 1 := ⟨n - 1, by omega⟩
    rw [List.length_cons] at hj hn
    refine ⟨vp_in_nI hg (by decide), ?_⟩
    rw [nI_clamp (show g < 2 ^ 31 by omega), hsz]
    refine pk_le N j (fun z => absurd z (by omega)) (fun _ => ?_)
    rw [ag_ix, nI_clamp (show g * 72 + j < 2 ^ 31 by omega), sR.1]
    exact ⟨vp_in_nI (by omega) (by decide), nm_r (nx_and v m) (nm_r (nI_1 j) (ih (j + 1) n (v &&& m) (by omega) sR.2 (by omega) J0 J1))⟩
theorem xus_8 {post : Int32 → SX → Prop} {G g N : Nat} (hq : rk G 12 ≤ 8) (hA : FA G a_factAt) (hg : g < 12) (hN : N ≤ 70) (hsz : a_size g = nI N) : ∀ (R : List Nat) (j n v : Nat), j + R.length = N → sg a_family (g * 72 + j) R → R.length < n → post (nI (asF G (orL v R))) (f_givenSet, f_count, nI g, nI (rk G 12), f_ready, f_workSize, f_nextSize, f_byCount, f_bestCost, f_bestSet, f_stacked, a_price, a_needs, a_yield, a_factAt, a_size, a_family, a_work, a_next, a_chosen, a_barred) → wX_useful_8 post f_givenSet f_count (nI g) (nI (rk G 12)) f_ready f_workSize f_nextSize f_byCount f_bestCost f_bestSet f_stacked a_price a_needs a_yield a_factAt a_size a_family a_work a_next a_chosen a_barred n (nI v) (nI j) := by
  intro R
  induction R with
  | nil =>
    intro j n v hj sR hn J1
    obtain ⟨n, rfl⟩ : ∃ m, n = m + 1 := ⟨n - 1, by omega⟩
    rw [List.length_nil] at hj
    refine ⟨vp_in_nI hg (by decide), ?_⟩
    rw [nI_clamp (show g < 2 ^ 31 by omega), hsz]
    exact pk_le N j (fun _ => xz hq hA J1) (fun z => absurd z (by omega))
  | cons m R ih =>
    intro j n v hj sR hn J1
    obtain ⟨n, rfl⟩ : ∃ m, n = m + 1 := ⟨n - 1, by omega⟩
    rw [List.length_cons] at hj hn
    refine ⟨vp_in_nI hg (by decide), ?_⟩
    rw [nI_clamp (show g < 2 ^ 31 by omega), hsz]
    refine pk_le N j (fun z => absurd z (by omega)) (fun _ => ?_)
    rw [ag_ix, nI_clamp (show g * 72 + j < 2 ^ 31 by omega), sR.1]
    exact ⟨vp_in_nI (by omega) (by decide), nm_r (ag_or v m) (nm_r (nI_1 j) (ih (j + 1) n (v ||| m) (by omega) sR.2 (by omega) J1))⟩
/-- shieldWith's loop finds the fact's index -/
theorem xwi_37 {post : Int32 → SX → Prop} {G f : Nat} (hq : rk G 12 ≤ 8) (hA : FA G a_factAt) (hf : f < 12) (hGf : G.testBit f = true) (J : wpX_search (fun u => match u with | (f_givenSet, f_count, f_goal, f_indices, f_ready, f_workSize, f_nextSize, f_byCount, f_bestCost, f_bestSet, f_stacked, a_price, a_needs, a_yield, a_factAt, a_size, a_family, a_work, a_next, a_chosen, a_barred) => (((0 ≤ f_bestSet → (post f_bestCost (f_givenSet, f_count, f_goal, f_indices, f_ready, f_workSize, f_nextSize, f_byCount, f_bestCost, f_bestSet, f_stacked, a_price, a_needs, a_yield, a_factAt, a_size, a_family, a_work, a_next, a_chosen, a_barred))) ∧ (¬ 0 ≤ f_bestSet → (post (-4) (f_givenSet, f_count, f_goal, f_indices, f_ready, f_workSize, f_nextSize, f_byCount, f_bestCost, f_bestSet, f_stacked, a_price, a_needs, a_yield, a_factAt, a_size, a_family, a_work, a_next, a_chosen, a_barred)))))) (f_givenSet, f_count, f_goal, nI (rk G 12), f_ready, f_workSize, f_nextSize, f_byCount, f_bestCost, f_bestSet, f_stacked, a_price, a_needs, a_yield, a_factAt, a_size, a_family, a_work, a_next, a_chosen, a_barred) (nI (2 ^ rk G f))) : ∃ n, wX_shieldWith_37 post (nI f) f_givenSet f_count f_goal (nI (rk G 12)) f_ready f_workSize f_nextSize f_byCount f_bestCost f_bestSet f_stacked a_price a_needs a_yield a_factAt a_size a_family a_work a_next a_chosen a_barred n 0 0 := by
  have hl := rk_lt hf hGf
  refine loop_0 (fun n i s => wX_shieldWith_37 post (nI f) f_givenSet f_count f_goal (nI (rk G 12)) f_ready f_workSize f_nextSize f_byCount f_bestCost f_bestSet f_stacked a_price a_needs a_yield a_factAt a_size a_family a_work a_next a_chosen a_barred n s (nI i)) (fun i s => s = nI (if rk G f < i then rk G f else 0)) (rk G 12) 0 ?_ ?_ ?_
  · show (0 : Int32) = nI (if rk G f < 0 then rk G f else 0)
    rw [if_neg (Nat.not_lt_zero _)]
    rfl
  · intro n s e
    rw [if_pos hl] at e
    subst e
    refine br_t (nI_le (Nat.le_refl _) (by omega)) ?_
    rw [ag_1 _ (by omega)]
    exact J
  · intro n i s hi e k
    subst e
    obtain ⟨h, h1, h2, rfl⟩ := rk_surj 12 hi
    refine br_f (nI_ge hi (by omega)) ⟨vp_in_nI (by omega) (by decide), ?_⟩
    rw [nI_clamp (show rk G h < 2 ^ 31 by omega), hA h h1 h2]
    refine pk_eq h f (fun e => ?_) (fun e => ?_)
    · subst e
      exact nm_r (nI_1 _) (k _ (by rw [if_pos (Nat.lt_succ_self _)]))
    · refine nm_r (nI_1 _) (k _ (congrArg nI ?_))
      have ne : rk G f ≠ rk G h := fun z => e (rk_inj hGf h2 z).symm
      by_cases l : rk G f < rk G h
      · rw [if_pos l, if_pos (by omega)]
      · rw [if_neg l, if_neg (by omega)]
end
end
section
/-! ===== the relation, and the methods that make no families ===== -/
def RL (G c g : Nat) (nd yl pr : Nat → Nat) (fi fr : Int32) (aP aN aY aA aS aF aQ : Nat → Int32) : Prop := (G < 4096 ∧ rk G 12 ≤ 8 ∧ c ≤ 14 ∧ g < 12) ∧ (∀ k, aN k = nI (nd k) ∧ nd k < 4096) ∧ (∀ k, aY k = nI (yl k) ∧ yl k < 12) ∧ (∀ f, f < 12 → G.testBit f = true → aP f = nI (pr f)) ∧ PRC G pr aQ ∧ (fr = 0 ∨ (fr = 1 ∧ RDY G c nd yl fi aA aS aF))
def i_Rel (k : Nat) (u : SX) (v : SY) : Prop := ∃ (G c g : Nat) (nd yl pr : Nat → Nat), match u with
  | (f_givenSet, f_count, f_goal, f_indices, f_ready, f_workSize, f_nextSize, f_byCount, f_bestCost, f_bestSet, f_stacked, a_price, a_needs, a_yield, a_factAt, a_size, a_family, a_work, a_next, a_chosen, a_barred) => match v with
    | (y_count, y_goal, a_prices, y_needs, y_yields) => (f_givenSet = nI G ∧ f_count = nI c ∧ f_goal = nI g ∧ y_count = nI c ∧ y_goal = nI g ∧ a_needs = y_needs ∧ a_yield = y_yields) ∧ RL G c g nd yl pr f_indices f_ready a_price a_needs a_yield a_factAt a_size a_family a_prices
theorem zz_el {k : Nat} {u : SX} {v : SY} {P : SX → SY → Prop} (h : ∀ (G c g : Nat) (nd yl pr : Nat → Nat) (f_indices f_ready f_workSize f_nextSize f_byCount f_bestCost f_bestSet f_stacked : Int32) (a_price a_needs a_yield a_factAt a_size a_family a_work a_next a_chosen a_barred a_prices : Nat → Int32), RL G c g nd yl pr f_indices f_ready a_price a_needs a_yield a_factAt a_size a_family a_prices → P (nI G, nI c, nI g, f_indices, f_ready, f_workSize, f_nextSize, f_byCount, f_bestCost, f_bestSet, f_stacked, a_price, a_needs, a_yield, a_factAt, a_size, a_family, a_work, a_next, a_chosen, a_barred) (nI c, nI g, a_prices, a_needs, a_yield)) (I : i_Rel k u v) : P u v := by
  obtain ⟨f_givenSet, f_count, f_goal, f_indices, f_ready, f_workSize, f_nextSize, f_byCount, f_bestCost, f_bestSet, f_stacked, a_price, a_needs, a_yield, a_factAt, a_size, a_family, a_work, a_next, a_chosen, a_barred⟩ := u
  obtain ⟨y_count, y_goal, a_prices, y_needs, y_yields⟩ := v
  obtain ⟨G, c, g, nd, yl, pr, ⟨e1, e2, e3, e4, e5, e6, e7⟩, r⟩ := I
  subst e1 e2 e3 e4 e5 e6 e7
  exact h G c g nd yl pr f_indices f_ready f_workSize f_nextSize f_byCount f_bestCost f_bestSet f_stacked a_price a_needs a_yield a_factAt a_size a_family a_work a_next a_chosen a_barred a_prices r
section
variable {f_givenSet f_count f_goal f_indices f_ready f_workSize f_nextSize f_byCount f_bestCost f_bestSet f_stacked : Int32} {a_price a_needs a_yield a_factAt a_size a_family a_work a_next a_chosen a_barred : Nat → Int32} {a_prices : Nat → Int32} {G c g : Nat} {nd yl pr : Nat → Nat}
theorem zz_in {k : Nat} (h : RL G c g nd yl pr f_indices f_ready a_price a_needs a_yield a_factAt a_size a_family a_prices) : i_Rel k (nI G, nI c, nI g, f_indices, f_ready, f_workSize, f_nextSize, f_byCount, f_bestCost, f_bestSet, f_stacked, a_price, a_needs, a_yield, a_factAt, a_size, a_family, a_work, a_next, a_chosen, a_barred) (nI c, nI g, a_prices, a_needs, a_yield) :=
  ⟨G, c, g, nd, yl, pr, ⟨rfl, rfl, rfl, rfl, rfl, rfl, rfl⟩, h⟩
end
theorem i_up {k : Nat} {u : SX} {v : SY} (h : i_Rel k u v) : i_Rel (k + 3) u v := h
theorem i_vc0 : wpX_init (fun u => wpY_init (fun v => i_Rel 0 u v)) := by
  refine ⟨0, 0, 0, fun _ => 0, fun _ => 0, fun _ => 0, ⟨rfl, rfl, rfl, rfl, rfl, rfl, rfl⟩, ⟨by decide, ?_, by decide, by decide⟩, fun _ => ⟨rfl, (by decide : 0 < 4096)⟩, fun _ => ⟨rfl, (by decide : 0 < 12)⟩, fun f _ z => absurd z tb_0, fun f _ => ⟨rfl, (by decide : 0 ≤ 20), ⟨fun z => absurd z tb_0, fun z => absurd z (by decide : ¬ 0 < 0)⟩⟩, Or.inl rfl⟩
  show cst on1 0 12 ≤ 8
  rw [cst_0]
  decide
theorem gv_p {x : Int32} (h1 : ¬ x < 1) (h2 : x ≤ 20) : ∃ p : Nat, 1 ≤ p ∧ p ≤ 20 ∧ x = nI p := by
  rcases pk_ix x (n := 21) (by decide) with h | h | ⟨j, hj, e⟩
  · exact absurd (Int32.lt_trans h (show (0 : Int32) < 1 by decide)) h1
  · exact absurd (Int32.le_trans h h2) (show ¬ nI 21 ≤ 20 by decide)
  · subst e
    refine ⟨j, ?_, by omega, rfl⟩
    rcases Nat.eq_zero_or_pos j with z | z
    · subst z
      exact absurd (show nI 0 < 1 by decide) h1
    · exact z
theorem gv_n {x : Int32} (h1 : ¬ x < 0) (h2 : ¬ 4095 < x) : ∃ p : Nat, p < 4096 ∧ x = nI p := by
  rcases pk_ix x (n := 4096) (by decide) with h | h | h
  · exact absurd h h1
  · exact absurd (Int32.lt_of_lt_of_le (show (4095 : Int32) < nI 4096 by decide) h) h2
  · exact h
section
variable {f_givenSet f_count f_goal f_indices f_ready f_workSize f_nextSize f_byCount f_bestCost f_bestSet f_stacked : Int32} {a_price a_needs a_yield a_factAt a_size a_family a_work a_next a_chosen a_barred : Nat → Int32} {G : Nat}
theorem xg_77 {post : Int32 → SX → Prop} {f p : Nat} {z0 : Int32} (hf : f < 12) (h : post z0 (nI (G ||| 2 ^ f), f_count, f_goal, f_indices, 0, f_workSize, f_nextSize, f_byCount, f_bestCost, f_bestSet, f_stacked, upd a_price f (nI p), a_needs, a_yield, a_factAt, a_size, a_family, a_work, a_next, a_chosen, a_barred)) : wX_give_77 post (nI f) (nI p) z0 (nI G) f_count f_goal f_indices f_ready f_workSize f_nextSize f_byCount f_bestCost f_bestSet f_stacked a_price a_needs a_yield a_factAt a_size a_family a_work a_next a_chosen a_barred :=
  nm_r (e' := nI (G ||| 2 ^ f)) (by rw [ag_1 f (by omega), ag_or]) ⟨vp_in_nI hf (by decide), nm_r (e' := upd a_price f (nI p)) (by rw [nI_clamp (by omega)]) h⟩
end
section
variable {f_count f_goal : Int32} {a_prices a_needs a_yields : Nat → Int32}
theorem yg_46 {post : Int32 → SY → Prop} {f p : Nat} (hf : f < 12) (h : post (a_prices f) (f_count, f_goal, upd a_prices f (nI p), a_needs, a_yields)) : wY_give_46 post (nI f) (nI p) f_count f_goal a_prices a_needs a_yields :=
  ⟨vp_in_nI hf (by decide), nm_r (e' := a_prices f) (by rw [nI_clamp (by omega)]) ⟨vp_in_nI hf (by decide), nm_r (e' := upd a_prices f (nI p)) (by rw [nI_clamp (by omega)]) h⟩⟩
end
theorem PRC_put {G f p : Nat} {pr : Nat → Nat} {aQ : Nat → Int32} (h : PRC G pr aQ) (h1 : 1 ≤ p) (h2 : p ≤ 20) : PRC (G ||| 2 ^ f) (fun h => if h = f then p else pr h) (upd aQ f (nI p)) := by
  intro h' hh
  show upd aQ f (nI p) h' = nI (if h' = f then p else pr h') ∧ (if h' = f then p else pr h') ≤ 20 ∧ ((G ||| 2 ^ f).testBit h' = true ↔ 0 < (if h' = f then p else pr h'))
  by_cases e : h' = f
  · subst e
    rw [if_pos rfl]
    exact ⟨pk_us, h2, ⟨fun _ => h1, fun _ => tb_or.mpr (Or.inr (tb_pow.mpr rfl))⟩⟩
  · rw [if_neg e]
    obtain ⟨a, b, d⟩ := h h' hh
    refine ⟨(pk_un e).trans a, b, ?_⟩
    rw [← d, tb_or]
    exact ⟨fun z => z.elim id (fun z => absurd (tb_pow.mp z).symm e), Or.inl⟩
theorem PRC_del {G f : Nat} {pr : Nat → Nat} {aQ : Nat → Int32} (h : PRC G pr aQ) : PRC (df G (2 ^ f)) (fun h => if h = f then 0 else pr h) (upd aQ f 0) := by
  intro h' hh
  show upd aQ f 0 h' = nI (if h' = f then 0 else pr h') ∧ (if h' = f then 0 else pr h') ≤ 20 ∧ ((df G (2 ^ f)).testBit h' = true ↔ 0 < (if h' = f then 0 else pr h'))
  by_cases e : h' = f
  · subst e
    rw [if_pos rfl]
    exact ⟨pk_us, by decide, ⟨fun z => absurd (tb_pow.mpr rfl) (tb_df.mp z).2, fun z => absurd z (by decide)⟩⟩
  · rw [if_neg e]
    obtain ⟨a, b, d⟩ := h h' hh
    refine ⟨(pk_un e).trans a, b, ?_⟩
    rw [← d, tb_df]
    exact ⟨fun z => z.1, fun z => ⟨z, fun q => e (tb_pow.mp q).symm⟩⟩
theorem i_vc_give {k : Nat} {u : SX} {v : SY} (I : i_Rel k u v) (hk : k + 3 ≤ 1536) (v1 : Int32) (v2 : Int32) : wpX_give (fun r u' => wpY_give (fun r' v' => r' = r ∧ i_Rel (k + 3) u' v') v v1 v2) u v1 v2 := by
  refine zz_el (P := fun u v => wpX_give (fun r u' => wpY_give (fun r' v' => r' = r ∧ i_Rel (k + 3) u' v') v v1 v2) u v1 v2) ?_ I
  intro G c g nd yl pr f_indices f_ready f_workSize f_nextSize f_byCount f_bestCost f_bestSet f_stacked a_price a_needs a_yield a_factAt a_size a_family a_work a_next a_chosen a_barred a_prices H
  have rel : i_Rel (k + 3) (nI G, nI c, nI g, f_indices, f_ready, f_workSize, f_nextSize, f_byCount, f_bestCost, f_bestSet, f_stacked, a_price, a_needs, a_yield, a_factAt, a_size, a_family, a_work, a_next, a_chosen, a_barred) (nI c, nI g, a_prices, a_needs, a_yield) := zz_in H
  obtain ⟨⟨hG, hq, hc, hg⟩, hn, hy, hP, hQ, hR⟩ := H
  unfold wpX_give wpY_give
  dsimp only
  rcases fc_cases v1 with hb | ⟨f, hf, rfl⟩
  · refine xk_bad hb ?_
    refine br_f (by decide) ?_
    refine yk_bad hb ?_
    exact br_t rfl ⟨rfl, rel⟩
  · by_cases p1 : v2 < 1
    · refine xk_ok hf ?_
      refine br_t rfl (br_t p1 ?_)
      refine yk_ok hf ?_
      exact br_f (by decide) (br_t p1 ⟨rfl, rel⟩)
    · by_cases p2 : v2 ≤ 20
      · obtain ⟨p, hp1, hp2, rfl⟩ := gv_p p1 p2
        have relN : rk (G ||| 2 ^ f) 12 ≤ 8 → i_Rel (k + 3) (nI (G ||| 2 ^ f), nI c, nI g, f_indices, 0, f_workSize, f_nextSize, f_byCount, f_bestCost, f_bestSet, f_stacked, upd a_price f (nI p), a_needs, a_yield, a_factAt, a_size, a_family, a_work, a_next, a_chosen, a_barred) (nI c, nI g, upd a_prices f (nI p), a_needs, a_yield) := by
          intro hq'
          refine zz_in (pr := fun h => if h = f then p else pr h) ⟨⟨Nat.or_lt_two_pow (n := 12) hG (pow2_lt hf), hq', hc, hg⟩, hn, hy, fun h hh hb => ?_, PRC_put hQ hp1 hp2, Or.inl rfl⟩
          show upd a_price f (nI p) h = nI (if h = f then p else pr h)
          by_cases e : h = f
          · subst e
            rw [if_pos rfl]
            exact pk_us
          · rw [if_neg e]
            exact (pk_un e).trans (hP h hh ((tb_or.mp hb).elim id (fun z => absurd (tb_pow.mp z).symm e)))
        have cl : (nI f).toNatClampNeg = f := nI_clamp (by omega)
        obtain ⟨q1, q2, q3⟩ := hQ f hf
        refine xk_ok hf ?_
        refine br_t rfl (br_f p1 (br_t p2 ?_))
        by_cases b : G.testBit f = true
        · have hq' : rk (G ||| 2 ^ f) 12 ≤ 8 := by
            rw [show G ||| 2 ^ f = G from sbs_an (sbs_or.mpr ⟨sbs_rf G, sbs_pow.mpr b⟩) (sbs_orL _ _)]
            exact hq
          have pos := q3.mp b
          refine br_t ((ag_t1 (by omega)).mpr b) (xs_size (br_f (by decide) (br_f (by decide) ⟨vp_in_nI hf (by decide), xg_77 hf ?_⟩)))
          refine yk_ok hf ?_
          refine br_f (by decide) (br_f p1 (br_t p2 ⟨vp_in_nI hf (by decide), br_f ?_ (yg_46 hf ⟨?_, relN hq'⟩)⟩))
          · rw [cl, q1]
            exact nI_ne0 pos (by omega)
          · rw [cl, q1, hP f hf b]
        · have z0 : pr f = 0 := by
            rcases Nat.eq_zero_or_pos (pr f) with z | z
            · exact z
            · exact absurd (q3.mpr z) b
          have q0 : a_prices f = 0 := by
            rw [q1, z0]
            rfl
          refine br_f (fun z => b ((ag_t1 (by omega)).mp z)) (xs_size (br_t rfl ?_))
          by_cases e8 : cst on1 G 12 = 8
          · have t8 : nI (cst on1 G 12) = 8 := by rw [e8]; rfl
            refine br_t t8 ?_
            refine yk_ok hf ?_
            exact br_f (by decide) (br_f p1 (br_t p2 ⟨vp_in_nI hf (by decide), br_t (by rw [cl]; exact q0) (yg hG hQ (ys_size (br_t t8 ⟨rfl, rel⟩)))⟩))
          · have l8 : cst on1 G 12 ≤ 8 := hq
            have t8 : ¬ nI (cst on1 G 12) = 8 := fun z => e8 ((nI_eq (b := 8) (by omega) (by decide)).mp z)
            have hq' : rk (G ||| 2 ^ f) 12 ≤ 8 := by
              have t := cst_add (w := on1) b 12 hf
              have o : on1 f = 1 := rfl
              show cst on1 (G ||| 2 ^ f) 12 ≤ 8
              omega
            refine br_f t8 (br_t rfl (xg_77 hf ?_))
            refine yk_ok hf ?_
            exact br_f (by decide) (br_f p1 (br_t p2 ⟨vp_in_nI hf (by decide), br_t (by rw [cl]; exact q0) (yg hG hQ (ys_size (br_f t8 (yg_46 hf ⟨q0, relN hq'⟩))))⟩))
      · refine xk_ok hf ?_
        refine br_t rfl (br_f p1 (br_f p2 ?_))
        refine yk_ok hf ?_
        exact br_f (by decide) (br_f p1 (br_f p2 ⟨rfl, rel⟩))
theorem i_vc_take {k : Nat} {u : SX} {v : SY} (I : i_Rel k u v) (hk : k + 3 ≤ 1536) (v1 : Int32) : wpX_take (fun r u' => wpY_take (fun r' v' => r' = r ∧ i_Rel (k + 3) u' v') v v1) u v1 := by
  refine zz_el (P := fun u v => wpX_take (fun r u' => wpY_take (fun r' v' => r' = r ∧ i_Rel (k + 3) u' v') v v1) u v1) ?_ I
  intro G c g nd yl pr f_indices f_ready f_workSize f_nextSize f_byCount f_bestCost f_bestSet f_stacked a_price a_needs a_yield a_factAt a_size a_family a_work a_next a_chosen a_barred a_prices H
  have rel : i_Rel (k + 3) (nI G, nI c, nI g, f_indices, f_ready, f_workSize, f_nextSize, f_byCount, f_bestCost, f_bestSet, f_stacked, a_price, a_needs, a_yield, a_factAt, a_size, a_family, a_work, a_next, a_chosen, a_barred) (nI c, nI g, a_prices, a_needs, a_yield) := zz_in H
  obtain ⟨⟨hG, hq, hc, hg⟩, hn, hy, hP, hQ, hR⟩ := H
  unfold wpX_take wpY_take
  dsimp only
  rcases fc_cases v1 with hb | ⟨f, hf, rfl⟩
  · refine xk_bad hb ?_
    refine br_f (by decide) ?_
    refine yk_bad hb ?_
    exact br_t rfl ⟨rfl, rel⟩
  · have cl : (nI f).toNatClampNeg = f := nI_clamp (by omega)
    obtain ⟨q1, q2, q3⟩ := hQ f hf
    refine xk_ok hf ?_
    refine br_t rfl ?_
    by_cases b : G.testBit f = true
    · have pos := q3.mp b
      have relN : i_Rel (k + 3) (nI (df G (2 ^ f)), nI c, nI g, f_indices, 0, f_workSize, f_nextSize, f_byCount, f_bestCost, f_bestSet, f_stacked, a_price, a_needs, a_yield, a_factAt, a_size, a_family, a_work, a_next, a_chosen, a_barred) (nI c, nI g, upd a_prices f 0, a_needs, a_yield) := by
        refine zz_in (pr := fun h => if h = f then 0 else pr h) ⟨⟨Nat.lt_of_le_of_lt (df_le _ _) hG, Nat.le_trans (cst_mono (sbs_df G (2 ^ f)) 12) hq, hc, hg⟩, hn, hy, fun h hh hb => ?_, PRC_del hQ, Or.inl rfl⟩
        show a_price h = nI (if h = f then 0 else pr h)
        obtain ⟨z1, z2⟩ := tb_df.mp hb
        rw [if_neg (fun e => z2 (tb_pow.mpr e.symm))]
        exact hP h hh z1
      refine br_f (fun z => absurd (((ag_t0 (by omega)).mp z).symm.trans b) (by decide)) (nm_r (e' := nI (df G (2 ^ f))) (by rw [ag_1 f (by omega), ag_df]) ⟨vp_in_nI hf (by decide), ?_⟩)
      refine yk_ok hf ?_
      refine br_f (by decide) ⟨vp_in_nI hf (by decide), br_f ?_ ⟨vp_in_nI hf (by decide), nm_r (e' := a_prices f) (by rw [cl]) ⟨vp_in_nI hf (by decide), nm_r (e' := upd a_prices f 0) (by rw [cl]) ⟨?_, relN⟩⟩⟩⟩
      · rw [cl, q1]
        exact nI_ne0 pos (by omega)
      · rw [cl, q1, hP f hf b]
    · have z0 : pr f = 0 := by
        rcases Nat.eq_zero_or_pos (pr f) with z | z
        · exact z
        · exact absurd (q3.mpr z) b
      have bf : G.testBit f = false := by
        cases z : G.testBit f
        · rfl
        · exact absurd z b
      refine br_t ((ag_t0 (by omega)).mpr bf) ?_
      refine yk_ok hf ?_
      refine br_f (by decide) ⟨vp_in_nI hf (by decide), br_t ?_ ⟨rfl, rel⟩⟩
      rw [cl, q1, z0]
      rfl
theorem i_vc_rule {k : Nat} {u : SX} {v : SY} (I : i_Rel k u v) (hk : k + 3 ≤ 1536) (v1 : Int32) (v2 : Int32) : wpX_rule (fun r u' => wpY_rule (fun r' v' => r' = r ∧ i_Rel (k + 3) u' v') v v1 v2) u v1 v2 := by
  refine zz_el (P := fun u v => wpX_rule (fun r u' => wpY_rule (fun r' v' => r' = r ∧ i_Rel (k + 3) u' v') v v1 v2) u v1 v2) ?_ I
  intro G c g nd yl pr f_indices f_ready f_workSize f_nextSize f_byCount f_bestCost f_bestSet f_stacked a_price a_needs a_yield a_factAt a_size a_family a_work a_next a_chosen a_barred a_prices H
  have rel : i_Rel (k + 3) (nI G, nI c, nI g, f_indices, f_ready, f_workSize, f_nextSize, f_byCount, f_bestCost, f_bestSet, f_stacked, a_price, a_needs, a_yield, a_factAt, a_size, a_family, a_work, a_next, a_chosen, a_barred) (nI c, nI g, a_prices, a_needs, a_yield) := zz_in H
  obtain ⟨⟨hG, hq, hc, hg⟩, hn, hy, hP, hQ, hR⟩ := H
  by_cases p1 : v1 < 0
  · exact br_t p1 (br_t p1 ⟨rfl, rel⟩)
  · by_cases p2 : 4095 < v1
    · exact br_f p1 (br_t p2 (br_f p1 (br_t p2 ⟨rfl, rel⟩)))
    · refine br_f p1 (br_f p2 ?_)
      rcases fc_cases v2 with hb | ⟨y, hy', rfl⟩
      · exact xk_bad hb (br_f (by decide) (br_f p1 (br_f p2 (yk_bad hb (br_t rfl ⟨rfl, rel⟩)))))
      · refine xk_ok hy' (br_t rfl ?_)
        obtain ⟨m, hm, rfl⟩ := gv_n p1 p2
        by_cases e : c = 14
        · subst e
          exact br_t rfl (br_f p1 (br_f p2 (yk_ok hy' (br_f (by decide) (br_t rfl ⟨rfl, rel⟩)))))
        · have e' : ¬ nI c = 14 := fun z => e ((nI_eq (b := 14) (by omega) (by decide)).mp z)
          have cl : (nI c).toNatClampNeg = c := nI_clamp (by omega)
          have relN : i_Rel (k + 3) (nI G, nI (c + 1), nI g, f_indices, 0, f_workSize, f_nextSize, f_byCount, f_bestCost, f_bestSet, f_stacked, a_price, upd a_needs c (nI m), upd a_yield c (nI y), a_factAt, a_size, a_family, a_work, a_next, a_chosen, a_barred) (nI (c + 1), nI g, a_prices, upd a_needs c (nI m), upd a_yield c (nI y)) := by
            refine zz_in (nd := fun j => if j = c then m else nd j) (yl := fun j => if j = c then y else yl j) ⟨⟨hG, hq, by omega, hg⟩, fun j => ?_, fun j => ?_, hP, hQ, Or.inl rfl⟩
            · show upd a_needs c (nI m) j = nI (if j = c then m else nd j) ∧ (if j = c then m else nd j) < 4096
              by_cases q : j = c
              · subst q
                rw [if_pos rfl]
                exact ⟨pk_us, hm⟩
              · rw [if_neg q]
                exact ⟨(pk_un q).trans (hn j).1, (hn j).2⟩
            · show upd a_yield c (nI y) j = nI (if j = c then y else yl j) ∧ (if j = c then y else yl j) < 12
              by_cases q : j = c
              · subst q
                rw [if_pos rfl]
                exact ⟨pk_us, hy'⟩
              · rw [if_neg q]
                exact ⟨(pk_un q).trans (hy j).1, (hy j).2⟩
          refine br_f e' ⟨vp_in_nI (by omega) (by decide), nm_r (e' := upd a_needs c (nI m)) (by rw [cl]) ⟨vp_in_nI (by omega) (by decide), nm_r (e' := upd a_yield c (nI y)) (by rw [cl]) (nm_r (nI_1 c) ?_)⟩⟩
          refine br_f p1 (br_f p2 (yk_ok hy' (br_f (by decide) (br_f e' ⟨vp_in_nI (by omega) (by decide), nm_r (e' := upd a_needs c (nI m)) (by rw [cl]) ⟨vp_in_nI (by omega) (by decide), nm_r (e' := upd a_yield c (nI y)) (by rw [cl]) (nm_r (nI_1 c) ?_)⟩⟩))))
          exact ⟨rfl, relN⟩
theorem i_vc_unrule {k : Nat} {u : SX} {v : SY} (I : i_Rel k u v) (hk : k + 3 ≤ 1536) : wpX_unrule (fun r u' => wpY_unrule (fun r' v' => r' = r ∧ i_Rel (k + 3) u' v') v) u := by
  refine zz_el (P := fun u v => wpX_unrule (fun r u' => wpY_unrule (fun r' v' => r' = r ∧ i_Rel (k + 3) u' v') v) u) ?_ I
  intro G c g nd yl pr f_indices f_ready f_workSize f_nextSize f_byCount f_bestCost f_bestSet f_stacked a_price a_needs a_yield a_factAt a_size a_family a_work a_next a_chosen a_barred a_prices H
  have rel : i_Rel (k + 3) (nI G, nI c, nI g, f_indices, f_ready, f_workSize, f_nextSize, f_byCount, f_bestCost, f_bestSet, f_stacked, a_price, a_needs, a_yield, a_factAt, a_size, a_family, a_work, a_next, a_chosen, a_barred) (nI c, nI g, a_prices, a_needs, a_yield) := zz_in H
  obtain ⟨⟨hG, hq, hc, hg⟩, hn, hy, hP, hQ, hR⟩ := H
  cases c with
  | zero => exact br_t rfl (br_t rfl ⟨rfl, rel⟩)
  | succ c =>
    have e' : ¬ nI (c + 1) = 0 := nI_ne0 (by omega) (by omega)
    exact br_f e' (nm_r (nI_pred c) (br_f e' (nm_r (nI_pred c) ⟨rfl, zz_in ⟨⟨hG, hq, by omega, hg⟩, hn, hy, hP, hQ, Or.inl rfl⟩⟩)))
theorem i_vc_rules {k : Nat} {u : SX} {v : SY} (I : i_Rel k u v) (hk : k + 3 ≤ 1536) : wpX_rules (fun r => wpY_rules (fun r' => r' = r ∧ i_Rel (k + 3) u v) v) u := by
  refine zz_el (P := fun u v => wpX_rules (fun r => wpY_rules (fun r' => r' = r ∧ i_Rel (k + 3) u v) v) u) ?_ I
  intro G c g nd yl pr f_indices f_ready f_workSize f_nextSize f_byCount f_bestCost f_bestSet f_stacked a_price a_needs a_yield a_factAt a_size a_family a_work a_next a_chosen a_barred a_prices H
  exact ⟨rfl, zz_in H⟩
theorem i_vc_goal {k : Nat} {u : SX} {v : SY} (I : i_Rel k u v) (hk : k + 3 ≤ 1536) (v1 : Int32) : wpX_goal (fun r u' => wpY_goal (fun r' v' => r' = r ∧ i_Rel (k + 3) u' v') v v1) u v1 := by
  refine zz_el (P := fun u v => wpX_goal (fun r u' => wpY_goal (fun r' v' => r' = r ∧ i_Rel (k + 3) u' v') v v1) u v1) ?_ I
  intro G c g nd yl pr f_indices f_ready f_workSize f_nextSize f_byCount f_bestCost f_bestSet f_stacked a_price a_needs a_yield a_factAt a_size a_family a_work a_next a_chosen a_barred a_prices H
  have rel : i_Rel (k + 3) (nI G, nI c, nI g, f_indices, f_ready, f_workSize, f_nextSize, f_byCount, f_bestCost, f_bestSet, f_stacked, a_price, a_needs, a_yield, a_factAt, a_size, a_family, a_work, a_next, a_chosen, a_barred) (nI c, nI g, a_prices, a_needs, a_yield) := zz_in H
  obtain ⟨⟨hG, hq, hc, hg⟩, hn, hy, hP, hQ, hR⟩ := H
  unfold wpX_goal wpY_goal
  dsimp only
  rcases fc_cases v1 with hb | ⟨f, hf, rfl⟩
  · refine xk_bad hb ?_
    refine br_f (by decide) ?_
    refine yk_bad hb ?_
    exact br_t rfl ⟨rfl, rel⟩
  · refine xk_ok hf ?_
    refine br_t rfl ?_
    refine yk_ok hf ?_
    exact br_f (by decide) ⟨rfl, zz_in ⟨⟨hG, hq, hc, hf⟩, hn, hy, hP, hQ, hR⟩⟩
theorem i_vc_given {k : Nat} {u : SX} {v : SY} (I : i_Rel k u v) (hk : k + 3 ≤ 1536) : wpX_given (fun r => wpY_given (fun r' => r' = r ∧ i_Rel (k + 3) u v) v) u := by
  refine zz_el (P := fun u v => wpX_given (fun r => wpY_given (fun r' => r' = r ∧ i_Rel (k + 3) u v) v) u) ?_ I
  intro G c g nd yl pr f_indices f_ready f_workSize f_nextSize f_byCount f_bestCost f_bestSet f_stacked a_price a_needs a_yield a_factAt a_size a_family a_work a_next a_chosen a_barred a_prices H
  exact yg H.1.1 H.2.2.2.2.1 ⟨rfl, zz_in H⟩
theorem i_vc_reached {k : Nat} {u : SX} {v : SY} (I : i_Rel k u v) (hk : k + 3 ≤ 1536) : wpX_reached (fun r => wpY_reached (fun r' => r' = r ∧ i_Rel (k + 3) u v) v) u := by
  refine zz_el (P := fun u v => wpX_reached (fun r => wpY_reached (fun r' => r' = r ∧ i_Rel (k + 3) u v) v) u) ?_ I
  intro G c g nd yl pr f_indices f_ready f_workSize f_nextSize f_byCount f_bestCost f_bestSet f_stacked a_price a_needs a_yield a_factAt a_size a_family a_work a_next a_chosen a_barred a_prices H
  have rel : i_Rel (k + 3) (nI G, nI c, nI g, f_indices, f_ready, f_workSize, f_nextSize, f_byCount, f_bestCost, f_bestSet, f_stacked, a_price, a_needs, a_yield, a_factAt, a_size, a_family, a_work, a_next, a_chosen, a_barred) (nI c, nI g, a_prices, a_needs, a_yield) := zz_in H
  obtain ⟨⟨hG, hq, hc, hg⟩, hn, hy, hP, hQ, hR⟩ := H
  refine xr hn hy hc ?_
  exact yg hG hQ (yr hn hy hc ⟨rfl, rel⟩)
theorem i_vc_supports {k : Nat} {u : SX} {v : SY} (I : i_Rel k u v) (hk : k + 3 ≤ 1536) (v1 : Int32) : wpX_supports (fun r => wpY_supports (fun r' => r' = r ∧ i_Rel (k + 3) u v) v v1) u v1 := by
  refine zz_el (P := fun u v => wpX_supports (fun r => wpY_supports (fun r' => r' = r ∧ i_Rel (k + 3) u v) v v1) u v1) ?_ I
  intro G c g nd yl pr f_indices f_ready f_workSize f_nextSize f_byCount f_bestCost f_bestSet f_stacked a_price a_needs a_yield a_factAt a_size a_family a_work a_next a_chosen a_barred a_prices H
  have rel : i_Rel (k + 3) (nI G, nI c, nI g, f_indices, f_ready, f_workSize, f_nextSize, f_byCount, f_bestCost, f_bestSet, f_stacked, a_price, a_needs, a_yield, a_factAt, a_size, a_family, a_work, a_next, a_chosen, a_barred) (nI c, nI g, a_prices, a_needs, a_yield) := zz_in H
  obtain ⟨⟨hG, hq, hc, hg⟩, hn, hy, hP, hQ, hR⟩ := H
  by_cases p1 : v1 < 0
  · exact br_t p1 (br_t p1 ⟨rfl, rel⟩)
  · by_cases p2 : 4095 < v1
    · exact br_f p1 (br_f (fun z => absurd p2 (Int32.not_lt.mpr z)) (br_f p1 (br_t p2 ⟨rfl, rel⟩)))
    · obtain ⟨m, hm, rfl⟩ := gv_n p1 p2
      refine br_f p1 (br_t (Int32.not_lt.mp p2) ?_)
      rw [nx_and m G]
      refine xr hn hy hc ?_
      have go : ∀ b : Bool, sp nd yl c g (m &&& G) = b → ∀ r : Int32, r = bI b → wpY_supports (fun r' => r' = r ∧ i_Rel (k + 3) (nI G, nI c, nI g, f_indices, f_ready, f_workSize, f_nextSize, f_byCount, f_bestCost, f_bestSet, f_stacked, a_price, a_needs, a_yield, a_factAt, a_size, a_family, a_work, a_next, a_chosen, a_barred) (nI c, nI g, a_prices, a_needs, a_yield)) (nI c, nI g, a_prices, a_needs, a_yield) (nI m) := by
        intro b eb r er
        refine br_f p1 (br_f p2 (yg hG hQ ?_))
        rw [nx_and m G]
        refine yi hn hy hc hg ?_
        rw [eb]
        cases b
        · exact br_t rfl ⟨er.symm, rel⟩
        · exact br_f (by decide) ⟨er.symm, rel⟩
      cases e : sp nd yl c g (m &&& G)
      · exact br_f (fun z => absurd (e.symm.trans ((ag_t1 (by omega)).mp z)) (by decide)) (go false e 0 rfl)
      · exact br_t ((ag_t1 (by omega)).mpr e) (go true e 1 rfl)
end
section
/-! ===== the methods that make families ===== -/
theorem pt_0 (q : Nat) : 0 < 2 ^ q := Nat.two_pow_pos q
theorem i_vc_leastSupports {k : Nat} {u : SX} {v : SY} (I : i_Rel k u v) (hk : k + 3 ≤ 1536) : wpX_leastSupports (fun r u' => wpY_leastSupports (fun r' => r' = r ∧ i_Rel (k + 3) u' v) v) u := by
  refine zz_el (P := fun u v => wpX_leastSupports (fun r u' => wpY_leastSupports (fun r' => r' = r ∧ i_Rel (k + 3) u' v) v) u) ?_ I
  intro G c g nd yl pr f_indices f_ready f_workSize f_nextSize f_byCount f_bestCost f_bestSet f_stacked a_price a_needs a_yield a_factAt a_size a_family a_work a_next a_chosen a_barred a_prices H
  obtain ⟨⟨hG, hq, hc, hg⟩, hn, hy, hP, hQ, hR⟩ := H
  unfold wpX_leastSupports
  dsimp only
  refine xp hq hc hn hy hR ?_
  intro fi ws ns aA aS aF aW aN hD
  have hD' := hD
  obtain ⟨rfl, hA, Fm, E, cF⟩ := hD'
  obtain ⟨e1, e2, e3, e4⟩ := E g hg
  refine ⟨vp_in_nI hg (by decide), ?_⟩
  refine y_ls hG hQ hn hy hc hg (fun l h1 h2 => ⟨?_, zz_in ⟨⟨hG, hq, hc, hg⟩, hn, hy, hP, hQ, Or.inr ⟨rfl, hD⟩⟩⟩)
  show nI l.length = aS (nI g).toNatClampNeg
  rw [nI_clamp (show g < 2 ^ 31 by omega), e1, lw_len hG e3 e4 (cF g hg) h1 h2]
theorem i_vc_cheapestSupport {k : Nat} {u : SX} {v : SY} (I : i_Rel k u v) (hk : k + 3 ≤ 1536) : wpX_cheapestSupport (fun r u' => wpY_cheapestSupport (fun r' => r' = r ∧ i_Rel (k + 3) u' v) v) u := by
  refine zz_el (P := fun u v => wpX_cheapestSupport (fun r u' => wpY_cheapestSupport (fun r' => r' = r ∧ i_Rel (k + 3) u' v) v) u) ?_ I
  intro G c g nd yl pr f_indices f_ready f_workSize f_nextSize f_byCount f_bestCost f_bestSet f_stacked a_price a_needs a_yield a_factAt a_size a_family a_work a_next a_chosen a_barred a_prices H
  obtain ⟨⟨hG, hq, hc, hg⟩, hn, hy, hP, hQ, hR⟩ := H
  unfold wpX_cheapestSupport
  dsimp only
  refine xp hq hc hn hy hR ?_
  intro fi ws ns aA aS aF aW aN hD
  have hD' := hD
  obtain ⟨rfl, hA, Fm, E, cF⟩ := hD'
  obtain ⟨e1, e2, e3, e4⟩ := E g hg
  refine ⟨(Fm g).length + 1, xcs_14 (wt := pr) hq hA (Or.inl ⟨rfl, hP⟩) (fun f hf => (hQ f hf).2.1) hg (ac_len hq e3 e4) e1 (Fm g) 0 _ (fun _ => False) none (Nat.zero_add _) e2 ⟨fun m e => absurd e (by simp), fun T hT => absurd hT id⟩ (Nat.lt_succ_self _) (fun o ho => ?_)⟩
  have ho' : MN (fun x => x ∈ Fm g) (cc pr G) o := MN_iff (fun x => ⟨fun z => z.elim (fun z => absurd z id) id, Or.inr⟩) ho
  exact y_cs hG hQ hn hy hc hg (fun o' h' => ⟨congrArg rI (MN_uq h' (lw_mn hG e3 (cF g hg) ho')), zz_in ⟨⟨hG, hq, hc, hg⟩, hn, hy, hP, hQ, Or.inr ⟨rfl, hD⟩⟩⟩)
theorem i_vc_cheapestShield {k : Nat} {u : SX} {v : SY} (I : i_Rel k u v) (hk : k + 3 ≤ 1536) : wpX_cheapestShield (fun r u' => wpY_cheapestShield (fun r' => r' = r ∧ i_Rel (k + 3) u' v) v) u := by
  refine zz_el (P := fun u v => wpX_cheapestShield (fun r u' => wpY_cheapestShield (fun r' => r' = r ∧ i_Rel (k + 3) u' v) v) u) ?_ I
  intro G c g nd yl pr f_indices f_ready f_workSize f_nextSize f_byCount f_bestCost f_bestSet f_stacked a_price a_needs a_yield a_factAt a_size a_family a_work a_next a_chosen a_barred a_prices H
  obtain ⟨⟨hG, hq, hc, hg⟩, hn, hy, hP, hQ, hR⟩ := H
  have h20 : ∀ f, f < 12 → pr f ≤ 20 := fun f hf => (hQ f hf).2.1
  unfold wpX_cheapestShield wpY_cheapestShield
  dsimp only
  refine xe (must := 0) (wt := pr) hG hq hc hg (pt_0 _) hn hy (Or.inl ⟨rfl, hP⟩) h20 hR ?_
  intro ws ns aA aS aF aW aN o st aC aB hD h1 h2
  have am := lw_am hG (pt_0 _) h1 h2
  rw [asF_0] at am
  cases o with
  | none =>
    refine br_f (show ¬ (0 : Int32) ≤ -1 by decide) ?_
    refine y_ch (w := 0) (by decide) hG hQ hn hy hc hg (fun o' h' => ?_)
    have e := AM_uq h' am
    subst e
    exact br_t rfl ⟨rfl, zz_in ⟨⟨hG, hq, hc, hg⟩, hn, hy, hP, hQ, Or.inr ⟨rfl, hD⟩⟩⟩
  | some B =>
    have hB := (h1 B rfl).1
    have p8 : 2 ^ rk G 12 ≤ 2 ^ 8 := Nat.pow_le_pow_right (n := 2) (by decide) hq
    have hS := asF_lt G B
    refine br_t (show (0 : Int32) ≤ nI B from nI_pos' (by omega)) ?_
    refine y_ch (w := 0) (by decide) hG hQ hn hy hc hg (fun o' h' => ?_)
    have e := AM_uq h' am
    subst e
    exact br_f (rI_ne (m := asF G B) (by omega)) (yo hQ ⟨rfl, zz_in ⟨⟨hG, hq, hc, hg⟩, hn, hy, hP, hQ, Or.inr ⟨rfl, hD⟩⟩⟩)
theorem i_vc_shield {k : Nat} {u : SX} {v : SY} (I : i_Rel k u v) (hk : k + 3 ≤ 1536) : wpX_shield (fun r u' => wpY_shield (fun r' => r' = r ∧ i_Rel (k + 3) u' v) v) u := by
  refine zz_el (P := fun u v => wpX_shield (fun r u' => wpY_shield (fun r' => r' = r ∧ i_Rel (k + 3) u' v) v) u) ?_ I
  intro G c g nd yl pr f_indices f_ready f_workSize f_nextSize f_byCount f_bestCost f_bestSet f_stacked a_price a_needs a_yield a_factAt a_size a_family a_work a_next a_chosen a_barred a_prices H
  obtain ⟨⟨hG, hq, hc, hg⟩, hn, hy, hP, hQ, hR⟩ := H
  have h20 : ∀ f, f < 12 → pr f ≤ 20 := fun f hf => (hQ f hf).2.1
  unfold wpX_shield wpY_shield
  dsimp only
  refine xe (must := 0) (wt := pr) hG hq hc hg (pt_0 _) hn hy (Or.inl ⟨rfl, hP⟩) h20 hR ?_
  intro ws ns aA aS aF aW aN o st aC aB hD h1 h2
  have am := lw_am hG (pt_0 _) h1 h2
  rw [asF_0] at am
  cases o with
  | none =>
    refine br_f (show ¬ (0 : Int32) ≤ -1 by decide) ?_
    refine y_ch (w := 0) (by decide) hG hQ hn hy hc hg (fun o' h' => ?_)
    have e := AM_uq h' am
    subst e
    exact ⟨rfl, zz_in ⟨⟨hG, hq, hc, hg⟩, hn, hy, hP, hQ, Or.inr ⟨rfl, hD⟩⟩⟩
  | some B =>
    have hB := (h1 B rfl).1
    have p8 : 2 ^ rk G 12 ≤ 2 ^ 8 := Nat.pow_le_pow_right (n := 2) (by decide) hq
    refine br_t (show (0 : Int32) ≤ nI B from nI_pos' (by omega)) ?_
    refine xz hq hD.2.1 ?_
    refine y_ch (w := 0) (by decide) hG hQ hn hy hc hg (fun o' h' => ?_)
    have e := AM_uq h' am
    subst e
    exact ⟨rfl, zz_in ⟨⟨hG, hq, hc, hg⟩, hn, hy, hP, hQ, Or.inr ⟨rfl, hD⟩⟩⟩
theorem i_vc_smallestShield {k : Nat} {u : SX} {v : SY} (I : i_Rel k u v) (hk : k + 3 ≤ 1536) : wpX_smallestShield (fun r u' => wpY_smallestShield (fun r' => r' = r ∧ i_Rel (k + 3) u' v) v) u := by
  refine zz_el (P := fun u v => wpX_smallestShield (fun r u' => wpY_smallestShield (fun r' => r' = r ∧ i_Rel (k + 3) u' v) v) u) ?_ I
  intro G c g nd yl pr f_indices f_ready f_workSize f_nextSize f_byCount f_bestCost f_bestSet f_stacked a_price a_needs a_yield a_factAt a_size a_family a_work a_next a_chosen a_barred a_prices H
  obtain ⟨⟨hG, hq, hc, hg⟩, hn, hy, hP, hQ, hR⟩ := H
  have h20 : ∀ f, f < 12 → on1 f ≤ 20 := fun f hf => (show 1 ≤ 20 by decide)
  unfold wpX_smallestShield
  dsimp only
  refine xe (must := 0) (wt := on1) hG hq hc hg (pt_0 _) hn hy (Or.inr ⟨rfl, rfl⟩) h20 hR ?_
  intro ws ns aA aS aF aW aN o st aC aB hD h1 h2
  have am := lw_sh (asF_0 G) (AM_MN (lw_am hG (pt_0 _) h1 h2))
  cases o with
  | none =>
    refine br_f (show ¬ (0 : Int32) ≤ -1 by decide) ?_
    refine y_ss hG hQ hn hy hc hg (fun o' h' => ?_)
    have e := MN_uq h' am
    subst e
    exact ⟨rfl, zz_in ⟨⟨hG, hq, hc, hg⟩, hn, hy, hP, hQ, Or.inr ⟨rfl, hD⟩⟩⟩
  | some B =>
    have hB := (h1 B rfl).1
    have p8 : 2 ^ rk G 12 ≤ 2 ^ 8 := Nat.pow_le_pow_right (n := 2) (by decide) hq
    refine br_t (show (0 : Int32) ≤ nI B from nI_pos' (by omega)) ?_
    refine y_ss hG hQ hn hy hc hg (fun o' h' => ?_)
    have e := MN_uq h' am
    subst e
    exact ⟨rfl, zz_in ⟨⟨hG, hq, hc, hg⟩, hn, hy, hP, hQ, Or.inr ⟨rfl, hD⟩⟩⟩
theorem i_vc_vital {k : Nat} {u : SX} {v : SY} (I : i_Rel k u v) (hk : k + 3 ≤ 1536) : wpX_vital (fun r u' => wpY_vital (fun r' => r' = r ∧ i_Rel (k + 3) u' v) v) u := by
  refine zz_el (P := fun u v => wpX_vital (fun r u' => wpY_vital (fun r' => r' = r ∧ i_Rel (k + 3) u' v) v) u) ?_ I
  intro G c g nd yl pr f_indices f_ready f_workSize f_nextSize f_byCount f_bestCost f_bestSet f_stacked a_price a_needs a_yield a_factAt a_size a_family a_work a_next a_chosen a_barred a_prices H
  obtain ⟨⟨hG, hq, hc, hg⟩, hn, hy, hP, hQ, hR⟩ := H
  unfold wpX_vital
  dsimp only
  refine xp hq hc hn hy hR ?_
  intro fi ws ns aA aS aF aW aN hD
  have hD' := hD
  obtain ⟨rfl, hA, Fm, E, cF⟩ := hD'
  obtain ⟨e1, e2, e3, e4⟩ := E g hg
  refine ⟨(Fm g).length + 1, xvt_10 hq hA hg (ac_len hq e3 e4) e1 (Fm g) 0 _ 255 (Nat.zero_add _) e2 (Nat.lt_succ_self _) (fun z => ?_) (fun z => ?_)⟩
  · refine y_vt hG hQ hn hy hc hg (fun _ => ⟨rfl, zz_in ⟨⟨hG, hq, hc, hg⟩, hn, hy, hP, hQ, Or.inr ⟨rfl, hD⟩⟩⟩) (fun v' h1 _ => ?_)
    obtain ⟨S, hS⟩ := h1
    obtain ⟨x, hx, _⟩ := lw_sup hG (cF g hg) hS
    rw [List.length_eq_zero_iff.mp z] at hx
    exact absurd hx List.not_mem_nil
  · refine y_vt hG hQ hn hy hc hg (fun h0 => ?_) (fun v' h1 h2 => ⟨?_, zz_in ⟨⟨hG, hq, hc, hg⟩, hn, hy, hP, hQ, Or.inr ⟨rfl, hD⟩⟩⟩)
    · obtain ⟨x, hx⟩ := List.exists_mem_of_length_pos (Nat.pos_of_ne_zero z)
      have t := lw_mem e3 (cF g hg) hx
      exact absurd ⟨t.1, t.2.1⟩ (h0 _)
    · rw [lw_vt hG hq e3 (cF g hg) h2]
theorem i_vc_useful {k : Nat} {u : SX} {v : SY} (I : i_Rel k u v) (hk : k + 3 ≤ 1536) : wpX_useful (fun r u' => wpY_useful (fun r' => r' = r ∧ i_Rel (k + 3) u' v) v) u := by
  refine zz_el (P := fun u v => wpX_useful (fun r u' => wpY_useful (fun r' => r' = r ∧ i_Rel (k + 3) u' v) v) u) ?_ I
  intro G c g nd yl pr f_indices f_ready f_workSize f_nextSize f_byCount f_bestCost f_bestSet f_stacked a_price a_needs a_yield a_factAt a_size a_family a_work a_next a_chosen a_barred a_prices H
  obtain ⟨⟨hG, hq, hc, hg⟩, hn, hy, hP, hQ, hR⟩ := H
  unfold wpX_useful
  dsimp only
  refine xp hq hc hn hy hR ?_
  intro fi ws ns aA aS aF aW aN hD
  have hD' := hD
  obtain ⟨rfl, hA, Fm, E, cF⟩ := hD'
  obtain ⟨e1, e2, e3, e4⟩ := E g hg
  refine ⟨(Fm g).length + 1, xus_8 hq hA hg (ac_len hq e3 e4) e1 (Fm g) 0 _ 0 (Nat.zero_add _) e2 (Nat.lt_succ_self _) ?_⟩
  refine y_us hG hQ hn hy hc hg (fun v' h2 => ⟨?_, zz_in ⟨⟨hG, hq, hc, hg⟩, hn, hy, hP, hQ, Or.inr ⟨rfl, hD⟩⟩⟩)
  rw [lw_us hG e3 (cF g hg) h2]
theorem i_vc_shieldWith {k : Nat} {u : SX} {v : SY} (I : i_Rel k u v) (hk : k + 3 ≤ 1536) (v1 : Int32) : wpX_shieldWith (fun r u' => wpY_shieldWith (fun r' => r' = r ∧ i_Rel (k + 3) u' v) v v1) u v1 := by
  refine zz_el (P := fun u v => wpX_shieldWith (fun r u' => wpY_shieldWith (fun r' => r' = r ∧ i_Rel (k + 3) u' v) v v1) u v1) ?_ I
  intro G c g nd yl pr f_indices f_ready f_workSize f_nextSize f_byCount f_bestCost f_bestSet f_stacked a_price a_needs a_yield a_factAt a_size a_family a_work a_next a_chosen a_barred a_prices H
  have rel : i_Rel (k + 3) (nI G, nI c, nI g, f_indices, f_ready, f_workSize, f_nextSize, f_byCount, f_bestCost, f_bestSet, f_stacked, a_price, a_needs, a_yield, a_factAt, a_size, a_family, a_work, a_next, a_chosen, a_barred) (nI c, nI g, a_prices, a_needs, a_yield) := zz_in H
  obtain ⟨⟨hG, hq, hc, hg⟩, hn, hy, hP, hQ, hR⟩ := H
  have h20 : ∀ f, f < 12 → pr f ≤ 20 := fun f hf => (hQ f hf).2.1
  unfold wpX_shieldWith wpY_shieldWith
  dsimp only
  rcases fc_cases v1 with hb | ⟨f, hf, rfl⟩
  · refine xk_bad hb ?_
    refine br_f (by decide) ?_
    refine yk_bad hb ?_
    exact br_t rfl ⟨rfl, rel⟩
  · have cl : (nI f).toNatClampNeg = f := nI_clamp (by omega)
    obtain ⟨q1, q2, q3⟩ := hQ f hf
    refine xk_ok hf ?_
    refine br_t rfl ?_
    by_cases b : G.testBit f = true
    · have pos := q3.mp b
      have hmu : 2 ^ rk G f < 2 ^ rk G 12 := pow2_lt (rk_lt hf b)
      have hw : 2 ^ f < 4096 := pow2_lt (n := 12) hf
      have ne : ¬ a_prices (nI f).toNatClampNeg = 0 := by
        rw [cl, q1]
        exact nI_ne0 pos (by omega)
      refine br_f (fun z => absurd (((ag_t0 (by omega)).mp z).symm.trans b) (by decide)) ?_
      refine xp hq hc hn hy hR ?_
      intro fi ws ns aA aS aF aW aN hD
      have hD' := hD
      obtain ⟨rfl, hA, _⟩ := hD'
      refine xwi_37 hq hA hf b ?_
      refine xe (must := 2 ^ rk G f) (wt := pr) hG hq hc hg hmu hn hy (Or.inl ⟨rfl, hP⟩) h20 (Or.inr ⟨rfl, hD⟩) ?_
      intro ws ns aA aS aF aW aN o st aC aB hD h1 h2
      have am := lw_am hG hmu h1 h2
      rw [asF_bit hf b] at am
      cases o with
      | none =>
        refine br_f (show ¬ (0 : Int32) ≤ -1 by decide) ?_
        refine yk_ok hf ?_
        refine br_f (by decide) ⟨vp_in_nI hf (by decide), br_f ne ?_⟩
        rw [ag_1 f (by omega)]
        refine y_ch hw hG hQ hn hy hc hg (fun o' h' => ?_)
        have e := AM_uq h' am
        subst e
        exact br_t rfl ⟨rfl, zz_in ⟨⟨hG, hq, hc, hg⟩, hn, hy, hP, hQ, Or.inr ⟨rfl, hD⟩⟩⟩
      | some B =>
        have hB := (h1 B rfl).1
        have p8 : 2 ^ rk G 12 ≤ 2 ^ 8 := Nat.pow_le_pow_right (n := 2) (by decide) hq
        have hS := asF_lt G B
        refine br_t (show (0 : Int32) ≤ nI B from nI_pos' (by omega)) ?_
        refine yk_ok hf ?_
        refine br_f (by decide) ⟨vp_in_nI hf (by decide), br_f ne ?_⟩
        rw [ag_1 f (by omega)]
        refine y_ch hw hG hQ hn hy hc hg (fun o' h' => ?_)
        have e := AM_uq h' am
        subst e
        exact br_f (rI_ne (m := asF G B) (by omega)) (yo hQ ⟨rfl, zz_in ⟨⟨hG, hq, hc, hg⟩, hn, hy, hP, hQ, Or.inr ⟨rfl, hD⟩⟩⟩)
    · have z0 : pr f = 0 := by
        rcases Nat.eq_zero_or_pos (pr f) with z | z
        · exact z
        · exact absurd (q3.mpr z) b
      have bf : G.testBit f = false := by
        cases z : G.testBit f
        · rfl
        · exact absurd z b
      refine br_t ((ag_t0 (by omega)).mpr bf) ?_
      refine yk_ok hf ?_
      refine br_f (by decide) ⟨vp_in_nI hf (by decide), br_t ?_ ⟨rfl, rel⟩⟩
      rw [cl, q1, z0]
      rfl
end
