section
theorem pk_us {f : Nat → Int32} {k : Nat} {x : Int32} : upd f k x k = x := if_pos rfl
theorem pk_un {f : Nat → Int32} {k j : Nat} {x : Int32} (h : j ≠ k) : upd f k x j = f j := if_neg h
theorem pk_sub {a b : Nat} (h : b ≤ a) : nI a - nI b = nI (a - b) := by
  obtain ⟨c, rfl⟩ : ∃ c, a = c + b := ⟨a - b, by omega⟩
  rw [← nI_add, Int32.add_sub_cancel, Nat.add_sub_cancel]
theorem pk_m1 (n : Nat) : nI (n + 1) + (-1) = nI n := by
  rw [← nI_1, Int32.add_assoc, show (1 : Int32) + (-1) = 0 from rfl, Int32.add_zero]
theorem pk_mul (a b : Nat) : nI a * nI b = nI (a * b) := (Int32.ofNat_mul a b).symm
theorem pk_div {a d : Nat} (ha : a < 2 ^ 31) (h0 : 0 < d) (hd : d < 2 ^ 31) : nI a / nI d = nI (a / d) := by
  apply Int32.toInt_inj.mp
  rw [lg_idiv_nonneg (by rw [nI_toInt ha]; omega) (by rw [nI_toInt hd]; omega), nI_toInt ha, nI_toInt hd, nI_toInt (Nat.lt_of_le_of_lt (Nat.div_le_self a d) ha)]
  first | rfl | exact (Int.natCast_ediv _ _).symm
theorem pk_rem {a d : Nat} (ha : a < 2 ^ 31) (h0 : 0 < d) (hd : d < 2 ^ 31) : nI a - nI a / nI d * nI d = nI (a % d) := by
  rw [pk_div ha h0 hd, pk_mul, pk_sub (Nat.div_mul_le_self a d)]
  exact congrArg nI (by have := Nat.div_add_mod' a d; omega)
theorem pk_sub_toInt {a b : Nat} (ha : a < 2 ^ 30) (hb : b < 2 ^ 30) : (nI a - nI b).toInt = (a : Int) - b := by
  rw [Int32.toInt_sub, nI_toInt (by omega), nI_toInt (by omega)]
  exact Int.bmod_eq_of_le (by omega) (by omega)
theorem pk_sneg {a b : Nat} (hb : b < 2 ^ 30) (h : a < b) : nI a - nI b < 0 := by
  rw [Int32.lt_iff_toInt_lt, pk_sub_toInt (by omega) hb, show (0 : Int32).toInt = 0 from by decide]
  omega
theorem pk_ix (x : Int32) {n : Nat} (hn : n < 2 ^ 31) : x < 0 ∨ nI n ≤ x ∨ ∃ j : Nat, j < n ∧ x = nI j := by
  by_cases h : x < 0
  · exact Or.inl h
  · obtain ⟨j, hj, rfl⟩ := nI_of h
    by_cases h2 : j < n
    · exact Or.inr (Or.inr ⟨j, h2, rfl⟩)
    · exact Or.inr (Or.inl (nI_le (by omega) hj))
theorem pk_le {x y : Int32} {A B : Prop} (a b : Nat) (f : a ≤ b → A) (g : b < a → B) (hx : x = nI a := by rfl) (hy : y = nI b := by rfl) (ha : a < 2 ^ 31 := by omega) (hb : b < 2 ^ 31 := by omega) : (x ≤ y → A) ∧ (¬ x ≤ y → B) := by
  subst hx hy
  rw [nI_leI ha hb]
  exact ⟨f, fun z => g (by omega)⟩
theorem pk_lt {x y : Int32} {A B : Prop} (a b : Nat) (f : a < b → A) (g : b ≤ a → B) (hx : x = nI a := by rfl) (hy : y = nI b := by rfl) (ha : a < 2 ^ 31 := by omega) (hb : b < 2 ^ 31 := by omega) : (x < y → A) ∧ (¬ x < y → B) := by
  subst hx hy
  rw [nI_ltI ha hb]
  exact ⟨f, fun z => g (by omega)⟩
theorem pk_eq {x y : Int32} {A B : Prop} (a b : Nat) (f : a = b → A) (g : a ≠ b → B) (hx : x = nI a := by rfl) (hy : y = nI b := by rfl) (ha : a < 2 ^ 31 := by omega) (hb : b < 2 ^ 31 := by omega) : (x = y → A) ∧ (¬ x = y → B) := by
  subst hx hy
  rw [nI_eq ha hb]
  exact ⟨f, g⟩
theorem pk_in {x : Int32} (n N : Nat) (h : n < N) (hx : x = nI n := by rfl) (hN : N < 2 ^ 31 := by omega) : vp_in x N := by
  subst hx
  exact vp_in_nI h hN
theorem pk_cl {x : Int32} (n : Nat) (hx : x = nI n := by rfl) (h : n < 2 ^ 31 := by omega) : x.toNatClampNeg = n := by
  subst hx
  exact nI_clamp h
theorem pk_tn {n : Nat} (h : n < 2 ^ 32) : (nI n).toBitVec.toNat = n := Nat.mod_eq_of_lt h
theorem pk_and (x : Int32) {m : Int32} (k : Nat) (hm : m.toBitVec.toNat = 2 ^ k - 1) : x &&& m = nI (x.toBitVec.toNat % 2 ^ k) := by
  apply Int32.toBitVec_inj.mp
  apply BitVec.eq_of_toNat_eq
  rw [Int32.toBitVec_and, BitVec.toNat_and, hm, Nat.and_two_pow_sub_one_eq_mod]
  show _ = (BitVec.ofNat 32 _).toNat
  rw [BitVec.toNat_ofNat]
  exact (Nat.mod_eq_of_lt (Nat.lt_of_le_of_lt (Nat.mod_le _ _) x.toBitVec.isLt)).symm
theorem pk_andN {n : Nat} (h : n < 2 ^ 32) {m : Int32} (k : Nat) (hm : m.toBitVec.toNat = 2 ^ k - 1) : nI n &&& m = nI (n % 2 ^ k) := by
  rw [pk_and _ k hm, pk_tn h]
theorem pk_andE (x : Int32) {m : Int32} (k : Nat) (hm : m.toBitVec.toNat = 2 ^ k - 1) : ∃ j : Nat, j < 2 ^ k ∧ x &&& m = nI j := ⟨_, Nat.mod_lt _ (Nat.two_pow_pos k), pk_and x k hm⟩
theorem pk_andIn (x : Int32) {m : Int32} (k : Nat) (hm : m.toBitVec.toNat = 2 ^ k - 1) (hk : k ≤ 30) : vp_in (x &&& m) (2 ^ k) := by
  obtain ⟨j, hj, e⟩ := pk_andE x k hm
  rw [e]
  exact vp_in_nI hj (Nat.lt_of_le_of_lt (Nat.pow_le_pow_right (by decide) hk) (by decide))
theorem pk_shl (a s : Int32) (k : Nat) (hs : (s.toBitVec.smod 32).toNat = k) : (a <<< s).toBitVec.toNat = a.toBitVec.toNat * 2 ^ k % 2 ^ 32 := by
  show (a.toBitVec <<< (s.toBitVec.smod 32).toNat).toNat = _
  rw [hs, BitVec.toNat_shiftLeft, Nat.shiftLeft_eq]
theorem pk_shlN {n : Nat} (s : Int32) (k : Nat) (hs : (s.toBitVec.smod 32).toNat = k) (h : n * 2 ^ k < 2 ^ 32) : nI n <<< s = nI (n * 2 ^ k) := by
  apply Int32.toBitVec_inj.mp
  apply BitVec.eq_of_toNat_eq
  have hn : n < 2 ^ 32 := Nat.lt_of_le_of_lt (Nat.le_mul_of_pos_right n (Nat.two_pow_pos k)) h
  rw [pk_shl _ _ k hs, pk_tn hn, pk_tn h, Nat.mod_eq_of_lt h]
theorem pk_shr (a s : Int32) (k : Nat) (hs : (s.toBitVec.smod 32).toNat = k) : (a >>> s).toInt = a.toInt >>> k := by
  show (a.toBitVec.sshiftRight (s.toBitVec.smod 32).toNat).toInt = _
  rw [hs, BitVec.toInt_sshiftRight]
  rfl
theorem pk_shrN {n : Nat} (h : n < 2 ^ 31) (s : Int32) (k : Nat) (hs : (s.toBitVec.smod 32).toNat = k) : nI n >>> s = nI (n / 2 ^ k) := by
  apply Int32.toInt_inj.mp
  have h2 : n / 2 ^ k ≤ n := Nat.div_le_self _ _
  rw [pk_shr _ _ k hs, nI_toInt h, nI_toInt (by omega), Int.shiftRight_eq_div_pow]
  rfl
end
section
/-! ints as Int32: ofInt is a ring map; bounds for comparisons -/
theorem dm_nI (n : Nat) : nI n = Int32.ofInt (n : Int) := Int32.ofInt_eq_ofNat.symm
theorem dm_toInt {a : Int} (h1 : -2147483648 ≤ a) (h2 : a < 2147483648) : (Int32.ofInt a).toInt = a :=
  Int32.toInt_ofInt_of_le (by omega) (by omega)
theorem dm_leI {a b : Int} (h1 : -2147483648 ≤ a) (h2 : a < 2147483648) (h3 : -2147483648 ≤ b) (h4 : b < 2147483648) : Int32.ofInt a ≤ Int32.ofInt b ↔ a ≤ b := by
  rw [Int32.le_iff_toInt_le, dm_toInt h1 h2, dm_toInt h3 h4]
theorem dm_ltI {a b : Int} (h1 : -2147483648 ≤ a) (h2 : a < 2147483648) (h3 : -2147483648 ≤ b) (h4 : b < 2147483648) : Int32.ofInt a < Int32.ofInt b ↔ a < b := by
  rw [Int32.lt_iff_toInt_lt, dm_toInt h1 h2, dm_toInt h3 h4]
theorem dm_eqI {a b : Int} (h1 : -2147483648 ≤ a) (h2 : a < 2147483648) (h3 : -2147483648 ≤ b) (h4 : b < 2147483648) : Int32.ofInt a = Int32.ofInt b ↔ a = b := by
  rw [← Int32.toInt_inj, dm_toInt h1 h2, dm_toInt h3 h4]
theorem dm_ix (x y : Nat) : (16 : Int32) * nI y + nI x = nI (16 * y + x) := by
  rw [← nI_add, ← pk_mul]
  rfl
theorem dm_sq (a b c d : Nat) : (nI a - nI b) * (nI a - nI b) + (nI c - nI d) * (nI c - nI d) = Int32.ofInt (((a : Int) - b) * ((a : Int) - b) + ((c : Int) - d) * ((c : Int) - d)) := by
  simp only [dm_nI, ← Int32.ofInt_sub, ← Int32.ofInt_mul, ← Int32.ofInt_add]
/-! squares -/
theorem dm_sqle {a b : Int} (h : a.natAbs ≤ b.natAbs) : a * a ≤ b * b := by
  rw [← Int.natAbs_mul_self (a := a), ← Int.natAbs_mul_self (a := b)]
  exact Int.ofNat_le.mpr (Nat.mul_le_mul h h)
theorem dm_sqlt {a b : Int} (h : a.natAbs < b.natAbs) : a * a + 1 ≤ b * b := by
  rw [← Int.natAbs_mul_self (a := a), ← Int.natAbs_mul_self (a := b)]
  have := Nat.mul_self_lt_mul_self h
  omega
theorem dm_sq0 (a : Int) : 0 ≤ a * a := by
  rw [← Int.natAbs_mul_self (a := a)]
  exact Int.natCast_nonneg _
theorem dm_sqbd {a : Int} (h1 : -16 < a) (h2 : a < 16) : a * a ≤ 225 := by
  have := dm_sqle (a := a) (b := 15) (by omega)
  omega
/-! the squared distance, the key, the best mark -/
def dm_D (p m : Nat) : Int := (((p % 16 : Nat) : Int) - ((m % 16 : Nat) : Int)) * (((p % 16 : Nat) : Int) - ((m % 16 : Nat) : Int)) + (((p / 16 : Nat) : Int) - ((m / 16 : Nat) : Int)) * (((p / 16 : Nat) : Int) - ((m / 16 : Nat) : Int))
def dm_K (p m : Nat) : Int := 256 * dm_D p m + (m : Int)
def dm_Best (A : Nat → Int32) (p m : Nat) : Prop := m < 192 ∧ A m ≠ 0 ∧ ∀ j, j < 192 → A j ≠ 0 → dm_K p m ≤ dm_K p j
theorem dm_D0 (p m : Nat) : 0 ≤ dm_D p m := Int.add_nonneg (dm_sq0 _) (dm_sq0 _)
theorem dm_D1 {p m : Nat} (hp : p < 192) (hm : m < 192) : dm_D p m ≤ 450 := by
  have a := dm_sqbd (a := ((p % 16 : Nat) : Int) - ((m % 16 : Nat) : Int)) (by omega) (by omega)
  have b := dm_sqbd (a := ((p / 16 : Nat) : Int) - ((m / 16 : Nat) : Int)) (by omega) (by omega)
  unfold dm_D
  omega
theorem dm_uniq {A : Nat → Int32} {p m n : Nat} (h : dm_Best A p m) (g : dm_Best A p n) : m = n := by
  have a := h.2.2 n g.1 g.2.1
  have b := g.2.2 m h.1 h.2.1
  have h1 := h.1
  have g1 := g.1
  unfold dm_K at a b
  omega
theorem dm_bestCongr {A B : Nat → Int32} (e : ∀ j, j < 192 → (A j = 0 ↔ B j = 0)) {p m : Nat} (h : dm_Best A p m) : dm_Best B p m :=
  ⟨h.1, fun z => h.2.1 ((e m h.1).mpr z), fun j hj z => h.2.2 j hj (fun w => z ((e j hj).mp w))⟩
def dm_Good (A MO : Nat → Int32) : Prop := ∀ p, p < 192 → ∃ m, MO p = nI m ∧ dm_Best A p m
theorem dm_goodCongr {A B MO : Nat → Int32} (e : ∀ j, j < 192 → (A j = 0 ↔ B j = 0)) (h : dm_Good A MO) : dm_Good B MO := by
  intro p hp
  obtain ⟨m, em, hb⟩ := h p hp
  exact ⟨m, em, dm_bestCongr e hb⟩
/-! the count of marks -/
def dm_cnt (A : Nat → Int32) : Nat → Nat
  | 0 => 0
  | n + 1 => dm_cnt A n + (if A n = 0 then 0 else 1)
theorem dm_cntS (A : Nat → Int32) (n : Nat) : dm_cnt A (n + 1) = dm_cnt A n + (if A n = 0 then 0 else 1) := rfl
theorem dm_cntLe (A : Nat → Int32) (n : Nat) : dm_cnt A n ≤ n := by
  induction n with
  | zero => exact Nat.le_refl _
  | succ n ih =>
    rw [dm_cntS]
    by_cases h : A n = 0
    · rw [if_pos h]; omega
    · rw [if_neg h]; omega
theorem dm_cntC {A B : Nat → Int32} (n : Nat) (e : ∀ j, j < n → (A j = 0 ↔ B j = 0)) : dm_cnt A n = dm_cnt B n := by
  induction n with
  | zero => rfl
  | succ n ih =>
    rw [dm_cntS, dm_cntS, ih (fun j hj => e j (by omega))]
    by_cases h : A n = 0
    · rw [if_pos h, if_pos ((e n (by omega)).mp h)]
    · rw [if_neg h, if_neg (fun w => h ((e n (by omega)).mpr w))]
theorem dm_cnt1 {A B : Nat → Int32} {p : Nat} (n : Nat) (hp : p < n) (ha : A p = 0) (hb : ¬ B p = 0) (e : ∀ j, j ≠ p → (A j = 0 ↔ B j = 0)) : dm_cnt B n = dm_cnt A n + 1 := by
  induction n with
  | zero => omega
  | succ n ih =>
    rw [dm_cntS, dm_cntS]
    by_cases h : p = n
    · subst h
      rw [if_pos ha, if_neg hb, dm_cntC (A := B) (B := A) p (fun j hj => (e j (by omega)).symm)]
    · rw [ih (by omega)]
      have en := e n (by omega)
      by_cases g : A n = 0
      · rw [if_pos g, if_pos (en.mp g)]
      · rw [if_neg g, if_neg (fun w => g (en.mpr w))]
theorem dm_cnt0 {A : Nat → Int32} (n : Nat) (h : dm_cnt A n = 0) : ∀ j, j < n → A j = 0 := by
  induction n with
  | zero => intro j hj; omega
  | succ n ih =>
    rw [dm_cntS] at h
    intro j hj
    by_cases g : A n = 0
    · by_cases e : j = n
      · rw [e]; exact g
      · exact ih (by omega) j (by omega)
    · rw [if_neg g] at h; omega
theorem dm_cntP {A : Nat → Int32} (n : Nat) (h : ¬ dm_cnt A n = 0) : ∃ j, j < n ∧ A j ≠ 0 := by
  induction n with
  | zero => exact absurd rfl h
  | succ n ih =>
    by_cases g : A n = 0
    · rw [dm_cntS, if_pos g] at h
      obtain ⟨j, hj, hn⟩ := ih (by omega)
      exact ⟨j, by omega, hn⟩
    · exact ⟨n, by omega, g⟩
theorem dm_cntZ {A : Nat → Int32} (n : Nat) (h : ∀ j, j < n → A j = 0) : dm_cnt A n = 0 := by
  induction n with
  | zero => rfl
  | succ n ih => rw [dm_cntS, ih (fun j hj => h j (by omega)), if_pos (h n (by omega))]
end
section
/-! the lower envelope: columns cl, first places tk; a push or a pop keeps it -/
def dm_Seg (tk : Nat → Nat) (k j x : Nat) : Prop := tk j ≤ x ∧ ∀ i, j < i → i < k → x < tk i
def dm_ins (g : Nat → Nat) (n v : Nat) : Nat → Nat := fun j => if j = n then v else g j
theorem dm_ins_s {g : Nat → Nat} {n v : Nat} : dm_ins g n v n = v := if_pos rfl
theorem dm_ins_n {g : Nat → Nat} {n v j : Nat} (h : j ≠ n) : dm_ins g n v j = g j := if_neg h
def dm_Inv (V : Nat → Prop) (F : Nat → Nat → Int) (c k : Nat) (cl tk : Nat → Nat) : Prop :=
  k ≤ c ∧ (∀ j, j < k → cl j < c ∧ V (cl j) ∧ tk j < 16) ∧ (0 < k → tk 0 = 0) ∧ (∀ j, j + 1 < k → tk j < tk (j + 1)) ∧ (∀ e, e < c → V e → 0 < k) ∧ (∀ x j, x < 16 → j < k → dm_Seg tk k j x → ∀ e, e < c → V e → F (cl j) x ≤ F e x)
def dm_Pop (V : Nat → Prop) (F : Nat → Nat → Int) (c k : Nat) (cl tk : Nat → Nat) (d L : Nat) : Prop :=
  d ≤ k ∧ L ≤ 16 ∧ (d < k → L = tk d) ∧ (d = k → L = 16) ∧ (∀ x j, x < L → j < d → dm_Seg tk d j x → ∀ e, e < c → V e → F (cl j) x ≤ F e x) ∧ (∀ x, L ≤ x → x < 16 → ∀ e, e < c → V e → F c x < F e x)
section
variable {V : Nat → Prop} {F : Nat → Nat → Int} {c k : Nat} {cl tk : Nat → Nat}
theorem dm_inv0 : dm_Inv V F 0 0 cl tk :=
  ⟨Nat.le_refl _, fun j h => absurd h (Nat.not_lt_zero j), fun h => absurd h (Nat.not_lt_zero 0), fun j h => absurd h (Nat.not_lt_zero (j + 1)), fun e h => absurd h (Nat.not_lt_zero e), fun x j _ h => absurd h (Nat.not_lt_zero j)⟩
theorem dm_invSkip (h : dm_Inv V F c k cl tk) (hv : ¬ V c) : dm_Inv V F (c + 1) k cl tk := by
  obtain ⟨i1, i2, i3, i4, i5, i6⟩ := h
  have hl : ∀ e, e < c + 1 → V e → e < c := by
    intro e he hve
    by_cases z : e = c
    · rw [z] at hve; exact absurd hve hv
    · omega
  refine ⟨by omega, fun j hj => ⟨?_, (i2 j hj).2⟩, i3, i4, fun e he hve => i5 e (hl e he hve) hve, fun x j hx hj hs e he hve => i6 x j hx hj hs e (hl e he hve) hve⟩
  have := (i2 j hj).1
  omega
theorem dm_pop0 (h : dm_Inv V F c k cl tk) : dm_Pop V F c k cl tk k 16 :=
  ⟨Nat.le_refl _, Nat.le_refl _, fun z => absurd z (Nat.lt_irrefl _), fun _ => rfl, fun x j hx hj hs e he hv => h.2.2.2.2.2 x j hx hj hs e he hv, fun x h1 h2 => absurd h2 (Nat.not_lt_of_le h1)⟩
theorem dm_pop1 (h : dm_Inv V F c k cl tk) {d L : Nat} (p : dm_Pop V F c k cl tk (d + 1) L) (hq : ∀ x, x < 16 → tk d ≤ x → F c x < F (cl d) x) : dm_Pop V F c k cl tk d (tk d) := by
  obtain ⟨i1, i2, i3, i4, i5, i6⟩ := h
  obtain ⟨p1, p2, p3, p4, p5, p6⟩ := p
  have hd := i2 d (by omega)
  have hL : tk d < L := by
    by_cases z : d + 1 < k
    · rw [p3 z]; exact i4 d z
    · rw [p4 (by omega)]; exact hd.2.2
  refine ⟨by omega, by omega, fun _ => rfl, fun z => absurd z (by omega), ?_, ?_⟩
  · intro x j hx hj hs e he hv
    refine p5 x j (by omega) (by omega) ⟨hs.1, fun i a b => ?_⟩ e he hv
    by_cases z : i = d
    · rw [z]; exact hx
    · exact hs.2 i a (by omega)
  · intro x h1 h2 e he hv
    by_cases z : L ≤ x
    · exact p6 x z h2 e he hv
    · have a := p5 x d (by omega) (by omega) ⟨h1, fun i a b => absurd a (by omega)⟩ e he hv
      have b := hq x h2 h1
      exact Int.lt_of_lt_of_le b a
theorem dm_push0 (h : dm_Inv V F c k cl tk) {d L : Nat} (p : dm_Pop V F c k cl tk (d + 1) L) {q : Int} (hq1 : ∀ x : Nat, x < 16 → (x : Int) ≤ q → F (cl d) x ≤ F c x) (hq : 15 ≤ q) : dm_Inv V F (c + 1) (d + 1) cl tk := by
  obtain ⟨i1, i2, i3, i4, i5, i6⟩ := h
  obtain ⟨p1, p2, p3, p4, p5, p6⟩ := p
  have hd := i2 d (by omega)
  have ek : d + 1 = k := by
    by_cases z : d + 1 < k
    · exfalso
      have e1 := p3 z
      have e2 := (i2 (d + 1) z).2.2
      have a := p6 L (Nat.le_refl _) (by omega) (cl d) hd.1 hd.2.1
      have b := hq1 L (by omega) (by omega)
      exact absurd a (Int.not_lt.mpr b)
    · omega
  subst ek
  have eL := p4 rfl
  refine ⟨by omega, fun j hj => ⟨by have := (i2 j hj).1; omega, (i2 j hj).2⟩, i3, i4, fun e he hv => by omega, ?_⟩
  intro x j hx hj hs e he hv
  by_cases z : e = c
  · rw [z]
    have a := p5 x j (by omega) hj hs (cl d) hd.1 hd.2.1
    have b := hq1 x hx (by omega)
    exact Int.le_trans a b
  · exact i6 x j hx hj hs e (by omega) hv
theorem dm_push1 (h : dm_Inv V F c k cl tk) {d L : Nat} (p : dm_Pop V F c k cl tk (d + 1) L) (hc : V c) {q : Int} {f : Nat} (hf : (f : Int) = q + 1) (hf16 : f < 16) (ht : tk d < f) (hq1 : ∀ x : Nat, x < 16 → (x : Int) ≤ q → F (cl d) x ≤ F c x) (hq2 : ∀ x : Nat, x < 16 → q < (x : Int) → F c x < F (cl d) x) : dm_Inv V F (c + 1) (d + 2) (dm_ins cl (d + 1) c) (dm_ins tk (d + 1) f) := by
  obtain ⟨i1, i2, i3, i4, i5, i6⟩ := h
  obtain ⟨p1, p2, p3, p4, p5, p6⟩ := p
  have hd := i2 d (by omega)
  have hL : f ≤ L := by
    by_cases z : f ≤ L
    · exact z
    · exfalso
      have a := p6 L (Nat.le_refl _) (by omega) (cl d) hd.1 hd.2.1
      have b := hq1 L (by omega) (by omega)
      exact absurd a (Int.not_lt.mpr b)
  refine ⟨by omega, ?_, ?_, ?_, fun _ _ _ => by omega, ?_⟩
  · intro j hj
    by_cases z : j = d + 1
    · subst z
      rw [dm_ins_s, dm_ins_s]
      exact ⟨by omega, hc, hf16⟩
    · rw [dm_ins_n z, dm_ins_n z]
      have a := i2 j (by omega)
      exact ⟨by omega, a.2⟩
  · intro _
    rw [dm_ins_n (by omega)]
    exact i3 (by omega)
  · intro j hj
    by_cases z : j = d
    · subst z
      rw [dm_ins_s, dm_ins_n (by omega)]
      exact ht
    · rw [dm_ins_n (by omega), dm_ins_n (by omega)]
      exact i4 j (by omega)
  · intro x j hx hj hs e he hv
    obtain ⟨s1, s2⟩ := hs
    by_cases z : j = d + 1
    · subst z
      rw [dm_ins_s] at s1 ⊢
      by_cases w : e = c
      · rw [w]; exact Int.le_refl _
      · by_cases y : L ≤ x
        · exact Int.le_of_lt (p6 x y hx e (by omega) hv)
        · have a := p5 x d (by omega) (by omega) ⟨by omega, fun i a b => absurd a (by omega)⟩ e (by omega) hv
          have b := hq2 x hx (by omega)
          exact Int.le_of_lt (Int.lt_of_lt_of_le b a)
    · rw [dm_ins_n z] at s1 ⊢
      have hxf : x < f := by
        have := s2 (d + 1) (by omega) (by omega)
        rw [dm_ins_s] at this
        exact this
      have hs' : dm_Seg tk (d + 1) j x := by
        refine ⟨s1, fun i a b => ?_⟩
        have := s2 i a (by omega)
        rw [dm_ins_n (by omega)] at this
        exact this
      by_cases w : e = c
      · rw [w]
        have a := p5 x j (by omega) (by omega) hs' (cl d) hd.1 hd.2.1
        have b := hq1 x hx (by omega)
        exact Int.le_trans a b
      · exact p5 x j (by omega) (by omega) hs' e (by omega) hv
theorem dm_pushE (h : dm_Inv V F c k cl tk) {L : Nat} (p : dm_Pop V F c k cl tk 0 L) (hc : V c) : dm_Inv V F (c + 1) 1 (dm_ins cl 0 c) (dm_ins tk 0 0) := by
  obtain ⟨i1, i2, i3, i4, i5, i6⟩ := h
  obtain ⟨p1, p2, p3, p4, p5, p6⟩ := p
  refine ⟨by omega, fun j hj => ?_, fun _ => dm_ins_s, fun j hj => absurd hj (by omega), fun _ _ _ => by omega, ?_⟩
  · have ej : j = 0 := by omega
    subst ej
    rw [dm_ins_s, dm_ins_s]
    exact ⟨by omega, hc, by omega⟩
  · intro x j hx hj hs e he hv
    have ej : j = 0 := by omega
    subst ej
    rw [dm_ins_s]
    by_cases w : e = c
    · rw [w]; exact Int.le_refl _
    · have hk := i5 e (by omega) hv
      have e1 := p3 hk
      have e2 := i3 hk
      exact Int.le_of_lt (p6 x (by omega) hx e (by omega) hv)
end
/-! two parabolas: where the earlier one is lower -/
def dm_F (H : Nat → Int) (c x : Nat) : Int := 256 * (((x : Int) - (c : Int)) * ((x : Int) - (c : Int))) + H c
def dm_up (H : Nat → Int) (i u : Nat) : Int := 256 * ((u : Int) * (u : Int) - (i : Int) * (i : Int)) + H u - H i
def dm_lo (i u : Nat) : Int := 512 * ((u : Int) - (i : Int))
theorem dm_Fd (H : Nat → Int) (i u x : Nat) : dm_F H u x - dm_F H i x = dm_up H i u - (x : Int) * dm_lo i u := by
  unfold dm_F dm_up dm_lo
  grind
theorem dm_lo0 {i u : Nat} (h : i < u) : 512 ≤ dm_lo i u := by
  unfold dm_lo
  omega
theorem dm_q1 (H : Nat → Int) {i u x : Nat} (h : i < u) (hx : (x : Int) ≤ dm_up H i u / dm_lo i u) : dm_F H i x ≤ dm_F H u x := by
  have h0 := dm_lo0 h
  have a := (Int.le_ediv_iff_mul_le (by omega)).mp hx
  have b := dm_Fd H i u x
  omega
theorem dm_q2 (H : Nat → Int) {i u x : Nat} (h : i < u) (hx : dm_up H i u / dm_lo i u < (x : Int)) : dm_F H u x < dm_F H i x := by
  have h0 := dm_lo0 h
  have a := (Int.ediv_lt_iff_lt_mul (by omega)).mp hx
  have b := dm_Fd H i u x
  omega
/-- truncated division and its remainder's sign give the floor -/
theorem dm_floor {a b : Int} (hb : 0 < b) : (0 ≤ a.tmod b → a.tdiv b = a / b) ∧ (¬ 0 ≤ a.tmod b → a.tdiv b - 1 = a / b) := by
  have e := Int.mul_tdiv_add_tmod a b
  have l1 := Int.tmod_lt_of_pos a hb
  have l2 := Int.lt_tmod_of_pos a hb
  constructor
  · intro h
    exact ((Int.ediv_emod_unique (r := a.tmod b) (q := a.tdiv b) hb).mpr ⟨by omega, h, l1⟩).1.symm
  · intro h
    refine ((Int.ediv_emod_unique (r := a.tmod b + b) (q := a.tdiv b - 1) hb).mpr ⟨?_, by omega, by omega⟩).1.symm
    rw [Int.mul_sub, Int.mul_one]
    omega
end
section
/-! a column: the last mark on the way down, on the way up, the nearest one -/
def dm_H0 (i r : Nat) : Int := 256 * (((r : Int) - (i : Int)) * ((r : Int) - (i : Int))) + 16 * (r : Int)
theorem dm_near {i r s : Nat} (hr : r < 12) (hs : s < 12) (h : ((r : Int) - (i : Int)).natAbs < ((s : Int) - (i : Int)).natAbs ∨ (((r : Int) - (i : Int)).natAbs ≤ ((s : Int) - (i : Int)).natAbs ∧ r ≤ s)) : dm_H0 i r ≤ dm_H0 i s := by
  unfold dm_H0
  rcases h with h | ⟨h, g⟩
  · have := dm_sqlt h
    omega
  · have := dm_sqle h
    omega
def dm_Up (A : Nat → Int32) (x i : Nat) (v : Int32) : Prop := (v = -1 ∧ ∀ r, r < i → A (16 * r + x) = 0) ∨ ∃ r, r < i ∧ v = nI (16 * r + x) ∧ A (16 * r + x) ≠ 0 ∧ ∀ s, r < s → s < i → A (16 * s + x) = 0
def dm_Dn (A : Nat → Int32) (x i : Nat) (v : Int32) : Prop := (v = -1 ∧ ∀ r, i ≤ r → r < 12 → A (16 * r + x) = 0) ∨ ∃ r, i ≤ r ∧ r < 12 ∧ v = nI (16 * r + x) ∧ A (16 * r + x) ≠ 0 ∧ ∀ s, i ≤ s → s < r → A (16 * s + x) = 0
def dm_Col (A : Nat → Int32) (x i : Nat) (v : Int32) : Prop := (v = -1 ∧ ∀ r, r < 12 → A (16 * r + x) = 0) ∨ ∃ r, r < 12 ∧ v = nI (16 * r + x) ∧ A (16 * r + x) ≠ 0 ∧ ∀ s, s < 12 → A (16 * s + x) ≠ 0 → dm_H0 i r ≤ dm_H0 i s
theorem dm_up0 (A : Nat → Int32) (x : Nat) : dm_Up A x 0 (-1) := Or.inl ⟨rfl, fun r h => absurd h (Nat.not_lt_zero r)⟩
theorem dm_upZ {A : Nat → Int32} {x i : Nat} {v : Int32} (h : dm_Up A x i v) (z : A (16 * i + x) = 0) : dm_Up A x (i + 1) v := by
  rcases h with ⟨e, g⟩ | ⟨r, h1, h2, h3, h4⟩
  · refine Or.inl ⟨e, fun r hr => ?_⟩
    by_cases w : r = i
    · rw [w]; exact z
    · exact g r (by omega)
  · refine Or.inr ⟨r, by omega, h2, h3, fun s a b => ?_⟩
    by_cases w : s = i
    · rw [w]; exact z
    · exact h4 s a (by omega)
theorem dm_upM {A : Nat → Int32} {x i : Nat} (z : ¬ A (16 * i + x) = 0) : dm_Up A x (i + 1) (nI (16 * i + x)) :=
  Or.inr ⟨i, by omega, rfl, z, fun s a b => absurd a (by omega)⟩
theorem dm_dn0 (A : Nat → Int32) (x : Nat) : dm_Dn A x 12 (-1) := Or.inl ⟨rfl, fun r h g => absurd g (by omega)⟩
theorem dm_dnZ {A : Nat → Int32} {x i : Nat} {v : Int32} (h : dm_Dn A x (i + 1) v) (z : A (16 * i + x) = 0) : dm_Dn A x i v := by
  rcases h with ⟨e, g⟩ | ⟨r, h1, h1', h2, h3, h4⟩
  · refine Or.inl ⟨e, fun r hr hs => ?_⟩
    by_cases w : r = i
    · rw [w]; exact z
    · exact g r (by omega) hs
  · refine Or.inr ⟨r, by omega, h1', h2, h3, fun s a b => ?_⟩
    by_cases w : s = i
    · rw [w]; exact z
    · exact h4 s (by omega) b
theorem dm_dnM {A : Nat → Int32} {x i : Nat} (hi : i < 12) (z : ¬ A (16 * i + x) = 0) : dm_Dn A x i (nI (16 * i + x)) :=
  Or.inr ⟨i, Nat.le_refl _, hi, rfl, z, fun s a b => absurd a (by omega)⟩
theorem dm_colU {A : Nat → Int32} {x i r : Nat} (hi : i < 12) (h1 : r < i + 1) (h2 : A (16 * r + x) ≠ 0) (h3 : ∀ s, r < s → s < i + 1 → A (16 * s + x) = 0) (h4 : ∀ s, i ≤ s → s < 12 → A (16 * s + x) ≠ 0 → i + i ≤ s + r) : dm_Col A x i (nI (16 * r + x)) := by
  refine Or.inr ⟨r, by omega, rfl, h2, fun s hs hz => dm_near (by omega) hs ?_⟩
  by_cases w : s ≤ r
  · by_cases e : s = r
    · right
      subst e
      exact ⟨Nat.le_refl _, Nat.le_refl _⟩
    · left
      omega
  · right
    have hs' : i ≤ s := by
      by_cases q : s < i + 1
      · exact absurd (h3 s (by omega) q) hz
      · omega
    have := h4 s hs' hs hz
    omega
theorem dm_colD {A : Nat → Int32} {x i r : Nat} (h1 : i ≤ r) (h1' : r < 12) (h2 : A (16 * r + x) ≠ 0) (h3 : ∀ s, i ≤ s → s < r → A (16 * s + x) = 0) (h4 : ∀ s, s < i + 1 → A (16 * s + x) ≠ 0 → r + s < i + i) : dm_Col A x i (nI (16 * r + x)) := by
  refine Or.inr ⟨r, h1', rfl, h2, fun s hs hz => dm_near h1' hs ?_⟩
  by_cases w : s < i + 1
  · left
    have := h4 s w hz
    omega
  · right
    have hs' : r ≤ s := by
      by_cases q : s < r
      · exact absurd (h3 s (by omega) q) hz
      · omega
    omega
/-! a row: which columns have a mark, its number, the height of its parabola -/
def dm_V (CM : Nat → Int32) (y c : Nat) : Prop := ¬ CM (16 * y + c) < 0
def dm_g (CM : Nat → Int32) (y c : Nat) : Nat := (CM (16 * y + c)).toNatClampNeg
def dm_H (CM : Nat → Int32) (y c : Nat) : Int := 256 * ((((dm_g CM y c / 16 : Nat) : Int) - (y : Int)) * (((dm_g CM y c / 16 : Nat) : Int) - (y : Int))) + (dm_g CM y c : Int)
def dm_Row (CM : Nat → Int32) (y : Nat) : Prop := ∀ c, c < 16 → dm_V CM y c → dm_g CM y c < 192 ∧ CM (16 * y + c) = nI (dm_g CM y c)
def dm_Cols (A CM : Nat → Int32) : Prop := ∀ x r, x < 16 → r < 12 → dm_Col A x r (CM (16 * r + x))
theorem dm_colR {A CM : Nat → Int32} (h : dm_Cols A CM) {y c : Nat} (hy : y < 12) (hc : c < 16) (hv : dm_V CM y c) : ∃ r, r < 12 ∧ dm_g CM y c = 16 * r + c ∧ CM (16 * y + c) = nI (16 * r + c) ∧ A (16 * r + c) ≠ 0 ∧ ∀ s, s < 12 → A (16 * s + c) ≠ 0 → dm_H0 y r ≤ dm_H0 y s := by
  rcases h c y hc hy with ⟨e, _⟩ | ⟨r, h1, h2, h3, h4⟩
  · exact absurd (show CM (16 * y + c) < 0 from by rw [e]; decide) hv
  · refine ⟨r, h1, ?_, h2, h3, h4⟩
    unfold dm_g
    rw [h2]
    exact nI_clamp (by omega)
theorem dm_colV {A CM : Nat → Int32} (h : dm_Cols A CM) {y c s : Nat} (hy : y < 12) (hc : c < 16) (hs : s < 12) (hm : A (16 * s + c) ≠ 0) : dm_V CM y c := by
  rcases h c y hc hy with ⟨_, g⟩ | ⟨r, h1, h2, h3, h4⟩
  · exact absurd (g s hs) hm
  · unfold dm_V
    rw [h2]
    exact nI_pos (by omega)
theorem dm_rowOf {A CM : Nat → Int32} (h : dm_Cols A CM) {y : Nat} (hy : y < 12) : dm_Row CM y := by
  intro c hc hv
  obtain ⟨r, h1, h2, h3, _⟩ := dm_colR h hy hc hv
  exact ⟨by omega, by rw [h2]; exact h3⟩
theorem dm_KF {x y c r : Nat} (hx : x < 16) (hc : c < 16) : dm_K (16 * y + x) (16 * r + c) = 256 * (((x : Int) - (c : Int)) * ((x : Int) - (c : Int))) + (dm_H0 y r + (c : Int)) := by
  unfold dm_K dm_D dm_H0
  rw [show (16 * y + x) % 16 = x from by omega, show (16 * r + c) % 16 = c from by omega, show (16 * y + x) / 16 = y from by omega, show (16 * r + c) / 16 = r from by omega]
  have e : ((16 * r + c : Nat) : Int) = 16 * (r : Int) + (c : Int) := by omega
  rw [e]
  grind
theorem dm_FH {CM : Nat → Int32} {x y c r : Nat} (hc : c < 16) (e : dm_g CM y c = 16 * r + c) : dm_F (dm_H CM y) c x = 256 * (((x : Int) - (c : Int)) * ((x : Int) - (c : Int))) + (dm_H0 y r + (c : Int)) := by
  unfold dm_F dm_H dm_H0
  rw [e, show (16 * r + c) / 16 = r from by omega]
  have e : ((16 * r + c : Nat) : Int) = 16 * (r : Int) + (c : Int) := by omega
  rw [e]
  grind
theorem dm_best {A CM : Nat → Int32} (h : dm_Cols A CM) {x y c : Nat} (hx : x < 16) (hy : y < 12) (hc : c < 16) (hv : dm_V CM y c) (hm : ∀ e, e < 16 → dm_V CM y e → dm_F (dm_H CM y) c x ≤ dm_F (dm_H CM y) e x) : dm_Best A (16 * y + x) (dm_g CM y c) := by
  obtain ⟨r, h1, h2, h3, h4, _⟩ := dm_colR h hy hc hv
  rw [h2]
  refine ⟨by omega, h4, fun q hq hz => ?_⟩
  have eq : q = 16 * (q / 16) + q % 16 := by omega
  have hz' : A (16 * (q / 16) + q % 16) ≠ 0 := by rw [← eq]; exact hz
  have hw := dm_colV h hy (c := q % 16) (s := q / 16) (by omega) (by omega) hz'
  obtain ⟨s, g1, g2, g3, g4, g5⟩ := dm_colR h hy (c := q % 16) (by omega) hw
  have a := hm (q % 16) (by omega) hw
  rw [dm_FH hc h2, dm_FH (by omega) g2] at a
  have b := g5 (q / 16) (by omega) hz'
  have k := dm_KF (x := x) (y := y) (c := q % 16) (r := q / 16) hx (by omega)
  rw [← eq] at k
  rw [k, dm_KF hx hc]
  omega
end
section
/-! the reference: apart, the scan for the best mark, far -/
theorem dm_ap {post : Int32 → Prop} {p m : Nat} (hp : p < 192) (hm : m < 192) (h : post (Int32.ofInt (dm_D p m))) : wpY_apart post (nI p) (nI m) := by
  have z : ¬ (16 : Int32) = 0 := by decide
  have e1 : ∀ n : Nat, n < 192 → nI n - nI n / 16 * 16 = nI (n % 16) := fun n hn => pk_rem (d := 16) (by omega) (by decide) (by decide)
  have e2 : ∀ n : Nat, n < 192 → nI n / 16 = nI (n / 16) := fun n hn => pk_div (d := 16) (by omega) (by decide) (by decide)
  unfold wpY_apart
  refine ⟨z, z, nm_r (e' := nI (p % 16) - nI (m % 16)) ?_ ⟨z, z, nm_r (e' := nI (p / 16) - nI (m / 16)) ?_ ?_⟩⟩
  · rw [e1 p hp, e1 m hm]
  · rw [e2 p hp, e2 m hm]
  · rw [dm_sq]
    exact h
def dm_MR (A : Nat → Int32) (p i : Nat) (v : Int32) : Prop := (v = -1 ∧ ∀ j, j < i → A j = 0) ∨ ∃ b, b < i ∧ v = nI b ∧ A b ≠ 0 ∧ ∀ j, j < i → A j ≠ 0 → dm_K p b ≤ dm_K p j
theorem dm_mr0 (A : Nat → Int32) (p : Nat) : dm_MR A p 0 (-1) := Or.inl ⟨rfl, fun j h => absurd h (Nat.not_lt_zero j)⟩
theorem dm_mrZ {A : Nat → Int32} {p i : Nat} {v : Int32} (h : dm_MR A p i v) (z : A i = 0) : dm_MR A p (i + 1) v := by
  rcases h with ⟨e, g⟩ | ⟨b, h1, h2, h3, h4⟩
  · refine Or.inl ⟨e, fun j hj => ?_⟩
    by_cases w : j = i
    · rw [w]; exact z
    · exact g j (by omega)
  · refine Or.inr ⟨b, by omega, h2, h3, fun j hj hz => ?_⟩
    by_cases w : j = i
    · rw [w] at hz; exact absurd z hz
    · exact h4 j (by omega) hz
theorem dm_yloop {A : Nat → Int32} {p : Nat} {post : Int32 → Prop} (hp : p < 192) (h : ∀ r, dm_MR A p 192 r → post r) : ∀ (d i : Nat) (v : Int32), i + d = 192 → dm_MR A p i v → wY_markOf_4 post (nI p) A (d + 1) v (nI i) := by
  intro d
  induction d with
  | zero =>
    intro i v hi hm
    have e : i = 192 := by omega
    subst e
    exact br_t (nI_le (a := 192) (b := 192) (by decide) (by decide)) (h v hm)
  | succ d ih =>
    intro i v hi hm
    have hlt : ¬ (192 : Int32) ≤ nI i := nI_ge (b := 192) (by omega) (by decide)
    have hii : i < 192 := by omega
    refine br_f hlt ⟨vp_in_nI hii (by decide), ?_⟩
    rw [nI_clamp (n := i) (by omega)]
    by_cases z : A i = 0
    · exact br_t z (nm_r (nI_1 i) (ih (i + 1) v (by omega) (dm_mrZ hm z)))
    · refine br_f z ?_
      rcases hm with ⟨rfl, g⟩ | ⟨b, h1, rfl, h3, h4⟩
      · refine br_t (by decide) (nm_r (nI_1 i) (ih (i + 1) (nI i) (by omega) (Or.inr ⟨i, by omega, rfl, z, fun j hj hz => ?_⟩)))
        by_cases w : j = i
        · rw [w]; exact Int.le_refl _
        · exact absurd (g j (by omega)) hz
      · have hb : b < 192 := by omega
        refine br_f (nI_pos (by omega)) (dm_ap hp hii (dm_ap hp hb ?_))
        have a0 := dm_D0 p i
        have a1 := dm_D1 hp hii
        have b0 := dm_D0 p b
        have b1 := dm_D1 hp hb
        by_cases w : dm_D p b ≤ dm_D p i
        · refine br_t ((dm_leI (by omega) (by omega) (by omega) (by omega)).mpr w) (nm_r (nI_1 i) (ih (i + 1) (nI b) (by omega) (Or.inr ⟨b, by omega, rfl, h3, fun j hj hz => ?_⟩)))
          by_cases q : j = i
          · subst q
            unfold dm_K
            omega
          · exact h4 j (by omega) hz
        · refine br_f (fun q => w ((dm_leI (by omega) (by omega) (by omega) (by omega)).mp q)) (nm_r (nI_1 i) (ih (i + 1) (nI i) (by omega) (Or.inr ⟨i, by omega, rfl, z, fun j hj hz => ?_⟩)))
          by_cases q : j = i
          · rw [q]; exact Int.le_refl _
          · have k := h4 j (by omega) hz
            refine Int.le_trans ?_ k
            unfold dm_K
            omega
theorem dm_markOf {A : Nat → Int32} {p : Nat} {post : Int32 → Prop} (hp : p < 192) (h : ∀ r, dm_MR A p 192 r → post r) : wpY_markOf post A (nI p) :=
  ⟨192 + 1, dm_yloop hp h 192 0 (-1) (by omega) (dm_mr0 A p)⟩
theorem dm_ymB {A : Nat → Int32} {p m : Nat} {post : Int32 → Prop} (hp : p < 192) (hb : dm_Best A p m) (h : post (nI m)) : wpY_markOf post A (nI p) := by
  refine dm_markOf hp (fun r hr => ?_)
  rcases hr with ⟨_, g⟩ | ⟨b, h1, h2, h3, h4⟩
  · exact absurd (g m hb.1) hb.2.1
  · rw [h2, dm_uniq (m := b) (n := m) ⟨h1, h3, h4⟩ hb]
    exact h
theorem dm_ymN {A : Nat → Int32} {p : Nat} {post : Int32 → Prop} (hp : p < 192) (hn : ∀ j, j < 192 → A j = 0) (h : post (-1)) : wpY_markOf post A (nI p) := by
  refine dm_markOf hp (fun r hr => ?_)
  rcases hr with ⟨e, _⟩ | ⟨b, h1, h2, h3, h4⟩
  · rw [e]; exact h
  · exact absurd (hn b h1) h3
theorem dm_farB {A : Nat → Int32} {p m : Nat} {post : Int32 → Prop} (hp : p < 192) (hb : dm_Best A p m) (h : post (Int32.ofInt (dm_D p m))) : wpY_far post A (nI p) := by
  have hm := hb.1
  unfold wpY_far
  refine dm_ymB hp hb ?_
  exact br_t (nI_pos' (by omega)) (dm_ap hp hm h)
theorem dm_farN {A : Nat → Int32} {p : Nat} {post : Int32 → Prop} (hp : p < 192) (hn : ∀ j, j < 192 → A j = 0) (h : post (-1)) : wpY_far post A (nI p) := by
  unfold wpY_far
  refine dm_ymN hp hn ?_
  exact br_f (by decide) h
theorem dm_place (v1 v2 : Int32) : (∃ x y : Nat, x < 16 ∧ y < 12 ∧ v1 = nI x ∧ v2 = nI y ∧ (∀ post : Int32 → Prop, post 1 → wpX_isPlace post v1 v2) ∧ (∀ post : Int32 → Prop, post 0 → wpY_bad post v1 v2)) ∨ ((∀ post : Int32 → Prop, post 0 → wpX_isPlace post v1 v2) ∧ (∀ post : Int32 → Prop, post 1 → wpY_bad post v1 v2)) := by
  by_cases h1 : v1 < 0
  · exact Or.inr ⟨fun post h => br_t h1 h, fun post h => br_t h1 h⟩
  · by_cases h2 : 15 < v1
    · exact Or.inr ⟨fun post h => br_f h1 (br_t h2 h), fun post h => br_f h1 (br_t h2 h)⟩
    · by_cases h3 : v2 < 0
      · exact Or.inr ⟨fun post h => br_f h1 (br_f h2 (br_t h3 h)), fun post h => br_f h1 (br_f h2 (br_t h3 h))⟩
      · by_cases h4 : 11 < v2
        · exact Or.inr ⟨fun post h => br_f h1 (br_f h2 (br_f h3 (br_t h4 h))), fun post h => br_f h1 (br_f h2 (br_f h3 (br_f (Int32.not_le.mpr h4) h)))⟩
        · obtain ⟨x, hx, ex⟩ := nI_of2 (M := 15) (n := 15) (by decide) h1 (Int32.not_lt.mp h2)
          obtain ⟨y, hy, ey⟩ := nI_of2 (M := 11) (n := 11) (by decide) h3 (Int32.not_lt.mp h4)
          exact Or.inl ⟨x, y, by omega, by omega, ex, ey, fun post h => br_f h1 (br_f h2 (br_f h3 (br_f h4 h))), fun post h => br_f h1 (br_f h2 (br_f h3 (br_t (Int32.not_lt.mp h4) h)))⟩
end
section
/-! X: distanceOf, heightOf, lastPlace -/
section
variable {post : Int32 → Prop} {fm fk fkept : Int32} {A MO CM KC TO : Nat → Int32}
theorem dm_dist {p m : Nat} (hp : p < 192) (hm : m < 192) (e : MO p = nI m) (h : post (Int32.ofInt (dm_D p m))) : wpX_distanceOf post (fm, fk, fkept, A, MO, CM, KC, TO) (nI p) := by
  have i : vp_in (nI p) 192 := vp_in_nI hp (by decide)
  unfold wpX_distanceOf
  dsimp only
  rw [nI_clamp (n := p) (by omega), e]
  refine ⟨i, nm_r (e' := nI (p % 16) - nI (m % 16)) ?_ ⟨i, nm_r (e' := nI (p / 16) - nI (m / 16)) ?_ ?_⟩⟩
  · rw [pk_andN (n := p) (m := 15) (by omega) 4 (by decide), pk_andN (n := m) (m := 15) (by omega) 4 (by decide)]
  · rw [pk_shrN (n := p) (by omega) ((4 : Int32) &&& 31) 4 (by decide), pk_shrN (n := m) (by omega) ((4 : Int32) &&& 31) 4 (by decide)]
  · rw [dm_sq]
    exact h
theorem dm_hv (a b g : Nat) : (256 * (nI a - nI b)) * (nI a - nI b) + nI g = Int32.ofInt (256 * (((a : Int) - (b : Int)) * ((a : Int) - (b : Int))) + (g : Int)) := by
  rw [show (256 : Int32) = Int32.ofInt 256 from rfl]
  simp only [dm_nI, ← Int32.ofInt_sub, ← Int32.ofInt_mul, ← Int32.ofInt_add]
  rw [Int.mul_assoc]
theorem dm_height {y c : Nat} (hy : y < 12) (hc : c < 16) (hg : dm_g CM y c < 192 ∧ CM (16 * y + c) = nI (dm_g CM y c)) (h : post (Int32.ofInt (dm_H CM y c))) : wpX_heightOf post (fm, fk, fkept, A, MO, CM, KC, TO) (nI c) (nI y) := by
  obtain ⟨g1, g2⟩ := hg
  unfold wpX_heightOf
  dsimp only
  rw [dm_ix c y, nI_clamp (n := 16 * y + c) (by omega), g2]
  refine ⟨vp_in_nI (by omega) (by decide), nm_e (nm_r (e' := nI (dm_g CM y c / 16) - nI y) ?_ ?_)⟩
  · rw [pk_shrN (n := dm_g CM y c) (by omega) ((4 : Int32) &&& 31) 4 (by decide)]
  · rw [dm_hv]
    exact h
theorem dm_Hbd {y c : Nat} (hy : y < 12) (hg : dm_g CM y c < 192) : 0 ≤ dm_H CM y c ∧ dm_H CM y c ≤ 57791 := by
  have a := dm_sqbd (a := ((dm_g CM y c / 16 : Nat) : Int) - (y : Int)) (by omega) (by omega)
  have b := dm_sq0 (((dm_g CM y c / 16 : Nat) : Int) - (y : Int))
  unfold dm_H
  omega
theorem dm_upbd {y i u : Nat} (hy : y < 12) (hi : i < u) (hu : u < 16) (gi : dm_g CM y i < 192) (gu : dm_g CM y u < 192) : -120000 ≤ dm_up (dm_H CM y) i u ∧ dm_up (dm_H CM y) i u ≤ 120000 := by
  have a := dm_Hbd hy gi
  have b := dm_Hbd hy gu
  have c := dm_sqbd (a := (u : Int)) (by omega) (by omega)
  have d := dm_sqbd (a := (i : Int)) (by omega) (by omega)
  have c' := dm_sq0 (u : Int)
  have d' := dm_sq0 (i : Int)
  unfold dm_up
  omega
theorem dm_qbd {y i u : Nat} (hy : y < 12) (hi : i < u) (hu : u < 16) (gi : dm_g CM y i < 192) (gu : dm_g CM y u < 192) : -300 ≤ dm_up (dm_H CM y) i u / dm_lo i u ∧ dm_up (dm_H CM y) i u / dm_lo i u < 300 := by
  have a := dm_upbd hy hi hu gi gu
  have b := dm_lo0 hi
  exact ⟨Int.le_ediv_of_mul_le (by omega) (by omega), Int.ediv_lt_of_lt_mul (by omega) (by omega)⟩
theorem dm_div {a b : Int} (h1 : -2147483648 ≤ a) (h2 : a < 2147483648) (h3 : -2147483648 ≤ b) (h4 : b < 2147483648) : Int32.ofInt a / Int32.ofInt b = Int32.ofInt (a.tdiv b) := by
  have m1 : Int32.minValue.toInt = -2147483648 := by decide
  have m2 : Int32.maxValue.toInt = 2147483647 := by decide
  exact (Int32.ofInt_tdiv (by omega) (by omega) (by omega) (by omega)).symm
theorem dm_upV (hu hi : Int) (i u : Nat) : ((256 * ((nI u * nI u) - (nI i * nI i))) + Int32.ofInt hu) - Int32.ofInt hi = Int32.ofInt (256 * ((u : Int) * (u : Int) - (i : Int) * (i : Int)) + hu - hi) := by
  rw [show (256 : Int32) = Int32.ofInt 256 from rfl]
  simp only [dm_nI, ← Int32.ofInt_sub, ← Int32.ofInt_mul, ← Int32.ofInt_add]
theorem dm_loV (i u : Nat) : 512 * (nI u - nI i) = Int32.ofInt (dm_lo i u) := by
  rw [show (512 : Int32) = Int32.ofInt 512 from rfl]
  simp only [dm_nI, ← Int32.ofInt_sub, ← Int32.ofInt_mul, dm_lo]
theorem dm_last {y i u : Nat} (hy : y < 12) (hi : i < u) (hu : u < 16) (gi : dm_g CM y i < 192 ∧ CM (16 * y + i) = nI (dm_g CM y i)) (gu : dm_g CM y u < 192 ∧ CM (16 * y + u) = nI (dm_g CM y u)) (h : post (Int32.ofInt (dm_up (dm_H CM y) i u / dm_lo i u))) : wpX_lastPlace post (fm, fk, fkept, A, MO, CM, KC, TO) (nI i) (nI u) (nI y) := by
  have bu := dm_upbd hy hi hu gi.1 gu.1
  have bl := dm_lo0 hi
  have bl2 : dm_lo i u ≤ 7680 := by unfold dm_lo; omega
  have nz : ¬ Int32.ofInt (dm_lo i u) = 0 := by
    intro z
    rw [show (0 : Int32) = Int32.ofInt 0 from rfl, dm_eqI (by omega) (by omega) (by omega) (by omega)] at z
    omega
  have em : Int32.ofInt (dm_up (dm_H CM y) i u) - Int32.ofInt (dm_up (dm_H CM y) i u) / Int32.ofInt (dm_lo i u) * Int32.ofInt (dm_lo i u) = Int32.ofInt ((dm_up (dm_H CM y) i u).tmod (dm_lo i u)) := by
    rw [dm_div (by omega) (by omega) (by omega) (by omega), ← Int32.ofInt_mul, ← Int32.ofInt_sub, Int.tmod_def, Int.mul_comm]
  have t1 := Int.tmod_lt_of_pos (dm_up (dm_H CM y) i u) (show 0 < dm_lo i u by omega)
  have t2 := Int.lt_tmod_of_pos (dm_up (dm_H CM y) i u) (show 0 < dm_lo i u by omega)
  have fl := dm_floor (a := dm_up (dm_H CM y) i u) (show 0 < dm_lo i u by omega)
  have e0 : ∀ r : Int, -7680 < r → r < 7680 → (0 ≤ Int32.ofInt r ↔ 0 ≤ r) := by
    intro r r1 r2
    rw [show (0 : Int32) = Int32.ofInt 0 from rfl]
    exact dm_leI (by omega) (by omega) (by omega) (by omega)
  have e1 := e0 ((dm_up (dm_H CM y) i u).tmod (dm_lo i u)) (by omega) (by omega)
  unfold wpX_lastPlace
  dsimp only
  refine dm_height hy hu gu (dm_height hy (by omega) gi ?_)
  refine nm_r (e' := Int32.ofInt (dm_up (dm_H CM y) i u)) (dm_upV _ _ i u) (nm_r (e' := Int32.ofInt (dm_lo i u)) (dm_loV i u) ⟨nz, nm_r (e' := Int32.ofInt ((dm_up (dm_H CM y) i u).tdiv (dm_lo i u))) (dm_div (by omega) (by omega) (by omega) (by omega)) ⟨nz, ?_⟩⟩)
  rw [em]
  by_cases w : 0 ≤ (dm_up (dm_H CM y) i u).tmod (dm_lo i u)
  · refine br_t (e1.mpr w) ?_
    rw [fl.1 w]
    exact h
  · refine br_f (fun q => w (e1.mp q)) ?_
    rw [show (1 : Int32) = Int32.ofInt 1 from rfl, ← Int32.ofInt_sub, fl.2 w]
    exact h
end
end
section
/-! sweepColumn: down, then up -/
theorem dm_m16 (n : Nat) : nI (n + 16) + (-16) = nI n := by
  rw [← nI_add, Int32.add_assoc, show nI 16 + (-16) = 0 from by decide, Int32.add_zero]
theorem dm_neg16 : ∀ x, x < 16 → nI (16 * 0 + x) + (-16) < 0 := by decide
section
variable {post : SX → Prop} {fm fk fkept : Int32} {A MO KC TO : Nat → Int32} {x : Nat}
theorem dm_sw65 {J : Int32 → Int32 → (Nat → Int32) → (Nat → Int32) → (Nat → Int32) → (Nat → Int32) → (Nat → Int32) → Prop} {CM : Nat → Int32} {i : Nat} {v : Int32} (hx : x < 16) (hi : i < 12) (hU : dm_Up A x (i + 1) (CM (16 * i + x))) (hD : dm_Dn A x i v) (hJ : ∀ CM' : Nat → Int32, (∀ p, p ≠ 16 * i + x → CM' p = CM p) → dm_Col A x i (CM' (16 * i + x)) → J v (nI (16 * i + x) + (-16)) A MO CM' KC TO) : wX_sweepColumn_65 post J (nI (16 * i + x)) v fm fk fkept A MO CM KC TO := by
  have hin : vp_in (nI (16 * i + x)) 192 := vp_in_nI (by omega) (by decide)
  unfold wX_sweepColumn_65
  rw [nI_clamp (n := 16 * i + x) (by omega)]
  refine ⟨hin, nm_e ?_⟩
  rcases hD with ⟨rfl, g⟩ | ⟨rl, d1, d2, rfl, d3, d4⟩
  · refine br_t (by decide) (nm_e (hJ CM (fun _ _ => rfl) ?_))
    rcases hU with ⟨e, g'⟩ | ⟨ra, u1, u2, u3, u4⟩
    · refine Or.inl ⟨e, fun r hr => ?_⟩
      by_cases w : r < i + 1
      · exact g' r w
      · exact g r (by omega) hr
    · rw [u2]
      exact dm_colU hi u1 u3 u4 (fun s a b hz => absurd (g s a b) hz)
  · refine br_f (nI_pos (by omega)) ?_
    rcases hU with ⟨e, g'⟩ | ⟨ra, u1, u2, u3, u4⟩
    · refine br_t (by rw [e]; decide) ⟨hin, nm_e (nm_e (hJ _ (fun p hp => pk_un hp) ?_))⟩
      rw [pk_us]
      exact dm_colD d1 d2 d3 d4 (fun s a hz => absurd (g' s a) hz)
    · refine br_f (by rw [u2]; exact nI_pos (by omega)) ?_
      rw [u2, pk_sub (a := 16 * i + x) (b := 16 * ra + x) (by omega), pk_sub (a := 16 * rl + x) (b := 16 * i + x) (by omega)]
      by_cases w : 16 * i + x - (16 * ra + x) ≤ 16 * rl + x - (16 * i + x)
      · refine br_t (nI_le w (by omega)) (nm_e (hJ CM (fun _ _ => rfl) ?_))
        rw [u2]
        refine dm_colU hi u1 u3 u4 (fun s a b hz => ?_)
        by_cases q : s < rl
        · exact absurd (d4 s a q) hz
        · omega
      · refine br_f (nI_ge (by omega) (by omega)) ⟨hin, nm_e (nm_e (hJ _ (fun p hp => pk_un hp) ?_))⟩
        rw [pk_us]
        refine dm_colD d1 d2 d3 d4 (fun s a hz => ?_)
        by_cases q : ra < s
        · exact absurd (u4 s q a) hz
        · omega
theorem dm_sw47 {CM0 : Nat → Int32} (hx : x < 16) (hp : ∀ CM' : Nat → Int32, (∀ p, p % 16 ≠ x → CM' p = CM0 p) → (∀ r, r < 12 → dm_Col A x r (CM' (16 * r + x))) → post (fm, fk, fkept, A, MO, CM', KC, TO)) : ∀ (i n : Nat) (v : Int32) (CM : Nat → Int32), i < n → i ≤ 12 → dm_Dn A x i v → (∀ r, r < i → dm_Up A x (r + 1) (CM (16 * r + x))) → (∀ r, i ≤ r → r < 12 → dm_Col A x r (CM (16 * r + x))) → (∀ p, p % 16 ≠ x → CM p = CM0 p) → wX_sweepColumn_47 post fm fk fkept n v (nI (16 * i + x) + (-16)) A MO CM KC TO := by
  intro i
  induction i with
  | zero =>
    intro n v CM hn hi hD hU hC hF
    obtain ⟨n, rfl⟩ : ∃ m, n = m + 1 := ⟨n - 1, by omega⟩
    exact br_t (dm_neg16 x hx) (hp CM hF (fun r hr => hC r (by omega) hr))
  | succ i ih =>
    intro n v CM hn hi hD hU hC hF
    obtain ⟨n, rfl⟩ : ∃ m, n = m + 1 := ⟨n - 1, by omega⟩
    rw [show 16 * (i + 1) + x = (16 * i + x) + 16 from by omega, dm_m16]
    have step : ∀ w : Int32, dm_Dn A x i w → wX_sweepColumn_65 post (wX_sweepColumn_47 post fm fk fkept n) (nI (16 * i + x)) w fm fk fkept A MO CM KC TO := by
      intro w hw
      refine dm_sw65 hx (by omega) (hU i (by omega)) hw (fun CM' h1 h2 => ih n w CM' (by omega) (by omega) hw (fun r hr => ?_) (fun r h3 h4 => ?_) (fun p h3 => ?_))
      · rw [h1 _ (by omega)]
        exact hU r (by omega)
      · by_cases q : r = i
        · rw [q]; exact h2
        · rw [h1 _ (by omega)]
          exact hC r (by omega) h4
      · rw [h1 _ (by omega)]
        exact hF p h3
    refine br_f (nI_pos (by omega)) ⟨vp_in_nI (by omega) (by decide), ?_⟩
    rw [nI_clamp (n := 16 * i + x) (by omega)]
    by_cases z : A (16 * i + x) = 0
    · exact br_t z (step v (dm_dnZ hD z))
    · exact br_f z (step _ (dm_dnM (by omega) z))
theorem dm_sw4 {CM0 : Nat → Int32} (hx : x < 16) (hp : ∀ CM' : Nat → Int32, (∀ p, p % 16 ≠ x → CM' p = CM0 p) → (∀ r, r < 12 → dm_Col A x r (CM' (16 * r + x))) → post (fm, fk, fkept, A, MO, CM', KC, TO)) : ∀ (d i n : Nat) (v : Int32) (CM : Nat → Int32), i + d = 12 → d < n → dm_Up A x i v → (∀ r, r < i → dm_Up A x (r + 1) (CM (16 * r + x))) → (∀ p, p % 16 ≠ x → CM p = CM0 p) → wX_sweepColumn_4 post (nI x) fm fk fkept n v (nI (16 * i + x)) A MO CM KC TO := by
  intro d
  induction d with
  | zero =>
    intro i n v CM hi hn hU hC hF
    obtain ⟨n, rfl⟩ : ∃ m, n = m + 1 := ⟨n - 1, by omega⟩
    have e : i = 12 := by omega
    subst e
    refine br_t (nI_le (a := 192) (b := 16 * 12 + x) (by omega) (by omega)) (nm_r (e' := nI (16 * 12 + x) + (-16)) ?_ ⟨13, ?_⟩)
    · rw [show 16 * 12 + x = (176 + x) + 16 from by omega, dm_m16, ← nI_add]
      rfl
    · exact dm_sw47 hx hp 12 13 (-1) CM (by omega) (by omega) (dm_dn0 A x) hC (fun r h1 h2 => absurd h2 (by omega)) hF
  | succ d ih =>
    intro i n v CM hi hn hU hC hF
    obtain ⟨n, rfl⟩ : ∃ m, n = m + 1 := ⟨n - 1, by omega⟩
    have hin : vp_in (nI (16 * i + x)) 192 := vp_in_nI (by omega) (by decide)
    have step : ∀ w : Int32, dm_Up A x (i + 1) w → wX_sweepColumn_25 post (wX_sweepColumn_4 post (nI x) fm fk fkept n) (nI x) (nI (16 * i + x)) w fm fk fkept A MO CM KC TO := by
      intro w hw
      unfold wX_sweepColumn_25
      rw [nI_clamp (n := 16 * i + x) (by omega)]
      refine ⟨hin, nm_e (nm_r (e' := nI (16 * (i + 1) + x)) ?_ (ih (i + 1) n w _ (by omega) (by omega) hw (fun r hr => ?_) (fun p h3 => ?_)))⟩
      · rw [show 16 * (i + 1) + x = (16 * i + x) + 16 from by omega, ← nI_add (16 * i + x) 16]
        rfl
      · by_cases q : r = i
        · rw [q, pk_us]; exact hw
        · rw [pk_un (by omega)]
          exact hC r (by omega)
      · rw [pk_un (by omega)]
        exact hF p h3
    refine br_f (nI_ge (b := 192) (by omega) (by decide)) ⟨hin, ?_⟩
    rw [nI_clamp (n := 16 * i + x) (by omega)]
    by_cases z : A (16 * i + x) = 0
    · exact br_t z (step v (dm_upZ hU z))
    · exact br_f z (step _ (dm_upM z))
theorem dm_sweep {CM : Nat → Int32} (hx : x < 16) (hp : ∀ CM' : Nat → Int32, (∀ p, p % 16 ≠ x → CM' p = CM p) → (∀ r, r < 12 → dm_Col A x r (CM' (16 * r + x))) → post (fm, fk, fkept, A, MO, CM', KC, TO)) : wpX_sweepColumn post (fm, fk, fkept, A, MO, CM, KC, TO) (nI x) := by
  unfold wpX_sweepColumn
  dsimp only
  have h := dm_sw4 hx hp 12 0 13 (-1) CM (by omega) (by omega) (dm_up0 A x) (fun r h => absurd h (by omega)) (fun p _ => rfl)
  rw [show 16 * 0 + x = x from by omega] at h
  exact ⟨13, h⟩
end
end
section
/-! addParabola and gatherRow keep the envelope -/
def dm_Tab (KC TO : Nat → Int32) (k : Nat) (cl tk : Nat → Nat) : Prop := ∀ j, j < k → KC j = nI (cl j) ∧ TO j = nI (tk j)
theorem dm_tabU {KC TO : Nat → Int32} {k c f : Nat} {cl tk : Nat → Nat} (h : dm_Tab KC TO k cl tk) : dm_Tab (upd KC k (nI c)) (upd TO k (nI f)) (k + 1) (dm_ins cl k c) (dm_ins tk k f) := by
  intro j hj
  by_cases z : j = k
  · subst z
    rw [pk_us, pk_us, dm_ins_s, dm_ins_s]
    exact ⟨rfl, rfl⟩
  · rw [pk_un z, pk_un z, dm_ins_n z, dm_ins_n z]
    exact h j (by omega)
def dm_Env (CM : Nat → Int32) (y c k : Nat) (cl tk : Nat → Nat) : Prop := dm_Inv (dm_V CM y) (dm_F (dm_H CM y)) c k cl tk
section
variable {post : SX → Prop} {fm fk : Int32} {A MO CM : Nat → Int32} {y : Nat}
theorem dm_addL {KC TO : Nat → Int32} {c k : Nat} {cl tk : Nat → Nat} (hy : y < 12) (hc : c < 16) (hR : dm_Row CM y) (hv : dm_V CM y c) (hI : dm_Env CM y c k cl tk) (hT : dm_Tab KC TO k cl tk) (hp : ∀ (k' : Nat) (KC' TO' : Nat → Int32) (cl' tk' : Nat → Nat), dm_Env CM y (c + 1) k' cl' tk' → dm_Tab KC' TO' k' cl' tk' → post (fm, fk, nI k', A, MO, CM, KC', TO')) : ∀ (d n L : Nat) (x3 : Int32), d < n → dm_Pop (dm_V CM y) (dm_F (dm_H CM y)) c k cl tk d L → wX_addParabola_5 post (nI c) (nI y) fm fk A MO CM KC TO n x3 (nI (k - d)) (nI d) := by
  have hk : k ≤ c := hI.1
  intro d
  induction d with
  | zero =>
    intro n L x3 hn hP
    obtain ⟨n, rfl⟩ : ∃ m, n = m + 1 := ⟨n - 1, by omega⟩
    have hst : ¬ (16 : Int32) ≤ nI (k - 0) := nI_ge (b := 16) (by omega) (by decide)
    have hin : vp_in (nI 0) 16 := vp_in_nI (by omega) (by decide)
    have hq := hp 1 _ _ _ _ (dm_pushE hI hP hv) (dm_tabU (KC := KC) (TO := TO) (k := 0) (c := c) (f := 0) (fun j hj => hT j (by omega)))
    refine br_f hst (br_t (show nI 0 ≤ 0 from by decide) ?_)
    unfold wX_addParabola_73
    refine br_t (show nI 0 = 0 from rfl) ?_
    unfold wX_addParabola_82
    rw [nI_clamp (n := 0) (by omega)]
    exact br_f (show ¬ (16 : Int32) ≤ 0 from by decide) ⟨hin, nm_e ⟨hin, nm_e (nm_r (nI_1 0) hq)⟩⟩
  | succ d ih =>
    intro n L x3 hn hP
    obtain ⟨n, rfl⟩ : ∃ m, n = m + 1 := ⟨n - 1, by omega⟩
    have hd : d < k := by have := hP.1; omega
    obtain ⟨c1, c2, c3⟩ := hI.2.1 d hd
    obtain ⟨t1, t2⟩ := hT d hd
    have gi := hR (cl d) (by omega) c2
    have gu := hR c hc hv
    have hb := dm_qbd hy c1 hc gi.1 gu.1
    have hq1 : ∀ x : Nat, x < 16 → (x : Int) ≤ dm_up (dm_H CM y) (cl d) c / dm_lo (cl d) c → dm_F (dm_H CM y) (cl d) x ≤ dm_F (dm_H CM y) c x := fun x _ h => dm_q1 _ c1 h
    have hq2 : ∀ x : Nat, x < 16 → dm_up (dm_H CM y) (cl d) c / dm_lo (cl d) c < (x : Int) → dm_F (dm_H CM y) c x < dm_F (dm_H CM y) (cl d) x := fun x _ h => dm_q2 _ c1 h
    have hst : ¬ (16 : Int32) ≤ nI (k - (d + 1)) := nI_ge (b := 16) (by omega) (by decide)
    have hin : vp_in (nI d) 16 := vp_in_nI (by omega) (by decide)
    have hin' : vp_in (nI (d + 1)) 16 := vp_in_nI (by omega) (by decide)
    refine br_f hst (br_f (nI_nle (by omega) (by omega)) ?_)
    rw [nI_pred, nI_clamp (n := d) (by omega), t1, t2]
    refine ⟨hin, dm_last hy c1 hc gi gu ?_⟩
    generalize dm_up (dm_H CM y) (cl d) c / dm_lo (cl d) c = q at hb hq1 hq2 ⊢
    refine nm_r (e' := Int32.ofInt (q + 1)) (by rw [Int32.ofInt_add]; rfl) ⟨hin, ?_⟩
    have ec : Int32.ofInt (q + 1) ≤ nI (tk d) ↔ q + 1 ≤ (tk d : Int) := by
      rw [dm_nI]
      exact dm_leI (by omega) (by omega) (by omega) (by omega)
    have e16 : (16 : Int32) ≤ Int32.ofInt (q + 1) ↔ 16 ≤ q + 1 := by
      rw [show (16 : Int32) = Int32.ofInt 16 from rfl]
      exact dm_leI (by omega) (by omega) (by omega) (by omega)
    by_cases w : q + 1 ≤ (tk d : Int)
    · refine br_t (ec.mpr w) (nm_e (nm_r (e' := nI (k - d)) ?_ (ih n (tk d) _ (by omega) (dm_pop1 hI hP (fun x hx h => hq2 x hx (by omega))))))
      rw [nI_1]
      exact congrArg nI (by omega)
    · refine br_f (fun z => w (ec.mp z)) ?_
      unfold wX_addParabola_73
      refine br_f (nI_ne0 (by omega) (by omega)) ?_
      unfold wX_addParabola_82
      by_cases w2 : 16 ≤ q + 1
      · exact br_t (e16.mpr w2) (hp (d + 1) KC TO cl tk (dm_push0 hI hP hq1 (by omega)) (fun j hj => hT j (by omega)))
      · obtain ⟨f, hf⟩ : ∃ f : Nat, (f : Int) = q + 1 := ⟨(q + 1).toNat, by omega⟩
        have ef : Int32.ofInt (q + 1) = nI f := by rw [dm_nI, hf]
        have hz := hp (d + 2) _ _ _ _ (dm_push1 hI hP hv hf (by omega) (by omega) hq1 hq2) (dm_tabU (KC := KC) (TO := TO) (k := d + 1) (c := c) (f := f) (fun j hj => hT j (by omega)))
        rw [nI_clamp (n := d + 1) (by omega)]
        refine br_f (fun z => w2 (e16.mp z)) ?_
        rw [ef]
        exact ⟨hin', nm_e ⟨hin', nm_e (nm_r (nI_1 (d + 1)) hz)⟩⟩
theorem dm_add {KC TO : Nat → Int32} {c k : Nat} {cl tk : Nat → Nat} (hy : y < 12) (hc : c < 16) (hR : dm_Row CM y) (hv : dm_V CM y c) (hI : dm_Env CM y c k cl tk) (hT : dm_Tab KC TO k cl tk) (hp : ∀ (k' : Nat) (KC' TO' : Nat → Int32) (cl' tk' : Nat → Nat), dm_Env CM y (c + 1) k' cl' tk' → dm_Tab KC' TO' k' cl' tk' → post (fm, fk, nI k', A, MO, CM, KC', TO')) : wpX_addParabola post (fm, fk, nI k, A, MO, CM, KC, TO) (nI c) (nI y) := by
  unfold wpX_addParabola
  dsimp only
  have h := dm_addL hy hc hR hv hI hT hp k (k + 1) 16 0 (by omega) (dm_pop0 hI)
  rw [Nat.sub_self] at h
  exact ⟨k + 1, h⟩
theorem dm_gath (hy : y < 12) (hR : dm_Row CM y) (hp : ∀ (k' : Nat) (KC' TO' : Nat → Int32) (cl' tk' : Nat → Nat), dm_Env CM y 16 k' cl' tk' → dm_Tab KC' TO' k' cl' tk' → post (fm, fk, nI k', A, MO, CM, KC', TO')) : ∀ (d n c k : Nat) (KC TO : Nat → Int32) (cl tk : Nat → Nat), c + d = 16 → d < n → dm_Env CM y c k cl tk → dm_Tab KC TO k cl tk → wX_gatherRow_7 post (nI y) n (nI c) fm fk (nI k) A MO CM KC TO := by
  intro d
  induction d with
  | zero =>
    intro n c k KC TO cl tk hc hn hI hT
    obtain ⟨n, rfl⟩ : ∃ m, n = m + 1 := ⟨n - 1, by omega⟩
    have e : c = 16 := by omega
    subst e
    exact br_t (nI_le (a := 16) (b := 16) (by decide) (by decide)) (hp k KC TO cl tk hI hT)
  | succ d ih =>
    intro n c k KC TO cl tk hc hn hI hT
    obtain ⟨n, rfl⟩ : ∃ m, n = m + 1 := ⟨n - 1, by omega⟩
    refine br_f (nI_ge (b := 16) (by omega) (by decide)) ?_
    rw [dm_ix c y, nI_clamp (n := 16 * y + c) (by omega)]
    refine ⟨vp_in_nI (by omega) (by decide), ?_⟩
    by_cases hv : CM (16 * y + c) < 0
    · exact br_t hv (nm_r (nI_1 c) (ih n (c + 1) k KC TO cl tk (by omega) (by omega) (dm_invSkip hI (fun z => z hv)) hT))
    · refine br_f hv (dm_add hy (by omega) hR hv hI hT ?_)
      intro k' KC' TO' cl' tk' hI' hT'
      exact nm_r (nI_1 c) (ih n (c + 1) k' KC' TO' cl' tk' (by omega) (by omega) hI' hT')
theorem dm_gather {fkept : Int32} {KC TO : Nat → Int32} (hy : y < 12) (hR : dm_Row CM y) (hp : ∀ (k' : Nat) (KC' TO' : Nat → Int32) (cl' tk' : Nat → Nat), dm_Env CM y 16 k' cl' tk' → dm_Tab KC' TO' k' cl' tk' → post (fm, fk, nI k', A, MO, CM, KC', TO')) : wpX_gatherRow post (fm, fk, fkept, A, MO, CM, KC, TO) (nI y) := by
  unfold wpX_gatherRow
  dsimp only
  exact ⟨17, dm_gath hy hR hp 16 17 0 0 KC TO (fun _ => 0) (fun _ => 0) (by omega) (by omega) dm_inv0 (fun j hj => absurd hj (by omega))⟩
end
end
section
/-! spreadRow, workOut -/
def dm_Done (A MO : Nat → Int32) (y i : Nat) : Prop := ∀ p, p < 16 * y + 16 → (p < 16 * y ∨ 16 * y + i ≤ p) → ∃ m, MO p = nI m ∧ dm_Best A p m
theorem dm_doneS {A MO : Nat → Int32} {y i m : Nat} (h : dm_Done A MO y (i + 1)) (hm : dm_Best A (16 * y + i) m) : dm_Done A (upd MO (16 * y + i) (nI m)) y i := by
  intro p h1 h2
  by_cases z : p = 16 * y + i
  · rw [z, pk_us]
    exact ⟨m, rfl, hm⟩
  · rw [pk_un z]
    exact h p h1 (by omega)
section
variable {post : SX → Prop} {fm fk : Int32} {A CM KC TO : Nat → Int32} {y : Nat}
theorem dm_sp14 {J : Int32 → Int32 → (Nat → Int32) → (Nat → Int32) → (Nat → Int32) → (Nat → Int32) → (Nat → Int32) → Prop} {fkept : Int32} {MO : Nat → Int32} {k i : Nat} {cl tk : Nat → Nat} (hk : k ≤ 16) (h0 : tk 0 = 0) (ht : ∀ j, j < k → tk j < 16) (hi : i < 16) (hT : dm_Tab KC TO k cl tk) (hJ : ∀ j, j < k → dm_Seg tk k j i → wX_spreadRow_34 post J (nI y) (nI j) (nI i) fm fk fkept A MO CM KC TO) : ∀ j n : Nat, j < n → j < k → (∀ t, j < t → t < k → i < tk t) → wX_spreadRow_14 post J (nI y) (nI i) fm fk fkept A MO CM KC TO n (nI j) := by
  intro j
  induction j with
  | zero =>
    intro n hn hj hs
    obtain ⟨n, rfl⟩ : ∃ m, n = m + 1 := ⟨n - 1, by omega⟩
    exact br_t (show nI 0 ≤ 0 from by decide) (hJ 0 hj ⟨by omega, hs⟩)
  | succ j ih =>
    intro n hn hj hs
    obtain ⟨n, rfl⟩ : ∃ m, n = m + 1 := ⟨n - 1, by omega⟩
    have b := ht (j + 1) hj
    refine br_f (nI_nle (by omega) (by omega)) ⟨vp_in_nI (by omega) (by decide), ?_⟩
    rw [nI_clamp (n := j + 1) (by omega), (hT (j + 1) hj).2]
    by_cases w : tk (j + 1) ≤ i
    · exact br_t (nI_le w (by omega)) (hJ (j + 1) hj ⟨w, hs⟩)
    · refine br_f (nI_ge (by omega) (by omega)) (nm_r (pk_m1 j) (ih n (by omega) (by omega) (fun t h1 h2 => ?_)))
      by_cases z : t = j + 1
      · rw [z]; omega
      · exact hs t (by omega) h2
theorem dm_sp10 {fkept : Int32} {k : Nat} {cl tk : Nat → Nat} (hy : y < 12) (hk : k ≤ 16) (h0 : tk 0 = 0) (ht : ∀ j, j < k → tk j < 16) (hc : ∀ j, j < k → cl j < 16) (hT : dm_Tab KC TO k cl tk) (hB : ∀ x j, x < 16 → j < k → dm_Seg tk k j x → ∃ m, CM (16 * y + cl j) = nI m ∧ dm_Best A (16 * y + x) m) (hp : ∀ MO' : Nat → Int32, dm_Done A MO' y 0 → post (fm, fk, fkept, A, MO', CM, KC, TO)) : ∀ (i n j : Nat) (MO : Nat → Int32), i < n → i ≤ 16 → j < k → (∀ t, j < t → t < k → i ≤ tk t) → dm_Done A MO y i → wX_spreadRow_10 post (nI y) fm fk fkept n (nI j) (nI i + (-1)) A MO CM KC TO := by
  intro i
  induction i with
  | zero =>
    intro n j MO hn hi hj hs hD
    obtain ⟨n, rfl⟩ : ∃ m, n = m + 1 := ⟨n - 1, by omega⟩
    exact br_t (show nI 0 + (-1) < 0 from by decide) (hp MO hD)
  | succ i ih =>
    intro n j MO hn hi hj hs hD
    obtain ⟨n, rfl⟩ : ∃ m, n = m + 1 := ⟨n - 1, by omega⟩
    rw [pk_m1 i]
    refine br_f (nI_pos (by omega)) ⟨j + 1, dm_sp14 hk h0 ht (by omega) hT (fun j' hj' hs' => ?_) j (j + 1) (by omega) hj (fun t h1 h2 => by have := hs t h1 h2; omega)⟩
    obtain ⟨m, em, hm⟩ := hB i j' (by omega) hj' hs'
    have hcl := hc j' hj'
    unfold wX_spreadRow_34
    rw [nI_clamp (n := j') (by omega), (hT j' hj').1, dm_ix (cl j') y, dm_ix i y, nI_clamp (n := 16 * y + cl j') (by omega), nI_clamp (n := 16 * y + i) (by omega), em]
    exact ⟨vp_in_nI (by omega) (by decide), vp_in_nI (by omega) (by decide), vp_in_nI (by omega) (by decide), nm_e (nm_e (ih n j' _ (by omega) (by omega) hj' (fun t h1 h2 => Nat.le_of_lt (hs'.2 t h1 h2)) (dm_doneS hD hm)))⟩
theorem dm_spread {MO : Nat → Int32} {k : Nat} {cl tk : Nat → Nat} (hy : y < 12) (hcols : dm_Cols A CM) (hex : ∃ q, q < 192 ∧ A q ≠ 0) (hI : dm_Env CM y 16 k cl tk) (hT : dm_Tab KC TO k cl tk) (hD : dm_Done A MO y 16) (hp : ∀ MO' : Nat → Int32, dm_Done A MO' y 0 → post (fm, fk, nI k, A, MO', CM, KC, TO)) : wpX_spreadRow post (fm, fk, nI k, A, MO, CM, KC, TO) (nI y) := by
  obtain ⟨i1, i2, i3, i4, i5, i6⟩ := hI
  have hk0 : 0 < k := by
    obtain ⟨q, hq, hz⟩ := hex
    have eq : q = 16 * (q / 16) + q % 16 := by omega
    rw [eq] at hz
    exact i5 (q % 16) (by omega) (dm_colV hcols hy (by omega) (by omega) hz)
  obtain ⟨k, rfl⟩ : ∃ m, k = m + 1 := ⟨k - 1, by omega⟩
  have hR := dm_rowOf hcols hy
  have h := dm_sp10 (fkept := nI (k + 1)) hy i1 (i3 hk0) (fun j hj => (i2 j hj).2.2) (fun j hj => (i2 j hj).1) hT (fun x j hx hj hs => ⟨dm_g CM y (cl j), (hR (cl j) (i2 j hj).1 (i2 j hj).2.1).2, dm_best hcols hx hy (i2 j hj).1 (i2 j hj).2.1 (fun e he hv => i6 x j hx hj hs e he hv)⟩) hp 16 17 k MO (by omega) (by omega) (by omega) (fun t h1 h2 => absurd h1 (by omega)) hD
  unfold wpX_spreadRow
  dsimp only
  refine nm_r (nI_pred k) ⟨17, ?_⟩
  rw [show nI 16 + (-1) = 15 from by decide] at h
  exact h
theorem dm_wo34 (hcols : dm_Cols A CM) (hex : ∃ q, q < 192 ∧ A q ≠ 0) (hp : ∀ (fkept' : Int32) (MO' KC' TO' : Nat → Int32), dm_Good A MO' → post (fm, fk, fkept', A, MO', CM, KC', TO')) : ∀ (d n y : Nat) (fkept : Int32) (MO KC TO : Nat → Int32), y + d = 12 → d < n → (∀ p, p < 16 * y → ∃ m, MO p = nI m ∧ dm_Best A p m) → wX_workOut_34 post n (nI y) fm fk fkept A MO CM KC TO := by
  intro d
  induction d with
  | zero =>
    intro n y fkept MO KC TO hy hn hD
    obtain ⟨n, rfl⟩ : ∃ m, n = m + 1 := ⟨n - 1, by omega⟩
    have e : y = 12 := by omega
    subst e
    exact br_t (nI_le (a := 12) (b := 12) (by decide) (by decide)) (hp fkept MO KC TO hD)
  | succ d ih =>
    intro n y fkept MO KC TO hy hn hD
    obtain ⟨n, rfl⟩ : ∃ m, n = m + 1 := ⟨n - 1, by omega⟩
    have hy' : y < 12 := by omega
    refine br_f (nI_ge (b := 12) hy' (by decide)) (dm_gather hy' (dm_rowOf hcols hy') ?_)
    intro k' KC' TO' cl' tk' hI hT
    refine dm_spread hy' hcols hex hI hT (fun p h1 h2 => hD p (by omega)) ?_
    intro MO' hM
    exact nm_r (nI_1 y) (ih n (y + 1) (nI k') MO' KC' TO' (by omega) (by omega) (fun p h1 => hM p (by omega) (by omega)))
theorem dm_wo15 {fkept : Int32} {MO : Nat → Int32} (hex : ∃ q, q < 192 ∧ A q ≠ 0) (hp : ∀ (fkept' : Int32) (MO' CM' KC' TO' : Nat → Int32), dm_Good A MO' → post (fm, fk, fkept', A, MO', CM', KC', TO')) : ∀ (d n x : Nat) (CM : Nat → Int32), x + d = 16 → d < n → (∀ x' r, x' < x → r < 12 → dm_Col A x' r (CM (16 * r + x'))) → wX_workOut_15 post n (nI x) fm fk fkept A MO CM KC TO := by
  intro d
  induction d with
  | zero =>
    intro n x CM hx hn hC
    obtain ⟨n, rfl⟩ : ∃ m, n = m + 1 := ⟨n - 1, by omega⟩
    have e : x = 16 := by omega
    subst e
    exact br_t (nI_le (a := 16) (b := 16) (by decide) (by decide)) ⟨13, dm_wo34 hC hex (fun a b c d => hp a b CM c d) 12 13 0 fkept MO KC TO (by omega) (by omega) (fun p h => absurd h (by omega))⟩
  | succ d ih =>
    intro n x CM hx hn hC
    obtain ⟨n, rfl⟩ : ∃ m, n = m + 1 := ⟨n - 1, by omega⟩
    refine br_f (nI_ge (b := 16) (by omega) (by decide)) (dm_sweep (by omega) ?_)
    intro CM' h1 h2
    refine nm_r (nI_1 x) (ih n (x + 1) CM' (by omega) (by omega) (fun x' r h3 h4 => ?_))
    by_cases z : x' = x
    · rw [z]; exact h2 r h4
    · rw [h1 _ (by omega)]
      exact hC x' r (by omega) h4
theorem dm_workOut {fkept : Int32} {MO : Nat → Int32} (hex : ∃ q, q < 192 ∧ A q ≠ 0) (hk : fk ≠ 0 → dm_Good A MO) (hp : ∀ (fk' fkept' : Int32) (MO' CM' KC' TO' : Nat → Int32), dm_Good A MO' → post (fm, fk', fkept', A, MO', CM', KC', TO')) : wpX_workOut post (fm, fk, fkept, A, MO, CM, KC, TO) := by
  unfold wpX_workOut
  dsimp only
  refine br_c (fun _ => ⟨17, ?_⟩) (fun h => hp fk fkept MO CM KC TO (hk h))
  exact dm_wo15 hex (fun a b c d e => hp 1 a b c d e) 16 17 0 CM (by omega) (by omega) (fun x' r h => absurd h (by omega))
end
end
section
/-! the loops over all places, both sides in step -/
theorem dm_192 : (192 : Int32) ≤ nI 192 := nI_le (a := 192) (b := 192) (by decide) (by decide)
section
variable {fm fk fkept : Int32} {A MO CM KC TO : Nat → Int32}
theorem dm_reachL (hG : dm_Good A MO) (v1 v2 : Int32) : ∀ (d i : Nat) (acc : Int32), i + d = 192 → ∃ r : Int32, (∀ post : Int32 → SX → Prop, post r (fm, fk, fkept, A, MO, CM, KC, TO) → wX_reach_28 post v1 v2 fm fk fkept A MO CM KC TO (d + 1) acc (nI i)) ∧ (∀ post : Int32 → Prop, post r → wY_reach_15 post v1 v2 A (d + 1) acc (nI i)) := by
  intro d
  induction d with
  | zero =>
    intro i acc hi
    have e : i = 192 := by omega
    subst e
    exact ⟨acc, fun post h => br_t dm_192 h, fun post h => br_t dm_192 h⟩
  | succ d ih =>
    intro i acc hi
    have hii : i < 192 := by omega
    have hlt : ¬ (192 : Int32) ≤ nI i := nI_ge (b := 192) hii (by decide)
    obtain ⟨m, em, hb⟩ := hG i hii
    by_cases z : nI m = 16 * v2 + v1
    · obtain ⟨r, hX, hY⟩ := ih (i + 1) (acc + 1) (by omega)
      refine ⟨r, fun post h => ?_, fun post h => ?_⟩
      · refine br_f hlt ⟨vp_in_nI hii (by decide), ?_⟩
        rw [nI_clamp (n := i) (by omega), em]
        exact br_t z (nm_e (nm_r (nI_1 i) (hX post h)))
      · refine br_f hlt (dm_ymB hii hb ?_)
        exact br_t z (nm_e (nm_r (nI_1 i) (hY post h)))
    · obtain ⟨r, hX, hY⟩ := ih (i + 1) acc (by omega)
      refine ⟨r, fun post h => ?_, fun post h => ?_⟩
      · refine br_f hlt ⟨vp_in_nI hii (by decide), ?_⟩
        rw [nI_clamp (n := i) (by omega), em]
        exact br_f z (nm_r (Int32.add_zero acc) (nm_r (nI_1 i) (hX post h)))
      · refine br_f hlt (dm_ymB hii hb ?_)
        exact br_f z (nm_r (nI_1 i) (hY post h))
theorem dm_reach0 {x y : Nat} (hx : x < 16) (hy : y < 12) (hn : ∀ j, j < 192 → A j = 0) {post : Int32 → Prop} (h : post 0) : ∀ d i : Nat, i + d = 192 → wY_reach_15 post (nI x) (nI y) A (d + 1) 0 (nI i) := by
  intro d
  induction d with
  | zero =>
    intro i hi
    have e : i = 192 := by omega
    subst e
    exact br_t dm_192 h
  | succ d ih =>
    intro i hi
    have hii : i < 192 := by omega
    have hlt : ¬ (192 : Int32) ≤ nI i := nI_ge (b := 192) hii (by decide)
    refine br_f hlt (dm_ymN hii hn ?_)
    refine br_f (fun z => ?_) (nm_r (nI_1 i) (ih (i + 1) (by omega)))
    rw [dm_ix x y] at z
    exact absurd (show nI (16 * y + x) < 0 from by rw [← z]; decide) (nI_pos (by omega))
theorem dm_farL (hG : dm_Good A MO) : ∀ (d i : Nat) (ax ay : Int32), i + d = 192 → (ax = ay ∨ (ax = 0 ∧ ay = -1 ∧ 0 < d)) → ∃ r : Int32, (∀ post : Int32 → SX → Prop, post r (fm, fk, fkept, A, MO, CM, KC, TO) → wX_farthest_17 post fm fk fkept A MO CM KC TO (d + 1) ax (nI i)) ∧ (∀ post : Int32 → Prop, post r → wY_farthest_4 post A (d + 1) ay (nI i)) := by
  intro d
  induction d with
  | zero =>
    intro i ax ay hi ha
    have e : i = 192 := by omega
    subst e
    rcases ha with ha | ⟨_, _, ha⟩
    · subst ha
      exact ⟨ax, fun post h => br_t dm_192 h, fun post h => br_t dm_192 h⟩
    · exact absurd ha (by omega)
  | succ d ih =>
    intro i ax ay hi ha
    have hii : i < 192 := by omega
    have hlt : ¬ (192 : Int32) ≤ nI i := nI_ge (b := 192) hii (by decide)
    obtain ⟨m, em, hb⟩ := hG i hii
    have d0 := dm_D0 i m
    have d1 := dm_D1 hii hb.1
    have stp : ∀ bx cy : Int32, bx = cy → ((Int32.ofInt (dm_D i m) ≤ ax ∧ bx = ax) ∨ (¬ Int32.ofInt (dm_D i m) ≤ ax ∧ bx = Int32.ofInt (dm_D i m))) → ((Int32.ofInt (dm_D i m) ≤ ay ∧ cy = ay) ∨ (¬ Int32.ofInt (dm_D i m) ≤ ay ∧ cy = Int32.ofInt (dm_D i m))) → ∃ r : Int32, (∀ post : Int32 → SX → Prop, post r (fm, fk, fkept, A, MO, CM, KC, TO) → wX_farthest_17 post fm fk fkept A MO CM KC TO (d + 1 + 1) ax (nI i)) ∧ (∀ post : Int32 → Prop, post r → wY_farthest_4 post A (d + 1 + 1) ay (nI i)) := by
      intro bx cy hbc hbx hcy
      obtain ⟨r, hX, hY⟩ := ih (i + 1) bx cy (by omega) (Or.inl hbc)
      refine ⟨r, fun post h => ?_, fun post h => ?_⟩
      · refine br_f hlt (dm_dist hii hb.1 em ?_)
        rcases hbx with ⟨q, e⟩ | ⟨q, e⟩
        · rw [e] at hX
          exact br_t q (nm_r (nI_1 i) (hX post h))
        · rw [e] at hX
          exact br_f q (nm_r (nI_1 i) (hX post h))
      · refine br_f hlt (dm_farB hii hb ?_)
        rcases hcy with ⟨q, e⟩ | ⟨q, e⟩
        · rw [e] at hY
          exact br_t q (nm_r (nI_1 i) (hY post h))
        · rw [e] at hY
          exact br_f q (nm_r (nI_1 i) (hY post h))
    rcases ha with ha | ⟨ha, hc, _⟩
    · subst ha
      by_cases w : Int32.ofInt (dm_D i m) ≤ ax
      · exact stp ax ax rfl (Or.inl ⟨w, rfl⟩) (Or.inl ⟨w, rfl⟩)
      · exact stp _ _ rfl (Or.inr ⟨w, rfl⟩) (Or.inr ⟨w, rfl⟩)
    · have wy : ¬ Int32.ofInt (dm_D i m) ≤ ay := by
        rw [hc, show (-1 : Int32) = Int32.ofInt (-1) from rfl, dm_leI (by omega) (by omega) (by omega) (by omega)]
        omega
      have wx : Int32.ofInt (dm_D i m) ≤ ax ↔ dm_D i m ≤ 0 := by
        rw [ha, show (0 : Int32) = Int32.ofInt 0 from rfl, dm_leI (by omega) (by omega) (by omega) (by omega)]
      by_cases w : Int32.ofInt (dm_D i m) ≤ ax
      · have e : dm_D i m = 0 := by have := wx.mp w; omega
        exact stp ax _ (by rw [e, ha]; rfl) (Or.inl ⟨w, rfl⟩) (Or.inr ⟨wy, rfl⟩)
      · exact stp _ _ rfl (Or.inr ⟨w, rfl⟩) (Or.inr ⟨wy, rfl⟩)
theorem dm_far0 (hn : ∀ j, j < 192 → A j = 0) {post : Int32 → Prop} (h : post (-1)) : ∀ d i : Nat, i + d = 192 → wY_farthest_4 post A (d + 1) (-1) (nI i) := by
  intro d
  induction d with
  | zero =>
    intro i hi
    have e : i = 192 := by omega
    subst e
    exact br_t dm_192 h
  | succ d ih =>
    intro i hi
    have hii : i < 192 := by omega
    have hlt : ¬ (192 : Int32) ≤ nI i := nI_ge (b := 192) hii (by decide)
    refine br_f hlt (dm_farN hii hn ?_)
    exact br_t (by decide) (nm_r (nI_1 i) (ih (i + 1) (by omega)))
theorem dm_pos {i m : Nat} (hi : i < 192) (hm : m < 192) : 0 ≤ Int32.ofInt (dm_D i m) := by
  have d0 := dm_D0 i m
  have d1 := dm_D1 hi hm
  rw [show (0 : Int32) = Int32.ofInt 0 from rfl]
  exact (dm_leI (by omega) (by omega) (by omega) (by omega)).mpr d0
theorem dm_withinL (hG : dm_Good A MO) (v1 : Int32) : ∀ (d i : Nat) (acc : Int32), i + d = 192 → ∃ r : Int32, (∀ post : Int32 → SX → Prop, post r (fm, fk, fkept, A, MO, CM, KC, TO) → wX_within_17 post v1 fm fk fkept A MO CM KC TO (d + 1) acc (nI i)) ∧ (∀ post : Int32 → Prop, post r → wY_within_4 post v1 A (d + 1) acc (nI i)) := by
  intro d
  induction d with
  | zero =>
    intro i acc hi
    have e : i = 192 := by omega
    subst e
    exact ⟨acc, fun post h => br_t dm_192 h, fun post h => br_t dm_192 h⟩
  | succ d ih =>
    intro i acc hi
    have hii : i < 192 := by omega
    have hlt : ¬ (192 : Int32) ≤ nI i := nI_ge (b := 192) hii (by decide)
    obtain ⟨m, em, hb⟩ := hG i hii
    have h0 : ¬ Int32.ofInt (dm_D i m) < 0 := Int32.not_lt.mpr (dm_pos hii hb.1)
    by_cases z : v1 < Int32.ofInt (dm_D i m)
    · obtain ⟨r, hX, hY⟩ := ih (i + 1) acc (by omega)
      refine ⟨r, fun post h => br_f hlt (dm_dist hii hb.1 em ?_), fun post h => br_f hlt (dm_farB hii hb ?_)⟩
      · exact br_t z (nm_r (Int32.add_zero acc) (nm_r (nI_1 i) (hX post h)))
      · exact br_f h0 (br_t z (nm_r (nI_1 i) (hY post h)))
    · obtain ⟨r, hX, hY⟩ := ih (i + 1) (acc + 1) (by omega)
      refine ⟨r, fun post h => br_f hlt (dm_dist hii hb.1 em ?_), fun post h => br_f hlt (dm_farB hii hb ?_)⟩
      · exact br_f z (nm_e (nm_r (nI_1 i) (hX post h)))
      · exact br_f h0 (br_f z (nm_e (nm_r (nI_1 i) (hY post h))))
theorem dm_within0 (hn : ∀ j, j < 192 → A j = 0) (v1 : Int32) {post : Int32 → Prop} (h : post 0) : ∀ d i : Nat, i + d = 192 → wY_within_4 post v1 A (d + 1) 0 (nI i) := by
  intro d
  induction d with
  | zero =>
    intro i hi
    have e : i = 192 := by omega
    subst e
    exact br_t dm_192 h
  | succ d ih =>
    intro i hi
    have hii : i < 192 := by omega
    have hlt : ¬ (192 : Int32) ≤ nI i := nI_ge (b := 192) hii (by decide)
    refine br_f hlt (dm_farN hii hn ?_)
    exact br_t (by decide) (nm_r (nI_1 i) (ih (i + 1) (by omega)))
theorem dm_totalL (hG : dm_Good A MO) : ∀ (d i : Nat) (acc : Int32), i + d = 192 → ∃ r : Int32, (∀ post : Int32 → SX → Prop, post r (fm, fk, fkept, A, MO, CM, KC, TO) → wX_total_17 post fm fk fkept A MO CM KC TO (d + 1) acc (nI i)) ∧ (∀ post : Int32 → Prop, post r → wY_total_4 post A (d + 1) acc (nI i)) := by
  intro d
  induction d with
  | zero =>
    intro i acc hi
    have e : i = 192 := by omega
    subst e
    exact ⟨acc, fun post h => br_t dm_192 h, fun post h => br_t dm_192 h⟩
  | succ d ih =>
    intro i acc hi
    have hii : i < 192 := by omega
    have hlt : ¬ (192 : Int32) ≤ nI i := nI_ge (b := 192) hii (by decide)
    obtain ⟨m, em, hb⟩ := hG i hii
    obtain ⟨r, hX, hY⟩ := ih (i + 1) (acc + Int32.ofInt (dm_D i m)) (by omega)
    refine ⟨r, fun post h => br_f hlt (dm_dist hii hb.1 em ?_), fun post h => br_f hlt (dm_farB hii hb ?_)⟩
    · exact nm_e (nm_r (nI_1 i) (hX post h))
    · exact br_t (dm_pos hii hb.1) (nm_e (nm_r (nI_1 i) (hY post h)))
/-! edges: the step to the right, then the step down -/
theorem dm_ed2 (hG : dm_Good A MO) {i : Nat} (hi : i < 192) (acc : Int32) : ∃ acc' : Int32, (∀ (post : Int32 → SX → Prop) (J : Int32 → Int32 → Prop) (z0 z1 : Int32), z1 + z0 = acc → J acc' (nI (i + 1)) → wX_edges_56 post J (nI i) z0 z1 fm fk fkept A MO CM KC TO) ∧ (∀ (post : Int32 → Prop) (J : Int32 → Int32 → Prop), J acc' (nI (i + 1)) → wY_edges_38 post J acc (nI i) A) := by
  by_cases h : 176 ≤ i
  · have hc : (176 : Int32) ≤ nI i := nI_le (a := 176) h (by omega)
    refine ⟨acc, fun post J z0 z1 ez hJ => ?_, fun post J hJ => ?_⟩
    · unfold wX_edges_56
      exact nm_r ez (br_t hc (nm_r (Int32.add_zero acc) (nm_r (nI_1 i) hJ)))
    · unfold wY_edges_38
      exact br_t hc (nm_r (nI_1 i) hJ)
  · have hc : ¬ (176 : Int32) ≤ nI i := nI_ge (b := 176) (by omega) (by decide)
    have e16 : nI i + 16 = nI (i + 16) := nI_add i 16
    obtain ⟨m, em, hb⟩ := hG i hi
    obtain ⟨m', em', hb'⟩ := hG (i + 16) (by omega)
    by_cases w : nI m = nI m'
    · refine ⟨acc, fun post J z0 z1 ez hJ => ?_, fun post J hJ => ?_⟩
      · unfold wX_edges_56
        rw [e16, nI_clamp (n := i) (by omega), nI_clamp (n := i + 16) (by omega), em, em']
        exact nm_r ez (br_f hc ⟨vp_in_nI hi (by decide), vp_in_nI (by omega) (by decide), br_t w (nm_r (Int32.add_zero acc) (nm_r (nI_1 i) hJ))⟩)
      · unfold wY_edges_38
        rw [e16]
        exact br_f hc (dm_ymB hi hb (dm_ymB (by omega) hb' (br_t w (nm_r (nI_1 i) hJ))))
    · refine ⟨acc + 1, fun post J z0 z1 ez hJ => ?_, fun post J hJ => ?_⟩
      · unfold wX_edges_56
        rw [e16, nI_clamp (n := i) (by omega), nI_clamp (n := i + 16) (by omega), em, em']
        exact nm_r ez (br_f hc ⟨vp_in_nI hi (by decide), vp_in_nI (by omega) (by decide), br_f w (nm_e (nm_r (nI_1 i) hJ))⟩)
      · unfold wY_edges_38
        rw [e16]
        exact br_f hc (dm_ymB hi hb (dm_ymB (by omega) hb' (br_f w (nm_e (nm_r (nI_1 i) hJ)))))
theorem dm_ed1 (hG : dm_Good A MO) {i : Nat} (hi : i < 192) (acc : Int32) : ∃ acc' : Int32, (∀ (post : Int32 → SX → Prop) (n : Nat), wX_edges_17 post fm fk fkept A MO CM KC TO n acc' (nI (i + 1)) → wX_edges_17 post fm fk fkept A MO CM KC TO (n + 1) acc (nI i)) ∧ (∀ (post : Int32 → Prop) (n : Nat), wY_edges_4 post A n acc' (nI (i + 1)) → wY_edges_4 post A (n + 1) acc (nI i)) := by
  have hlt : ¬ (192 : Int32) ≤ nI i := nI_ge (b := 192) hi (by decide)
  have z16 : ¬ (16 : Int32) = 0 := by decide
  have ea : nI i &&& 15 = nI (i % 16) := pk_andN (n := i) (m := 15) (by omega) 4 (by decide)
  have er : nI i - nI i / 16 * 16 = nI (i % 16) := pk_rem (d := 16) (by omega) (by decide) (by decide)
  by_cases h : 15 ≤ i % 16
  · have hc : (15 : Int32) ≤ nI (i % 16) := nI_le (a := 15) h (by omega)
    obtain ⟨acc', hX, hY⟩ := dm_ed2 (fm := fm) (fk := fk) (fkept := fkept) (CM := CM) (KC := KC) (TO := TO) hG hi acc
    refine ⟨acc', fun post n hJ => ?_, fun post n hJ => ?_⟩
    · refine br_f hlt ?_
      rw [ea]
      refine br_t hc ?_
      unfold wX_edges_55
      exact hX post _ 0 acc (Int32.add_zero acc) hJ
    · refine br_f hlt ⟨z16, ?_⟩
      rw [er]
      exact br_t hc (hY post _ hJ)
  · have hc : ¬ (15 : Int32) ≤ nI (i % 16) := nI_ge (b := 15) (by omega) (by decide)
    have e1 : nI i + 1 = nI (i + 1) := nI_1 i
    obtain ⟨m, em, hb⟩ := hG i hi
    obtain ⟨m', em', hb'⟩ := hG (i + 1) (by omega)
    by_cases w : nI m = nI m'
    · obtain ⟨acc', hX, hY⟩ := dm_ed2 (fm := fm) (fk := fk) (fkept := fkept) (CM := CM) (KC := KC) (TO := TO) hG hi acc
      refine ⟨acc', fun post n hJ => ?_, fun post n hJ => ?_⟩
      · refine br_f hlt ?_
        rw [ea]
        refine br_f hc ?_
        rw [e1, nI_clamp (n := i) (by omega), nI_clamp (n := i + 1) (by omega), em, em']
        refine ⟨vp_in_nI hi (by decide), vp_in_nI (by omega) (by decide), br_t w ?_⟩
        unfold wX_edges_55
        exact hX post _ 0 acc (Int32.add_zero acc) hJ
      · refine br_f hlt ⟨z16, ?_⟩
        rw [er, e1]
        exact br_f hc (dm_ymB hi hb (dm_ymB (by omega) hb' (br_t w (hY post _ hJ))))
    · obtain ⟨acc', hX, hY⟩ := dm_ed2 (fm := fm) (fk := fk) (fkept := fkept) (CM := CM) (KC := KC) (TO := TO) hG hi (acc + 1)
      refine ⟨acc', fun post n hJ => ?_, fun post n hJ => ?_⟩
      · refine br_f hlt ?_
        rw [ea]
        refine br_f hc ?_
        rw [e1, nI_clamp (n := i) (by omega), nI_clamp (n := i + 1) (by omega), em, em']
        exact ⟨vp_in_nI hi (by decide), vp_in_nI (by omega) (by decide), br_f w (hX post _ 1 acc rfl hJ)⟩
      · refine br_f hlt ⟨z16, ?_⟩
        rw [er, e1]
        exact br_f hc (dm_ymB hi hb (dm_ymB (by omega) hb' (br_f w (nm_e (hY post _ hJ)))))
theorem dm_edgesL (hG : dm_Good A MO) : ∀ (d i : Nat) (acc : Int32), i + d = 192 → ∃ r : Int32, (∀ post : Int32 → SX → Prop, post r (fm, fk, fkept, A, MO, CM, KC, TO) → wX_edges_17 post fm fk fkept A MO CM KC TO (d + 1) acc (nI i)) ∧ (∀ post : Int32 → Prop, post r → wY_edges_4 post A (d + 1) acc (nI i)) := by
  intro d
  induction d with
  | zero =>
    intro i acc hi
    have e : i = 192 := by omega
    subst e
    exact ⟨acc, fun post h => br_t dm_192 h, fun post h => br_t dm_192 h⟩
  | succ d ih =>
    intro i acc hi
    obtain ⟨acc', hX, hY⟩ := dm_ed1 (fm := fm) (fk := fk) (fkept := fkept) (CM := CM) (KC := KC) (TO := TO) hG (show i < 192 by omega) acc
    obtain ⟨r, gX, gY⟩ := ih (i + 1) acc' (by omega)
    exact ⟨r, fun post h => hX post _ (gX post h), fun post h => hY post _ (gY post h)⟩
theorem dm_edges0 (hn : ∀ j, j < 192 → A j = 0) {post : Int32 → Prop} (h : post 0) : ∀ d i : Nat, i + d = 192 → wY_edges_4 post A (d + 1) 0 (nI i) := by
  intro d
  induction d with
  | zero =>
    intro i hi
    have e : i = 192 := by omega
    subst e
    exact br_t dm_192 h
  | succ d ih =>
    intro i hi
    have hii : i < 192 := by omega
    have hlt : ¬ (192 : Int32) ≤ nI i := nI_ge (b := 192) hii (by decide)
    have er : nI i - nI i / 16 * 16 = nI (i % 16) := pk_rem (d := 16) (by omega) (by decide) (by decide)
    have g := ih (i + 1) (by omega)
    have st : wY_edges_38 post (wY_edges_4 post A (d + 1)) 0 (nI i) A := by
      unfold wY_edges_38
      rw [show nI i + 16 = nI (i + 16) from nI_add i 16]
      by_cases w : 176 ≤ i
      · exact br_t (nI_le (a := 176) w (by omega)) (nm_r (nI_1 i) g)
      · exact br_f (nI_ge (b := 176) (by omega) (by decide)) (dm_ymN hii hn (dm_ymN (by omega) hn (br_t rfl (nm_r (nI_1 i) g))))
    refine br_f hlt ⟨by decide, ?_⟩
    rw [er, nI_1 i]
    by_cases w : 15 ≤ i % 16
    · exact br_t (nI_le (a := 15) w (by omega)) st
    · exact br_f (nI_ge (b := 15) (by omega) (by decide)) (dm_ymN hii hn (dm_ymN (by omega) hn (br_t rfl st)))
end
end
section
/-- both sides hold the same marks, X their number; what is known is right -/
def i_Rel (_ : Nat) (u : SX) (v : SY) : Prop := ∃ (fk fkept : Int32) (MO CM KC TO : Nat → Int32), u = (nI (dm_cnt v 192), fk, fkept, v, MO, CM, KC, TO) ∧ (fk ≠ 0 → dm_Good v MO)
theorem dm_rel {k : Nat} {v : SY} {fk fkept : Int32} {MO CM KC TO : Nat → Int32} (h : fk ≠ 0 → dm_Good v MO) : i_Rel k (nI (dm_cnt v 192), fk, fkept, v, MO, CM, KC, TO) v := ⟨fk, fkept, MO, CM, KC, TO, rfl, h⟩
theorem i_up {k : Nat} {u : SX} {v : SY} (h : i_Rel k u v) : i_Rel (k + 3) u v := h
theorem i_vc0 : wpX_init (fun u => wpY_init (fun v => i_Rel 0 u v)) := by
  unfold wpX_init wpY_init
  refine ⟨0, 0, (fun _ => 0), (fun _ => 0), (fun _ => 0), (fun _ => 0), ?_, fun h => absurd rfl h⟩
  rw [dm_cntZ (A := fun _ => 0) 192 (fun _ _ => rfl)]
  rfl
theorem dm_1 : vp_nar .boolean 1 = 1 := rfl
theorem dm_0 : vp_nar .boolean 0 = 0 := rfl
theorem dm_ymark {A : Nat → Int32} {x y : Nat} {post : Int32 → SY → Prop} (hx : x < 16) (hy : y < 12) (hY : ∀ post : Int32 → Prop, post 0 → wpY_bad post (nI x) (nI y)) (h0 : A (16 * y + x) = 0 → post 1 (upd A (16 * y + x) 1)) (h1 : ¬ A (16 * y + x) = 0 → post 0 (upd A (16 * y + x) 1)) : wpY_mark post A (nI x) (nI y) := by
  have i : vp_in (nI (16 * y + x)) 192 := vp_in_nI (by omega) (by decide)
  unfold wpY_mark
  refine hY _ (br_t rfl ?_)
  rw [dm_ix x y, nI_clamp (n := 16 * y + x) (by omega), dm_1]
  exact ⟨i, nm_e ⟨i, nm_e (br_c h0 h1)⟩⟩
theorem dm_yclear {A : Nat → Int32} {x y : Nat} {post : Int32 → SY → Prop} (hx : x < 16) (hy : y < 12) (hY : ∀ post : Int32 → Prop, post 0 → wpY_bad post (nI x) (nI y)) (h0 : A (16 * y + x) = 0 → post 0 (upd A (16 * y + x) 0)) (h1 : ¬ A (16 * y + x) = 0 → post 1 (upd A (16 * y + x) 0)) : wpY_clear post A (nI x) (nI y) := by
  have i : vp_in (nI (16 * y + x)) 192 := vp_in_nI (by omega) (by decide)
  unfold wpY_clear
  refine hY _ (br_t rfl ?_)
  rw [dm_ix x y, nI_clamp (n := 16 * y + x) (by omega), dm_0]
  exact ⟨i, nm_e ⟨i, nm_e (br_c h0 h1)⟩⟩
theorem i_vc_mark {k : Nat} {u : SX} {v : SY} (I : i_Rel k u v) (hk : k + 3 ≤ 1536) (v1 : Int32) (v2 : Int32) : wpX_mark (fun r u' => wpY_mark (fun r' v' => r' = r ∧ i_Rel (k + 3) u' v') v v1 v2) u v1 v2 := by
  obtain ⟨fk, fkept, MO, CM, KC, TO, rfl, hg⟩ := I
  unfold wpX_mark
  dsimp only
  rcases dm_place v1 v2 with ⟨x, y, hx, hy, rfl, rfl, hX, hY⟩ | ⟨hX, hY⟩
  · have i : vp_in (nI (16 * y + x)) 192 := vp_in_nI (by omega) (by decide)
    refine hX _ (br_f (by decide) (nm_r (dm_ix x y) ⟨i, ?_⟩))
    rw [nI_clamp (n := 16 * y + x) (by omega)]
    by_cases z : v (16 * y + x) = 0
    · have ec : dm_cnt (upd v (16 * y + x) 1) 192 = dm_cnt v 192 + 1 := by
        refine dm_cnt1 (A := v) (p := 16 * y + x) 192 (by omega) z ?_ (fun j hj => ?_)
        · rw [pk_us]; decide
        · rw [pk_un hj]
      have hq : wpY_mark (fun r' v' => r' = 1 ∧ i_Rel (k + 3) (nI (dm_cnt v 192 + 1), 0, fkept, upd v (16 * y + x) 1, MO, CM, KC, TO) v') v (nI x) (nI y) := by
        refine dm_ymark hx hy hY (fun _ => ⟨rfl, ?_⟩) (fun w => absurd z w)
        rw [← ec]
        exact dm_rel (fun h => absurd rfl h)
      refine br_t z ?_
      unfold wX_mark_31
      rw [nI_clamp (n := 16 * y + x) (by omega), dm_1]
      exact ⟨i, nm_e (nm_r (nI_1 _) (br_c (fun _ => hq) (fun _ => br_f (by decide) hq)))⟩
    · have ez : ∀ j, j < 192 → (v j = 0 ↔ upd v (16 * y + x) 1 j = 0) := by
        intro j _
        by_cases e : j = 16 * y + x
        · rw [e, pk_us]
          exact ⟨fun w => absurd w z, fun w => absurd w (by decide)⟩
        · rw [pk_un e]
      have ec : dm_cnt (upd v (16 * y + x) 1) 192 = dm_cnt v 192 := (dm_cntC 192 ez).symm
      have hq : ∀ fk' : Int32, (fk' ≠ 0 → dm_Good v MO) → wpY_mark (fun r' v' => r' = 0 ∧ i_Rel (k + 3) (nI (dm_cnt v 192), fk', fkept, upd v (16 * y + x) 1, MO, CM, KC, TO) v') v (nI x) (nI y) := by
        intro fk' hf
        refine dm_ymark hx hy hY (fun w => absurd w z) (fun _ => ⟨rfl, ?_⟩)
        rw [← ec]
        exact dm_rel (fun h => dm_goodCongr ez (hf h))
      refine br_f z ?_
      unfold wX_mark_31
      rw [nI_clamp (n := 16 * y + x) (by omega), dm_1]
      exact ⟨i, nm_e (nm_r (Int32.add_zero _) (br_c (fun _ => hq 0 (fun h => absurd rfl h)) (fun h => br_t rfl (hq 1 (fun _ => hg h)))))⟩
  · refine hX _ (br_t rfl ?_)
    unfold wpY_mark
    exact hY _ (br_f (by decide) ⟨rfl, dm_rel hg⟩)
theorem i_vc_clear {k : Nat} {u : SX} {v : SY} (I : i_Rel k u v) (hk : k + 3 ≤ 1536) (v1 : Int32) (v2 : Int32) : wpX_clear (fun r u' => wpY_clear (fun r' v' => r' = r ∧ i_Rel (k + 3) u' v') v v1 v2) u v1 v2 := by
  obtain ⟨fk, fkept, MO, CM, KC, TO, rfl, hg⟩ := I
  unfold wpX_clear
  dsimp only
  rcases dm_place v1 v2 with ⟨x, y, hx, hy, rfl, rfl, hX, hY⟩ | ⟨hX, hY⟩
  · have i : vp_in (nI (16 * y + x)) 192 := vp_in_nI (by omega) (by decide)
    refine hX _ (br_f (by decide) (nm_r (dm_ix x y) ⟨i, ?_⟩))
    rw [nI_clamp (n := 16 * y + x) (by omega)]
    by_cases z : v (16 * y + x) = 0
    · have ez : ∀ j, j < 192 → (v j = 0 ↔ upd v (16 * y + x) 0 j = 0) := by
        intro j _
        by_cases e : j = 16 * y + x
        · rw [e, pk_us]
          exact ⟨fun _ => rfl, fun _ => z⟩
        · rw [pk_un e]
      have ec : dm_cnt (upd v (16 * y + x) 0) 192 = dm_cnt v 192 := (dm_cntC 192 ez).symm
      have hq : ∀ fk' : Int32, (fk' ≠ 0 → dm_Good v MO) → wpY_clear (fun r' v' => r' = 0 ∧ i_Rel (k + 3) (nI (dm_cnt v 192), fk', fkept, upd v (16 * y + x) 0, MO, CM, KC, TO) v') v (nI x) (nI y) := by
        intro fk' hf
        refine dm_yclear hx hy hY (fun _ => ⟨rfl, ?_⟩) (fun w => absurd z w)
        rw [← ec]
        exact dm_rel (fun h => dm_goodCongr ez (hf h))
      refine br_t z ?_
      unfold wX_clear_31
      rw [nI_clamp (n := 16 * y + x) (by omega), dm_0]
      exact ⟨i, nm_e (nm_r (Int32.sub_zero _) (br_c (fun _ => hq 0 (fun h => absurd rfl h)) (fun h => br_t rfl (hq 1 (fun _ => hg h)))))⟩
    · have ec : dm_cnt v 192 = dm_cnt (upd v (16 * y + x) 0) 192 + 1 := by
        refine dm_cnt1 (B := v) (p := 16 * y + x) 192 (by omega) pk_us z (fun j hj => ?_)
        rw [pk_un hj]
      have hq : wpY_clear (fun r' v' => r' = 1 ∧ i_Rel (k + 3) (nI (dm_cnt (upd v (16 * y + x) 0) 192), 0, fkept, upd v (16 * y + x) 0, MO, CM, KC, TO) v') v (nI x) (nI y) :=
        dm_yclear hx hy hY (fun w => absurd w z) (fun _ => ⟨rfl, dm_rel (fun h => absurd rfl h)⟩)
      refine br_f z ?_
      unfold wX_clear_31
      rw [nI_clamp (n := 16 * y + x) (by omega), dm_0]
      refine ⟨i, nm_e (nm_r (e' := nI (dm_cnt (upd v (16 * y + x) 0) 192)) ?_ (br_c (fun _ => hq) (fun _ => br_f (by decide) hq)))⟩
      rw [ec]
      exact nI_pred _
  · refine hX _ (br_t rfl ?_)
    unfold wpY_clear
    exact hY _ (br_f (by decide) ⟨rfl, dm_rel hg⟩)
theorem dm_fm0 {v : Nat → Int32} (z : dm_cnt v 192 = 0) : nI (dm_cnt v 192) = 0 := by
  rw [z]
  rfl
theorem dm_fm1 {v : Nat → Int32} (z : ¬ dm_cnt v 192 = 0) : ¬ nI (dm_cnt v 192) = 0 := by
  have := dm_cntLe v 192
  exact nI_ne0 (by omega) (by omega)
theorem i_vc_distance {k : Nat} {u : SX} {v : SY} (I : i_Rel k u v) (hk : k + 3 ≤ 1536) (v1 : Int32) (v2 : Int32) : wpX_distance (fun r u' => wpY_distance (fun r' => r' = r ∧ i_Rel (k + 3) u' v) v v1 v2) u v1 v2 := by
  obtain ⟨fk, fkept, MO, CM, KC, TO, rfl, hg⟩ := I
  unfold wpX_distance
  dsimp only
  rcases dm_place v1 v2 with ⟨x, y, hx, hy, rfl, rfl, hX, hY⟩ | ⟨hX, hY⟩
  · refine hX _ (br_f (by decide) ?_)
    by_cases z : dm_cnt v 192 = 0
    · refine br_t (dm_fm0 z) ?_
      unfold wpY_distance
      refine hY _ (br_t rfl ?_)
      rw [dm_ix x y]
      exact dm_farN (by omega) (dm_cnt0 192 z) ⟨rfl, dm_rel hg⟩
    · refine br_f (dm_fm1 z) (dm_workOut (dm_cntP 192 z) hg ?_)
      intro fk' fkept' MO' CM' KC' TO' hG
      dsimp only
      rw [dm_ix x y]
      obtain ⟨m, em, hb⟩ := hG (16 * y + x) (by omega)
      refine dm_dist (by omega) hb.1 em ?_
      unfold wpY_distance
      refine hY _ (br_t rfl ?_)
      rw [dm_ix x y]
      exact dm_farB (by omega) hb ⟨rfl, dm_rel (fun _ => hG)⟩
  · refine hX _ (br_t rfl ?_)
    unfold wpY_distance
    exact hY _ (br_f (by decide) ⟨rfl, dm_rel hg⟩)
theorem i_vc_nearest {k : Nat} {u : SX} {v : SY} (I : i_Rel k u v) (hk : k + 3 ≤ 1536) (v1 : Int32) (v2 : Int32) : wpX_nearest (fun r u' => wpY_nearest (fun r' => r' = r ∧ i_Rel (k + 3) u' v) v v1 v2) u v1 v2 := by
  obtain ⟨fk, fkept, MO, CM, KC, TO, rfl, hg⟩ := I
  unfold wpX_nearest
  dsimp only
  rcases dm_place v1 v2 with ⟨x, y, hx, hy, rfl, rfl, hX, hY⟩ | ⟨hX, hY⟩
  · refine hX _ (br_f (by decide) ?_)
    by_cases z : dm_cnt v 192 = 0
    · refine br_t (dm_fm0 z) ?_
      unfold wpY_nearest
      refine hY _ (br_t rfl ?_)
      rw [dm_ix x y]
      exact dm_ymN (by omega) (dm_cnt0 192 z) ⟨rfl, dm_rel hg⟩
    · refine br_f (dm_fm1 z) (dm_workOut (dm_cntP 192 z) hg ?_)
      intro fk' fkept' MO' CM' KC' TO' hG
      dsimp only
      obtain ⟨m, em, hb⟩ := hG (16 * y + x) (by omega)
      rw [dm_ix x y, nI_clamp (n := 16 * y + x) (by omega), em]
      refine ⟨vp_in_nI (by omega) (by decide), ?_⟩
      unfold wpY_nearest
      refine hY _ (br_t rfl ?_)
      rw [dm_ix x y]
      exact dm_ymB (by omega) hb ⟨rfl, dm_rel (fun _ => hG)⟩
  · refine hX _ (br_t rfl ?_)
    unfold wpY_nearest
    exact hY _ (br_f (by decide) ⟨rfl, dm_rel hg⟩)
theorem i_vc_reach {k : Nat} {u : SX} {v : SY} (I : i_Rel k u v) (hk : k + 3 ≤ 1536) (v1 : Int32) (v2 : Int32) : wpX_reach (fun r u' => wpY_reach (fun r' => r' = r ∧ i_Rel (k + 3) u' v) v v1 v2) u v1 v2 := by
  obtain ⟨fk, fkept, MO, CM, KC, TO, rfl, hg⟩ := I
  unfold wpX_reach
  dsimp only
  rcases dm_place v1 v2 with ⟨x, y, hx, hy, rfl, rfl, hX, hY⟩ | ⟨hX, hY⟩
  · refine hX _ (br_f (by decide) ?_)
    by_cases z : dm_cnt v 192 = 0
    · refine br_t (dm_fm0 z) ?_
      unfold wpY_reach
      refine hY _ (br_t rfl ⟨192 + 1, ?_⟩)
      exact dm_reach0 hx hy (dm_cnt0 192 z) ⟨rfl, dm_rel hg⟩ 192 0 (by omega)
    · refine br_f (dm_fm1 z) (dm_workOut (dm_cntP 192 z) hg ?_)
      intro fk' fkept' MO' CM' KC' TO' hG
      dsimp only
      obtain ⟨r, gX, gY⟩ := dm_reachL (fm := nI (dm_cnt v 192)) (fk := fk') (fkept := fkept') (CM := CM') (KC := KC') (TO := TO') hG (nI x) (nI y) 192 0 0 (by omega)
      refine ⟨192 + 1, gX _ ?_⟩
      unfold wpY_reach
      exact hY _ (br_t rfl ⟨192 + 1, gY _ ⟨rfl, dm_rel (fun _ => hG)⟩⟩)
  · refine hX _ (br_t rfl ?_)
    unfold wpY_reach
    exact hY _ (br_f (by decide) ⟨rfl, dm_rel hg⟩)
theorem i_vc_farthest {k : Nat} {u : SX} {v : SY} (I : i_Rel k u v) (hk : k + 3 ≤ 1536) : wpX_farthest (fun r u' => wpY_farthest (fun r' => r' = r ∧ i_Rel (k + 3) u' v) v) u := by
  obtain ⟨fk, fkept, MO, CM, KC, TO, rfl, hg⟩ := I
  unfold wpX_farthest
  dsimp only
  by_cases z : dm_cnt v 192 = 0
  · refine br_t (dm_fm0 z) ⟨192 + 1, ?_⟩
    exact dm_far0 (dm_cnt0 192 z) ⟨rfl, dm_rel hg⟩ 192 0 (by omega)
  · refine br_f (dm_fm1 z) (dm_workOut (dm_cntP 192 z) hg ?_)
    intro fk' fkept' MO' CM' KC' TO' hG
    dsimp only
    obtain ⟨r, gX, gY⟩ := dm_farL (fm := nI (dm_cnt v 192)) (fk := fk') (fkept := fkept') (CM := CM') (KC := KC') (TO := TO') hG 192 0 0 (-1) (by omega) (Or.inr ⟨rfl, rfl, by omega⟩)
    exact ⟨192 + 1, gX _ ⟨192 + 1, gY _ ⟨rfl, dm_rel (fun _ => hG)⟩⟩⟩
theorem i_vc_within {k : Nat} {u : SX} {v : SY} (I : i_Rel k u v) (hk : k + 3 ≤ 1536) (v1 : Int32) : wpX_within (fun r u' => wpY_within (fun r' => r' = r ∧ i_Rel (k + 3) u' v) v v1) u v1 := by
  obtain ⟨fk, fkept, MO, CM, KC, TO, rfl, hg⟩ := I
  unfold wpX_within
  dsimp only
  by_cases z : dm_cnt v 192 = 0
  · refine br_t (dm_fm0 z) ⟨192 + 1, ?_⟩
    exact dm_within0 (dm_cnt0 192 z) v1 ⟨rfl, dm_rel hg⟩ 192 0 (by omega)
  · refine br_f (dm_fm1 z) (dm_workOut (dm_cntP 192 z) hg ?_)
    intro fk' fkept' MO' CM' KC' TO' hG
    dsimp only
    obtain ⟨r, gX, gY⟩ := dm_withinL (fm := nI (dm_cnt v 192)) (fk := fk') (fkept := fkept') (CM := CM') (KC := KC') (TO := TO') hG v1 192 0 0 (by omega)
    exact ⟨192 + 1, gX _ ⟨192 + 1, gY _ ⟨rfl, dm_rel (fun _ => hG)⟩⟩⟩
theorem i_vc_edges {k : Nat} {u : SX} {v : SY} (I : i_Rel k u v) (hk : k + 3 ≤ 1536) : wpX_edges (fun r u' => wpY_edges (fun r' => r' = r ∧ i_Rel (k + 3) u' v) v) u := by
  obtain ⟨fk, fkept, MO, CM, KC, TO, rfl, hg⟩ := I
  unfold wpX_edges
  dsimp only
  by_cases z : dm_cnt v 192 = 0
  · refine br_t (dm_fm0 z) ⟨192 + 1, ?_⟩
    exact dm_edges0 (dm_cnt0 192 z) ⟨rfl, dm_rel hg⟩ 192 0 (by omega)
  · refine br_f (dm_fm1 z) (dm_workOut (dm_cntP 192 z) hg ?_)
    intro fk' fkept' MO' CM' KC' TO' hG
    dsimp only
    obtain ⟨r, gX, gY⟩ := dm_edgesL (fm := nI (dm_cnt v 192)) (fk := fk') (fkept := fkept') (CM := CM') (KC := KC') (TO := TO') hG 192 0 0 (by omega)
    exact ⟨192 + 1, gX _ ⟨192 + 1, gY _ ⟨rfl, dm_rel (fun _ => hG)⟩⟩⟩
theorem i_vc_total {k : Nat} {u : SX} {v : SY} (I : i_Rel k u v) (hk : k + 3 ≤ 1536) : wpX_total (fun r u' => wpY_total (fun r' => r' = r ∧ i_Rel (k + 3) u' v) v) u := by
  obtain ⟨fk, fkept, MO, CM, KC, TO, rfl, hg⟩ := I
  unfold wpX_total
  dsimp only
  by_cases z : dm_cnt v 192 = 0
  · refine br_t (dm_fm0 z) ⟨0 + 1, ?_⟩
    refine br_f (by decide) (dm_farN (p := 0) (by omega) (dm_cnt0 192 z) ?_)
    exact br_f (by decide) ⟨rfl, dm_rel hg⟩
  · refine br_f (dm_fm1 z) (dm_workOut (dm_cntP 192 z) hg ?_)
    intro fk' fkept' MO' CM' KC' TO' hG
    dsimp only
    obtain ⟨r, gX, gY⟩ := dm_totalL (fm := nI (dm_cnt v 192)) (fk := fk') (fkept := fkept') (CM := CM') (KC := KC') (TO := TO') hG 192 0 0 (by omega)
    exact ⟨192 + 1, gX _ ⟨192 + 1, gY _ ⟨rfl, dm_rel (fun _ => hG)⟩⟩⟩
end
