section
/-! pure rows to paste: stores, nI and lN arithmetic, masks, shifts, narrowing, branches by naturals (pk_le, pk_lt, pk_eq), loops (lp1 .. lp16: the measure of the state; rp1 ..: recursion), negatives. Take what you need -/
theorem pk_us {f : Nat → Int32} {k : Nat} {x : Int32} : upd f k x k = x := if_pos rfl
theorem pk_un {f : Nat → Int32} {k j : Nat} {x : Int32} (h : j ≠ k) : upd f k x j = f j := if_neg h
theorem pk_sub {a b : Nat} (h : b ≤ a) : nI a - nI b = nI (a - b) := by
  obtain ⟨c, rfl⟩ : ∃ c, a = c + b := ⟨a - b, by omega⟩
  rw [← nI_add, Int32.add_sub_cancel, Nat.add_sub_cancel]
theorem pk_m1 (n : Nat) : nI (n + 1) + (-1) = nI n := by
  rw [← nI_1, Int32.add_assoc, show (1 : Int32) + (-1) = 0 from rfl, Int32.add_zero]
theorem pk_mul (a b : Nat) : nI a * nI b = nI (a * b) := (Int32.ofNat_mul a b).symm
theorem pk_div {a d : Nat} (ha : a < 2 ^ 31) (h0 : 0 < d) (hd : d < 2 ^ 31) : nI a / nI d = nI (a / d) := by
  apply Int32.toInt_inj.mp
  rw [lg_idiv_nonneg (by rw [nI_toInt ha]; omega) (by rw [nI_toInt hd]; omega), nI_toInt ha, nI_toInt hd, nI_toInt (Nat.lt_of_le_of_lt (Nat.div_le_self a d) ha)]
  first | rfl | exact (Int.natCast_ediv _ _).symm
theorem pk_rem {a d : Nat} (ha : a < 2 ^ 31) (h0 : 0 < d) (hd : d < 2 ^ 31) : nI a - nI a / nI d * nI d = nI (a % d) := by
  rw [pk_div ha h0 hd, pk_mul, pk_sub (Nat.div_mul_le_self a d)]
  exact congrArg nI (by have := Nat.div_add_mod' a d; omega)
theorem pk_sub_toInt {a b : Nat} (ha : a < 2 ^ 30) (hb : b < 2 ^ 30) : (nI a - nI b).toInt = (a : Int) - b := by
  rw [Int32.toInt_sub, nI_toInt (by omega), nI_toInt (by omega)]
  exact Int.bmod_eq_of_le (by omega) (by omega)
theorem pk_sneg {a b : Nat} (hb : b < 2 ^ 30) (h : a < b) : nI a - nI b < 0 := by
  rw [Int32.lt_iff_toInt_lt, pk_sub_toInt (by omega) hb, show (0 : Int32).toInt = 0 from by decide]
  omega
theorem pk_ix (x : Int32) {n : Nat} (hn : n < 2 ^ 31) : x < 0 ∨ nI n ≤ x ∨ ∃ j : Nat, j < n ∧ x = nI j := by
  by_cases h : x < 0
  · exact Or.inl h
  · obtain ⟨j, hj, rfl⟩ := nI_of h
    by_cases h2 : j < n
    · exact Or.inr (Or.inr ⟨j, h2, rfl⟩)
    · exact Or.inr (Or.inl (nI_le (by omega) hj))
theorem pk_le {x y : Int32} {A B : Prop} (a b : Nat) (f : a ≤ b → A) (g : b < a → B) (hx : x = nI a := by rfl) (hy : y = nI b := by rfl) (ha : a < 2 ^ 31 := by omega) (hb : b < 2 ^ 31 := by omega) : (x ≤ y → A) ∧ (¬ x ≤ y → B) := by
  subst hx hy
  rw [nI_leI ha hb]
  exact ⟨f, fun z => g (by omega)⟩
theorem pk_lt {x y : Int32} {A B : Prop} (a b : Nat) (f : a < b → A) (g : b ≤ a → B) (hx : x = nI a := by rfl) (hy : y = nI b := by rfl) (ha : a < 2 ^ 31 := by omega) (hb : b < 2 ^ 31 := by omega) : (x < y → A) ∧ (¬ x < y → B) := by
  subst hx hy
  rw [nI_ltI ha hb]
  exact ⟨f, fun z => g (by omega)⟩
theorem pk_eq {x y : Int32} {A B : Prop} (a b : Nat) (f : a = b → A) (g : a ≠ b → B) (hx : x = nI a := by rfl) (hy : y = nI b := by rfl) (ha : a < 2 ^ 31 := by omega) (hb : b < 2 ^ 31 := by omega) : (x = y → A) ∧ (¬ x = y → B) := by
  subst hx hy
  rw [nI_eq ha hb]
  exact ⟨f, g⟩
theorem pk_in {x : Int32} (n N : Nat) (h : n < N) (hx : x = nI n := by rfl) (hN : N < 2 ^ 31 := by omega) : vp_in x N := by
  subst hx
  exact vp_in_nI h hN
theorem pk_cl {x : Int32} (n : Nat) (hx : x = nI n := by rfl) (h : n < 2 ^ 31 := by omega) : x.toNatClampNeg = n := by
  subst hx
  exact nI_clamp h
theorem pk_tn {n : Nat} (h : n < 2 ^ 32) : (nI n).toBitVec.toNat = n := Nat.mod_eq_of_lt h
theorem pk_and (x : Int32) {m : Int32} (k : Nat) (hm : m.toBitVec.toNat = 2 ^ k - 1) : x &&& m = nI (x.toBitVec.toNat % 2 ^ k) := by
  apply Int32.toBitVec_inj.mp
  apply BitVec.eq_of_toNat_eq
  rw [Int32.toBitVec_and, BitVec.toNat_and, hm, Nat.and_two_pow_sub_one_eq_mod]
  show _ = (BitVec.ofNat 32 _).toNat
  rw [BitVec.toNat_ofNat]
  exact (Nat.mod_eq_of_lt (Nat.lt_of_le_of_lt (Nat.mod_le _ _) x.toBitVec.isLt)).symm
theorem pk_andN {n : Nat} (h : n < 2 ^ 32) {m : Int32} (k : Nat) (hm : m.toBitVec.toNat = 2 ^ k - 1) : nI n &&& m = nI (n % 2 ^ k) := by
  rw [pk_and _ k hm, pk_tn h]
theorem pk_andE (x : Int32) {m : Int32} (k : Nat) (hm : m.toBitVec.toNat = 2 ^ k - 1) : ∃ j : Nat, j < 2 ^ k ∧ x &&& m = nI j := ⟨_, Nat.mod_lt _ (Nat.two_pow_pos k), pk_and x k hm⟩
theorem pk_andIn (x : Int32) {m : Int32} (k : Nat) (hm : m.toBitVec.toNat = 2 ^ k - 1) (hk : k ≤ 30) : vp_in (x &&& m) (2 ^ k) := by
  obtain ⟨j, hj, e⟩ := pk_andE x k hm
  rw [e]
  exact vp_in_nI hj (Nat.lt_of_le_of_lt (Nat.pow_le_pow_right (by decide) hk) (by decide))
theorem pk_shl (a s : Int32) (k : Nat) (hs : (s.toBitVec.smod 32).toNat = k) : (a <<< s).toBitVec.toNat = a.toBitVec.toNat * 2 ^ k % 2 ^ 32 := by
  show (a.toBitVec <<< (s.toBitVec.smod 32).toNat).toNat = _
  rw [hs, BitVec.toNat_shiftLeft, Nat.shiftLeft_eq]
theorem pk_shlN {n : Nat} (s : Int32) (k : Nat) (hs : (s.toBitVec.smod 32).toNat = k) (h : n * 2 ^ k < 2 ^ 32) : nI n <<< s = nI (n * 2 ^ k) := by
  apply Int32.toBitVec_inj.mp
  apply BitVec.eq_of_toNat_eq
  have hn : n < 2 ^ 32 := Nat.lt_of_le_of_lt (Nat.le_mul_of_pos_right n (Nat.two_pow_pos k)) h
  rw [pk_shl _ _ k hs, pk_tn hn, pk_tn h, Nat.mod_eq_of_lt h]
theorem pk_shr (a s : Int32) (k : Nat) (hs : (s.toBitVec.smod 32).toNat = k) : (a >>> s).toInt = a.toInt >>> k := by
  show (a.toBitVec.sshiftRight (s.toBitVec.smod 32).toNat).toInt = _
  rw [hs, BitVec.toInt_sshiftRight]
  rfl
theorem pk_shrN {n : Nat} (h : n < 2 ^ 31) (s : Int32) (k : Nat) (hs : (s.toBitVec.smod 32).toNat = k) : nI n >>> s = nI (n / 2 ^ k) := by
  apply Int32.toInt_inj.mp
  have h2 : n / 2 ^ k ≤ n := Nat.div_le_self _ _
  rw [pk_shr _ _ k hs, nI_toInt h, nI_toInt (by omega), Int.shiftRight_eq_div_pow]
  rfl
theorem pk_least (P : Nat → Prop) (h : ∃ k, P k) : ∃ k, P k ∧ ∀ j, j < k → ¬ P j := by
  obtain ⟨k, hk⟩ := h
  induction k using Nat.strongRecOn with
  | ind k ih =>
    by_cases e : ∃ j, j < k ∧ P j
    · obtain ⟨j, hj, pj⟩ := e
      exact ih j hj pj
    · exact ⟨k, hk, fun j hj pj => e ⟨j, hj, pj⟩⟩
end
section
/-! truth values as ints, counts below a bound, ranks -/
noncomputable def ma_b (p : Prop) : Int32 := @ite Int32 p (Classical.propDecidable p) 1 0
theorem ma_bt {p : Prop} (h : p) : ma_b p = 1 := by unfold ma_b; rw [if_pos h]
theorem ma_bf {p : Prop} (h : ¬ p) : ma_b p = 0 := by unfold ma_b; rw [if_neg h]
theorem ma_b0 {p : Prop} : ma_b p = 0 ↔ ¬ p := by
  constructor
  · intro h hp
    rw [ma_bt hp] at h
    exact absurd h (by decide)
  · exact ma_bf
theorem ma_b1 {p : Prop} : ma_b p = 1 ↔ p := by
  constructor
  · intro h
    by_cases hp : p
    · exact hp
    · rw [ma_bf hp] at h
      exact absurd h (by decide)
  · exact ma_bt
theorem ma_bc {p q : Prop} (h : p ↔ q) : ma_b p = ma_b q := by
  by_cases hp : p
  · rw [ma_bt hp, ma_bt (h.mp hp)]
  · rw [ma_bf hp, ma_bf (fun z => hp (h.mpr z))]
theorem ma_bi {p q : Prop} (h : ma_b p = ma_b q) : p ↔ q := by
  constructor
  · intro hp; rw [ma_bt hp] at h; exact ma_b1.mp h.symm
  · intro hq; rw [ma_bt hq] at h; exact ma_b1.mp h
theorem ma_b01 (p : Prop) : ma_b p = 0 ∨ ma_b p = 1 := by
  by_cases hp : p
  · exact Or.inr (ma_bt hp)
  · exact Or.inl (ma_bf hp)
theorem ma_n0 : vp_nar .boolean 0 = 0 := rfl
theorem ma_n1 : vp_nar .boolean 1 = 1 := rfl
theorem ma_nb (p : Prop) : vp_nar .boolean (ma_b p) = ma_b p := by
  rcases ma_b01 p with h | h
  · rw [h]; rfl
  · rw [h]; rfl
theorem ma_nn (p : Prop) : narrow .boolean (.int (ma_b p)) = .int (ma_b p) := by
  rcases ma_b01 p with h | h
  · rw [h]; rfl
  · rw [h]; rfl
theorem ma_T : ma_b True = 1 := ma_bt trivial
theorem ma_F : ma_b False = 0 := ma_bf (fun h => h)
/-- a branch on a truth value -/
theorem ma_br {p : Prop} {x : Int32} {A B : Prop} (hx : x = ma_b p) (f : ¬ p → A) (g : p → B) : (x = 0 → A) ∧ (¬ x = 0 → B) := by
  subst hx
  by_cases hp : p
  · exact ⟨fun z => absurd hp (ma_b0.mp z), fun _ => g hp⟩
  · exact ⟨fun _ => f hp, fun z => absurd (ma_bf hp) z⟩
/-- nat-valued truth -/
noncomputable def ma_o (p : Prop) : Nat := @ite Nat p (Classical.propDecidable p) 1 0
theorem ma_ot {p : Prop} (h : p) : ma_o p = 1 := by unfold ma_o; rw [if_pos h]
theorem ma_of {p : Prop} (h : ¬ p) : ma_o p = 0 := by unfold ma_o; rw [if_neg h]
theorem ma_ole (p : Prop) : ma_o p ≤ 1 := by
  by_cases h : p
  · rw [ma_ot h]; omega
  · rw [ma_of h]; omega
theorem ma_oc {p q : Prop} (h : p ↔ q) : ma_o p = ma_o q := by
  by_cases hp : p
  · rw [ma_ot hp, ma_ot (h.mp hp)]
  · rw [ma_of hp, ma_of (fun z => hp (h.mpr z))]
theorem ma_o0 {p : Prop} : ma_o p = 0 ↔ ¬ p := by
  constructor
  · intro h hp
    rw [ma_ot hp] at h
    omega
  · exact ma_of
noncomputable def ma_cn (P : Nat → Prop) : Nat → Nat
  | 0 => 0
  | k + 1 => ma_cn P k + ma_o (P k)
theorem ma_cn_c {P Q : Nat → Prop} : ∀ {N : Nat}, (∀ k, k < N → (P k ↔ Q k)) → ma_cn P N = ma_cn Q N
  | 0, _ => rfl
  | N + 1, h => by
    show ma_cn P N + ma_o (P N) = ma_cn Q N + ma_o (Q N)
    rw [ma_cn_c (fun k hk => h k (by omega)), ma_oc (h N (by omega))]
theorem ma_cn_le (P : Nat → Prop) : ∀ N : Nat, ma_cn P N ≤ N
  | 0 => Nat.le_refl _
  | N + 1 => by
    show ma_cn P N + ma_o (P N) ≤ N + 1
    have := ma_cn_le P N
    have := ma_ole (P N)
    omega
theorem ma_cn_mono {P Q : Nat → Prop} : ∀ {N : Nat}, (∀ k, k < N → P k → Q k) → ma_cn P N ≤ ma_cn Q N
  | 0, _ => Nat.le_refl _
  | N + 1, h => by
    show ma_cn P N + ma_o (P N) ≤ ma_cn Q N + ma_o (Q N)
    have h1 : ma_cn P N ≤ ma_cn Q N := ma_cn_mono (fun k hk => h k (by omega))
    have h2 : ma_o (P N) ≤ ma_o (Q N) := by
      by_cases hp : P N
      · rw [ma_ot hp, ma_ot (h N (by omega) hp)]; omega
      · rw [ma_of hp]; omega
    omega
theorem ma_cn_lt {P Q : Nat → Prop} : ∀ {N : Nat}, (∀ k, k < N → P k → Q k) → (∃ k, k < N ∧ Q k ∧ ¬ P k) → ma_cn P N < ma_cn Q N
  | 0, _, ⟨k, hk, _⟩ => by omega
  | N + 1, h, ⟨k, hk, hq, hp⟩ => by
    show ma_cn P N + ma_o (P N) < ma_cn Q N + ma_o (Q N)
    by_cases e : k = N
    · subst e
      have h1 : ma_cn P k ≤ ma_cn Q k := ma_cn_mono (fun j hj => h j (by omega))
      rw [ma_ot hq, ma_of hp]; omega
    · have h1 : ma_cn P N < ma_cn Q N := ma_cn_lt (fun j hj => h j (by omega)) ⟨k, by omega, hq, hp⟩
      have h2 : ma_o (P N) ≤ ma_o (Q N) := by
        by_cases hp : P N
        · rw [ma_ot hp, ma_ot (h N (by omega) hp)]; omega
        · rw [ma_of hp]; omega
      omega
theorem ma_cn_all {P : Nat → Prop} : ∀ {N : Nat}, N ≤ ma_cn P N → ∀ k, k < N → P k
  | 0, _, k, hk => by omega
  | N + 1, h, k, hk => by
    have h : N + 1 ≤ ma_cn P N + ma_o (P N) := h
    have h1 := ma_cn_le P N
    have h2 := ma_ole (P N)
    by_cases e : k = N
    · subst e
      by_cases hp : P k
      · exact hp
      · rw [ma_of hp] at h; omega
    · exact ma_cn_all (P := P) (N := N) (by omega) k (by omega)
theorem ma_cn_0 {P : Nat → Prop} : ∀ {N : Nat}, (∀ k, k < N → ¬ P k) → ma_cn P N = 0
  | 0, _ => rfl
  | N + 1, h => by
    show ma_cn P N + ma_o (P N) = 0
    rw [ma_cn_0 (fun k hk => h k (by omega)), ma_of (h N (by omega))]
theorem ma_cn_rm {f : Nat → Prop} {t : Nat} : ∀ {M : Nat}, t < M → ma_cn f M = ma_cn (fun q => f q ∧ q ≠ t) M + ma_o (f t)
  | 0, h => by omega
  | M + 1, h => by
    show ma_cn f M + ma_o (f M) = ma_cn (fun q => f q ∧ q ≠ t) M + ma_o (f M ∧ M ≠ t) + ma_o (f t)
    by_cases e : t = M
    · subst e
      rw [ma_of (p := f t ∧ t ≠ t) (fun z => z.2 rfl), ma_cn_c (P := f) (Q := fun q => f q ∧ q ≠ t) (fun k hk => ⟨fun z => ⟨z, by omega⟩, fun z => z.1⟩)]
      omega
    · rw [ma_cn_rm (f := f) (t := t) (M := M) (by omega), ma_oc (p := f M ∧ M ≠ t) (q := f M) ⟨fun z => z.1, fun z => ⟨z, fun y => e y.symm⟩⟩]
      omega
theorem ma_cn_inj {w : Nat → Nat} {M : Nat} : ∀ (N : Nat) (f : Nat → Prop), (∀ a, a < N → w a < M) → (∀ a b, a < N → b < N → w a = w b → a = b) → (∀ q, q < M → f q → ∃ a, a < N ∧ w a = q) → ma_cn (fun a => f (w a)) N = ma_cn f M
  | 0, f, _, _, h3 => by
    rw [ma_cn_0 (P := f) (N := M)]
    · rfl
    · intro k hk hf
      obtain ⟨a, ha, _⟩ := h3 k hk hf
      omega
  | N + 1, f, h1, h2, h3 => by
    show ma_cn (fun a => f (w a)) N + ma_o (f (w N)) = _
    rw [ma_cn_rm (f := f) (t := w N) (M := M) (h1 N (by omega))]
    have ih := ma_cn_inj (w := w) (M := M) N (fun q => f q ∧ q ≠ w N) (fun a ha => h1 a (by omega)) (fun a b ha hb e => h2 a b (by omega) (by omega) e) (fun q hq hf => by
      obtain ⟨a, ha, e⟩ := h3 q hq hf.1
      refine ⟨a, ?_, e⟩
      by_cases z : a = N
      · subst z
        exact absurd e.symm hf.2
      · omega)
    rw [← ih]
    have : ma_cn (fun a => f (w a)) N = ma_cn (fun a => f (w a) ∧ w a ≠ w N) N := ma_cn_c (fun k hk => ⟨fun z => ⟨z, fun e => by
      have := h2 k N (by omega) (by omega) e
      omega⟩, fun z => z.1⟩)
    rw [this]
/-- different numbers below a bound: not more than the bound -/
theorem ma_pig {w : Nat → Nat} {T N : Nat} (h1 : ∀ i, i < T → w i < N) (h2 : ∀ i j, i < T → j < T → w i = w j → i = j) : T ≤ N := by
  have h := ma_cn_inj (w := w) (M := N) T (fun q => ∃ i, i < T ∧ w i = q) h1 h2 (fun q _ h => h)
  have h3 : T ≤ ma_cn (fun a => ∃ i, i < T ∧ w i = w a) T := by
    have : ∀ K, K ≤ T → K ≤ ma_cn (fun a => ∃ i, i < T ∧ w i = w a) K := by
      intro K
      induction K with
      | zero => intro _; exact Nat.zero_le _
      | succ K ih =>
        intro hK
        show K + 1 ≤ ma_cn (fun a => ∃ i, i < T ∧ w i = w a) K + ma_o (∃ i, i < T ∧ w i = w K)
        rw [ma_ot (p := ∃ i, i < T ∧ w i = w K) ⟨K, by omega, rfl⟩]
        have := ih (by omega)
        omega
    exact this T (Nat.le_refl _)
  have h4 := ma_cn_le (fun q => ∃ i, i < T ∧ w i = q) N
  have h5 : ma_cn (fun a => ∃ i, i < T ∧ w i = w a) T = ma_cn (fun q => ∃ i, i < T ∧ w i = q) N := h
  omega
/-- the least number of a set -/
noncomputable def ma_rk (P : Nat → Prop) : Nat := @dite Nat (∃ j, P j) (Classical.propDecidable _) (fun h => Classical.choose (pk_least P h)) (fun _ => 0)
theorem ma_rk_s {P : Nat → Prop} {j : Nat} (h : P j) : P (ma_rk P) ∧ ma_rk P ≤ j := by
  have hh : ∃ j, P j := ⟨j, h⟩
  have hs := Classical.choose_spec (pk_least P hh)
  have e : ma_rk P = Classical.choose (pk_least P hh) := by unfold ma_rk; rw [dif_pos hh]
  rw [e]
  refine ⟨hs.1, ?_⟩
  by_cases z : Classical.choose (pk_least P hh) ≤ j
  · exact z
  · exact absurd h (hs.2 j (by omega))
theorem ma_rk_e {P : Nat → Prop} {d : Nat} (h : P d) (hm : ∀ j, P j → d ≤ j) : ma_rk P = d := by
  have h1 := ma_rk_s h
  have h2 := hm _ h1.1
  omega
theorem ma_rk_c {P Q : Nat → Prop} (h : ∀ j, P j ↔ Q j) : ma_rk P = ma_rk Q := by
  have : P = Q := funext fun j => propext (h j)
  rw [this]
/-- nat arrays -/
def ma_u (f : Nat → Nat) (k x : Nat) : Nat → Nat := fun j => if j = k then x else f j
theorem ma_us {f : Nat → Nat} {k x : Nat} : ma_u f k x k = x := if_pos rfl
theorem ma_un {f : Nat → Nat} {k x j : Nat} (h : j ≠ k) : ma_u f k x j = f j := if_neg h
theorem ma_uI {a : Nat → Int32} {f : Nat → Nat} {k x : Nat} (h : ∀ j, a j = nI (f j)) : ∀ j, upd a k (nI x) j = nI (ma_u f k x j) := by
  intro j
  by_cases e : j = k
  · subst e; rw [pk_us, ma_us]
  · rw [pk_un e, ma_un e, h j]
/-- an if over a proposition -/
noncomputable def ma_if {α : Type} (p : Prop) (x y : α) : α := @ite α p (Classical.propDecidable p) x y
theorem ma_ift {α : Type} {p : Prop} {x y : α} (h : p) : ma_if p x y = x := by unfold ma_if; rw [if_pos h]
theorem ma_iff {α : Type} {p : Prop} {x y : α} (h : ¬ p) : ma_if p x y = y := by unfold ma_if; rw [if_neg h]
end
section
/-! a ground program: slots in use (us), their kinds (kk), their atoms (pp); the step, its iterates, the least closed set -/
def ma_ok (us : Nat → Prop) (kk pp : Nat → Nat) (m : Nat → Prop) (n : Nat) : Prop := ∀ i, 1 ≤ i → i ≤ 3 → us (4 * n + i) → kk (4 * n + i) = 1 → m (pp (4 * n + i))
def ma_st (us : Nat → Prop) (kk pp : Nat → Nat) (F bl m : Nat → Prop) (q : Nat) : Prop := m q ∨ F q ∨ ∃ n, us (4 * n) ∧ ¬ bl n ∧ pp (4 * n) = q ∧ ma_ok us kk pp m n
def ma_H (us : Nat → Prop) (kk pp : Nat → Nat) (F bl m0 : Nat → Prop) : Nat → Nat → Prop
  | 0 => m0
  | j + 1 => ma_st us kk pp F bl (ma_H us kk pp F bl m0 j)
def ma_G (us : Nat → Prop) (kk pp : Nat → Nat) (F bl m0 : Nat → Prop) (q : Nat) : Prop := ∃ j, ma_H us kk pp F bl m0 j q
section S
variable {us : Nat → Prop} {kk pp : Nat → Nat} {F bl bl' m0 m m' Z : Nat → Prop}
theorem ma_ok_m (h : ∀ q, m q → m' q) {n : Nat} (k : ma_ok us kk pp m n) : ma_ok us kk pp m' n := fun i h1 h2 h3 h4 => h _ (k i h1 h2 h3 h4)
theorem ma_st_m (h : ∀ q, m q → m' q) (hb : ∀ n, bl' n → bl n) {q : Nat} (k : ma_st us kk pp F bl m q) : ma_st us kk pp F bl' m' q := by
  rcases k with k | k | ⟨n, k1, k2, k3, k4⟩
  · exact Or.inl (h _ k)
  · exact Or.inr (Or.inl k)
  · exact Or.inr (Or.inr ⟨n, k1, fun z => k2 (hb n z), k3, ma_ok_m h k4⟩)
theorem ma_H_s {j q : Nat} (h : ma_H us kk pp F bl m0 j q) : ma_H us kk pp F bl m0 (j + 1) q := Or.inl h
theorem ma_H_le {i j q : Nat} (hij : i ≤ j) (h : ma_H us kk pp F bl m0 i q) : ma_H us kk pp F bl m0 j q := by
  obtain ⟨d, rfl⟩ : ∃ d, j = i + d := ⟨j - i, by omega⟩
  clear hij
  induction d with
  | zero => exact h
  | succ d ih => exact ma_H_s ih
theorem ma_G_0 {q : Nat} (h : m0 q) : ma_G us kk pp F bl m0 q := ⟨0, h⟩
theorem ma_G_F {q : Nat} (h : F q) : ma_G us kk pp F bl m0 q := ⟨1, Or.inr (Or.inl h)⟩
theorem ma_G_ok {n : Nat} (h : ma_ok us kk pp (ma_G us kk pp F bl m0) n) : ∃ j, ma_ok us kk pp (ma_H us kk pp F bl m0 j) n := by
  have key : ∀ i, 1 ≤ i → i ≤ 3 → ∃ j, us (4 * n + i) → kk (4 * n + i) = 1 → ma_H us kk pp F bl m0 j (pp (4 * n + i)) := by
    intro i h1 h2
    by_cases c : us (4 * n + i) ∧ kk (4 * n + i) = 1
    · obtain ⟨j, hj⟩ := h i h1 h2 c.1 c.2
      exact ⟨j, fun _ _ => hj⟩
    · exact ⟨0, fun a b => absurd ⟨a, b⟩ c⟩
  obtain ⟨j1, e1⟩ := key 1 (by omega) (by omega)
  obtain ⟨j2, e2⟩ := key 2 (by omega) (by omega)
  obtain ⟨j3, e3⟩ := key 3 (by omega) (by omega)
  refine ⟨j1 + j2 + j3, fun i h1 h2 h3 h4 => ?_⟩
  have hi : i = 1 ∨ i = 2 ∨ i = 3 := by omega
  rcases hi with rfl | rfl | rfl
  · exact ma_H_le (by omega) (e1 h3 h4)
  · exact ma_H_le (by omega) (e2 h3 h4)
  · exact ma_H_le (by omega) (e3 h3 h4)
theorem ma_G_r {n : Nat} (h1 : us (4 * n)) (h2 : ¬ bl n) (h : ma_ok us kk pp (ma_G us kk pp F bl m0) n) : ma_G us kk pp F bl m0 (pp (4 * n)) := by
  obtain ⟨j, hj⟩ := ma_G_ok h
  exact ⟨j + 1, Or.inr (Or.inr ⟨n, h1, h2, rfl, hj⟩)⟩
theorem ma_G_st {q : Nat} (h : ma_st us kk pp F bl (ma_G us kk pp F bl m0) q) : ma_G us kk pp F bl m0 q := by
  rcases h with h | h | ⟨n, h1, h2, h3, h4⟩
  · exact h
  · exact ma_G_F h
  · rw [← h3]; exact ma_G_r h1 h2 h4
theorem ma_H_l (h0 : ∀ q, m0 q → Z q) (hF : ∀ q, F q → Z q) (hr : ∀ n, us (4 * n) → ¬ bl n → ma_ok us kk pp Z n → Z (pp (4 * n))) : ∀ j q, ma_H us kk pp F bl m0 j q → Z q := by
  intro j
  induction j with
  | zero => exact h0
  | succ j ih =>
    intro q h
    rcases h with h | h | ⟨n, h1, h2, h3, h4⟩
    · exact ih q h
    · exact hF q h
    · rw [← h3]; exact hr n h1 h2 (ma_ok_m ih h4)
theorem ma_G_l (h0 : ∀ q, m0 q → Z q) (hF : ∀ q, F q → Z q) (hr : ∀ n, us (4 * n) → ¬ bl n → ma_ok us kk pp Z n → Z (pp (4 * n))) {q : Nat} (h : ma_G us kk pp F bl m0 q) : Z q := by
  obtain ⟨j, h⟩ := h
  exact ma_H_l h0 hF hr j q h
theorem ma_G_anti (hb : ∀ n, bl n → bl' n) {q : Nat} (h : ma_G us kk pp F bl' m0 q) : ma_G us kk pp F bl m0 q :=
  ma_G_l (fun _ z => ma_G_0 z) (fun _ z => ma_G_F z) (fun _ k1 k2 k3 => ma_G_r k1 (fun z => k2 (hb _ z)) k3) h
/-- seeds that are derived anyway change nothing -/
theorem ma_G_seed (h0 : ∀ q, m0 q → ma_G us kk pp F bl (fun _ => False) q) (q : Nat) : ma_G us kk pp F bl m0 q ↔ ma_G us kk pp F bl (fun _ => False) q := by
  constructor
  · exact fun h => ma_G_l h0 (fun _ z => ma_G_F z) (fun _ k1 k2 k3 => ma_G_r k1 k2 k3) h
  · exact fun h => ma_G_l (fun _ z => z.elim) (fun _ z => ma_G_F z) (fun _ k1 k2 k3 => ma_G_r k1 k2 k3) h
/-- a step that changes nothing below M ends the growth -/
theorem ma_H_fix {M : Nat} (hM : ∀ s, us s → pp s < M) {j : Nat} (h : ∀ q, q < M → ma_H us kk pp F bl m0 (j + 1) q → ma_H us kk pp F bl m0 j q) : ∀ q, q < M → (ma_G us kk pp F bl m0 q ↔ ma_H us kk pp F bl m0 j q) := by
  have key : ∀ d q, q < M → ma_H us kk pp F bl m0 (j + d) q → ma_H us kk pp F bl m0 j q := by
    intro d
    induction d with
    | zero => intro q _ k; exact k
    | succ d ih =>
      intro q hq k
      rcases k with k | k | ⟨n, k1, k2, k3, k4⟩
      · exact ih q hq k
      · exact h q hq (Or.inr (Or.inl k))
      · exact h q hq (Or.inr (Or.inr ⟨n, k1, k2, k3, fun i a b c e => ih _ (hM _ c) (k4 i a b c e)⟩))
  intro q hq
  constructor
  · intro ⟨i, hi⟩
    exact key i q hq (ma_H_le (by omega) hi)
  · exact fun z => ⟨j, z⟩
end S
/-- ground rules blocked by a set of atoms at negated literals -/
def ma_bl (us : Nat → Prop) (kk pp : Nat → Nat) (s : Nat → Prop) (n : Nat) : Prop := ∃ i, 1 ≤ i ∧ i ≤ 3 ∧ us (4 * n + i) ∧ kk (4 * n + i) = 2 ∧ s (pp (4 * n + i))
theorem ma_bl_m {us : Nat → Prop} {kk pp : Nat → Nat} {s s' : Nat → Prop} (h : ∀ q, s q → s' q) {n : Nat} (k : ma_bl us kk pp s n) : ma_bl us kk pp s' n := by
  obtain ⟨i, h1, h2, h3, h4, h5⟩ := k
  exact ⟨i, h1, h2, h3, h4, h _ h5⟩
/-! two numberings of the atoms -/
section TR
variable {us : Nat → Prop} {kk aa pp w : Nat → Nat} {N : Nat} {FX FY bX bY mX mY : Nat → Prop}
theorem ma_tr (ha : ∀ s, us s → aa s < N) (hp : ∀ s, us s → pp s = w (aa s)) (hw : ∀ a b, a < N → b < N → w a = w b → a = b) (hF : ∀ a, a < N → (FX a ↔ FY (w a))) (hb : ∀ n, us (4 * n) → (bX n ↔ bY n)) (hm : ∀ a, a < N → (mX a ↔ mY (w a))) : ∀ j a, a < N → (ma_H us kk aa FX bX mX j a ↔ ma_H us kk pp FY bY mY j (w a)) := by
  intro j
  induction j with
  | zero => exact hm
  | succ j ih =>
    intro a hA
    have hok : ∀ n, ma_ok us kk aa (ma_H us kk aa FX bX mX j) n ↔ ma_ok us kk pp (ma_H us kk pp FY bY mY j) n := by
      intro n
      constructor
      · intro k i h1 h2 h3 h4
        rw [hp _ h3]
        exact (ih _ (ha _ h3)).mp (k i h1 h2 h3 h4)
      · intro k i h1 h2 h3 h4
        have := k i h1 h2 h3 h4
        rw [hp _ h3] at this
        exact (ih _ (ha _ h3)).mpr this
    constructor
    · rintro (h | h | ⟨n, h1, h2, h3, h4⟩)
      · exact Or.inl ((ih a hA).mp h)
      · exact Or.inr (Or.inl ((hF a hA).mp h))
      · exact Or.inr (Or.inr ⟨n, h1, fun z => h2 ((hb n h1).mpr z), by rw [hp _ h1, h3], (hok n).mp h4⟩)
    · rintro (h | h | ⟨n, h1, h2, h3, h4⟩)
      · exact Or.inl ((ih a hA).mpr h)
      · exact Or.inr (Or.inl ((hF a hA).mpr h))
      · refine Or.inr (Or.inr ⟨n, h1, fun z => h2 ((hb n h1).mp z), hw _ _ (ha _ h1) hA ?_, (hok n).mpr h4⟩)
        rw [← hp _ h1, h3]
end TR
end
section
/-! the alternating rounds: T certain, P possible; values, stages, heights behind k rounds -/
def ro_g (us : Nat → Prop) (kk pp : Nat → Nat) (F s : Nat → Prop) : Nat → Prop := ma_G us kk pp F (ma_bl us kk pp s) (fun _ => False)
def ro_T (us : Nat → Prop) (kk pp : Nat → Nat) (F : Nat → Prop) : Nat → Nat → Prop
  | 0 => fun _ => False
  | k + 1 => ro_g us kk pp F (ro_g us kk pp F (ro_T us kk pp F k))
def ro_P (us : Nat → Prop) (kk pp : Nat → Nat) (F : Nat → Prop) (k : Nat) : Nat → Prop := ro_g us kk pp F (ro_T us kk pp F k)
/-- the iterates from the certain atoms of round k -/
def ro_H (us : Nat → Prop) (kk pp : Nat → Nat) (F : Nat → Prop) (k : Nat) : Nat → Nat → Prop := ma_H us kk pp F (ma_bl us kk pp (ro_P us kk pp F k)) (ro_T us kk pp F k)
noncomputable def ro_w (us : Nat → Prop) (kk pp : Nat → Nat) (F : Nat → Prop) (k q : Nat) : Int32 := ma_if (ro_T us kk pp F k q) 1 (ma_if (ro_P us kk pp F k q) 2 0)
noncomputable def ro_v (us : Nat → Prop) (kk pp : Nat → Nat) (F : Nat → Prop) : Nat → Nat → Int32
  | 0, _ => 2
  | k + 1, q => ma_if (ro_T us kk pp F (k + 1) q) 1 (ma_if (ro_P us kk pp F k q) 2 0)
noncomputable def ro_s (us : Nat → Prop) (kk pp : Nat → Nat) (F : Nat → Prop) : Nat → Nat → Int32
  | 0, _ => 0
  | k + 1, q => ma_if (ro_w us kk pp F k q = 2) (ma_if (ro_T us kk pp F (k + 1) q) (nI (k + 1)) 0) (ma_if (ro_v us kk pp F k q = 2) (ma_if (ro_P us kk pp F k q) 0 (nI (k + 1))) (ro_s us kk pp F k q))
noncomputable def ro_t (us : Nat → Prop) (kk pp : Nat → Nat) (F : Nat → Prop) (k q : Nat) : Int32 := ma_if (ro_v us kk pp F k q = 2) (ma_if (ro_P us kk pp F k q) 0 (nI (k + 1))) (ro_s us kk pp F k q)
noncomputable def ro_h (us : Nat → Prop) (kk pp : Nat → Nat) (F : Nat → Prop) : Nat → Nat → Int32
  | 0, _ => 0
  | k + 1, q => ma_if (ro_w us kk pp F k q = 2) (ma_if (ro_T us kk pp F (k + 1) q) (nI (ma_rk fun j => ro_H us kk pp F k j q)) 0) (ro_h us kk pp F k q)
section R
variable {us : Nat → Prop} {kk pp : Nat → Nat} {F s s' : Nat → Prop}
theorem ro_anti (h : ∀ q, s q → s' q) (q : Nat) (k : ro_g us kk pp F s' q) : ro_g us kk pp F s q := ma_G_anti (fun _ z => ma_bl_m h z) k
theorem ro_TT : ∀ k q, ro_T us kk pp F k q → ro_T us kk pp F (k + 1) q := by
  intro k
  induction k with
  | zero => exact fun _ z => z.elim
  | succ k ih => exact fun q z => ro_anti (fun q z => ro_anti ih q z) q z
theorem ro_TP' : ∀ k, (∀ q, ro_T us kk pp F k q → ro_P us kk pp F k q) := by
  intro k
  induction k with
  | zero => exact fun _ z => z.elim
  | succ k ih =>
    have h : ∀ q, ro_T us kk pp F (k + 1) q → ro_P us kk pp F k q := fun q z => ro_anti ih q z
    exact fun q z => ro_anti h q z
theorem ro_TP (k q : Nat) (h : ro_T us kk pp F k q) : ro_P us kk pp F k q := ro_TP' k q h
theorem ro_TsP (k q : Nat) (h : ro_T us kk pp F (k + 1) q) : ro_P us kk pp F k q := ro_anti (ro_TP' k) q h
theorem ro_PP (k q : Nat) (h : ro_P us kk pp F (k + 1) q) : ro_P us kk pp F k q := ro_anti (ro_TT k) q h
/-- the iterates from the certain atoms reach exactly the next certain atoms -/
theorem ro_HT (k q : Nat) : (∃ j, ro_H us kk pp F k j q) ↔ ro_T us kk pp F (k + 1) q := ma_G_seed (fun q z => ro_TT k q z) q
theorem ro_w1 {k q : Nat} (h : ro_T us kk pp F k q) : ro_w us kk pp F k q = 1 := ma_ift h
theorem ro_w2 {k q : Nat} (h : ¬ ro_T us kk pp F k q) (h' : ro_P us kk pp F k q) : ro_w us kk pp F k q = 2 := by
  unfold ro_w; rw [ma_iff h, ma_ift h']
theorem ro_w0 {k q : Nat} (h' : ¬ ro_P us kk pp F k q) : ro_w us kk pp F k q = 0 := by
  unfold ro_w; rw [ma_iff (fun z => h' (ro_TP k q z)), ma_iff h']
theorem ro_v1 {k q : Nat} (h : ro_T us kk pp F k q) : ro_v us kk pp F k q = 1 := by
  cases k with
  | zero => exact h.elim
  | succ k => exact ma_ift h
theorem ro_v2 {k q : Nat} (h : ¬ ro_T us kk pp F (k + 1) q) (h' : ro_P us kk pp F k q) : ro_v us kk pp F (k + 1) q = 2 := by
  show ma_if _ _ _ = _
  rw [ma_iff h, ma_ift h']
theorem ro_v0 {k q : Nat} (h' : ¬ ro_P us kk pp F k q) : ro_v us kk pp F (k + 1) q = 0 := by
  show ma_if _ _ _ = _
  rw [ma_iff (fun z => h' (ro_TsP k q z)), ma_iff h']
theorem ro_w012 (k q : Nat) : (ro_w us kk pp F k q = 1 ∧ ro_T us kk pp F k q ∧ ro_P us kk pp F k q) ∨ (ro_w us kk pp F k q = 2 ∧ ¬ ro_T us kk pp F k q ∧ ro_P us kk pp F k q) ∨ (ro_w us kk pp F k q = 0 ∧ ¬ ro_T us kk pp F k q ∧ ¬ ro_P us kk pp F k q) := by
  by_cases h : ro_P us kk pp F k q
  · by_cases h1 : ro_T us kk pp F k q
    · exact Or.inl ⟨ro_w1 h1, h1, h⟩
    · exact Or.inr (Or.inl ⟨ro_w2 h1 h, h1, h⟩)
  · exact Or.inr (Or.inr ⟨ro_w0 h, fun z => h (ro_TP k q z), h⟩)
/-- the value ahead of round k + 1, beside the possible atoms of that round -/
theorem ro_v012 (k q : Nat) : (ro_v us kk pp F k q = 1 ∧ ro_T us kk pp F k q ∧ ro_P us kk pp F k q) ∨ (ro_v us kk pp F k q = 2 ∧ ¬ ro_T us kk pp F k q) ∨ (ro_v us kk pp F k q = 0 ∧ ¬ ro_T us kk pp F k q ∧ ¬ ro_P us kk pp F k q) := by
  cases k with
  | zero => exact Or.inr (Or.inl ⟨rfl, fun z => z⟩)
  | succ k =>
    by_cases h : ro_T us kk pp F (k + 1) q
    · exact Or.inl ⟨ro_v1 h, h, ro_TP _ _ h⟩
    · by_cases h1 : ro_P us kk pp F k q
      · exact Or.inr (Or.inl ⟨ro_v2 h h1, h⟩)
      · exact Or.inr (Or.inr ⟨ro_v0 h1, h, fun z => h1 (ro_PP k q z)⟩)
theorem ro_d : (1 : Int32) ≠ 2 ∧ (0 : Int32) ≠ 2 ∧ (0 : Int32) ≠ 1 := by decide
theorem ro_vT {k q : Nat} : ro_v us kk pp F k q = 1 ↔ ro_T us kk pp F k q := by
  rcases ro_v012 (us := us) (kk := kk) (pp := pp) (F := F) k q with ⟨h, h1, _⟩ | ⟨h, h1⟩ | ⟨h, h1, _⟩
  · exact ⟨fun _ => h1, fun _ => h⟩
  · exact ⟨fun z => absurd (z.symm.trans h) (by decide), fun z => absurd z h1⟩
  · exact ⟨fun z => absurd (z.symm.trans h) (by decide), fun z => absurd z h1⟩
theorem ro_wP {k q : Nat} : ro_w us kk pp F k q = 0 ↔ ¬ ro_P us kk pp F k q := by
  rcases ro_w012 (us := us) (kk := kk) (pp := pp) (F := F) k q with ⟨h, _, h1⟩ | ⟨h, _, h1⟩ | ⟨h, _, h1⟩
  · exact ⟨fun z => absurd (z.symm.trans h) (by decide), fun z => absurd h1 z⟩
  · exact ⟨fun z => absurd (z.symm.trans h) (by decide), fun z => absurd h1 z⟩
  · exact ⟨fun _ => h1, fun _ => h⟩
theorem ro_wT {k q : Nat} : ro_w us kk pp F k q = 1 ↔ ro_T us kk pp F k q := by
  rcases ro_w012 (us := us) (kk := kk) (pp := pp) (F := F) k q with ⟨h, h1, _⟩ | ⟨h, h1, _⟩ | ⟨h, h1, _⟩
  · exact ⟨fun _ => h1, fun _ => h⟩
  · exact ⟨fun z => absurd (z.symm.trans h) (by decide), fun z => absurd z h1⟩
  · exact ⟨fun z => absurd (z.symm.trans h) (by decide), fun z => absurd z h1⟩
/-- the false phase: a value 2 that isn't possible becomes 0 -/
theorem ro_fa {k q : Nat} (h : ro_v us kk pp F k q = 2) (h' : ¬ ro_P us kk pp F k q) : ro_w us kk pp F k q = 0 ∧ ro_t us kk pp F k q = nI (k + 1) := by
  refine ⟨ro_w0 h', ?_⟩
  unfold ro_t
  rw [ma_ift h, ma_iff h']
theorem ro_s2 : ∀ {k q : Nat}, ro_v us kk pp F k q = 2 → ro_s us kk pp F k q = 0 ∧ ro_h us kk pp F k q = 0 := by
  intro k
  induction k with
  | zero => exact fun _ => ⟨rfl, rfl⟩
  | succ k ih =>
    intro q h
    rcases ro_v012 (us := us) (kk := kk) (pp := pp) (F := F) (k + 1) q with ⟨z, _⟩ | ⟨_, h1⟩ | ⟨z, _⟩
    · exact absurd (z.symm.trans h) (by decide)
    · have hp : ro_P us kk pp F k q := by
        by_cases hp : ro_P us kk pp F k q
        · exact hp
        · exact absurd ((ro_v0 hp).symm.trans h) (by decide)
      have hw : ro_w us kk pp F k q = 2 := ro_w2 (fun z => h1 (ro_TT k q z)) hp
      constructor
      · show ma_if _ _ _ = _
        rw [ma_ift hw, ma_iff h1]
      · show ma_if _ _ _ = _
        rw [ma_ift hw, ma_iff h1]
    · exact absurd (z.symm.trans h) (by decide)
theorem ro_fb {k q : Nat} (h : ¬ (ro_v us kk pp F k q = 2 ∧ ¬ ro_P us kk pp F k q)) : ro_w us kk pp F k q = ro_v us kk pp F k q ∧ ro_t us kk pp F k q = ro_s us kk pp F k q := by
  rcases ro_v012 (us := us) (kk := kk) (pp := pp) (F := F) k q with ⟨h0, h1, h2⟩ | ⟨h0, h1⟩ | ⟨h0, h1, h2⟩
  · refine ⟨by rw [h0, ro_w1 h1], ?_⟩
    unfold ro_t
    rw [ma_iff (fun z => absurd (h0.symm.trans z) (by decide))]
  · have hp : ro_P us kk pp F k q := by
      by_cases hp : ro_P us kk pp F k q
      · exact hp
      · exact absurd ⟨h0, hp⟩ h
    refine ⟨by rw [h0, ro_w2 h1 hp], ?_⟩
    unfold ro_t
    rw [ma_ift h0, ma_ift hp, (ro_s2 h0).1]
  · refine ⟨by rw [h0, ro_w0 h2], ?_⟩
    unfold ro_t
    rw [ma_iff (fun z => absurd (h0.symm.trans z) (by decide))]
theorem ro_t2 {k q : Nat} (h : ro_w us kk pp F k q = 2) : ro_v us kk pp F k q = 2 ∧ ro_P us kk pp F k q ∧ ro_t us kk pp F k q = 0 ∧ ro_h us kk pp F k q = 0 := by
  have hp : ro_P us kk pp F k q := by
    by_cases hp : ro_P us kk pp F k q
    · exact hp
    · exact absurd ((ro_w0 hp).symm.trans h) (by decide)
  have hv : ro_v us kk pp F k q = 2 := by
    have := (ro_fb (us := us) (kk := kk) (pp := pp) (F := F) (k := k) (q := q) (fun z => z.2 hp)).1
    rw [← this]; exact h
  refine ⟨hv, hp, ?_, (ro_s2 hv).2⟩
  unfold ro_t
  rw [ma_ift hv, ma_ift hp]
/-- the true phase -/
theorem ro_ta {k q : Nat} (h : ro_w us kk pp F k q = 2) (h' : ro_T us kk pp F (k + 1) q) : ro_v us kk pp F (k + 1) q = 1 ∧ ro_s us kk pp F (k + 1) q = nI (k + 1) ∧ ro_h us kk pp F (k + 1) q = nI (ma_rk fun j => ro_H us kk pp F k j q) := by
  refine ⟨ro_v1 h', ?_, ?_⟩
  · show ma_if _ _ _ = _
    rw [ma_ift h, ma_ift h']
  · show ma_if _ _ _ = _
    rw [ma_ift h, ma_ift h']
theorem ro_tb {k q : Nat} (h : ¬ (ro_w us kk pp F k q = 2 ∧ ro_T us kk pp F (k + 1) q)) : ro_v us kk pp F (k + 1) q = ro_w us kk pp F k q ∧ ro_s us kk pp F (k + 1) q = ro_t us kk pp F k q ∧ ro_h us kk pp F (k + 1) q = ro_h us kk pp F k q := by
  by_cases hw : ro_w us kk pp F k q = 2
  · have h1 : ¬ ro_T us kk pp F (k + 1) q := fun z => h ⟨hw, z⟩
    obtain ⟨_, e2, e3, e4⟩ := ro_t2 hw
    refine ⟨by rw [hw, ro_v2 h1 e2], ?_, ?_⟩
    · show ma_if _ _ _ = _
      rw [ma_ift hw, ma_iff h1, e3]
    · show ma_if _ _ _ = _
      rw [ma_ift hw, ma_iff h1, e4]
  · refine ⟨?_, ?_, ?_⟩
    · rcases ro_w012 (us := us) (kk := kk) (pp := pp) (F := F) k q with ⟨h0, h1, h2⟩ | ⟨h0, h1⟩ | ⟨h0, h1, h2⟩
      · rw [h0, ro_v1 (ro_TT k q h1)]
      · exact absurd h0 hw
      · rw [h0, ro_v0 h2]
    · show ma_if _ _ _ = _
      rw [ma_iff hw]
      rfl
    · show ma_if _ _ _ = _
      rw [ma_iff hw]
/-- a value is still undecided exactly if its stage is 0 -/
theorem ro_s0 : ∀ {k q : Nat}, k + 1 < 2 ^ 31 → (ro_s us kk pp F k q = 0 ↔ ro_v us kk pp F k q = 2) ∧ (ro_t us kk pp F k q = 0 ↔ ro_w us kk pp F k q = 2) := by
  intro k
  induction k with
  | zero =>
    intro q _
    refine ⟨⟨fun _ => rfl, fun _ => rfl⟩, ?_⟩
    by_cases c : ro_P us kk pp F 0 q
    · have := ro_fb (us := us) (kk := kk) (pp := pp) (F := F) (k := 0) (q := q) (fun z => z.2 c)
      rw [this.1, this.2]
      exact ⟨fun _ => rfl, fun _ => rfl⟩
    · have := ro_fa (us := us) (kk := kk) (pp := pp) (F := F) (k := 0) (q := q) rfl c
      rw [this.1, this.2]
      exact ⟨fun z => absurd z (by decide), fun z => absurd z (by decide)⟩
  | succ k ih =>
    intro q hk
    have h1 : ro_s us kk pp F (k + 1) q = 0 ↔ ro_v us kk pp F (k + 1) q = 2 := by
      by_cases c : ro_w us kk pp F k q = 2 ∧ ro_T us kk pp F (k + 1) q
      · obtain ⟨e1, e2, _⟩ := ro_ta c.1 c.2
        rw [e1, e2]
        exact ⟨fun z => absurd z (nI_ne0 (by omega) (by omega)), fun z => absurd z (by decide)⟩
      · obtain ⟨e1, e2, _⟩ := ro_tb c
        rw [e1, e2]
        exact (ih (by omega)).2
    refine ⟨h1, ?_⟩
    by_cases c : ro_v us kk pp F (k + 1) q = 2 ∧ ¬ ro_P us kk pp F (k + 1) q
    · obtain ⟨e1, e2⟩ := ro_fa c.1 c.2
      rw [e1, e2]
      exact ⟨fun z => absurd z (nI_ne0 (by omega) (by omega)), fun z => absurd z (by decide)⟩
    · obtain ⟨e1, e2⟩ := ro_fb c
      rw [e1, e2]
      exact h1
/-- where the rounds end -/
theorem ro_end {M cap : Nat} (hc : ∀ k, ma_cn (ro_T us kk pp F k) M ≤ cap) : ∃ K, K ≤ cap ∧ (∀ q, q < M → ro_T us kk pp F (K + 1) q → ro_T us kk pp F K q) ∧ ∀ k, k < K → ∃ q, q < M ∧ ro_T us kk pp F (k + 1) q ∧ ¬ ro_T us kk pp F k q := by
  have ex : ∃ K, K ≤ cap ∧ (∀ q, q < M → ro_T us kk pp F (K + 1) q → ro_T us kk pp F K q) := by
    by_cases c : ∃ K, K ≤ cap ∧ (∀ q, q < M → ro_T us kk pp F (K + 1) q → ro_T us kk pp F K q)
    · exact c
    · have gr : ∀ k, k ≤ cap + 1 → k ≤ ma_cn (ro_T us kk pp F k) M := by
        intro k
        induction k with
        | zero => intro _; exact Nat.zero_le _
        | succ k ih =>
          intro hk
          have h1 := ih (by omega)
          have h2 : ma_cn (ro_T us kk pp F k) M < ma_cn (ro_T us kk pp F (k + 1)) M := by
            refine ma_cn_lt (fun q _ z => ro_TT k q z) ?_
            by_cases d : ∃ q, q < M ∧ ro_T us kk pp F (k + 1) q ∧ ¬ ro_T us kk pp F k q
            · exact d
            · exact absurd ⟨k, by omega, fun q hq z => by
                by_cases y : ro_T us kk pp F k q
                · exact y
                · exact absurd ⟨q, hq, z, y⟩ d⟩ c
          omega
      have h1 := gr (cap + 1) (Nat.le_refl _)
      have h2 := hc (cap + 1)
      omega
  obtain ⟨K, ⟨h1, h2⟩, h3⟩ := pk_least _ ex
  refine ⟨K, h1, h2, fun k hk => ?_⟩
  by_cases d : ∃ q, q < M ∧ ro_T us kk pp F (k + 1) q ∧ ¬ ro_T us kk pp F k q
  · exact d
  · exact absurd ⟨by omega, fun q hq z => by
      by_cases y : ro_T us kk pp F k q
      · exact y
      · exact absurd ⟨q, hq, z, y⟩ d⟩ (h3 k hk)
/-- what the certain and the possible atoms lie within -/
theorem ro_in {Z : Nat → Prop} (hF : ∀ q, F q → Z q) (hr : ∀ s, us s → Z (pp s)) {s : Nat → Prop} {q : Nat} (h : ro_g us kk pp F s q) : Z q := ma_G_l (fun _ z => z.elim) hF (fun _ k1 _ _ => hr _ k1) h
theorem ro_inT {Z : Nat → Prop} (hF : ∀ q, F q → Z q) (hr : ∀ s, us s → Z (pp s)) {k q : Nat} (h : ro_T us kk pp F k q) : Z q := by
  cases k with
  | zero => exact h.elim
  | succ k => exact ro_in hF hr h
end R
end
section
/-! the program's numbers: cells, slots, atoms (of the component), positions (of the reference) -/
def pg_c (s : Nat) : Nat := 4 * (s / 64) + s % 4
def pg_bd (t x y : Nat) : Nat := if t = 4 then x else if t = 5 then y else t
def pg_us (C n : Nat) (ln : Nat → Nat) (s : Nat) : Prop := s < 64 * n ∧ s / 16 % 4 < C ∧ s / 4 % 4 < C ∧ s % 4 ≤ ln (s / 64)
def pg_kk (kd : Nat → Nat) (s : Nat) : Nat := kd (pg_c s)
def pg_at (C U p a b : Nat) : Nat := if p < U then p * C + a else U * C + ((p - U) * C + a) * C + b
def pg_ps (U p a b : Nat) : Nat := if p < U then 16 * p + 4 * a else 16 * p + 4 * a + b
def pg_aa (C U : Nat) (pd fs sn : Nat → Nat) (s : Nat) : Nat := pg_at C U (pd (pg_c s)) (pg_bd (fs (pg_c s)) (s / 16 % 4) (s / 4 % 4)) (pg_bd (sn (pg_c s)) (s / 16 % 4) (s / 4 % 4))
def pg_pp (pd fs sn : Nat → Nat) (s : Nat) : Nat := 16 * pd (pg_c s) + 4 * pg_bd (fs (pg_c s)) (s / 16 % 4) (s / 4 % 4) + pg_bd (sn (pg_c s)) (s / 16 % 4) (s / 4 % 4)
def pg_N (C U B : Nat) : Nat := U * C + B * C * C
def pg_w (C U a : Nat) : Nat := if a < U * C then 16 * (a / C) + 4 * (a % C) else 16 * (U + (a - U * C) / C / C) + 4 * ((a - U * C) / C % C) + (a - U * C) % C
def pg_f (C U q : Nat) : Nat := if q / 16 < U then q / 16 * C + q / 4 % 4 else U * C + ((q / 16 - U) * C + q / 4 % 4) * C + q % 4
def pg_gd (C U B q : Nat) : Prop := q / 16 < U + B ∧ q / 4 % 4 < C ∧ (q / 16 < U → q % 4 = 0) ∧ (U ≤ q / 16 → q % 4 < C)
def pg_sz (C U B : Nat) : Prop := 2 ≤ C ∧ C ≤ 4 ∧ 1 ≤ U ∧ U ≤ 4 ∧ 1 ≤ B ∧ B ≤ 2
theorem pg_C3 {C U B : Nat} (h : pg_sz C U B) : (C = 2 ∨ C = 3 ∨ C = 4) ∧ (B = 1 ∨ B = 2) ∧ 1 ≤ U ∧ U ≤ 4 := by
  obtain ⟨h1, h2, h3, h4, h5, h6⟩ := h
  omega
theorem pg_N48 {C U B : Nat} (h : pg_sz C U B) : pg_N C U B ≤ 48 ∧ 0 < pg_N C U B := by
  obtain ⟨hc, hb, h1, h2⟩ := pg_C3 h
  unfold pg_N
  rcases hc with rfl | rfl | rfl <;> rcases hb with rfl | rfl <;> omega
theorem pg_at_w {C U B p a b : Nat} (h : pg_sz C U B) (hp : p < U + B) (ha : a < C) (hb : U ≤ p → b < C) : pg_at C U p a b < pg_N C U B ∧ pg_w C U (pg_at C U p a b) = pg_ps U p a b := by
  obtain ⟨hc, hB, h1, h2⟩ := pg_C3 h
  unfold pg_at pg_w pg_ps pg_N
  by_cases c : p < U
  · rw [if_pos c, if_pos c]
    have e : p * C + a < U * C := by
      rcases hc with rfl | rfl | rfl <;> omega
    rw [if_pos e]
    rcases hc with rfl | rfl | rfl <;> rcases hB with rfl | rfl <;> omega
  · rw [if_neg c, if_neg c]
    have hb := hb (by omega)
    have e : ¬ U * C + ((p - U) * C + a) * C + b < U * C := by omega
    rw [if_neg e]
    have e2 : U * C + ((p - U) * C + a) * C + b - U * C = ((p - U) * C + a) * C + b := by omega
    rw [e2]
    rcases hc with rfl | rfl | rfl <;> rcases hB with rfl | rfl <;> omega
theorem pg_w_gd {C U B a : Nat} (h : pg_sz C U B) (ha : a < pg_N C U B) : pg_gd C U B (pg_w C U a) ∧ pg_w C U a < 96 ∧ pg_f C U (pg_w C U a) = a := by
  obtain ⟨hc, hB, h1, h2⟩ := pg_C3 h
  unfold pg_N at ha
  unfold pg_gd pg_w
  by_cases c : a < U * C
  · rw [if_pos c]
    have e : (16 * (a / C) + 4 * (a % C)) / 16 = a / C ∧ (16 * (a / C) + 4 * (a % C)) / 4 % 4 = a % C ∧ (16 * (a / C) + 4 * (a % C)) % 4 = 0 ∧ a / C < U ∧ a % C < C := by
      rcases hc with rfl | rfl | rfl <;> omega
    obtain ⟨e1, e2, e3, e4, e5⟩ := e
    refine ⟨⟨by omega, by omega, fun _ => e3, fun z => by omega⟩, by omega, ?_⟩
    unfold pg_f
    rw [if_pos (by omega), e1, e2]
    rcases hc with rfl | rfl | rfl <;> omega
  · rw [if_neg c]
    obtain ⟨t, rfl⟩ : ∃ t, a = U * C + t := ⟨a - U * C, by omega⟩
    have e0 : U * C + t - U * C = t := by omega
    rw [e0]
    have ht : t < B * C * C := by omega
    have e : (16 * (U + t / C / C) + 4 * (t / C % C) + t % C) / 16 = U + t / C / C ∧ (16 * (U + t / C / C) + 4 * (t / C % C) + t % C) / 4 % 4 = t / C % C ∧ (16 * (U + t / C / C) + 4 * (t / C % C) + t % C) % 4 = t % C ∧ t / C / C < B ∧ t % C < C ∧ t / C % C < C := by
      rcases hc with rfl | rfl | rfl <;> rcases hB with rfl | rfl <;> omega
    obtain ⟨e1, e2, e3, e4, e5, e6⟩ := e
    have eU : ¬ U + t / C / C < U := Nat.not_lt.mpr (Nat.le_add_right _ _)
    refine ⟨⟨by rw [e1]; exact Nat.add_lt_add_left e4 U, by rw [e2]; exact e6, fun z => absurd z (by rw [e1]; exact eU), fun z => by rw [e3]; exact e5⟩, by omega, ?_⟩
    unfold pg_f
    rw [e1, if_neg eU, e2, e3]
    have e7 : U + t / C / C - U = t / C / C := Nat.add_sub_cancel_left _ _
    rw [e7]
    rcases hc with rfl | rfl | rfl <;> omega
theorem pg_w_in {C U B a : Nat} (h : pg_sz C U B) (ha : a < pg_N C U B) : pg_w C U a < 96 := (pg_w_gd h ha).2.1
theorem pg_w_inj {C U B : Nat} (h : pg_sz C U B) (a b : Nat) (ha : a < pg_N C U B) (hb : b < pg_N C U B) (e : pg_w C U a = pg_w C U b) : a = b := by
  rw [← (pg_w_gd h ha).2.2, e, (pg_w_gd h hb).2.2]
theorem pg_w_sur {C U B q : Nat} (h : pg_sz C U B) (hq : pg_gd C U B q) : ∃ a, a < pg_N C U B ∧ pg_w C U a = q := by
  obtain ⟨q1, q2, q3, q4⟩ := hq
  refine ⟨pg_at C U (q / 16) (q / 4 % 4) (q % 4), ?_⟩
  obtain ⟨e1, e2⟩ := pg_at_w (b := q % 4) h q1 q2 q4
  refine ⟨e1, e2.trans ?_⟩
  unfold pg_ps
  by_cases c : q / 16 < U
  · rw [if_pos c]
    have := q3 c
    omega
  · rw [if_neg c]
    omega
theorem pg_ps_gd {C U B p a b : Nat} (h : pg_sz C U B) (hp : p < U + B) (ha : a < C) (hb : U ≤ p → b < C) : pg_gd C U B (pg_ps U p a b) ∧ pg_ps U p a b < 96 := by
  obtain ⟨e1, e2⟩ := pg_at_w h hp ha hb
  rw [← e2]
  exact ⟨(pg_w_gd h e1).1, (pg_w_gd h e1).2.1⟩
/-- a good program -/
def pg_ok (C U B n : Nat) (ln kd pd fs sn : Nat → Nat) : Prop := pg_sz C U B ∧ n ≤ 8 ∧ (∀ r, r < 9 → ln r ≤ 3) ∧ (∀ c, c < 36 → pd c < U + B ∧ (fs c < C ∨ fs c = 4 ∨ fs c = 5) ∧ (sn c < C ∨ sn c = 4 ∨ sn c = 5) ∧ (pd c < U → sn c = 0) ∧ kd c ≤ 2) ∧ (∀ r, r < 9 → kd (4 * r) = 0) ∧ (∀ r i, r < 9 → 1 ≤ i → i ≤ ln r → kd (4 * r + i) ≠ 0)
theorem pg_bd_lt {C t x y : Nat} (ht : t < C ∨ t = 4 ∨ t = 5) (hC : C ≤ 4) (hx : x < C) (hy : y < C) : pg_bd t x y < C := by
  unfold pg_bd
  by_cases h4 : t = 4
  · rw [if_pos h4]; exact hx
  · rw [if_neg h4]
    by_cases h5 : t = 5
    · rw [if_pos h5]; exact hy
    · rw [if_neg h5]; omega
theorem pg_b4 {t x y : Nat} (e : t = 4) : pg_bd t x y = x := by unfold pg_bd; rw [if_pos e]
theorem pg_b5 {t x y : Nat} (e : t ≠ 4) (e' : t = 5) : pg_bd t x y = y := by unfold pg_bd; rw [if_neg e, if_pos e']
theorem pg_bn {t x y : Nat} (e : t ≠ 4) (e' : t ≠ 5) : pg_bd t x y = t := by unfold pg_bd; rw [if_neg e, if_neg e']
theorem pg_bd_0 {x y : Nat} : pg_bd 0 x y = 0 := by unfold pg_bd; rw [if_neg (by omega), if_neg (by omega)]
section P
variable {C U B n : Nat} {ln kd pd fs sn : Nat → Nat}
theorem pg_us_c (K : pg_ok C U B n ln kd pd fs sn) {s : Nat} (h : pg_us C n ln s) : pg_c s < 32 ∧ s < 512 ∧ s / 64 < 8 := by
  obtain ⟨_, k2, _⟩ := K
  obtain ⟨h1, _⟩ := h
  unfold pg_c
  omega
/-- a slot in use: its atom, its position -/
theorem pg_us_a (K : pg_ok C U B n ln kd pd fs sn) {s : Nat} (h : pg_us C n ln s) : pg_aa C U pd fs sn s < pg_N C U B ∧ pg_pp pd fs sn s = pg_w C U (pg_aa C U pd fs sn s) ∧ pg_gd C U B (pg_pp pd fs sn s) ∧ pg_pp pd fs sn s < 96 := by
  have hc := (pg_us_c K h).1
  obtain ⟨k1, k2, k3, k4, k5, k6⟩ := K
  obtain ⟨h1, h2, h3, h4⟩ := h
  obtain ⟨c1, c2, c3, c4, c5⟩ := k4 (pg_c s) (by omega)
  have ha := pg_bd_lt c2 k1.2.1 h2 h3
  have hb := pg_bd_lt c3 k1.2.1 h2 h3
  obtain ⟨e1, e2⟩ := pg_at_w k1 c1 ha (fun _ => hb)
  have e3 : pg_pp pd fs sn s = pg_ps U (pd (pg_c s)) (pg_bd (fs (pg_c s)) (s / 16 % 4) (s / 4 % 4)) (pg_bd (sn (pg_c s)) (s / 16 % 4) (s / 4 % 4)) := by
    unfold pg_pp pg_ps
    by_cases c : pd (pg_c s) < U
    · rw [if_pos c, c4 c, pg_bd_0, Nat.add_zero]
    · rw [if_neg c]
  have e4 := pg_ps_gd k1 c1 ha (fun _ => hb)
  rw [e3]
  exact ⟨e1, e2.symm, e4.1, e4.2⟩
theorem pg_us_h {m i : Nat} (hi : i ≤ 3) (h : pg_us C n ln (4 * m + i)) : pg_us C n ln (4 * m) := by
  obtain ⟨h1, h2, h3, h4⟩ := h
  refine ⟨by omega, by omega, by omega, by omega⟩
theorem pg_us_k (K : pg_ok C U B n ln kd pd fs sn) {m i : Nat} (hi : i ≤ 3) (h : pg_us C n ln (4 * m + i)) : (i = 0 → pg_kk kd (4 * m + i) = 0) ∧ (1 ≤ i → pg_kk kd (4 * m + i) = 1 ∨ pg_kk kd (4 * m + i) = 2) ∧ pg_kk kd (4 * m + i) ≤ 2 := by
  have hc := pg_us_c K h
  obtain ⟨k1, k2, k3, k4, k5, k6⟩ := K
  obtain ⟨h1, h2, h3, h4⟩ := h
  have e1 : (4 * m + i) % 4 = i := by omega
  have e2 : pg_c (4 * m + i) = 4 * ((4 * m + i) / 64) + i := by unfold pg_c; rw [e1]
  have k : pg_kk kd (4 * m + i) ≤ 2 := by
    obtain ⟨_, _, _, _, z⟩ := k4 (pg_c (4 * m + i)) (by omega)
    exact z
  refine ⟨fun z => ?_, fun z => ?_, k⟩
  · show kd (pg_c (4 * m + i)) = 0
    rw [e2, z]
    exact k5 _ (by omega)
  · have : kd (pg_c (4 * m + i)) ≠ 0 := by
      rw [e2]
      exact k6 _ i (by omega) z (by omega)
    have k : kd (pg_c (4 * m + i)) ≤ 2 := k
    show kd (pg_c (4 * m + i)) = 1 ∨ kd (pg_c (4 * m + i)) = 2
    omega
/-- slots by rule, substitution, place -/
theorem pg_sl {r x y i : Nat} (hx : x < 4) (hy : y < 4) (hi : i < 4) : (64 * r + 16 * x + 4 * y + i) / 64 = r ∧ (64 * r + 16 * x + 4 * y + i) / 16 % 4 = x ∧ (64 * r + 16 * x + 4 * y + i) / 4 % 4 = y ∧ (64 * r + 16 * x + 4 * y + i) % 4 = i ∧ 64 * r + 16 * x + 4 * y + i = 4 * (16 * r + 4 * x + y) + i := by omega
theorem pg_us_i {r x y i : Nat} (hx : x < 4) (hy : y < 4) (hi : i < 4) : pg_us C n ln (4 * (16 * r + 4 * x + y) + i) ↔ (r < n ∧ x < C ∧ y < C ∧ i ≤ ln r) := by
  obtain ⟨e1, e2, e3, e4, e5⟩ := pg_sl (r := r) hx hy hi
  unfold pg_us
  rw [← e5, e1, e2, e3, e4]
  constructor
  · rintro ⟨h1, h2, h3, h4⟩
    exact ⟨by omega, h2, h3, h4⟩
  · rintro ⟨h1, h2, h3, h4⟩
    exact ⟨by omega, h2, h3, h4⟩
theorem pg_c_i {r x y i : Nat} (hx : x < 4) (hy : y < 4) (hi : i < 4) : pg_c (4 * (16 * r + 4 * x + y) + i) = 4 * r + i := by
  obtain ⟨e1, e2, e3, e4, e5⟩ := pg_sl (r := r) hx hy hi
  unfold pg_c
  rw [← e5, e1, e4]
theorem pg_pp_i {r x y i : Nat} (hx : x < 4) (hy : y < 4) (hi : i < 4) : pg_pp pd fs sn (4 * (16 * r + 4 * x + y) + i) = 16 * pd (4 * r + i) + 4 * pg_bd (fs (4 * r + i)) x y + pg_bd (sn (4 * r + i)) x y := by
  have e0 := pg_c_i (r := r) hx hy hi
  obtain ⟨e1, e2, e3, e4, e5⟩ := pg_sl (r := r) hx hy hi
  unfold pg_pp
  rw [e0, ← e5, e2, e3]
end P
end
section
/-! the occurrence lists and the counts of positive literals, in pure words -/
noncomputable def gr_ls (us : Nat → Prop) (ky : Nat → Nat) (k : Nat) : Nat → List Nat
  | 0 => []
  | s + 1 => ma_if (us s ∧ ky s = k) (gr_ls us ky k s ++ [s]) (gr_ls us ky k s)
noncomputable def gr_cu (us : Nat → Prop) (ky : Nat → Nat) (S : Nat) : Nat → Nat
  | 0 => 0
  | k + 1 => gr_cu us ky S k + (gr_ls us ky k S).length
def gr_at (oc : Nat → Int32) : Nat → List Nat → Prop
  | _, [] => True
  | e, s :: l => oc e = nI s ∧ gr_at oc (e + 1) l
section L
variable {us : Nat → Prop} {ky : Nat → Nat}
theorem gr_ls_t {k s : Nat} (h : us s) (h2 : ky s = k) : gr_ls us ky k (s + 1) = gr_ls us ky k s ++ [s] := ma_ift ⟨h, h2⟩
theorem gr_ls_f {k s : Nat} (h : ¬ (us s ∧ ky s = k)) : gr_ls us ky k (s + 1) = gr_ls us ky k s := ma_iff h
theorem gr_ls_m {k t : Nat} : ∀ {S : Nat}, t ∈ gr_ls us ky k S ↔ (t < S ∧ us t ∧ ky t = k)
  | 0 => ⟨fun h => absurd h (List.not_mem_nil), fun h => absurd h.1 (Nat.not_lt_zero _)⟩
  | S + 1 => by
    by_cases c : us S ∧ ky S = k
    · rw [gr_ls_t c.1 c.2, List.mem_append, gr_ls_m (S := S), List.mem_singleton]
      constructor
      · rintro (⟨h1, h2⟩ | rfl)
        · exact ⟨by omega, h2⟩
        · exact ⟨by omega, c⟩
      · rintro ⟨h1, h2⟩
        by_cases e : t = S
        · exact Or.inr e
        · exact Or.inl ⟨by omega, h2⟩
    · rw [gr_ls_f c, gr_ls_m (S := S)]
      constructor
      · exact fun h => ⟨by omega, h.2⟩
      · rintro ⟨h1, h2⟩
        by_cases e : t = S
        · subst e; exact absurd h2 c
        · exact ⟨by omega, h2⟩
theorem gr_ls_p {k : Nat} : ∀ {S : Nat}, (gr_ls us ky k S).Pairwise (fun a b => a < b)
  | 0 => List.Pairwise.nil
  | S + 1 => by
    by_cases c : us S ∧ ky S = k
    · rw [gr_ls_t c.1 c.2, List.pairwise_append]
      refine ⟨gr_ls_p, List.pairwise_singleton _ _, fun a ha b hb => ?_⟩
      rw [List.mem_singleton] at hb
      subst hb
      exact (gr_ls_m.mp ha).1
    · rw [gr_ls_f c]
      exact gr_ls_p
theorem gr_ls_len {k s : Nat} : (gr_ls us ky k (s + 1)).length = (gr_ls us ky k s).length + ma_o (us s ∧ ky s = k) := by
  by_cases c : us s ∧ ky s = k
  · rw [gr_ls_t c.1 c.2, ma_ot c, List.length_append]
    rfl
  · rw [gr_ls_f c, ma_of c]
    rfl
theorem gr_ls_le {k s : Nat} : ∀ d, (gr_ls us ky k s).length ≤ (gr_ls us ky k (s + d)).length
  | 0 => Nat.le_refl _
  | d + 1 => by
    have h1 : (gr_ls us ky k s).length ≤ (gr_ls us ky k (s + d)).length := gr_ls_le d
    have h2 : (gr_ls us ky k (s + (d + 1))).length = _ := gr_ls_len (us := us) (ky := ky) (k := k) (s := s + d)
    omega
theorem gr_ls_lt {k s S : Nat} (h : us s) (h2 : ky s = k) (hS : s < S) : (gr_ls us ky k s).length < (gr_ls us ky k S).length := by
  obtain ⟨d, rfl⟩ : ∃ d, S = (s + 1) + d := ⟨S - (s + 1), by omega⟩
  have h3 := gr_ls_le (us := us) (ky := ky) (k := k) (s := s + 1) d
  have h4 := gr_ls_len (us := us) (ky := ky) (k := k) (s := s)
  rw [ma_ot ⟨h, h2⟩] at h4
  omega
theorem gr_cu_s (S : Nat) : ∀ K, gr_cu us ky (S + 1) K = gr_cu us ky S K + ma_o (us S ∧ ky S < K)
  | 0 => by rw [ma_of (fun z => absurd z.2 (Nat.not_lt_zero _))]; rfl
  | K + 1 => by
    show gr_cu us ky (S + 1) K + (gr_ls us ky K (S + 1)).length = gr_cu us ky S K + (gr_ls us ky K S).length + _
    rw [gr_cu_s S K, gr_ls_len]
    by_cases c : us S
    · by_cases d : ky S < K
      · rw [ma_ot (p := us S ∧ ky S < K) ⟨c, d⟩, ma_of (p := us S ∧ ky S = K) (fun z => by omega), ma_ot (p := us S ∧ ky S < K + 1) ⟨c, by omega⟩]
        omega
      · by_cases e : ky S = K
        · rw [ma_of (p := us S ∧ ky S < K) (fun z => d z.2), ma_ot (p := us S ∧ ky S = K) ⟨c, e⟩, ma_ot (p := us S ∧ ky S < K + 1) ⟨c, by omega⟩]
          omega
        · rw [ma_of (p := us S ∧ ky S < K) (fun z => d z.2), ma_of (p := us S ∧ ky S = K) (fun z => e z.2), ma_of (p := us S ∧ ky S < K + 1) (fun z => by omega)]
          omega
    · rw [ma_of (p := us S ∧ ky S < K) (fun z => c z.1), ma_of (p := us S ∧ ky S = K) (fun z => c z.1), ma_of (p := us S ∧ ky S < K + 1) (fun z => c z.1)]
      omega
theorem gr_cu_00 : ∀ K, gr_cu us ky 0 K = 0
  | 0 => rfl
  | K + 1 => by
    show gr_cu us ky 0 K + 0 = 0
    rw [gr_cu_00 K]
theorem gr_cu_le : ∀ S K, gr_cu us ky S K ≤ S
  | 0, K => by rw [gr_cu_00]; omega
  | S + 1, K => by
    have h1 := gr_cu_le S K
    have h2 := ma_ole (us S ∧ ky S < K)
    rw [gr_cu_s]
    omega
theorem gr_cu_m {S K : Nat} : ∀ d, gr_cu us ky S (K + 1) ≤ gr_cu us ky S (K + 1 + d)
  | 0 => Nat.le_refl _
  | d + 1 => by
    have h1 := gr_cu_m (S := S) (K := K) d
    show _ ≤ gr_cu us ky S (K + 1 + d) + _
    omega
/-- segments of different keys don't meet -/
theorem gr_cu_lt {S K K' : Nat} (h : K < K') : gr_cu us ky S K + (gr_ls us ky K S).length ≤ gr_cu us ky S K' := by
  obtain ⟨d, rfl⟩ : ∃ d, K' = K + 1 + d := ⟨K' - (K + 1), by omega⟩
  exact gr_cu_m d
end L
theorem gr_at_a {oc : Nat → Int32} {s : Nat} : ∀ {l : List Nat} {e : Nat}, gr_at oc e l → oc (e + l.length) = nI s → gr_at oc e (l ++ [s])
  | [], e, _, h => ⟨h, trivial⟩
  | a :: l, e, ⟨h1, h2⟩, h => ⟨h1, gr_at_a h2 (by
      have e1 : e + 1 + l.length = e + (a :: l).length := by rw [List.length_cons]; omega
      rw [e1]; exact h)⟩
theorem gr_at_u {oc : Nat → Int32} {t : Nat} {x : Int32} : ∀ {l : List Nat} {e : Nat}, gr_at oc e l → (t < e ∨ e + l.length ≤ t) → gr_at (upd oc t x) e l
  | [], _, _, _ => trivial
  | a :: l, e, ⟨h1, h2⟩, h => by
    rw [List.length_cons] at h
    refine ⟨?_, gr_at_u h2 (by omega)⟩
    rw [pk_un (by omega)]
    exact h1
/-- positive literals of a ground rule that aren't done -/
noncomputable def gr_mc (us : Nat → Prop) (kk : Nat → Nat) (dn : Nat → Prop) (m : Nat) : Nat := ma_o (us (4 * m + 1) ∧ kk (4 * m + 1) = 1 ∧ ¬ dn (4 * m + 1)) + ma_o (us (4 * m + 2) ∧ kk (4 * m + 2) = 1 ∧ ¬ dn (4 * m + 2)) + ma_o (us (4 * m + 3) ∧ kk (4 * m + 3) = 1 ∧ ¬ dn (4 * m + 3))
section M
variable {us : Nat → Prop} {kk : Nat → Nat} {dn dn' : Nat → Prop}
theorem gr_mc_le (m : Nat) : gr_mc us kk dn m ≤ 3 := by
  unfold gr_mc
  have h1 := ma_ole (us (4 * m + 1) ∧ kk (4 * m + 1) = 1 ∧ ¬ dn (4 * m + 1))
  have h2 := ma_ole (us (4 * m + 2) ∧ kk (4 * m + 2) = 1 ∧ ¬ dn (4 * m + 2))
  have h3 := ma_ole (us (4 * m + 3) ∧ kk (4 * m + 3) = 1 ∧ ¬ dn (4 * m + 3))
  omega
theorem gr_mc_c {m : Nat} (h : ∀ i, 1 ≤ i → i ≤ 3 → us (4 * m + i) → kk (4 * m + i) = 1 → (dn (4 * m + i) ↔ dn' (4 * m + i))) : gr_mc us kk dn m = gr_mc us kk dn' m := by
  have key : ∀ i, 1 ≤ i → i ≤ 3 → ma_o (us (4 * m + i) ∧ kk (4 * m + i) = 1 ∧ ¬ dn (4 * m + i)) = ma_o (us (4 * m + i) ∧ kk (4 * m + i) = 1 ∧ ¬ dn' (4 * m + i)) := by
    intro i h1 h2
    refine ma_oc ⟨fun z => ⟨z.1, z.2.1, fun y => z.2.2 ((h i h1 h2 z.1 z.2.1).mpr y)⟩, fun z => ⟨z.1, z.2.1, fun y => z.2.2 ((h i h1 h2 z.1 z.2.1).mp y)⟩⟩
  unfold gr_mc
  rw [key 1 (by omega) (by omega), key 2 (by omega) (by omega), key 3 (by omega) (by omega)]
theorem gr_mc_0 {m : Nat} : gr_mc us kk dn m = 0 ↔ ∀ i, 1 ≤ i → i ≤ 3 → us (4 * m + i) → kk (4 * m + i) = 1 → dn (4 * m + i) := by
  have key : ∀ i, ma_o (us (4 * m + i) ∧ kk (4 * m + i) = 1 ∧ ¬ dn (4 * m + i)) = 0 ↔ (us (4 * m + i) → kk (4 * m + i) = 1 → dn (4 * m + i)) := by
    intro i
    rw [ma_o0]
    constructor
    · intro h a b
      by_cases c : dn (4 * m + i)
      · exact c
      · exact absurd ⟨a, b, c⟩ h
    · exact fun h z => z.2.2 (h z.1 z.2.1)
  unfold gr_mc
  constructor
  · intro h i h1 h2
    have hi : i = 1 ∨ i = 2 ∨ i = 3 := by omega
    rcases hi with rfl | rfl | rfl
    · exact (key 1).mp (by omega)
    · exact (key 2).mp (by omega)
    · exact (key 3).mp (by omega)
  · intro h
    have k1 := (key 1).mpr (h 1 (by omega) (by omega))
    have k2 := (key 2).mpr (h 2 (by omega) (by omega))
    have k3 := (key 3).mpr (h 3 (by omega) (by omega))
    omega
/-- one more is done -/
theorem gr_mc_d {m i : Nat} (h1 : 1 ≤ i) (h2 : i ≤ 3) (h3 : us (4 * m + i)) (h4 : kk (4 * m + i) = 1) (h5 : ¬ dn (4 * m + i)) (hd : ∀ j, 1 ≤ j → j ≤ 3 → (dn' (4 * m + j) ↔ (dn (4 * m + j) ∨ j = i))) : gr_mc us kk dn m = gr_mc us kk dn' m + 1 := by
  have same : ∀ j, 1 ≤ j → j ≤ 3 → j ≠ i → ma_o (us (4 * m + j) ∧ kk (4 * m + j) = 1 ∧ ¬ dn' (4 * m + j)) = ma_o (us (4 * m + j) ∧ kk (4 * m + j) = 1 ∧ ¬ dn (4 * m + j)) := by
    intro j j1 j2 j3
    refine ma_oc ⟨fun z => ⟨z.1, z.2.1, fun y => z.2.2 ((hd j j1 j2).mpr (Or.inl y))⟩, fun z => ⟨z.1, z.2.1, fun y => ?_⟩⟩
    rcases (hd j j1 j2).mp y with y | y
    · exact z.2.2 y
    · exact j3 y
  have e0 : ma_o (us (4 * m + i) ∧ kk (4 * m + i) = 1 ∧ ¬ dn' (4 * m + i)) = 0 := ma_of (fun z => z.2.2 ((hd i h1 h2).mpr (Or.inr rfl)))
  have e1 : ma_o (us (4 * m + i) ∧ kk (4 * m + i) = 1 ∧ ¬ dn (4 * m + i)) = 1 := ma_ot ⟨h3, h4, h5⟩
  unfold gr_mc
  have hi : i = 1 ∨ i = 2 ∨ i = 3 := by omega
  rcases hi with rfl | rfl | rfl
  · rw [same 2 (by omega) (by omega) (by omega), same 3 (by omega) (by omega) (by omega), e0, e1]; omega
  · rw [same 1 (by omega) (by omega) (by omega), same 3 (by omega) (by omega) (by omega), e0, e1]; omega
  · rw [same 1 (by omega) (by omega) (by omega), same 2 (by omega) (by omega) (by omega), e0, e1]
end M
/-- the ground arrays: S slots, keys 3 * atom + kind -/
def gr_ok (S : Nat) (us : Nat → Prop) (kk aa : Nat → Nat) (ga gk po sa oc : Nat → Int32) : Prop :=
  (∀ s, s < S → us s → ga s = nI (aa s) ∧ gk s = nI (kk s)) ∧ (∀ s, s < S → ¬ us s → ga s = -1) ∧ (∀ m, 4 * m < S → po m = nI (gr_mc us kk (fun _ => False) m)) ∧ (∀ k, k < 145 → sa k = nI (gr_cu us (fun s => 3 * aa s + kk s) S k)) ∧ (∀ k, k < 144 → gr_at oc (gr_cu us (fun s => 3 * aa s + kk s) S k) (gr_ls us (fun s => 3 * aa s + kk s) k S))
/-- the grounding of the slots below t -/
def gr_in (t : Nat) (us : Nat → Prop) (kk aa : Nat → Nat) (ga gk po : Nat → Int32) : Prop :=
  (∀ s, s < t → us s → ga s = nI (aa s) ∧ gk s = nI (kk s)) ∧ (∀ s, s < t → ¬ us s → ga s = -1) ∧ (∀ m, 4 * m < t → po m = nI (gr_mc us kk (fun s => t ≤ s) m))
section I
variable {us : Nat → Prop} {kk aa : Nat → Nat} {ga gk po : Nat → Int32} {t : Nat}
/-- the count at the ground rule of slot t, and elsewhere -/
theorem gr_in_o {m : Nat} (hm : 4 * m < t) (hn : m ≠ t / 4) : gr_mc us kk (fun s => t + 1 ≤ s) m = gr_mc us kk (fun s => t ≤ s) m := gr_mc_c (fun i _ _ _ _ => by
  constructor
  · intro z
    have : t + 1 ≤ 4 * m + i := z
    show t ≤ 4 * m + i
    omega
  · intro z
    have : t ≤ 4 * m + i := z
    omega)
theorem gr_in_t (h4 : ¬ t % 4 = 0) (hp : us t ∧ kk t = 1) : gr_mc us kk (fun s => t + 1 ≤ s) (t / 4) = gr_mc us kk (fun s => t ≤ s) (t / 4) + 1 := by
  have e : 4 * (t / 4) + t % 4 = t := by omega
  refine gr_mc_d (i := t % 4) (by omega) (by omega) (by rw [e]; exact hp.1) (by rw [e]; exact hp.2) ?_ (fun j j1 j2 => ?_)
  · show ¬ t + 1 ≤ 4 * (t / 4) + t % 4
    omega
  · show t ≤ 4 * (t / 4) + j ↔ (t + 1 ≤ 4 * (t / 4) + j ∨ j = t % 4)
    omega
theorem gr_in_f (hp : ¬ (us t ∧ kk t = 1)) : gr_mc us kk (fun s => t + 1 ≤ s) (t / 4) = gr_mc us kk (fun s => t ≤ s) (t / 4) := gr_mc_c (fun i _ _ u1 u2 => by
  constructor
  · intro z
    have : t + 1 ≤ 4 * (t / 4) + i := z
    show t ≤ 4 * (t / 4) + i
    omega
  · intro z
    have z : t ≤ 4 * (t / 4) + i := z
    show t + 1 ≤ 4 * (t / 4) + i
    by_cases e : 4 * (t / 4) + i = t
    · rw [e] at u1 u2; exact absurd ⟨u1, u2⟩ hp
    · omega)
theorem gr_in_z (h4 : t % 4 = 0) : gr_mc us kk (fun s => t + 1 ≤ s) (t / 4) = 0 := gr_mc_0.mpr (fun i h1 _ _ _ => by
  show t + 1 ≤ 4 * (t / 4) + i
  omega)
/-- a slot that isn't in use -/
theorem gr_in_n (h : gr_in t us kk aa ga gk po) {po' : Nat → Int32} (hu : ¬ us t) (hp : po' = ma_if (t % 4 = 0) (upd po (t / 4) 0) po) : gr_in (t + 1) us kk aa (upd ga t (-1)) gk po' := by
  obtain ⟨h1, h2, h3⟩ := h
  refine ⟨fun s hs u => ?_, fun s hs u => ?_, fun m hm => ?_⟩
  · have e : s ≠ t := fun e => hu (e ▸ u)
    rw [pk_un e]
    exact h1 s (by omega) u
  · by_cases e : s = t
    · rw [e, pk_us]
    · rw [pk_un e]
      exact h2 s (by omega) u
  · by_cases e : m = t / 4
    · subst e
      by_cases c : t % 4 = 0
      · rw [hp, ma_ift c, pk_us, gr_in_z c]
        rfl
      · rw [hp, ma_iff c, gr_in_f (fun z => hu z.1)]
        exact h3 _ (by omega)
    · have hm : 4 * m < t := by omega
      rw [gr_in_o hm e, hp]
      by_cases c : t % 4 = 0
      · rw [ma_ift c, pk_un e]; exact h3 m hm
      · rw [ma_iff c]; exact h3 m hm
/-- a slot in use -/
theorem gr_in_u (h : gr_in t us kk aa ga gk po) {po' po'' : Nat → Int32} {x : Int32} (hu : us t) (hk : t % 4 = 0 → kk t = 0) (hp : po' = ma_if (t % 4 = 0) (upd po (t / 4) 0) po) (hp2 : po'' = ma_if (kk t = 1) (upd po' (t / 4) (po' (t / 4) + 1)) po') : gr_in (t + 1) us kk aa (upd (upd ga t x) t (nI (aa t))) (upd gk t (nI (kk t))) po'' := by
  obtain ⟨h1, h2, h3⟩ := h
  refine ⟨fun s hs u => ?_, fun s hs u => ?_, fun m hm => ?_⟩
  · by_cases e : s = t
    · rw [e, pk_us, pk_us]; exact ⟨rfl, rfl⟩
    · rw [pk_un e, pk_un e, pk_un e]
      exact h1 s (by omega) u
  · have e : s ≠ t := fun e => u (e ▸ hu)
    rw [pk_un e, pk_un e]
    exact h2 s (by omega) u
  · by_cases c : t % 4 = 0
    · have k1 : ¬ kk t = 1 := by rw [hk c]; decide
      rw [hp2, ma_iff k1, hp, ma_ift c]
      by_cases e : m = t / 4
      · subst e
        rw [pk_us, gr_in_z c]
        rfl
      · rw [pk_un e, gr_in_o (by omega) e]
        exact h3 m (by omega)
    · rw [hp2, hp, ma_iff c]
      by_cases e : m = t / 4
      · subst e
        by_cases k1 : kk t = 1
        · rw [ma_ift k1, pk_us, gr_in_t c ⟨hu, k1⟩, h3 _ (by omega), nI_1]
        · rw [ma_iff k1, gr_in_f (fun z => k1 z.2)]
          exact h3 _ (by omega)
      · rw [gr_in_o (by omega) e]
        by_cases k1 : kk t = 1
        · rw [ma_ift k1, pk_un e]; exact h3 m (by omega)
        · rw [ma_iff k1]; exact h3 m (by omega)
end I
end
section
/-! atoms and positions: both sides walk together -/
theorem xa_np {x : Int32} {k : Nat} (hk : k < 2 ^ 31) (h : nI k ≤ x) : ¬ x < 0 := Int32.not_lt.mpr (Int32.le_trans (nI_pos' hk) h)
theorem xa_nl {x : Int32} {k : Nat} (h : nI k ≤ x) : ¬ x < nI k := Int32.not_lt.mpr h
/-- the rules' cells in the component's arrays -/
def xa_ce (ln kd pd fs sn : Nat → Nat) (bl ck cp cf cs : Nat → Int32) : Prop := (∀ j, bl j = nI (ln j)) ∧ (∀ j, ck j = nI (kd j)) ∧ (∀ j, cp j = nI (pd j)) ∧ (∀ j, cf j = nI (fs j)) ∧ (∀ j, cs j = nI (sn j))

section A
variable {C U B n : Nat} {ln kd pd fs sn : Nat → Nat}
variable {f_kindHead f_kindPositive f_kindNegated f_draftRow f_constants f_unary f_binary f_maxRules f_atoms f_ruleCount f_hasDraft f_grounded f_hasModel f_tail : Int32} {a_isFactAtom a_candidate a_bodyLength a_cellKind a_cellPred a_cellFirst a_cellSecond a_groundAtom a_groundKind a_positives a_start a_cursor a_occurrence a_value a_stage a_height a_reached a_depth a_queue a_missing a_blocked : Nat → Int32}
variable {y_C y_U y_P y_R y_count y_draft y_solved : Int32} {b_facts b_code b_len b_value b_stage b_height b_candidate b_m b_s b_next b_certain : Nat → Int32}
theorem xa_atomN {post : Int32 → Prop} {p a b : Nat} (hz : pg_sz C U B) (hp : p < U + B) (ha : a < C) (hb : b < C) (h : post (nI (pg_at C U p a b))) : wpX_atomOf post (f_kindHead, f_kindPositive, f_kindNegated, f_draftRow, nI C, nI U, nI B, f_maxRules, nI (pg_N C U B), nI n, f_hasDraft, f_grounded, f_hasModel, f_tail, a_isFactAtom, a_candidate, a_bodyLength, a_cellKind, a_cellPred, a_cellFirst, a_cellSecond, a_groundAtom, a_groundKind, a_positives, a_start, a_cursor, a_occurrence, a_value, a_stage, a_height, a_reached, a_depth, a_queue, a_missing, a_blocked) (nI p) (nI a) (nI b) := by
  obtain ⟨z1, z2, z3, z4, z5, z6⟩ := hz
  have e1 : ¬ nI U + nI B ≤ nI p := by rw [nI_add]; exact nI_ge hp (by omega)
  unfold pg_at at h
  by_cases c : p < U
  · rw [if_pos c] at h
    have e : nI p * nI C + nI a = nI (p * C + a) := by rw [pk_mul, nI_add]
    rw [← e] at h
    exact br_f (nI_pos (by omega)) (br_f e1 (br_f (nI_pos (by omega)) (br_t (nI_lt ha (by omega)) (br_f (nI_ge c (by omega)) h))))
  · rw [if_neg c] at h
    have e : nI U * nI C + ((nI p - nI U) * nI C + nI a) * nI C + nI b = nI (U * C + ((p - U) * C + a) * C + b) := by
      rw [pk_sub (by omega), pk_mul, pk_mul, nI_add, pk_mul, nI_add, nI_add]
    rw [← e] at h
    exact br_f (nI_pos (by omega)) (br_f e1 (br_f (nI_pos (by omega)) (br_t (nI_lt ha (by omega)) (br_t (nI_le (by omega) (by omega)) (br_f (nI_pos (by omega)) (br_t (nI_lt hb (by omega)) h))))))
theorem xa_posN {post : Int32 → Prop} {p a b : Nat} (hz : pg_sz C U B) (hp : p < U + B) (ha : a < C) (hb : b < C) (h : post (nI (pg_ps U p a b))) : wpY_position post (nI C, nI U, nI (U + B), y_R, nI n, y_draft, y_solved, b_facts, b_code, b_len, b_value, b_stage, b_height, b_candidate, b_m, b_s, b_next, b_certain) (nI p) (nI a) (nI b) := by
  obtain ⟨z1, z2, z3, z4, z5, z6⟩ := hz
  have e1 : ¬ nI (U + B) ≤ nI p := nI_ge hp (by omega)
  unfold pg_ps at h
  by_cases c : p < U
  · rw [if_pos c] at h
    have e : 16 * nI p + 4 * nI a = nI (16 * p + 4 * a) := by
      rw [← nI_add, ← pk_mul, ← pk_mul]; rfl
    rw [← e] at h
    exact br_f (nI_pos (by omega)) (br_f e1 (br_f (nI_pos (by omega)) (br_t (nI_lt ha (by omega)) (br_f (nI_ge c (by omega)) h))))
  · rw [if_neg c] at h
    have e : 16 * nI p + 4 * nI a + nI b = nI (16 * p + 4 * a + b) := by
      rw [← nI_add, ← nI_add, ← pk_mul, ← pk_mul]; rfl
    rw [← e] at h
    exact br_f (nI_pos (by omega)) (br_f e1 (br_f (nI_pos (by omega)) (br_t (nI_lt ha (by omega)) (br_t (nI_le (by omega) (by omega)) (br_f (nI_pos (by omega)) (br_t (nI_lt hb (by omega)) h))))))
/-- any three ints: no atom for both, or one atom t, at position pg_w t -/
theorem xa_both (hz : pg_sz C U B) (p a b : Int32) : ((∀ post : Int32 → Prop, post (-1) → wpX_atomOf post (f_kindHead, f_kindPositive, f_kindNegated, f_draftRow, nI C, nI U, nI B, f_maxRules, nI (pg_N C U B), nI n, f_hasDraft, f_grounded, f_hasModel, f_tail, a_isFactAtom, a_candidate, a_bodyLength, a_cellKind, a_cellPred, a_cellFirst, a_cellSecond, a_groundAtom, a_groundKind, a_positives, a_start, a_cursor, a_occurrence, a_value, a_stage, a_height, a_reached, a_depth, a_queue, a_missing, a_blocked) p a b) ∧ (∀ post : Int32 → Prop, post (-1) → wpY_position post (nI C, nI U, nI (U + B), y_R, nI n, y_draft, y_solved, b_facts, b_code, b_len, b_value, b_stage, b_height, b_candidate, b_m, b_s, b_next, b_certain) p a b)) ∨ ∃ t, t < pg_N C U B ∧ (∀ post : Int32 → Prop, post (nI t) → wpX_atomOf post (f_kindHead, f_kindPositive, f_kindNegated, f_draftRow, nI C, nI U, nI B, f_maxRules, nI (pg_N C U B), nI n, f_hasDraft, f_grounded, f_hasModel, f_tail, a_isFactAtom, a_candidate, a_bodyLength, a_cellKind, a_cellPred, a_cellFirst, a_cellSecond, a_groundAtom, a_groundKind, a_positives, a_start, a_cursor, a_occurrence, a_value, a_stage, a_height, a_reached, a_depth, a_queue, a_missing, a_blocked) p a b) ∧ (∀ post : Int32 → Prop, post (nI (pg_w C U t)) → wpY_position post (nI C, nI U, nI (U + B), y_R, nI n, y_draft, y_solved, b_facts, b_code, b_len, b_value, b_stage, b_height, b_candidate, b_m, b_s, b_next, b_certain) p a b) := by
  have hz' := hz
  obtain ⟨z1, z2, z3, z4, z5, z6⟩ := hz'
  have eS : nI U + nI B = nI (U + B) := nI_add U B
  rcases pk_ix p (n := U + B) (by omega) with h | h | ⟨p, hp, rfl⟩
  · exact Or.inl ⟨fun post k => br_t h k, fun post k => br_t h k⟩
  · have h' : nI U + nI B ≤ p := by rw [eS]; exact h
    exact Or.inl ⟨fun post k => br_f (xa_np (by omega) h) (br_t h' k), fun post k => br_f (xa_np (by omega) h) (br_t h k)⟩
  · have p1 : ¬ nI p < 0 := nI_pos (by omega)
    have p2 : ¬ nI (U + B) ≤ nI p := nI_ge hp (by omega)
    have p2' : ¬ nI U + nI B ≤ nI p := by rw [eS]; exact p2
    rcases pk_ix a (n := C) (by omega) with h | h | ⟨a, ha, rfl⟩
    · exact Or.inl ⟨fun post k => br_f p1 (br_f p2' (br_t h k)), fun post k => br_f p1 (br_f p2 (br_t h k))⟩
    · have a1 : ¬ a < 0 := xa_np (by omega) h
      exact Or.inl ⟨fun post k => br_f p1 (br_f p2' (br_f a1 (br_f (xa_nl h) k))), fun post k => br_f p1 (br_f p2 (br_f a1 (br_f (xa_nl h) k)))⟩
    · have a1 : ¬ nI a < 0 := nI_pos (by omega)
      have a2 : nI a < nI C := nI_lt ha (by omega)
      by_cases c : p < U
      · have u1 : ¬ nI U ≤ nI p := nI_ge c (by omega)
        obtain ⟨e1, e2⟩ := pg_at_w (b := 0) hz hp ha (fun _ => by omega)
        have eA : nI p * nI C + nI a = nI (pg_at C U p a 0) := by
          unfold pg_at
          rw [if_pos c, pk_mul, nI_add]
        have eP : 16 * nI p + 4 * nI a = nI (pg_w C U (pg_at C U p a 0)) := by
          rw [e2]
          unfold pg_ps
          rw [if_pos c, ← nI_add, ← pk_mul, ← pk_mul]; rfl
        refine Or.inr ⟨_, e1, fun post k => ?_, fun post k => ?_⟩
        · rw [← eA] at k
          exact br_f p1 (br_f p2' (br_f a1 (br_t a2 (br_f u1 k))))
        · rw [← eP] at k
          exact br_f p1 (br_f p2 (br_f a1 (br_t a2 (br_f u1 k))))
      · have u1 : nI U ≤ nI p := nI_le (by omega) (by omega)
        rcases pk_ix b (n := C) (by omega) with h | h | ⟨b, hb, rfl⟩
        · exact Or.inl ⟨fun post k => br_f p1 (br_f p2' (br_f a1 (br_t a2 (br_t u1 (br_t h k))))), fun post k => br_f p1 (br_f p2 (br_f a1 (br_t a2 (br_t u1 (br_t h k)))))⟩
        · have b1 : ¬ b < 0 := xa_np (by omega) h
          exact Or.inl ⟨fun post k => br_f p1 (br_f p2' (br_f a1 (br_t a2 (br_t u1 (br_f b1 (br_f (xa_nl h) k)))))), fun post k => br_f p1 (br_f p2 (br_f a1 (br_t a2 (br_t u1 (br_f b1 (br_f (xa_nl h) k))))))⟩
        · obtain ⟨e1, e2⟩ := pg_at_w (b := b) hz hp ha (fun _ => hb)
          refine Or.inr ⟨_, e1, fun post k => xa_atomN hz hp ha hb k, fun post k => xa_posN hz hp ha hb ?_⟩
          rw [← e2]; exact k
/-- the component's binding of a term and its grounding of a cell -/
theorem xa_bind {post : Int32 → Prop} {t x y : Nat} (ht : t < 2 ^ 31) (h : post (nI (pg_bd t x y))) : wpX_bind post (f_kindHead, f_kindPositive, f_kindNegated, f_draftRow, nI C, nI U, nI B, f_maxRules, nI (pg_N C U B), nI n, f_hasDraft, f_grounded, f_hasModel, f_tail, a_isFactAtom, a_candidate, a_bodyLength, a_cellKind, a_cellPred, a_cellFirst, a_cellSecond, a_groundAtom, a_groundKind, a_positives, a_start, a_cursor, a_occurrence, a_value, a_stage, a_height, a_reached, a_depth, a_queue, a_missing, a_blocked) (nI t) (nI x) (nI y) := by
  refine pk_eq t 4 (fun e => ?_) (fun e => pk_eq t 5 (fun e' => ?_) (fun e' => ?_))
  · rw [pg_b4 e] at h; exact h
  · rw [pg_b5 e e'] at h; exact h
  · rw [pg_bn e e'] at h; exact h
theorem xa_inst {post : Int32 → Prop} {c x y : Nat} (K : pg_ok C U B n ln kd pd fs sn) (E : xa_ce ln kd pd fs sn a_bodyLength a_cellKind a_cellPred a_cellFirst a_cellSecond) (hc : c < 36) (hx : x < C) (hy : y < C) (h : post (nI (pg_at C U (pd c) (pg_bd (fs c) x y) (pg_bd (sn c) x y)))) : wpX_instantiate post (f_kindHead, f_kindPositive, f_kindNegated, f_draftRow, nI C, nI U, nI B, f_maxRules, nI (pg_N C U B), nI n, f_hasDraft, f_grounded, f_hasModel, f_tail, a_isFactAtom, a_candidate, a_bodyLength, a_cellKind, a_cellPred, a_cellFirst, a_cellSecond, a_groundAtom, a_groundKind, a_positives, a_start, a_cursor, a_occurrence, a_value, a_stage, a_height, a_reached, a_depth, a_queue, a_missing, a_blocked) (nI c) (nI x) (nI y) := by
  obtain ⟨k1, k2, k3, k4, k5, k6⟩ := K
  obtain ⟨c1, c2, c3, c4, c5⟩ := k4 c hc
  obtain ⟨_, _, E3, E4, E5⟩ := E
  have z := k1.2.1
  have e : (nI c).toNatClampNeg = c := nI_clamp (by omega)
  have w : vp_in (nI c) 36 := vp_in_nI hc (by omega)
  have g1 : pg_bd (fs c) x y < C := pg_bd_lt c2 z hx hy
  have g2 : pg_bd (sn c) x y < C := pg_bd_lt c3 z hx hy
  unfold wpX_instantiate
  dsimp only
  rw [e, E3 c, E4 c, E5 c]
  exact ⟨w, xa_bind (by omega) ⟨w, xa_bind (by omega) ⟨w, xa_atomN k1 c1 g1 g2 h⟩⟩⟩
/-- the reference's digits -/
theorem xa_dig {g p s t : Nat} (hg : g ≤ 1) (hp : p < 10) (hs : s < 10) (ht : t < 10) : nI (1000 * g + 100 * p + 10 * s + t) / 10 - nI (1000 * g + 100 * p + 10 * s + t) / 10 / 10 * 10 = nI s ∧ nI (1000 * g + 100 * p + 10 * s + t) - nI (1000 * g + 100 * p + 10 * s + t) / 10 * 10 = nI t ∧ nI (1000 * g + 100 * p + 10 * s + t) / 100 - nI (1000 * g + 100 * p + 10 * s + t) / 100 / 10 * 10 = nI p ∧ (nI (1000 * g + 100 * p + 10 * s + t) < 1000 ↔ g = 0) := by
  have h31 : 1000 * g + 100 * p + 10 * s + t < 2 ^ 31 := by omega
  have d10 : nI (1000 * g + 100 * p + 10 * s + t) / 10 = nI ((1000 * g + 100 * p + 10 * s + t) / 10) := pk_div (d := 10) h31 (by omega) (by omega)
  have d100 : nI (1000 * g + 100 * p + 10 * s + t) / 100 = nI ((1000 * g + 100 * p + 10 * s + t) / 100) := pk_div (d := 100) h31 (by omega) (by omega)
  refine ⟨?_, ?_, ?_, ?_⟩
  · rw [d10]
    have := pk_rem (a := (1000 * g + 100 * p + 10 * s + t) / 10) (d := 10) (by omega) (by omega) (by omega)
    refine Eq.trans this ?_
    have e : (1000 * g + 100 * p + 10 * s + t) / 10 % 10 = s := by omega
    rw [e]
  · have := pk_rem (a := 1000 * g + 100 * p + 10 * s + t) (d := 10) (by omega) (by omega) (by omega)
    refine Eq.trans this ?_
    have e : (1000 * g + 100 * p + 10 * s + t) % 10 = t := by omega
    rw [e]
  · rw [d100]
    have := pk_rem (a := (1000 * g + 100 * p + 10 * s + t) / 100) (d := 10) (by omega) (by omega) (by omega)
    refine Eq.trans this ?_
    have e : (1000 * g + 100 * p + 10 * s + t) / 100 % 10 = p := by omega
    rw [e]
  · have e : nI (1000 * g + 100 * p + 10 * s + t) < nI 1000 ↔ 1000 * g + 100 * p + 10 * s + t < 1000 := nI_ltI h31 (by omega)
    refine Iff.trans e ?_
    omega
def xa_ng (kd : Nat → Nat) (c : Nat) : Nat := if kd c = 2 then 1 else 0
def xa_cd (kd pd fs sn : Nat → Nat) (c : Nat) : Nat := 1000 * xa_ng kd c + 100 * pd c + 10 * fs c + sn c
/-- the rules in the reference's arrays -/
def xa_cy (ln kd pd fs sn : Nat → Nat) (co le : Nat → Int32) : Prop := (∀ j, co j = nI (xa_cd kd pd fs sn j)) ∧ (∀ j, le j = nI (ln j))
theorem xa_ng1 (c : Nat) : xa_ng kd c ≤ 1 := by unfold xa_ng; split <;> omega
theorem xa_ng0 {c : Nat} : xa_ng kd c = 0 ↔ ¬ kd c = 2 := by unfold xa_ng; split <;> omega
theorem xa_neg {post : Int32 → Prop} {r i : Nat} (K : pg_ok C U B n ln kd pd fs sn) (E : xa_cy ln kd pd fs sn b_code b_len) (hc : 4 * r + i < 36) (h : post (ma_b (kd (4 * r + i) = 2))) : wpY_negated post (nI C, nI U, nI (U + B), y_R, nI n, y_draft, y_solved, b_facts, b_code, b_len, b_value, b_stage, b_height, b_candidate, b_m, b_s, b_next, b_certain) (nI r) (nI i) := by
  obtain ⟨k1, k2, k3, k4, k5, k6⟩ := K
  obtain ⟨c1, c2, c3, c4, c5⟩ := k4 _ hc
  obtain ⟨z1, z2, z3, z4, z5, z6⟩ := k1
  have e0 : 4 * nI r + nI i = nI (4 * r + i) := by rw [← nI_add, ← pk_mul]; rfl
  have e : (nI (4 * r + i)).toNatClampNeg = 4 * r + i := nI_clamp (by omega)
  obtain ⟨_, _, _, d4⟩ := xa_dig (g := xa_ng kd (4 * r + i)) (p := pd (4 * r + i)) (s := fs (4 * r + i)) (t := sn (4 * r + i)) (xa_ng1 _) (by omega) (by omega) (by omega)
  have d4 : nI (xa_cd kd pd fs sn (4 * r + i)) < 1000 ↔ ¬ kd (4 * r + i) = 2 := d4.trans xa_ng0
  unfold wpY_negated
  dsimp only
  rw [e0, e, E.1]
  refine ⟨vp_in_nI hc (by omega), br_c (fun z => ?_) (fun z => ?_)⟩
  · rw [ma_bf (d4.mp z)] at h; exact h
  · have z' : kd (4 * r + i) = 2 := by
      by_cases y : kd (4 * r + i) = 2
      · exact y
      · exact absurd (d4.mpr y) z
    rw [ma_bt z'] at h; exact h
theorem xa_at77 {post : Int32 → Prop} {x5 : Int32} {p s t : Nat} (hp : x5 / 100 - x5 / 100 / 10 * 10 = nI p) (h : post (nI (16 * p + 4 * s + t))) : wY_at_77 post x5 (nI s) (nI t) (nI C) (nI U) (nI (U + B)) y_R (nI n) y_draft y_solved b_facts b_code b_len b_value b_stage b_height b_candidate b_m b_s b_next b_certain := by
  unfold wY_at_77
  rw [hp]
  refine ⟨by decide, by decide, ?_⟩
  have e : 16 * nI p + 4 * nI s + nI t = nI (16 * p + 4 * s + t) := by
    rw [← nI_add, ← nI_add, ← pk_mul, ← pk_mul]; rfl
  rw [e]; exact h
theorem xa_at52 {post : Int32 → Prop} {x5 : Int32} {p s t x y : Nat} (ht : t < 2 ^ 31) (hp : x5 / 100 - x5 / 100 / 10 * 10 = nI p) (h : post (nI (16 * p + 4 * s + pg_bd t x y))) : wY_at_52 post (nI x) (nI y) x5 (nI t) (nI s) (nI C) (nI U) (nI (U + B)) y_R (nI n) y_draft y_solved b_facts b_code b_len b_value b_stage b_height b_candidate b_m b_s b_next b_certain := by
  refine pk_eq t 4 (fun e => ?_) (fun e => pk_eq t 5 (fun e' => ?_) (fun e' => ?_))
  · rw [pg_b4 e] at h; exact xa_at77 hp h
  · rw [pg_b5 e e'] at h; exact xa_at77 hp h
  · rw [pg_bn e e'] at h; exact xa_at77 hp h
/-- the reference's position of a literal -/
theorem xa_at {post : Int32 → Prop} {r i x y : Nat} (K : pg_ok C U B n ln kd pd fs sn) (E : xa_cy ln kd pd fs sn b_code b_len) (hc : 4 * r + i < 36) (h : post (nI (16 * pd (4 * r + i) + 4 * pg_bd (fs (4 * r + i)) x y + pg_bd (sn (4 * r + i)) x y))) : wpY_at post (nI C, nI U, nI (U + B), y_R, nI n, y_draft, y_solved, b_facts, b_code, b_len, b_value, b_stage, b_height, b_candidate, b_m, b_s, b_next, b_certain) (nI r) (nI i) (nI x) (nI y) := by
  obtain ⟨k1, k2, k3, k4, k5, k6⟩ := K
  obtain ⟨c1, c2, c3, c4, c5⟩ := k4 _ hc
  obtain ⟨z1, z2, z3, z4, z5, z6⟩ := k1
  have e0 : 4 * nI r + nI i = nI (4 * r + i) := by rw [← nI_add, ← pk_mul]; rfl
  have e : (nI (4 * r + i)).toNatClampNeg = 4 * r + i := nI_clamp (by omega)
  obtain ⟨d1, d2, d3, _⟩ := xa_dig (g := xa_ng kd (4 * r + i)) (p := pd (4 * r + i)) (s := fs (4 * r + i)) (t := sn (4 * r + i)) (xa_ng1 _) (by omega) (by omega) (by omega)
  unfold wpY_at
  dsimp only
  rw [e0, e, E.1]
  refine ⟨vp_in_nI hc (by omega), nm_e ⟨by decide, by decide, nm_r (e' := nI (fs (4 * r + i))) d1 ⟨by decide, nm_r (e' := nI (sn (4 * r + i))) d2 ?_⟩⟩⟩
  refine pk_eq (fs (4 * r + i)) 4 (fun e => ?_) (fun e => pk_eq (fs (4 * r + i)) 5 (fun e' => ?_) (fun e' => ?_))
  · rw [pg_b4 e] at h; exact xa_at52 (by omega) d3 h
  · rw [pg_b5 e e'] at h; exact xa_at52 (by omega) d3 h
  · rw [pg_bn e e'] at h; exact xa_at52 (by omega) d3 h
end A
end
section
/-! the component's grounding -/
theorem xg_key {a k : Int32} {x y : Nat} (h1 : a = nI x) (h2 : k = nI y) : 3 * a + k = nI (3 * x + y) := by
  rw [h1, h2, ← nI_add, ← pk_mul]; rfl
section G
variable {C U B n : Nat} {ln kd pd fs sn : Nat → Nat}
variable {f_kindHead f_kindPositive f_kindNegated f_draftRow f_constants f_unary f_binary f_maxRules f_atoms f_ruleCount f_hasDraft f_grounded f_hasModel f_tail : Int32} {a_isFactAtom a_candidate a_bodyLength a_cellKind a_cellPred a_cellFirst a_cellSecond a_groundAtom a_groundKind a_positives a_start a_cursor a_occurrence a_value a_stage a_height a_reached a_depth a_queue a_missing a_blocked : Nat → Int32}
theorem xg_37 {post : SX → Prop} {t : Nat} (K : pg_ok C U B n ln kd pd fs sn) (E : xa_ce ln kd pd fs sn a_bodyLength a_cellKind a_cellPred a_cellFirst a_cellSecond) (ht : t < 64 * n)
    (hn : ¬ pg_us C n ln t → post (f_kindHead, f_kindPositive, f_kindNegated, f_draftRow, nI C, nI U, nI B, f_maxRules, nI (pg_N C U B), nI n, f_hasDraft, f_grounded, f_hasModel, f_tail, a_isFactAtom, a_candidate, a_bodyLength, a_cellKind, a_cellPred, a_cellFirst, a_cellSecond, upd a_groundAtom t (-1), a_groundKind, a_positives, a_start, a_cursor, a_occurrence, a_value, a_stage, a_height, a_reached, a_depth, a_queue, a_missing, a_blocked))
    (hu : pg_us C n ln t → post (f_kindHead, f_kindPositive, f_kindNegated, f_draftRow, nI C, nI U, nI B, f_maxRules, nI (pg_N C U B), nI n, f_hasDraft, f_grounded, f_hasModel, f_tail, a_isFactAtom, a_candidate, a_bodyLength, a_cellKind, a_cellPred, a_cellFirst, a_cellSecond, upd (upd a_groundAtom t (-1)) t (nI (pg_aa C U pd fs sn t)), upd a_groundKind t (nI (pg_kk kd t)), ma_if (pg_kk kd t = 1) (upd a_positives (t / 4) (a_positives (t / 4) + 1)) a_positives, a_start, a_cursor, a_occurrence, a_value, a_stage, a_height, a_reached, a_depth, a_queue, a_missing, a_blocked)) :
    wX_groundSlot_37 post (nI t) (nI (t / 64)) (nI (t / 16 % 4)) (nI (t / 4 % 4)) (nI (t % 4)) f_kindHead f_kindPositive f_kindNegated f_draftRow (nI C) (nI U) (nI B) f_maxRules (nI (pg_N C U B)) (nI n) f_hasDraft f_grounded f_hasModel f_tail a_isFactAtom a_candidate a_bodyLength a_cellKind a_cellPred a_cellFirst a_cellSecond a_groundAtom a_groundKind a_positives a_start a_cursor a_occurrence a_value a_stage a_height a_reached a_depth a_queue a_missing a_blocked := by
  have k2 := K.2.1
  have z := K.1
  obtain ⟨z1, z2, _⟩ := z
  have et : (nI t).toNatClampNeg = t := nI_clamp (by omega)
  have er : (nI (t / 64)).toNatClampNeg = t / 64 := nI_clamp (by omega)
  have wt : vp_in (nI t) 512 := vp_in_nI (by omega) (by omega)
  have wr : vp_in (nI (t / 64)) 9 := vp_in_nI (by omega) (by omega)
  have esh : nI t >>> ((2 : Int32) &&& 31) = nI (t / 4) := pk_shrN (by omega) _ 2 (by decide)
  have esc : (nI (t / 4)).toNatClampNeg = t / 4 := nI_clamp (by omega)
  have ws : vp_in (nI (t / 4)) 128 := vp_in_nI (by omega) (by omega)
  have ec : 4 * nI (t / 64) + nI (t % 4) = nI (pg_c t) := by
    unfold pg_c
    rw [← nI_add, ← pk_mul]; rfl
  have hc : pg_c t < 36 := by unfold pg_c; omega
  have ecc : (nI (pg_c t)).toNatClampNeg = pg_c t := nI_clamp (by omega)
  have wc : vp_in (nI (pg_c t)) 36 := vp_in_nI hc (by omega)
  have l3 := K.2.2.1 (t / 64) (by omega)
  unfold wX_groundSlot_37
  rw [et, er, esh, esc, E.1]
  refine ⟨wt, nm_e (pk_le C (t / 16 % 4) (fun h => ?_) (fun h1 => pk_le C (t / 4 % 4) (fun h => ?_) (fun h2 => ⟨wr, pk_le (t % 4) (ln (t / 64)) (fun h3 => nm_r (e' := nI (pg_c t)) ec ?_) (fun h => ?_)⟩)))⟩
  · exact hn (fun u => by have := u.2.1; omega)
  · exact hn (fun u => by have := u.2.2.1; omega)
  · have u : pg_us C n ln t := ⟨ht, h1, h2, h3⟩
    have hu := hu u
    refine xa_inst K E hc h1 h2 ?_
    refine ⟨wt, nm_e ⟨wc, wt, ?_⟩⟩
    rw [ecc, E.2.1]
    refine nm_e ⟨wc, ?_⟩
    have k22 := (K.2.2.2.1 _ hc).2.2.2.2
    refine pk_eq (kd (pg_c t)) 1 (fun e => ⟨ws, ws, nm_e ?_⟩) (fun e => ?_)
    · rw [ma_ift (p := pg_kk kd t = 1) e] at hu
      exact hu
    · rw [ma_iff (p := pg_kk kd t = 1) e] at hu
      exact hu
  · exact hn (fun u => by have := u.2.2.2; omega)
theorem xg_slot {post : SX → Prop} {t : Nat} (K : pg_ok C U B n ln kd pd fs sn) (E : xa_ce ln kd pd fs sn a_bodyLength a_cellKind a_cellPred a_cellFirst a_cellSecond) (ht : t < 64 * n)
    (I : gr_in t (pg_us C n ln) (pg_kk kd) (pg_aa C U pd fs sn) a_groundAtom a_groundKind a_positives)
    (h : ∀ (ga gk po : Nat → Int32), gr_in (t + 1) (pg_us C n ln) (pg_kk kd) (pg_aa C U pd fs sn) ga gk po → post (f_kindHead, f_kindPositive, f_kindNegated, f_draftRow, nI C, nI U, nI B, f_maxRules, nI (pg_N C U B), nI n, f_hasDraft, f_grounded, f_hasModel, f_tail, a_isFactAtom, a_candidate, a_bodyLength, a_cellKind, a_cellPred, a_cellFirst, a_cellSecond, ga, gk, po, a_start, a_cursor, a_occurrence, a_value, a_stage, a_height, a_reached, a_depth, a_queue, a_missing, a_blocked)) :
    wpX_groundSlot post (f_kindHead, f_kindPositive, f_kindNegated, f_draftRow, nI C, nI U, nI B, f_maxRules, nI (pg_N C U B), nI n, f_hasDraft, f_grounded, f_hasModel, f_tail, a_isFactAtom, a_candidate, a_bodyLength, a_cellKind, a_cellPred, a_cellFirst, a_cellSecond, a_groundAtom, a_groundKind, a_positives, a_start, a_cursor, a_occurrence, a_value, a_stage, a_height, a_reached, a_depth, a_queue, a_missing, a_blocked) (nI t) := by
  have k2 := K.2.1
  have e6 : nI t >>> ((6 : Int32) &&& 31) = nI (t / 64) := pk_shrN (by omega) _ 6 (by decide)
  have e4 : nI t >>> ((4 : Int32) &&& 31) = nI (t / 16) := pk_shrN (by omega) _ 4 (by decide)
  have e2 : nI t >>> ((2 : Int32) &&& 31) = nI (t / 4) := pk_shrN (by omega) _ 2 (by decide)
  have a3 : nI (t / 16) &&& 3 = nI (t / 16 % 4) := pk_andN (by omega) 2 (by decide)
  have a4 : nI (t / 4) &&& 3 = nI (t / 4 % 4) := pk_andN (by omega) 2 (by decide)
  have a5 : nI t &&& 3 = nI (t % 4) := pk_andN (by omega) 2 (by decide)
  have esc : (nI (t / 4)).toNatClampNeg = t / 4 := nI_clamp (by omega)
  have ws : vp_in (nI (t / 4)) 128 := vp_in_nI (by omega) (by omega)
  have hk : pg_us C n ln t → t % 4 = 0 → pg_kk kd t = 0 := by
    intro u h4
    have e : 4 * (t / 4) + 0 = t := by omega
    have := (pg_us_k K (m := t / 4) (i := 0) (by omega) (by rw [e]; exact u)).1 rfl
    rw [e] at this
    exact this
  unfold wpX_groundSlot
  dsimp only
  rw [e6, e4, e2, a3, a4, a5, esc]
  refine nm_e (nm_e (nm_e (nm_e (pk_eq (t % 4) 0 (fun c => ⟨ws, nm_e ?_⟩) (fun c => ?_)))))
  · refine xg_37 K E ht (fun u => h _ _ _ (gr_in_n I u ?_)) (fun u => h _ _ _ (gr_in_u I u (hk u) (po' := upd a_positives (t / 4) 0) ?_ rfl))
    · rw [ma_ift c]
    · rw [ma_ift c]
  · refine xg_37 K E ht (fun u => h _ _ _ (gr_in_n I u ?_)) (fun u => h _ _ _ (gr_in_u I u (hk u) (po' := a_positives) ?_ rfl))
    · rw [ma_iff c]
    · rw [ma_iff c]
end G
/-! the counting sort -/
section S
variable {us : Nat → Prop} {kk aa : Nat → Nat} {S : Nat}
variable {f_kindHead f_kindPositive f_kindNegated f_draftRow f_constants f_unary f_binary f_maxRules f_atoms f_ruleCount f_hasDraft f_grounded f_hasModel f_tail : Int32} {a_isFactAtom a_candidate a_bodyLength a_cellKind a_cellPred a_cellFirst a_cellSecond a_groundAtom a_groundKind a_positives a_start a_cursor a_occurrence a_value a_stage a_height a_reached a_depth a_queue a_missing a_blocked : Nat → Int32}
theorem xg_i10 {post : SX → Prop} {x1 : Int32} (h : ∀ sa : Nat → Int32, (∀ k, k < 145 → sa k = 0) → ∃ m, wX_indexSlots_32 post x1 f_kindHead f_kindPositive f_kindNegated f_draftRow f_constants f_unary f_binary f_maxRules f_atoms f_ruleCount f_hasDraft f_grounded f_hasModel f_tail m 0 a_isFactAtom a_candidate a_bodyLength a_cellKind a_cellPred a_cellFirst a_cellSecond a_groundAtom a_groundKind a_positives sa a_cursor a_occurrence a_value a_stage a_height a_reached a_depth a_queue a_missing a_blocked) :
    ∀ (d k f : Nat) (sa : Nat → Int32), k + d = 145 → d < f → (∀ j, j < k → sa j = 0) → wX_indexSlots_10 post x1 f_kindHead f_kindPositive f_kindNegated f_draftRow f_constants f_unary f_binary f_maxRules f_atoms f_ruleCount f_hasDraft f_grounded f_hasModel f_tail f (nI k) a_isFactAtom a_candidate a_bodyLength a_cellKind a_cellPred a_cellFirst a_cellSecond a_groundAtom a_groundKind a_positives sa a_cursor a_occurrence a_value a_stage a_height a_reached a_depth a_queue a_missing a_blocked := by
  intro d
  induction d with
  | zero =>
    intro k f sa h1 h2 I
    obtain ⟨f, rfl⟩ : ∃ m, f = m + 1 := ⟨f - 1, by omega⟩
    rw [wX_indexSlots_10]
    dsimp only
    exact br_t (nI_le (a := 145) (by omega) (by omega)) (h sa (fun j hj => I j (by omega)))
  | succ d ih =>
    intro k f sa h1 h2 I
    obtain ⟨f, rfl⟩ : ∃ m, f = m + 1 := ⟨f - 1, by omega⟩
    rw [wX_indexSlots_10]
    dsimp only
    have e : (nI k).toNatClampNeg = k := nI_clamp (by omega)
    rw [e]
    refine br_f (nI_ge (b := 145) (by omega) (by omega)) ⟨vp_in_nI (by omega) (by omega), nm_e (nm_r (nI_1 k) (ih (k + 1) f _ (by omega) (by omega) (fun j hj => ?_)))⟩
    by_cases z : j = k
    · rw [z, pk_us]
    · rw [pk_un z]; exact I j (by omega)
theorem xg_i32 {post : SX → Prop} (hS : S ≤ 512) (hb : ∀ s, us s → aa s < 48 ∧ kk s ≤ 2) (g1 : ∀ s, s < S → us s → a_groundAtom s = nI (aa s) ∧ a_groundKind s = nI (kk s)) (g2 : ∀ s, s < S → ¬ us s → a_groundAtom s = -1)
    (h : ∀ sa : Nat → Int32, sa 0 = 0 → (∀ k, k < 144 → sa (k + 1) = nI (gr_ls us (fun s => 3 * aa s + kk s) k S).length) → ∃ m, wX_indexSlots_80 post (nI S) f_kindHead f_kindPositive f_kindNegated f_draftRow f_constants f_unary f_binary f_maxRules f_atoms f_ruleCount f_hasDraft f_grounded f_hasModel f_tail m 0 a_isFactAtom a_candidate a_bodyLength a_cellKind a_cellPred a_cellFirst a_cellSecond a_groundAtom a_groundKind a_positives sa a_cursor a_occurrence a_value a_stage a_height a_reached a_depth a_queue a_missing a_blocked) :
    ∀ (d t f : Nat) (sa : Nat → Int32), t + d = S → d < f → sa 0 = 0 → (∀ k, k < 144 → sa (k + 1) = nI (gr_ls us (fun s => 3 * aa s + kk s) k t).length) → wX_indexSlots_32 post (nI S) f_kindHead f_kindPositive f_kindNegated f_draftRow f_constants f_unary f_binary f_maxRules f_atoms f_ruleCount f_hasDraft f_grounded f_hasModel f_tail f (nI t) a_isFactAtom a_candidate a_bodyLength a_cellKind a_cellPred a_cellFirst a_cellSecond a_groundAtom a_groundKind a_positives sa a_cursor a_occurrence a_value a_stage a_height a_reached a_depth a_queue a_missing a_blocked := by
  intro d
  induction d with
  | zero =>
    intro t f sa h1 h2 I0 I
    obtain ⟨f, rfl⟩ : ∃ m, f = m + 1 := ⟨f - 1, by omega⟩
    have e : t = S := by omega
    subst e
    rw [wX_indexSlots_32]
    dsimp only
    exact br_t (nI_le (Nat.le_refl _) (by omega)) (h sa I0 I)
  | succ d ih =>
    intro t f sa h1 h2 I0 I
    obtain ⟨f, rfl⟩ : ∃ m, f = m + 1 := ⟨f - 1, by omega⟩
    rw [wX_indexSlots_32]
    dsimp only
    have e : (nI t).toNatClampNeg = t := nI_clamp (by omega)
    have w : vp_in (nI t) 512 := vp_in_nI (by omega) (by omega)
    rw [e]
    refine br_f (nI_ge (by omega) (by omega)) ⟨w, ?_⟩
    by_cases u : us t
    · obtain ⟨b1, b2⟩ := hb t u
      obtain ⟨c1, c2⟩ := g1 t (by omega) u
      have ek : 3 * a_groundAtom t + a_groundKind t + 1 = nI (3 * aa t + kk t + 1) := by
        rw [xg_key c1 c2, nI_1]
      have ec : (nI (3 * aa t + kk t + 1)).toNatClampNeg = 3 * aa t + kk t + 1 := nI_clamp (by omega)
      have wk : vp_in (nI (3 * aa t + kk t + 1)) 145 := vp_in_nI (by omega) (by omega)
      rw [ek, ec]
      refine br_f (by rw [c1]; exact nI_pos (by omega)) ⟨w, w, wk, wk, nm_e (nm_r (nI_1 t) (ih (t + 1) f _ (by omega) (by omega) ?_ (fun k hk => ?_)))⟩
      · rw [pk_un (by omega)]; exact I0
      · rw [gr_ls_len]
        by_cases z : k = 3 * aa t + kk t
        · subst z
          rw [pk_us, I _ hk, nI_1, ma_ot ⟨u, rfl⟩]
        · rw [pk_un (by omega), I k hk, ma_of (fun y => z y.2.symm)]
          rfl
    · refine br_t (by rw [g2 t (by omega) u]; decide) (nm_r (nI_1 t) (ih (t + 1) f _ (by omega) (by omega) I0 (fun k hk => ?_)))
      rw [gr_ls_len, ma_of (fun y => u y.1)]
      exact I k hk
theorem xg_i80 {post : SX → Prop} (hS : S ≤ 512)
    (h : ∀ sa cu : Nat → Int32, (∀ k, k < 145 → sa k = nI (gr_cu us (fun s => 3 * aa s + kk s) S k)) → (∀ k, k < 144 → cu k = nI (gr_cu us (fun s => 3 * aa s + kk s) S k)) → ∃ m, wX_indexSlots_124 post (nI S) f_kindHead f_kindPositive f_kindNegated f_draftRow f_constants f_unary f_binary f_maxRules f_atoms f_ruleCount f_hasDraft f_grounded f_hasModel f_tail m 0 a_isFactAtom a_candidate a_bodyLength a_cellKind a_cellPred a_cellFirst a_cellSecond a_groundAtom a_groundKind a_positives sa cu a_occurrence a_value a_stage a_height a_reached a_depth a_queue a_missing a_blocked) :
    ∀ (d t f : Nat) (sa cu : Nat → Int32), t + d = 144 → d < f → (∀ k, k ≤ t → sa k = nI (gr_cu us (fun s => 3 * aa s + kk s) S k)) → (∀ k, t ≤ k → k < 144 → sa (k + 1) = nI (gr_ls us (fun s => 3 * aa s + kk s) k S).length) → (∀ k, k < t → cu k = nI (gr_cu us (fun s => 3 * aa s + kk s) S k)) → wX_indexSlots_80 post (nI S) f_kindHead f_kindPositive f_kindNegated f_draftRow f_constants f_unary f_binary f_maxRules f_atoms f_ruleCount f_hasDraft f_grounded f_hasModel f_tail f (nI t) a_isFactAtom a_candidate a_bodyLength a_cellKind a_cellPred a_cellFirst a_cellSecond a_groundAtom a_groundKind a_positives sa cu a_occurrence a_value a_stage a_height a_reached a_depth a_queue a_missing a_blocked := by
  intro d
  induction d with
  | zero =>
    intro t f sa cu h1 h2 I1 I2 I3
    obtain ⟨f, rfl⟩ : ∃ m, f = m + 1 := ⟨f - 1, by omega⟩
    rw [wX_indexSlots_80]
    dsimp only
    exact br_t (nI_le (a := 144) (by omega) (by omega)) (h sa cu (fun k hk => I1 k (by omega)) (fun k hk => I3 k (by omega)))
  | succ d ih =>
    intro t f sa cu h1 h2 I1 I2 I3
    obtain ⟨f, rfl⟩ : ∃ m, f = m + 1 := ⟨f - 1, by omega⟩
    rw [wX_indexSlots_80]
    dsimp only
    have e : (nI t).toNatClampNeg = t := nI_clamp (by omega)
    have e1 : nI t + 1 = nI (t + 1) := nI_1 t
    have ec : (nI (t + 1)).toNatClampNeg = t + 1 := nI_clamp (by omega)
    have w : vp_in (nI t) 145 := vp_in_nI (by omega) (by omega)
    have w' : vp_in (nI t) 144 := vp_in_nI (by omega) (by omega)
    have w1 : vp_in (nI (t + 1)) 145 := vp_in_nI (by omega) (by omega)
    rw [e1, e, ec]
    refine br_f (nI_ge (b := 144) (by omega) (by omega)) ⟨w, w', nm_e ⟨w1, w, w1, nm_e (nm_e (ih (t + 1) f _ _ (by omega) (by omega) (fun k hk => ?_) (fun k k1 k2 => ?_) (fun k hk => ?_)))⟩⟩
    · by_cases z : k = t + 1
      · subst z
        rw [pk_us, I2 t (by omega) (by omega), I1 t (by omega), nI_add]
        show nI _ = nI (gr_cu us (fun s => 3 * aa s + kk s) S t + _)
        rw [Nat.add_comm]
      · rw [pk_un z]; exact I1 k (by omega)
    · rw [pk_un (by omega)]; exact I2 k (by omega) k2
    · by_cases z : k = t
      · subst z
        rw [pk_us]; exact I1 k (by omega)
      · rw [pk_un z]; exact I3 k (by omega)
theorem xg_i124 {post : SX → Prop} (hS : S ≤ 512) (hb : ∀ s, us s → aa s < 48 ∧ kk s ≤ 2) (g1 : ∀ s, s < S → us s → a_groundAtom s = nI (aa s) ∧ a_groundKind s = nI (kk s)) (g2 : ∀ s, s < S → ¬ us s → a_groundAtom s = -1)
    (h : ∀ cu oc : Nat → Int32, (∀ k, k < 144 → gr_at oc (gr_cu us (fun s => 3 * aa s + kk s) S k) (gr_ls us (fun s => 3 * aa s + kk s) k S)) → post (f_kindHead, f_kindPositive, f_kindNegated, f_draftRow, f_constants, f_unary, f_binary, f_maxRules, f_atoms, f_ruleCount, f_hasDraft, f_grounded, f_hasModel, f_tail, a_isFactAtom, a_candidate, a_bodyLength, a_cellKind, a_cellPred, a_cellFirst, a_cellSecond, a_groundAtom, a_groundKind, a_positives, a_start, cu, oc, a_value, a_stage, a_height, a_reached, a_depth, a_queue, a_missing, a_blocked)) :
    ∀ (d t f : Nat) (cu oc : Nat → Int32), t + d = S → d < f → (∀ k, k < 144 → cu k = nI (gr_cu us (fun s => 3 * aa s + kk s) S k + (gr_ls us (fun s => 3 * aa s + kk s) k t).length)) → (∀ k, k < 144 → gr_at oc (gr_cu us (fun s => 3 * aa s + kk s) S k) (gr_ls us (fun s => 3 * aa s + kk s) k t)) → wX_indexSlots_124 post (nI S) f_kindHead f_kindPositive f_kindNegated f_draftRow f_constants f_unary f_binary f_maxRules f_atoms f_ruleCount f_hasDraft f_grounded f_hasModel f_tail f (nI t) a_isFactAtom a_candidate a_bodyLength a_cellKind a_cellPred a_cellFirst a_cellSecond a_groundAtom a_groundKind a_positives a_start cu oc a_value a_stage a_height a_reached a_depth a_queue a_missing a_blocked := by
  intro d
  induction d with
  | zero =>
    intro t f cu oc h1 h2 I1 I2
    obtain ⟨f, rfl⟩ : ∃ m, f = m + 1 := ⟨f - 1, by omega⟩
    have e : t = S := by omega
    subst e
    rw [wX_indexSlots_124]
    dsimp only
    exact br_t (nI_le (Nat.le_refl _) (by omega)) (h cu oc I2)
  | succ d ih =>
    intro t f cu oc h1 h2 I1 I2
    obtain ⟨f, rfl⟩ : ∃ m, f = m + 1 := ⟨f - 1, by omega⟩
    rw [wX_indexSlots_124]
    dsimp only
    have e : (nI t).toNatClampNeg = t := nI_clamp (by omega)
    have w : vp_in (nI t) 512 := vp_in_nI (by omega) (by omega)
    rw [e]
    refine br_f (nI_ge (by omega) (by omega)) ⟨w, ?_⟩
    by_cases u : us t
    · obtain ⟨b1, b2⟩ := hb t u
      obtain ⟨c1, c2⟩ := g1 t (by omega) u
      refine br_f (by rw [c1]; exact nI_pos (by omega)) ⟨w, w, nm_r (e' := nI (3 * aa t + kk t)) (xg_key c1 c2) ?_⟩
      have ec : (nI (3 * aa t + kk t)).toNatClampNeg = 3 * aa t + kk t := nI_clamp (by omega)
      have wk : vp_in (nI (3 * aa t + kk t)) 144 := vp_in_nI (by omega) (by omega)
      have l1 := gr_ls_lt (us := us) (ky := fun s => 3 * aa s + kk s) (k := 3 * aa t + kk t) (s := t) (S := S) u rfl (by omega)
      have l2 := gr_cu_lt (us := us) (ky := fun s => 3 * aa s + kk s) (S := S) (K := 3 * aa t + kk t) (K' := 3 * aa t + kk t + 1) (by omega)
      have l3 := gr_cu_le (us := us) (ky := fun s => 3 * aa s + kk s) S (3 * aa t + kk t + 1)
      have ep := I1 (3 * aa t + kk t) (by omega)
      have wp : vp_in (cu (3 * aa t + kk t)) 512 := by rw [ep]; exact vp_in_nI (by omega) (by omega)
      have epc : (cu (3 * aa t + kk t)).toNatClampNeg = gr_cu us (fun s => 3 * aa s + kk s) S (3 * aa t + kk t) + (gr_ls us (fun s => 3 * aa s + kk s) (3 * aa t + kk t) t).length := by rw [ep]; exact nI_clamp (by omega)
      rw [ec, epc]
      refine ⟨wk, wp, nm_e ⟨wk, wk, nm_e (nm_r (nI_1 t) (ih (t + 1) f _ _ (by omega) (by omega) (fun k hk => ?_) (fun k hk => ?_)))⟩⟩
      · rw [gr_ls_len]
        by_cases z : k = 3 * aa t + kk t
        · subst z
          rw [pk_us, ep, nI_1, ma_ot ⟨u, rfl⟩]
          rfl
        · rw [pk_un z, I1 k hk, ma_of (fun y => z y.2.symm)]
          rfl
      · by_cases z : k = 3 * aa t + kk t
        · subst z
          rw [gr_ls_t u rfl]
          exact gr_at_a (gr_at_u (I2 _ hk) (Or.inr (Nat.le_refl _))) pk_us
        · rw [gr_ls_f (us := us) (ky := fun s => 3 * aa s + kk s) (k := k) (s := t) (fun y => z y.2.symm)]
          refine gr_at_u (I2 k hk) ?_
          have m1 := gr_ls_le (us := us) (ky := fun s => 3 * aa s + kk s) (k := k) (s := t) (S - t)
          have m2 : t + (S - t) = S := by omega
          rw [m2] at m1
          by_cases y : k < 3 * aa t + kk t
          · have := gr_cu_lt (us := us) (ky := fun s => 3 * aa s + kk s) (S := S) (K := k) (K' := 3 * aa t + kk t) y
            right; omega
          · have := gr_cu_lt (us := us) (ky := fun s => 3 * aa s + kk s) (S := S) (K := 3 * aa t + kk t) (K' := k) (by omega)
            left; omega
    · refine br_t (by rw [g2 t (by omega) u]; decide) (nm_r (nI_1 t) (ih (t + 1) f _ _ (by omega) (by omega) (fun k hk => ?_) (fun k hk => ?_)))
      · rw [gr_ls_len, ma_of (fun y => u y.1)]
        exact I1 k hk
      · rw [gr_ls_f (fun y => u y.1)]
        exact I2 k hk
end S
section E
variable {C U B n : Nat} {ln kd pd fs sn : Nat → Nat}
variable {f_kindHead f_kindPositive f_kindNegated f_draftRow f_constants f_unary f_binary f_maxRules f_atoms f_ruleCount f_hasDraft f_grounded f_hasModel f_tail : Int32} {a_isFactAtom a_candidate a_bodyLength a_cellKind a_cellPred a_cellFirst a_cellSecond a_groundAtom a_groundKind a_positives a_start a_cursor a_occurrence a_value a_stage a_height a_reached a_depth a_queue a_missing a_blocked : Nat → Int32}
theorem xg_index {post : SX → Prop} (K : pg_ok C U B n ln kd pd fs sn)
    (I : gr_in (64 * n) (pg_us C n ln) (pg_kk kd) (pg_aa C U pd fs sn) a_groundAtom a_groundKind a_positives)
    (h : ∀ (sa cu oc : Nat → Int32), gr_ok (64 * n) (pg_us C n ln) (pg_kk kd) (pg_aa C U pd fs sn) a_groundAtom a_groundKind a_positives sa oc → post (f_kindHead, f_kindPositive, f_kindNegated, f_draftRow, nI C, nI U, nI B, f_maxRules, nI (pg_N C U B), nI n, f_hasDraft, f_grounded, f_hasModel, f_tail, a_isFactAtom, a_candidate, a_bodyLength, a_cellKind, a_cellPred, a_cellFirst, a_cellSecond, a_groundAtom, a_groundKind, a_positives, sa, cu, oc, a_value, a_stage, a_height, a_reached, a_depth, a_queue, a_missing, a_blocked)) : wpX_indexSlots post (f_kindHead, f_kindPositive, f_kindNegated, f_draftRow, nI C, nI U, nI B, f_maxRules, nI (pg_N C U B), nI n, f_hasDraft, f_grounded, f_hasModel, f_tail, a_isFactAtom, a_candidate, a_bodyLength, a_cellKind, a_cellPred, a_cellFirst, a_cellSecond, a_groundAtom, a_groundKind, a_positives, a_start, a_cursor, a_occurrence, a_value, a_stage, a_height, a_reached, a_depth, a_queue, a_missing, a_blocked) := by
  have k2 := K.2.1
  have hb : ∀ s, pg_us C n ln s → pg_aa C U pd fs sn s < 48 ∧ pg_kk kd s ≤ 2 := by
    intro s u
    have h1 := (pg_us_a K u).1
    have h2 := (pg_N48 K.1).1
    have e : 4 * (s / 4) + s % 4 = s := by omega
    have h3 := (pg_us_k K (m := s / 4) (i := s % 4) (by omega) (by rw [e]; exact u)).2.2
    rw [e] at h3
    exact ⟨by omega, h3⟩
  obtain ⟨i1, i2, i3⟩ := I
  have e64 : 64 * nI n = nI (64 * n) := by rw [← pk_mul]; rfl
  refine nm_r e64 ⟨146, xg_i10 (fun sa I0 => ⟨64 * n + 1, ?_⟩) 145 0 146 a_start (by omega) (by omega) (fun j hj => by omega)⟩
  refine xg_i32 (us := pg_us C n ln) (kk := pg_kk kd) (aa := pg_aa C U pd fs sn) (by omega) hb i1 i2 (fun sa J0 J1 => ⟨145, ?_⟩) (64 * n) 0 _ sa (by omega) (by omega) (I0 0 (by omega)) (fun k hk => I0 (k + 1) (by omega))
  refine xg_i80 (us := pg_us C n ln) (kk := pg_kk kd) (aa := pg_aa C U pd fs sn) (by omega) (fun sa cu J2 J3 => ⟨64 * n + 1, ?_⟩) 144 0 _ sa a_cursor (by omega) (by omega) (fun k hk => ?_) (fun k _ hk => J1 k hk) (fun k hk => by omega)
  · refine xg_i124 (us := pg_us C n ln) (kk := pg_kk kd) (aa := pg_aa C U pd fs sn) (by omega) hb i1 i2 (fun cu oc J4 => h _ _ _ ⟨i1, i2, fun m hm => ?_, J2, J4⟩) (64 * n) 0 _ cu a_occurrence (by omega) (by omega) (fun k hk => J3 k hk) (fun k hk => trivial)
    rw [i3 m hm]
    refine congrArg nI (gr_mc_c (fun i _ _ u _ => ?_))
    constructor
    · intro z
      have z : 64 * n ≤ 4 * m + i := z
      have := u.1
      omega
    · exact fun z => z.elim
  · have : k = 0 := by omega
    subst this
    rw [J0]
    rfl
theorem xg_eg10 {post : SX → Prop} (K : pg_ok C U B n ln kd pd fs sn) (E : xa_ce ln kd pd fs sn a_bodyLength a_cellKind a_cellPred a_cellFirst a_cellSecond)
    (h : ∀ (ga gk po sa cu oc : Nat → Int32), gr_ok (64 * n) (pg_us C n ln) (pg_kk kd) (pg_aa C U pd fs sn) ga gk po sa oc → post (f_kindHead, f_kindPositive, f_kindNegated, f_draftRow, nI C, nI U, nI B, f_maxRules, nI (pg_N C U B), nI n, f_hasDraft, 1, f_hasModel, f_tail, a_isFactAtom, a_candidate, a_bodyLength, a_cellKind, a_cellPred, a_cellFirst, a_cellSecond, ga, gk, po, sa, cu, oc, a_value, a_stage, a_height, a_reached, a_depth, a_queue, a_missing, a_blocked)) :
    ∀ (d t f : Nat) (ga gk po : Nat → Int32), t + d = 64 * n → d < f → gr_in t (pg_us C n ln) (pg_kk kd) (pg_aa C U pd fs sn) ga gk po → wX_ensureGround_10 post f (nI t) f_kindHead f_kindPositive f_kindNegated f_draftRow (nI C) (nI U) (nI B) f_maxRules (nI (pg_N C U B)) (nI n) f_hasDraft f_grounded f_hasModel f_tail a_isFactAtom a_candidate a_bodyLength a_cellKind a_cellPred a_cellFirst a_cellSecond ga gk po a_start a_cursor a_occurrence a_value a_stage a_height a_reached a_depth a_queue a_missing a_blocked := by
  have k2 := K.2.1
  have e64 : 64 * nI n = nI (64 * n) := by rw [← pk_mul]; rfl
  intro d
  induction d with
  | zero =>
    intro t f ga gk po h1 h2 I
    obtain ⟨f, rfl⟩ : ∃ m, f = m + 1 := ⟨f - 1, by omega⟩
    rw [wX_ensureGround_10]
    dsimp only
    rw [e64]
    have e : t = 64 * n := by omega
    subst e
    exact br_t (nI_le (Nat.le_refl _) (by omega)) (xg_index K I (fun sa cu oc J => h ga gk po sa cu oc J))
  | succ d ih =>
    intro t f ga gk po h1 h2 I
    obtain ⟨f, rfl⟩ : ∃ m, f = m + 1 := ⟨f - 1, by omega⟩
    rw [wX_ensureGround_10]
    dsimp only
    rw [e64]
    refine br_f (nI_ge (by omega) (by omega)) (xg_slot K E (by omega) I (fun ga' gk' po' I' => ?_))
    exact nm_r (nI_1 t) (ih (t + 1) f ga' gk' po' (by omega) (by omega) I')
/-- grounding, where it is wanted -/
theorem xg_ensure {post : SX → Prop} (K : pg_ok C U B n ln kd pd fs sn) (E : xa_ce ln kd pd fs sn a_bodyLength a_cellKind a_cellPred a_cellFirst a_cellSecond)
    (G : f_grounded ≠ 0 → gr_ok (64 * n) (pg_us C n ln) (pg_kk kd) (pg_aa C U pd fs sn) a_groundAtom a_groundKind a_positives a_start a_occurrence)
    (h : ∀ (gr : Int32) (ga gk po sa cu oc : Nat → Int32), gr ≠ 0 → gr_ok (64 * n) (pg_us C n ln) (pg_kk kd) (pg_aa C U pd fs sn) ga gk po sa oc → post (f_kindHead, f_kindPositive, f_kindNegated, f_draftRow, nI C, nI U, nI B, f_maxRules, nI (pg_N C U B), nI n, f_hasDraft, gr, f_hasModel, f_tail, a_isFactAtom, a_candidate, a_bodyLength, a_cellKind, a_cellPred, a_cellFirst, a_cellSecond, ga, gk, po, sa, cu, oc, a_value, a_stage, a_height, a_reached, a_depth, a_queue, a_missing, a_blocked)) : wpX_ensureGround post (f_kindHead, f_kindPositive, f_kindNegated, f_draftRow, nI C, nI U, nI B, f_maxRules, nI (pg_N C U B), nI n, f_hasDraft, f_grounded, f_hasModel, f_tail, a_isFactAtom, a_candidate, a_bodyLength, a_cellKind, a_cellPred, a_cellFirst, a_cellSecond, a_groundAtom, a_groundKind, a_positives, a_start, a_cursor, a_occurrence, a_value, a_stage, a_height, a_reached, a_depth, a_queue, a_missing, a_blocked) := by
  refine br_c (fun z => ⟨64 * n + 1, ?_⟩) (fun z => h _ _ _ _ _ _ _ z (G z))
  exact xg_eg10 K E (fun ga gk po sa cu oc J => h 1 ga gk po sa cu oc (by decide) J) (64 * n) 0 _ a_groundAtom a_groundKind a_positives (by omega) (by omega) ⟨fun s hs => by omega, fun s hs => by omega, fun m hm => by omega⟩
end E
end
section
/-! the closure by counters and a queue, in pure words: T entries qf of the queue, depths d -/
def cl_Q (N T : Nat) (qf d : Nat → Nat) (Hh : Nat → Nat → Prop) (rc dp qu : Nat → Int32) : Prop :=
  (∀ i, i < T → qf i < N ∧ qu i = nI (qf i) ∧ dp (qf i) = nI (d (qf i)) ∧ Hh (d (qf i)) (qf i)) ∧ (∀ i j, i < T → j < T → qf i = qf j → i = j) ∧ (∀ a, a < N → rc a = ma_b (∃ i, i < T ∧ qf i = a)) ∧ (∀ i j, i ≤ j → j < T → d (qf i) ≤ d (qf j))
def cl_X (T : Nat) (qf d : Nat → Nat) (T' : Nat) (qf' d' : Nat → Nat) : Prop := T ≤ T' ∧ (∀ i, i < T → qf' i = qf i) ∧ (∀ i, i < T → d' (qf i) = d (qf i))
def cl_in (T : Nat) (qf d : Nat → Nat) (a e : Nat) : Prop := (∃ i, i < T ∧ qf i = a) ∧ d a ≤ e
def cl_M (S : Nat) (us : Nat → Prop) (kk : Nat → Nat) (dn : Nat → Prop) (ms : Nat → Int32) : Prop := ∀ m, 4 * m < S → ms m = nI (gr_mc us kk dn m)
def cl_C (us : Nat → Prop) (kk aa : Nat → Nat) (bl : Nat → Prop) (T : Nat) (qf d : Nat → Nat) (dn : Nat → Prop) : Prop := ∀ m, us (4 * m) → ¬ bl m → gr_mc us kk dn m = 0 → ∀ e, (∀ i, 1 ≤ i → i ≤ 3 → us (4 * m + i) → kk (4 * m + i) = 1 → cl_in T qf d (aa (4 * m + i)) e) → cl_in T qf d (aa (4 * m)) (e + 1)
section Q
variable {N T T' T'' : Nat} {qf d qf' d' qf'' d'' : Nat → Nat} {Hh : Nat → Nat → Prop} {rc dp qu : Nat → Int32}
theorem cl_Q_T (h : cl_Q N T qf d Hh rc dp qu) : T ≤ N := ma_pig (fun i hi => (h.1 i hi).1) h.2.1
theorem cl_X_r : cl_X T qf d T qf d := ⟨Nat.le_refl _, fun _ _ => rfl, fun _ _ => rfl⟩
theorem cl_X_t (h : cl_X T qf d T' qf' d') (k : cl_X T' qf' d' T'' qf'' d'') : cl_X T qf d T'' qf'' d'' := by
  obtain ⟨h1, h2, h3⟩ := h
  obtain ⟨k1, k2, k3⟩ := k
  refine ⟨by omega, fun i hi => ?_, fun i hi => ?_⟩
  · rw [k2 i (by omega), h2 i hi]
  · have := k3 i (by omega)
    rw [h2 i hi] at this
    rw [this, h3 i hi]
theorem cl_X_in (h : cl_X T qf d T' qf' d') {a e : Nat} (k : cl_in T qf d a e) : cl_in T' qf' d' a e := by
  obtain ⟨h1, h2, h3⟩ := h
  obtain ⟨⟨i, hi, rfl⟩, k2⟩ := k
  exact ⟨⟨i, by omega, h2 i hi⟩, by rw [h3 i hi]; exact k2⟩
theorem cl_X_ni (h : cl_X T qf d T' qf' d') {a e : Nat} (hi : ∃ i, i < T ∧ qf i = a) (k : cl_in T' qf' d' a e) : cl_in T qf d a e := by
  obtain ⟨h1, h2, h3⟩ := h
  obtain ⟨i, hi, rfl⟩ := hi
  exact ⟨⟨i, hi, rfl⟩, by rw [← h3 i hi]; exact k.2⟩
theorem cl_Q_0 (hrc : ∀ a, a < N → rc a = 0) : cl_Q N 0 qf d Hh rc dp qu := ⟨fun i hi => by omega, fun i j hi => by omega, fun a ha => by
  rw [hrc a ha, ma_bf]
  rintro ⟨i, hi, _⟩
  omega, fun i j _ hj => by omega⟩
/-- one more entry -/
theorem cl_Q_x {a e : Nat} (h : cl_Q N T qf d Hh rc dp qu) (ha : a < N) (hn : ¬ ∃ i, i < T ∧ qf i = a) (hH : Hh e a) (he : ∀ i, i < T → d (qf i) ≤ e) : cl_Q N (T + 1) (ma_u qf T a) (ma_u d a e) Hh (upd rc a 1) (upd dp a (nI e)) (upd qu T (nI a)) ∧ cl_X T qf d (T + 1) (ma_u qf T a) (ma_u d a e) ∧ (∀ i, i < T + 1 → ma_u d a e (ma_u qf T a i) ≤ e) := by
  obtain ⟨h1, h2, h3, h4⟩ := h
  have ne : ∀ i, i < T → qf i ≠ a := fun i hi z => hn ⟨i, hi, z⟩
  have q1 : ∀ i, i < T → ma_u qf T a i = qf i := fun i hi => ma_un (by omega)
  have qT : ma_u qf T a T = a := ma_us
  have d1 : ∀ i, i < T → ma_u d a e (qf i) = d (qf i) := fun i hi => ma_un (ne i hi)
  have dT : ma_u d a e a = e := ma_us
  have le : ∀ i, i < T + 1 → ma_u d a e (ma_u qf T a i) ≤ e := by
    intro i hi
    by_cases z : i = T
    · rw [z, qT, dT]; omega
    · rw [q1 i (by omega), d1 i (by omega)]
      exact he i (by omega)
  refine ⟨⟨fun i hi => ?_, fun i j hi hj z => ?_, fun b hb => ?_, fun i j hij hj => ?_⟩, ⟨by omega, q1, d1⟩, le⟩
  · by_cases z : i = T
    · rw [z, qT, pk_us, pk_us, dT]
      exact ⟨ha, rfl, rfl, hH⟩
    · rw [q1 i (by omega), pk_un z, pk_un (ne i (by omega)), d1 i (by omega)]
      exact h1 i (by omega)
  · by_cases zi : i = T
    · by_cases zj : j = T
      · omega
      · rw [zi, qT, q1 j (by omega)] at z
        exact absurd z.symm (ne j (by omega))
    · by_cases zj : j = T
      · rw [zj, qT, q1 i (by omega)] at z
        exact absurd z (ne i (by omega))
      · rw [q1 i (by omega), q1 j (by omega)] at z
        exact h2 i j (by omega) (by omega) z
  · by_cases z : b = a
    · rw [z, pk_us, ma_bt]
      exact ⟨T, by omega, qT⟩
    · rw [pk_un z, h3 b hb]
      refine ma_bc ⟨?_, ?_⟩
      · rintro ⟨i, hi, y⟩
        exact ⟨i, by omega, by rw [q1 i hi]; exact y⟩
      · rintro ⟨i, hi, y⟩
        by_cases x : i = T
        · rw [x, qT] at y
          exact absurd y.symm z
        · rw [q1 i (by omega)] at y
          exact ⟨i, by omega, y⟩
  · by_cases zj : j = T
    · rw [zj, qT, dT]
      exact le i (by omega)
    · rw [q1 j (by omega), d1 j (by omega), q1 i (by omega), d1 i (by omega)]
      exact h4 i j hij (by omega)
end Q
/-- while the entry qi of the queue, the atom a0, is handed on: the slots dn are done -/
def cl_I (N S : Nat) (us : Nat → Prop) (kk aa : Nat → Nat) (F bl m0 : Nat → Prop) (qi a0 T : Nat) (qf d : Nat → Nat) (dn : Nat → Prop) (rc dp qu ms : Nat → Int32) : Prop :=
  cl_Q N T qf d (ma_H us kk aa F bl m0) rc dp qu ∧ cl_M S us kk dn ms ∧ cl_C us kk aa bl T qf d dn ∧ (∀ s, us s → kk s = 1 → dn s → ∃ i, i ≤ qi ∧ qf i = aa s) ∧ qi < T ∧ qf qi = a0 ∧ (∀ i, i < T → d (qf i) ≤ d a0 + 1)
section I
variable {N S : Nat} {us : Nat → Prop} {kk aa : Nat → Nat} {F bl m0 : Nat → Prop} {qi a0 T T' : Nat} {qf d qf' d' : Nat → Nat} {dn : Nat → Prop} {rc dp qu ms rc' dp' qu' : Nat → Int32}
theorem cl_mc1 {s : Nat} (h0 : ∀ n, us (4 * n) → kk (4 * n) = 0) (hs : us s) (hk : kk s = 1) (hd : ¬ dn s) : gr_mc us kk dn (s / 4) = gr_mc us kk (fun t => dn t ∨ t = s) (s / 4) + 1 := by
  have e : 4 * (s / 4) + s % 4 = s := by omega
  have h4 : s % 4 ≠ 0 := by
    intro z
    have e2 : 4 * (s / 4) = s := by omega
    have := h0 (s / 4) (by rw [e2]; exact hs)
    rw [e2] at this
    omega
  refine gr_mc_d (i := s % 4) (by omega) (by omega) (by rw [e]; exact hs) (by rw [e]; exact hk) (by rw [e]; exact hd) (fun j j1 j2 => ?_)
  constructor
  · rintro (z | z)
    · exact Or.inl z
    · right; omega
  · rintro (z | z)
    · exact Or.inl z
    · right
      show 4 * (s / 4) + j = s
      omega
theorem cl_mc2 {s m : Nat} (hm : m ≠ s / 4) : gr_mc us kk (fun t => dn t ∨ t = s) m = gr_mc us kk dn m := gr_mc_c (fun i h1 h2 _ _ => by
  constructor
  · rintro (z | z)
    · exact z
    · omega
  · exact fun z => Or.inl z)
theorem cl_I_H (h : cl_I N S us kk aa F bl m0 qi a0 T qf d dn rc dp qu ms) {s : Nat} (ha : aa s = a0) (hs : us (4 * (s / 4))) (hb : ¬ bl (s / 4)) (hz : gr_mc us kk (fun t => dn t ∨ t = s) (s / 4) = 0) : ma_H us kk aa F bl m0 (d a0 + 1) (aa (4 * (s / 4))) := by
  obtain ⟨⟨q1, q2, q3, q4⟩, _, _, h4, h5, h6, _⟩ := h
  refine Or.inr (Or.inr ⟨s / 4, hs, hb, rfl, fun i i1 i2 i3 i4 => ?_⟩)
  have hi : ∃ i', i' ≤ qi ∧ qf i' = aa (4 * (s / 4) + i) := by
    rcases gr_mc_0.mp hz i i1 i2 i3 i4 with z | z
    · exact h4 _ i3 i4 z
    · exact ⟨qi, Nat.le_refl _, by rw [z, ha]; exact h6⟩
  obtain ⟨i', hi', e⟩ := hi
  have g1 := (q1 i' (by omega)).2.2.2
  have g2 := q4 i' qi hi' h5
  rw [← e]
  rw [h6] at g2
  exact ma_H_le g2 g1
theorem cl_I_st (h : cl_I N S us kk aa F bl m0 qi a0 T qf d dn rc dp qu ms) {s : Nat} (h0 : ∀ n, us (4 * n) → kk (4 * n) = 0) (hs : us s) (hk : kk s = 1) (ha : aa s = a0) (hd : ¬ dn s)
    (Q : cl_Q N T' qf' d' (ma_H us kk aa F bl m0) rc' dp' qu') (X : cl_X T qf d T' qf' d') (hT : ∀ i, i < T' → d' (qf' i) ≤ d a0 + 1) (hh : gr_mc us kk (fun t => dn t ∨ t = s) (s / 4) = 0 → ¬ bl (s / 4) → ∃ i, i < T' ∧ qf' i = aa (4 * (s / 4))) :
    cl_I N S us kk aa F bl m0 qi a0 T' qf' d' (fun t => dn t ∨ t = s) rc' dp' qu' (upd ms (s / 4) (nI (gr_mc us kk (fun t => dn t ∨ t = s) (s / 4)))) := by
  obtain ⟨⟨q1, q2, q3, q4⟩, g2, g3, g4, g5, g6, g7⟩ := h
  have X' := X
  obtain ⟨x1, x2, x3⟩ := X'
  have hq : qf' qi = a0 := by rw [x2 qi g5]; exact g6
  have hda : d' a0 = d a0 := by
    have := x3 qi g5
    rw [g6] at this
    exact this
  refine ⟨Q, fun m hm => ?_, fun m u1 u2 u3 e he => ?_, fun t u1 u2 u3 => ?_, by omega, hq, fun i hi => by rw [hda]; exact hT i hi⟩
  · by_cases z : m = s / 4
    · rw [z, pk_us]
    · rw [pk_un z, cl_mc2 z]
      exact g2 m hm
  · by_cases z : m = s / 4
    · subst z
      obtain ⟨i, hi, ei⟩ := hh u3 u2
      have e4 : 4 * (s / 4) + s % 4 = s := by omega
      have h4 : s % 4 ≠ 0 := by
        intro z
        have e2 : 4 * (s / 4) = s := by omega
        have := h0 (s / 4) (by rw [e2]; exact hs)
        rw [e2] at this
        omega
      have k := (he (s % 4) (by omega) (by omega) (by rw [e4]; exact hs) (by rw [e4]; exact hk)).2
      rw [e4, ha, hda] at k
      have k2 := hT i hi
      rw [ei] at k2
      exact ⟨⟨i, hi, ei⟩, by omega⟩
    · rw [cl_mc2 z] at u3
      refine cl_X_in X (g3 m u1 u2 u3 e (fun i i1 i2 i3 i4 => ?_))
      obtain ⟨i', hi', e'⟩ := g4 _ i3 i4 (gr_mc_0.mp u3 i i1 i2 i3 i4)
      exact cl_X_ni X ⟨i', by omega, e'⟩ (he i i1 i2 i3 i4)
  · rcases u3 with u3 | u3
    · obtain ⟨i, hi, e⟩ := g4 t u1 u2 u3
      exact ⟨i, hi, by rw [x2 i (by omega)]; exact e⟩
    · exact ⟨qi, Nat.le_refl _, by rw [u3, ha]; exact hq⟩
end I
/-- ahead of entry qi -/
def cl_L (N S : Nat) (us : Nat → Prop) (kk aa : Nat → Nat) (F bl m0 : Nat → Prop) (qi T : Nat) (qf d : Nat → Nat) (rc dp qu ms : Nat → Int32) : Prop :=
  qi ≤ T ∧ cl_Q N T qf d (ma_H us kk aa F bl m0) rc dp qu ∧ cl_M S us kk (fun s => ∃ i, i < qi ∧ qf i = aa s) ms ∧ cl_C us kk aa bl T qf d (fun s => ∃ i, i < qi ∧ qf i = aa s) ∧ (∀ a, a < N → m0 a → cl_in T qf d a 0) ∧ (∀ a, a < N → F a → cl_in T qf d a 1) ∧ (qi < T → ∀ i, i < T → d (qf i) ≤ d (qf qi) + 1)
section L
variable {N S : Nat} {us : Nat → Prop} {kk aa : Nat → Nat} {F bl m0 : Nat → Prop} {qi T T' : Nat} {qf d qf' d' : Nat → Nat} {dn : Nat → Prop} {rc dp qu ms rc' dp' qu' ms' : Nat → Int32}
theorem cl_L_I (h : cl_L N S us kk aa F bl m0 qi T qf d rc dp qu ms) (hq : qi < T) : cl_I N S us kk aa F bl m0 qi (qf qi) T qf d (fun s => ∃ i, i < qi ∧ qf i = aa s) rc dp qu ms := by
  obtain ⟨h1, h2, h3, h4, h5, h6, h7⟩ := h
  refine ⟨h2, h3, h4, fun s _ _ k => ?_, hq, rfl, h7 hq⟩
  obtain ⟨i, hi, e⟩ := k
  exact ⟨i, by omega, e⟩
theorem cl_C_c {dn' : Nat → Prop} (hc : ∀ s, us s → kk s = 1 → (dn s ↔ dn' s)) (h : cl_C us kk aa bl T qf d dn) : cl_C us kk aa bl T qf d dn' := by
  intro m u1 u2 u3
  refine h m u1 u2 ?_
  rw [← u3]
  exact gr_mc_c (fun i _ _ i3 i4 => hc _ i3 i4)
theorem cl_I_L (h : cl_L N S us kk aa F bl m0 qi T qf d rc dp qu ms) (k : cl_I N S us kk aa F bl m0 qi (qf qi) T' qf' d' dn rc' dp' qu' ms') (X : cl_X T qf d T' qf' d') (hd : ∀ s, us s → kk s = 1 → (dn s ↔ ((∃ i, i < qi ∧ qf i = aa s) ∨ aa s = qf qi))) (hq : qi < T) : cl_L N S us kk aa F bl m0 (qi + 1) T' qf' d' rc' dp' qu' ms' := by
  obtain ⟨h1, h2, h3, h4, h5, h6, h7⟩ := h
  obtain ⟨k1, k2, k3, k4, k5, k6, k7⟩ := k
  have X' := X
  obtain ⟨x1, x2, x3⟩ := X'
  have hc : ∀ s, us s → kk s = 1 → (dn s ↔ ∃ i, i < qi + 1 ∧ qf' i = aa s) := by
    intro s u1 u2
    refine (hd s u1 u2).trans ⟨?_, ?_⟩
    · rintro (⟨i, hi, e⟩ | e)
      · exact ⟨i, by omega, by rw [x2 i (by omega)]; exact e⟩
      · exact ⟨qi, by omega, by rw [x2 qi hq]; exact e.symm⟩
    · rintro ⟨i, hi, e⟩
      rw [x2 i (by omega)] at e
      by_cases z : i = qi
      · right; rw [← e, z]
      · exact Or.inl ⟨i, by omega, e⟩
  refine ⟨by omega, k1, fun m hm => ?_, cl_C_c hc k3, fun a ha z => cl_X_in X (h5 a ha z), fun a ha z => cl_X_in X (h6 a ha z), fun z i hi => ?_⟩
  · rw [k2 m hm]
    exact congrArg nI (gr_mc_c (fun i _ _ i3 i4 => hc _ i3 i4))
  · have g1 := k7 i hi
    have g2 := k1.2.2.2 qi (qi + 1) (by omega) z
    rw [k6] at g2
    omega
/-- the end: reached is the closure, the depths are the ranks -/
theorem cl_L_end (h : cl_L N S us kk aa F bl m0 T T qf d rc dp qu ms) (ha : ∀ s, us s → aa s < N) : (∀ a, a < N → rc a = ma_b (ma_G us kk aa F bl m0 a)) ∧ (∀ a, a < N → ma_G us kk aa F bl m0 a → dp a = nI (ma_rk fun j => ma_H us kk aa F bl m0 j a)) := by
  obtain ⟨h1, ⟨q1, q2, q3, q4⟩, h3, h4, h5, h6, h7⟩ := h
  have key : ∀ j a, a < N → ma_H us kk aa F bl m0 j a → cl_in T qf d a j := by
    intro j
    induction j with
    | zero => exact h5
    | succ j ih =>
      intro a hA k
      rcases k with k | k | ⟨n, k1, k2, k3, k4⟩
      · have := ih a hA k
        exact ⟨this.1, by have := this.2; omega⟩
      · have := h6 a hA k
        exact ⟨this.1, by have := this.2; omega⟩
      · rw [← k3]
        refine h4 n k1 k2 (gr_mc_0.mpr (fun i i1 i2 i3 i4 => ?_)) j (fun i i1 i2 i3 i4 => ih _ (ha _ i3) (k4 i i1 i2 i3 i4))
        exact (ih _ (ha _ i3) (k4 i i1 i2 i3 i4)).1
  constructor
  · intro a hA
    rw [q3 a hA]
    refine ma_bc ⟨?_, ?_⟩
    · rintro ⟨i, hi, rfl⟩
      exact ⟨_, (q1 i hi).2.2.2⟩
    · rintro ⟨j, k⟩
      exact (key j a hA k).1
  · rintro a hA ⟨j, k⟩
    obtain ⟨⟨i, hi, rfl⟩, _⟩ := key j a hA k
    obtain ⟨_, _, g3, g4⟩ := q1 i hi
    rw [g3, ma_rk_e (P := fun j => ma_H us kk aa F bl m0 j (qf i)) g4 (fun j' k' => (key j' _ hA k').2)]
end L
end
section
/-! the component's closure -/
section C
variable {N n : Nat} {us : Nat → Prop} {kk aa : Nat → Nat} {F bl m0 : Nat → Prop}
variable {f_kindHead f_kindPositive f_kindNegated f_draftRow f_constants f_unary f_binary f_maxRules f_atoms f_ruleCount f_hasDraft f_grounded f_hasModel f_tail : Int32} {a_isFactAtom a_candidate a_bodyLength a_cellKind a_cellPred a_cellFirst a_cellSecond a_groundAtom a_groundKind a_positives a_start a_cursor a_occurrence a_value a_stage a_height a_reached a_depth a_queue a_missing a_blocked : Nat → Int32}
theorem xc_reach {post : SX → Prop} {T a e : Nat} {qf d : Nat → Nat} {Hh : Nat → Nat → Prop} (hN : N ≤ 48) (Q : cl_Q N T qf d Hh a_reached a_depth a_queue) (ha : a < N) (hH : Hh e a) (he : ∀ i, i < T → d (qf i) ≤ e)
    (h : ∀ (T' : Nat) (qf' d' : Nat → Nat) (rc dp qu : Nat → Int32), cl_Q N T' qf' d' Hh rc dp qu → cl_X T qf d T' qf' d' → (∃ i, i < T' ∧ qf' i = a) → (∀ i, i < T' → d' (qf' i) ≤ e) → post (f_kindHead, f_kindPositive, f_kindNegated, f_draftRow, f_constants, f_unary, f_binary, f_maxRules, nI N, nI n, f_hasDraft, f_grounded, f_hasModel, nI T', a_isFactAtom, a_candidate, a_bodyLength, a_cellKind, a_cellPred, a_cellFirst, a_cellSecond, a_groundAtom, a_groundKind, a_positives, a_start, a_cursor, a_occurrence, a_value, a_stage, a_height, rc, dp, qu, a_missing, a_blocked)) :
    wpX_reach post (f_kindHead, f_kindPositive, f_kindNegated, f_draftRow, f_constants, f_unary, f_binary, f_maxRules, nI N, nI n, f_hasDraft, f_grounded, f_hasModel, nI T, a_isFactAtom, a_candidate, a_bodyLength, a_cellKind, a_cellPred, a_cellFirst, a_cellSecond, a_groundAtom, a_groundKind, a_positives, a_start, a_cursor, a_occurrence, a_value, a_stage, a_height, a_reached, a_depth, a_queue, a_missing, a_blocked) (nI a) (nI e) := by
  have hT := cl_Q_T Q
  have ea : (nI a).toNatClampNeg = a := nI_clamp (by omega)
  have eT : (nI T).toNatClampNeg = T := nI_clamp (by omega)
  have wa : vp_in (nI a) 48 := vp_in_nI (by omega) (by omega)
  have hr := Q.2.2.1 a ha
  unfold wpX_reach
  dsimp only
  rw [ea, eT, ma_n1]
  refine ⟨wa, ma_br hr (fun z => ?_) (fun z => ?_)⟩
  · obtain ⟨g1, g2, g3⟩ := cl_Q_x Q ha z hH he
    have hT' := cl_Q_T g1
    refine br_f (nI_ge (b := 48) (by omega) (by omega)) ⟨wa, nm_e ⟨wa, nm_e ⟨vp_in_nI (by omega) (by omega), nm_e (nm_r (nI_1 T) ?_)⟩⟩⟩
    exact h _ _ _ _ _ _ g1 g2 ⟨T, by omega, ma_us⟩ g3
  · exact h _ _ _ _ _ _ Q cl_X_r z he
theorem xc_prop13 {post : SX → Prop} {qi a0 E : Nat} (hn : n ≤ 8) (hN : N ≤ 48) (h0 : ∀ m, us (4 * m) → kk (4 * m) = 0) (hu : ∀ m i, i ≤ 3 → us (4 * m + i) → us (4 * m)) (hS : ∀ s, us s → s < 64 * n) (hA : ∀ s, us s → aa s < N) (ha0 : a0 < N) (g1 : ∀ s, s < 64 * n → us s → a_groundAtom s = nI (aa s) ∧ a_groundKind s = nI (kk s)) (hE : a_start (3 * a0 + 1 + 1) = nI E) (hE5 : E ≤ 512) (hbk : ∀ m, 4 * m < 64 * n → a_blocked m = ma_b (¬ us (4 * m) ∨ bl m)) :
    ∀ (l : List Nat) (e f T : Nat) (qf d : Nat → Nat) (dn : Nat → Prop) (rc dp qu ms : Nat → Int32), gr_at a_occurrence e l → e + l.length = E → l.length < f → l.Pairwise (fun a b => a < b) → (∀ s, s ∈ l → us s ∧ kk s = 1 ∧ aa s = a0 ∧ ¬ dn s) → cl_I N (64 * n) us kk aa F bl m0 qi a0 T qf d dn rc dp qu ms →
    (∀ (T' : Nat) (qf' d' : Nat → Nat) (dn' : Nat → Prop) (rc' dp' qu' ms' : Nat → Int32), cl_I N (64 * n) us kk aa F bl m0 qi a0 T' qf' d' dn' rc' dp' qu' ms' → cl_X T qf d T' qf' d' → (∀ s, dn' s ↔ (dn s ∨ s ∈ l)) → post (f_kindHead, f_kindPositive, f_kindNegated, f_draftRow, f_constants, f_unary, f_binary, f_maxRules, nI N, nI n, f_hasDraft, f_grounded, f_hasModel, nI T', a_isFactAtom, a_candidate, a_bodyLength, a_cellKind, a_cellPred, a_cellFirst, a_cellSecond, a_groundAtom, a_groundKind, a_positives, a_start, a_cursor, a_occurrence, a_value, a_stage, a_height, rc', dp', qu', ms', a_blocked)) →
    wX_propagate_13 post (nI a0) (nI (3 * a0 + 1)) f (nI e) f_kindHead f_kindPositive f_kindNegated f_draftRow f_constants f_unary f_binary f_maxRules (nI N) (nI n) f_hasDraft f_grounded f_hasModel (nI T) a_isFactAtom a_candidate a_bodyLength a_cellKind a_cellPred a_cellFirst a_cellSecond a_groundAtom a_groundKind a_positives a_start a_cursor a_occurrence a_value a_stage a_height rc dp qu ms a_blocked := by
  have ek : nI (3 * a0 + 1) + 1 = nI (3 * a0 + 1 + 1) := nI_1 _
  have ekc : (nI (3 * a0 + 1 + 1)).toNatClampNeg = 3 * a0 + 1 + 1 := nI_clamp (by omega)
  have wk : vp_in (nI (3 * a0 + 1 + 1)) 145 := vp_in_nI (by omega) (by omega)
  have ea : (nI a0).toNatClampNeg = a0 := nI_clamp (by omega)
  have wa : vp_in (nI a0) 48 := vp_in_nI (by omega) (by omega)
  intro l
  induction l with
  | nil =>
    intro e f T qf d dn rc dp qu ms o1 o2 o3 o4 o5 I h
    obtain ⟨f, rfl⟩ : ∃ m, f = m + 1 := ⟨f - 1, by omega⟩
    rw [wX_propagate_13]
    dsimp only
    rw [ek, ekc, hE]
    have o2 : e = E := o2
    subst o2
    exact ⟨wk, br_t (nI_le (Nat.le_refl _) (by omega)) (h _ _ _ _ _ _ _ _ I cl_X_r (fun s => ⟨fun z => Or.inl z, fun z => z.elim id (fun y => absurd y List.not_mem_nil)⟩))⟩
  | cons s l ih =>
    intro e f T qf d dn rc dp qu ms o1 o2 o3 o4 o5 I h
    obtain ⟨f, rfl⟩ : ∃ m, f = m + 1 := ⟨f - 1, by omega⟩
    rw [List.length_cons] at o2 o3
    obtain ⟨p1, p2⟩ := List.pairwise_cons.mp o4
    obtain ⟨r1, r2⟩ := o1
    obtain ⟨u1, u2, u3, u4⟩ := o5 s List.mem_cons_self
    have s5 := hS s u1
    have e4 : 4 * (s / 4) + s % 4 = s := by omega
    have uh : us (4 * (s / 4)) := hu (s / 4) (s % 4) (by omega) (by rw [e4]; exact u1)
    have ee : (nI e).toNatClampNeg = e := nI_clamp (by omega)
    have esh : nI s >>> ((2 : Int32) &&& 31) = nI (s / 4) := pk_shrN (by omega) _ 2 (by decide)
    have esc : (nI (s / 4)).toNatClampNeg = s / 4 := nI_clamp (by omega)
    have wm : vp_in (nI (s / 4)) 128 := vp_in_nI (by omega) (by omega)
    have em : ms (s / 4) - 1 = nI (gr_mc us kk (fun t => dn t ∨ t = s) (s / 4)) := by
      rw [I.2.1 (s / 4) (by omega), cl_mc1 h0 u1 u2 u4, nI_pred]
    have l3 := gr_mc_le (us := us) (kk := kk) (dn := fun t => dn t ∨ t = s) (s / 4)
    have next : ∀ (T' : Nat) (qf' d' : Nat → Nat) (rc' dp' qu' : Nat → Int32), cl_Q N T' qf' d' (ma_H us kk aa F bl m0) rc' dp' qu' → cl_X T qf d T' qf' d' → (∀ i, i < T' → d' (qf' i) ≤ d a0 + 1) → (gr_mc us kk (fun t => dn t ∨ t = s) (s / 4) = 0 → ¬ bl (s / 4) → ∃ i, i < T' ∧ qf' i = aa (4 * (s / 4))) → wX_propagate_13 post (nI a0) (nI (3 * a0 + 1)) f (nI (e + 1)) f_kindHead f_kindPositive f_kindNegated f_draftRow f_constants f_unary f_binary f_maxRules (nI N) (nI n) f_hasDraft f_grounded f_hasModel (nI T') a_isFactAtom a_candidate a_bodyLength a_cellKind a_cellPred a_cellFirst a_cellSecond a_groundAtom a_groundKind a_positives a_start a_cursor a_occurrence a_value a_stage a_height rc' dp' qu' (upd ms (s / 4) (nI (gr_mc us kk (fun t => dn t ∨ t = s) (s / 4)))) a_blocked := by
      intro T' qf' d' rc' dp' qu' Q X hT hh
      refine ih (e + 1) f T' qf' d' (fun t => dn t ∨ t = s) rc' dp' qu' _ r2 (by omega) (by omega) p2 (fun t ht => ?_) (cl_I_st I h0 u1 u2 u3 u4 Q X hT hh) (fun T2 qf2 d2 dn2 rc2 dp2 qu2 ms2 I2 X2 hd2 => h T2 qf2 d2 dn2 rc2 dp2 qu2 ms2 I2 (cl_X_t X X2) (fun t => ?_))
      · obtain ⟨v1, v2, v3, v4⟩ := o5 t (List.mem_cons_of_mem _ ht)
        refine ⟨v1, v2, v3, ?_⟩
        rintro (z | z)
        · exact v4 z
        · have := p1 t ht
          omega
      · rw [hd2 t, List.mem_cons, or_assoc]
    rw [wX_propagate_13]
    dsimp only
    rw [ek, ekc, hE, ee, r1]
    refine ⟨wk, br_f (nI_ge (by omega) (by omega)) ⟨vp_in_nI (by omega) (by omega), nm_r (e' := nI (s / 4)) esh ?_⟩⟩
    rw [esc, em]
    refine ⟨wm, wm, nm_e ⟨wm, ?_⟩⟩
    rw [pk_us]
    refine pk_eq (gr_mc us kk (fun t => dn t ∨ t = s) (s / 4)) 0 (fun z => ⟨wm, ma_br (hbk (s / 4) (by omega)) (fun y => ?_) (fun y => ?_)⟩) (fun z => ?_)
    · have y2 : ¬ bl (s / 4) := fun x => y (Or.inr x)
      have e44 : 4 * nI (s / 4) = nI (4 * (s / 4)) := by rw [← pk_mul]; rfl
      have e4c : (nI (4 * (s / 4))).toNatClampNeg = 4 * (s / 4) := nI_clamp (by omega)
      have hda : dp a0 = nI (d a0) := by
        have := (I.1.1 qi I.2.2.2.2.1).2.2.1
        rw [I.2.2.2.2.2.1] at this
        exact this
      rw [e44, e4c, (g1 (4 * (s / 4)) (by omega) uh).1, ea, hda, nI_1 (d a0)]
      refine ⟨vp_in_nI (by omega) (by omega), wa, xc_reach hN I.1 (hA _ uh) (cl_I_H I u3 uh y2 z) I.2.2.2.2.2.2 (fun T' qf' d' rc' dp' qu' Q X hx hT => ?_)⟩
      exact nm_r (nI_1 e) (next T' qf' d' rc' dp' qu' Q X hT (fun _ _ => hx))
    · refine nm_r (nI_1 e) (next T qf d rc dp qu I.1 cl_X_r I.2.2.2.2.2.2 (fun _ y2 => ?_))
      rcases y with y | y
      · exact absurd uh y
      · exact absurd y y2
    · exact nm_r (nI_1 e) (next T qf d rc dp qu I.1 cl_X_r I.2.2.2.2.2.2 (fun y _ => absurd y z))
/-- the queue is worked off -/
theorem xc_run83 {post : SX → Prop} (hn : n ≤ 8) (hN : N ≤ 48) (h0 : ∀ m, us (4 * m) → kk (4 * m) = 0) (hu : ∀ m i, i ≤ 3 → us (4 * m + i) → us (4 * m)) (hk2 : ∀ s, us s → kk s ≤ 2) (hS : ∀ s, us s → s < 64 * n) (hA : ∀ s, us s → aa s < N) (G : gr_ok (64 * n) us kk aa a_groundAtom a_groundKind a_positives a_start a_occurrence) (hbk : ∀ m, 4 * m < 64 * n → a_blocked m = ma_b (¬ us (4 * m) ∨ bl m))
    (h : ∀ (T' : Nat) (rc dp qu ms : Nat → Int32), (∀ a, a < N → rc a = ma_b (ma_G us kk aa F bl m0 a)) → (∀ a, a < N → ma_G us kk aa F bl m0 a → dp a = nI (ma_rk fun j => ma_H us kk aa F bl m0 j a)) → post (f_kindHead, f_kindPositive, f_kindNegated, f_draftRow, f_constants, f_unary, f_binary, f_maxRules, nI N, nI n, f_hasDraft, f_grounded, f_hasModel, nI T', a_isFactAtom, a_candidate, a_bodyLength, a_cellKind, a_cellPred, a_cellFirst, a_cellSecond, a_groundAtom, a_groundKind, a_positives, a_start, a_cursor, a_occurrence, a_value, a_stage, a_height, rc, dp, qu, ms, a_blocked)) :
    ∀ (k qi f T : Nat) (qf d : Nat → Nat) (rc dp qu ms : Nat → Int32), N - qi ≤ k → k < f → cl_L N (64 * n) us kk aa F bl m0 qi T qf d rc dp qu ms → wX_runClosure_83 post f (nI qi) f_kindHead f_kindPositive f_kindNegated f_draftRow f_constants f_unary f_binary f_maxRules (nI N) (nI n) f_hasDraft f_grounded f_hasModel (nI T) a_isFactAtom a_candidate a_bodyLength a_cellKind a_cellPred a_cellFirst a_cellSecond a_groundAtom a_groundKind a_positives a_start a_cursor a_occurrence a_value a_stage a_height rc dp qu ms a_blocked := by
  have stop : ∀ (f T : Nat) (qf d : Nat → Nat) (rc dp qu ms : Nat → Int32), cl_L N (64 * n) us kk aa F bl m0 T T qf d rc dp qu ms → wX_runClosure_83 post (f + 1) (nI T) f_kindHead f_kindPositive f_kindNegated f_draftRow f_constants f_unary f_binary f_maxRules (nI N) (nI n) f_hasDraft f_grounded f_hasModel (nI T) a_isFactAtom a_candidate a_bodyLength a_cellKind a_cellPred a_cellFirst a_cellSecond a_groundAtom a_groundKind a_positives a_start a_cursor a_occurrence a_value a_stage a_height rc dp qu ms a_blocked := by
    intro f T qf d rc dp qu ms L
    have hT := cl_Q_T L.2.1
    rw [wX_runClosure_83]
    dsimp only
    obtain ⟨c1, c2⟩ := cl_L_end L hA
    exact br_t (nI_le (Nat.le_refl _) (by omega)) (h T rc dp qu ms c1 c2)
  intro k
  induction k with
  | zero =>
    intro qi f T qf d rc dp qu ms h1 h2 L
    obtain ⟨f, rfl⟩ : ∃ m, f = m + 1 := ⟨f - 1, by omega⟩
    have hT := cl_Q_T L.2.1
    have l1 := L.1
    have e : qi = T := by omega
    subst e
    exact stop f qi qf d rc dp qu ms L
  | succ k ih =>
    intro qi f T qf d rc dp qu ms h1 h2 L
    obtain ⟨f, rfl⟩ : ∃ m, f = m + 1 := ⟨f - 1, by omega⟩
    have hT := cl_Q_T L.2.1
    have l1 := L.1
    by_cases e : qi = T
    · subst e
      exact stop f qi qf d rc dp qu ms L
    · have hq : qi < T := by omega
      obtain ⟨g1, g2, g3, g4, g5⟩ := G
      have q1 := (L.2.1.1 qi hq)
      have eq : (nI qi).toNatClampNeg = qi := nI_clamp (by omega)
      rw [wX_runClosure_83]
      dsimp only
      rw [eq, q1.2.1]
      refine br_f (nI_ge hq (by omega)) (br_f (nI_ge (b := 48) (by omega) (by omega)) ⟨vp_in_nI (by omega) (by omega), ?_⟩)
      have ek : 3 * nI (qf qi) + 1 = nI (3 * qf qi + 1) := by rw [← nI_1, ← pk_mul]; rfl
      have ekc : (nI (3 * qf qi + 1)).toNatClampNeg = 3 * qf qi + 1 := nI_clamp (by omega)
      have hcu : gr_cu us (fun s => 3 * aa s + kk s) (64 * n) (3 * qf qi + 1) + (gr_ls us (fun s => 3 * aa s + kk s) (3 * qf qi + 1) (64 * n)).length = gr_cu us (fun s => 3 * aa s + kk s) (64 * n) (3 * qf qi + 1 + 1) := rfl
      have hcl := gr_cu_le (us := us) (ky := fun s => 3 * aa s + kk s) (64 * n) (3 * qf qi + 1 + 1)
      have key : ∀ s, us s → (3 * aa s + kk s = 3 * qf qi + 1 ↔ kk s = 1 ∧ aa s = qf qi) := by
        intro s u
        have := hk2 s u
        omega
      refine nm_r (e' := nI (3 * qf qi + 1)) ek ⟨vp_in_nI (by omega) (by omega), nm_r (e' := nI (gr_cu us (fun s => 3 * aa s + kk s) (64 * n) (3 * qf qi + 1))) (by rw [ekc]; exact g4 _ (by omega)) ⟨513, ?_⟩⟩
      refine xc_prop13 (N := N) (qi := qi) (a0 := qf qi) (E := gr_cu us (fun s => 3 * aa s + kk s) (64 * n) (3 * qf qi + 1 + 1)) hn hN h0 hu hS hA q1.1 g1 (g4 _ (by omega)) (by omega) hbk (gr_ls us (fun s => 3 * aa s + kk s) (3 * qf qi + 1) (64 * n)) _ 513 T qf d (fun s => ∃ i, i < qi ∧ qf i = aa s) rc dp qu ms (g5 _ (by omega)) hcu (by omega) gr_ls_p (fun s hs => ?_) (cl_L_I L hq) (fun T' qf' d' dn' rc' dp' qu' ms' I' X' hd' => ?_)
      · obtain ⟨m1, m2, m3⟩ := gr_ls_m.mp hs
        obtain ⟨k1, k2⟩ := (key s m2).mp m3
        refine ⟨m2, k1, k2, ?_⟩
        rintro ⟨i, hi, z⟩
        have := L.2.1.2.1 i qi (by omega) hq (by rw [z, k2])
        omega
      · refine nm_r (nI_1 qi) (ih (qi + 1) f T' qf' d' rc' dp' qu' ms' (by omega) (by omega) (cl_I_L L I' X' (fun s u1 u2 => ?_) hq))
        rw [hd' s]
        constructor
        · rintro (z | z)
          · exact Or.inl z
          · exact Or.inr ((key s u1).mp (gr_ls_m.mp z).2.2).2
        · rintro (z | z)
          · exact Or.inl z
          · exact Or.inr (gr_ls_m.mpr ⟨hS s u1, u1, (key s u1).mpr ⟨u2, z⟩⟩)
theorem xc_run33 {post : SX → Prop} {Q0 : Nat → Prop} (hn : n ≤ 8) (hN : N ≤ 48) (hS : ∀ s, us s → s < 64 * n) (hA : ∀ s, us s → aa s < N) (g1 : ∀ s, s < 64 * n → us s → a_groundAtom s = nI (aa s) ∧ a_groundKind s = nI (kk s)) (hbk : ∀ m, 4 * m < 64 * n → a_blocked m = ma_b (¬ us (4 * m) ∨ bl m)) (hms : cl_M (64 * n) us kk (fun _ => False) a_missing)
    (h : ∀ (T' : Nat) (qf' d' : Nat → Nat) (rc dp qu : Nat → Int32), cl_Q N T' qf' d' (ma_H us kk aa F bl m0) rc dp qu → (∀ i, i < T' → d' (qf' i) ≤ 1) → (∀ a, a < N → m0 a → cl_in T' qf' d' a 0) → (∀ a, a < N → F a → cl_in T' qf' d' a 1) → (∀ m, us (4 * m) → ¬ bl m → gr_mc us kk (fun _ => False) m = 0 → cl_in T' qf' d' (aa (4 * m)) 1) → ∃ f, wX_runClosure_83 post f 0 f_kindHead f_kindPositive f_kindNegated f_draftRow f_constants f_unary f_binary f_maxRules (nI N) (nI n) f_hasDraft f_grounded f_hasModel (nI T') a_isFactAtom a_candidate a_bodyLength a_cellKind a_cellPred a_cellFirst a_cellSecond a_groundAtom a_groundKind a_positives a_start a_cursor a_occurrence a_value a_stage a_height rc dp qu a_missing a_blocked) :
    ∀ (k m f T : Nat) (qf d : Nat → Nat) (rc dp qu : Nat → Int32), m + k = 16 * n → k < f → cl_Q N T qf d (ma_H us kk aa F bl m0) rc dp qu → (∀ i, i < T → d (qf i) ≤ 1) → (∀ a, a < N → m0 a → cl_in T qf d a 0) → (∀ a, a < N → F a → cl_in T qf d a 1) → (∀ m', m' < m → us (4 * m') → ¬ bl m' → gr_mc us kk (fun _ => False) m' = 0 → cl_in T qf d (aa (4 * m')) 1) → wX_runClosure_33 post f (nI m) f_kindHead f_kindPositive f_kindNegated f_draftRow f_constants f_unary f_binary f_maxRules (nI N) (nI n) f_hasDraft f_grounded f_hasModel (nI T) a_isFactAtom a_candidate a_bodyLength a_cellKind a_cellPred a_cellFirst a_cellSecond a_groundAtom a_groundKind a_positives a_start a_cursor a_occurrence a_value a_stage a_height rc dp qu a_missing a_blocked := by
  have e16 : 16 * nI n = nI (16 * n) := by rw [← pk_mul]; rfl
  intro k
  induction k with
  | zero =>
    intro m f T qf d rc dp qu h1 h2 I1 I2 I3 I4 I5
    obtain ⟨f, rfl⟩ : ∃ m, f = m + 1 := ⟨f - 1, by omega⟩
    rw [wX_runClosure_33]
    dsimp only
    rw [e16]
    have hm : m = 16 * n := by omega
    subst hm
    refine br_t (nI_le (Nat.le_refl _) (by omega)) (h T qf d rc dp qu I1 I2 I3 I4 (fun m' u1 => I5 m' ?_ u1))
    have := hS _ u1
    omega
  | succ k ih =>
    intro m f T qf d rc dp qu h1 h2 I1 I2 I3 I4 I5
    obtain ⟨f, rfl⟩ : ∃ m, f = m + 1 := ⟨f - 1, by omega⟩
    rw [wX_runClosure_33]
    dsimp only
    rw [e16]
    have em : (nI m).toNatClampNeg = m := nI_clamp (by omega)
    have wm : vp_in (nI m) 128 := vp_in_nI (by omega) (by omega)
    have e4 : 4 * nI m = nI (4 * m) := by rw [← pk_mul]; rfl
    have e4c : (nI (4 * m)).toNatClampNeg = 4 * m := nI_clamp (by omega)
    have w4 : vp_in (nI (4 * m)) 512 := vp_in_nI (by omega) (by omega)
    have l3 := gr_mc_le (us := us) (kk := kk) (dn := fun _ => False) m
    rw [em, e4, e4c]
    refine br_f (nI_ge (by omega) (by omega)) ⟨wm, ma_br (hbk m (by omega)) (fun y => ⟨wm, ?_⟩) (fun y => ?_)⟩
    · have u : us (4 * m) := by
        by_cases u : us (4 * m)
        · exact u
        · exact absurd (Or.inl u) y
      have hb : ¬ bl m := fun z => y (Or.inr z)
      rw [hms m (by omega), (g1 (4 * m) (by omega) u).1]
      refine pk_eq (gr_mc us kk (fun _ => False) m) 0 (fun z => ⟨w4, ?_⟩) (fun z => ?_)
      · refine xc_reach (e := 1) hN I1 (hA _ u) (Or.inr (Or.inr ⟨m, u, hb, rfl, fun i i1 i2 i3 i4 => (gr_mc_0.mp z i i1 i2 i3 i4).elim⟩)) I2 (fun T' qf' d' rc' dp' qu' Q X hx hT => ?_)
        refine nm_r (nI_1 m) (ih (m + 1) f T' qf' d' rc' dp' qu' (by omega) (by omega) Q hT (fun a ha z => cl_X_in X (I3 a ha z)) (fun a ha z => cl_X_in X (I4 a ha z)) (fun m' hm' v1 v2 v3 => ?_))
        by_cases c : m' = m
        · subst c
          obtain ⟨i, hi, ei⟩ := hx
          exact ⟨⟨i, hi, ei⟩, by rw [← ei]; exact hT i hi⟩
        · exact cl_X_in X (I5 m' (by omega) v1 v2 v3)
      · refine nm_r (nI_1 m) (ih (m + 1) f T qf d rc dp qu (by omega) (by omega) I1 I2 I3 I4 (fun m' hm' v1 v2 v3 => ?_))
        by_cases c : m' = m
        · subst c; exact absurd v3 z
        · exact I5 m' (by omega) v1 v2 v3
    · refine nm_r (nI_1 m) (ih (m + 1) f T qf d rc dp qu (by omega) (by omega) I1 I2 I3 I4 (fun m' hm' v1 v2 v3 => ?_))
      by_cases c : m' = m
      · subst c
        rcases y with y | y
        · exact absurd v1 y
        · exact absurd y v2
      · exact I5 m' (by omega) v1 v2 v3
theorem xc_run2 {post : SX → Prop} (hN : N ≤ 48) (hF : ∀ a, a < N → a_isFactAtom a = ma_b (F a))
    (h : ∀ (T' : Nat) (qf' d' : Nat → Nat) (rc dp qu : Nat → Int32), cl_Q N T' qf' d' (ma_H us kk aa F bl m0) rc dp qu → (∀ i, i < T' → d' (qf' i) ≤ 1) → (∀ a, a < N → m0 a → cl_in T' qf' d' a 0) → (∀ a, a < N → F a → cl_in T' qf' d' a 1) → ∃ f, wX_runClosure_33 post f 0 f_kindHead f_kindPositive f_kindNegated f_draftRow f_constants f_unary f_binary f_maxRules (nI N) (nI n) f_hasDraft f_grounded f_hasModel (nI T') a_isFactAtom a_candidate a_bodyLength a_cellKind a_cellPred a_cellFirst a_cellSecond a_groundAtom a_groundKind a_positives a_start a_cursor a_occurrence a_value a_stage a_height rc dp qu a_missing a_blocked) :
    ∀ (k a f T : Nat) (qf d : Nat → Nat) (rc dp qu : Nat → Int32), a + k = N → k < f → cl_Q N T qf d (ma_H us kk aa F bl m0) rc dp qu → (∀ i, i < T → d (qf i) ≤ 1) → (∀ a, a < N → m0 a → cl_in T qf d a 0) → (∀ a', a' < a → F a' → cl_in T qf d a' 1) → wX_runClosure_2 post f (nI a) f_kindHead f_kindPositive f_kindNegated f_draftRow f_constants f_unary f_binary f_maxRules (nI N) (nI n) f_hasDraft f_grounded f_hasModel (nI T) a_isFactAtom a_candidate a_bodyLength a_cellKind a_cellPred a_cellFirst a_cellSecond a_groundAtom a_groundKind a_positives a_start a_cursor a_occurrence a_value a_stage a_height rc dp qu a_missing a_blocked := by
  intro k
  induction k with
  | zero =>
    intro a f T qf d rc dp qu h1 h2 I1 I2 I3 I4
    obtain ⟨f, rfl⟩ : ∃ m, f = m + 1 := ⟨f - 1, by omega⟩
    have hm : a = N := by omega
    subst hm
    rw [wX_runClosure_2]
    dsimp only
    exact br_t (nI_le (Nat.le_refl _) (by omega)) (h T qf d rc dp qu I1 I2 I3 I4)
  | succ k ih =>
    intro a f T qf d rc dp qu h1 h2 I1 I2 I3 I4
    obtain ⟨f, rfl⟩ : ∃ m, f = m + 1 := ⟨f - 1, by omega⟩
    have ea : (nI a).toNatClampNeg = a := nI_clamp (by omega)
    rw [wX_runClosure_2]
    dsimp only
    rw [ea]
    refine br_f (nI_ge (by omega) (by omega)) ⟨vp_in_nI (by omega) (by omega), ma_br (hF a (by omega)) (fun y => ?_) (fun y => ?_)⟩
    · refine nm_r (nI_1 a) (ih (a + 1) f T qf d rc dp qu (by omega) (by omega) I1 I2 I3 (fun a' ha' z => ?_))
      by_cases c : a' = a
      · subst c; exact absurd z y
      · exact I4 a' (by omega) z
    · refine xc_reach (e := 1) hN I1 (by omega) (Or.inr (Or.inl y)) I2 (fun T' qf' d' rc' dp' qu' Q X hx hT => ?_)
      refine nm_r (nI_1 a) (ih (a + 1) f T' qf' d' rc' dp' qu' (by omega) (by omega) Q hT (fun a ha z => cl_X_in X (I3 a ha z)) (fun a' ha' z => ?_))
      by_cases c : a' = a
      · subst c
        obtain ⟨i, hi, ei⟩ := hx
        exact ⟨⟨i, hi, ei⟩, by rw [← ei]; exact hT i hi⟩
      · exact cl_X_in X (I4 a' (by omega) z)
/-- the whole closure -/
theorem xc_run {post : SX → Prop} {T : Nat} {qf d : Nat → Nat} (hn : n ≤ 8) (hN : N ≤ 48) (h0 : ∀ m, us (4 * m) → kk (4 * m) = 0) (hu : ∀ m i, i ≤ 3 → us (4 * m + i) → us (4 * m)) (hk2 : ∀ s, us s → kk s ≤ 2) (hS : ∀ s, us s → s < 64 * n) (hA : ∀ s, us s → aa s < N) (G : gr_ok (64 * n) us kk aa a_groundAtom a_groundKind a_positives a_start a_occurrence) (hbk : ∀ m, 4 * m < 64 * n → a_blocked m = ma_b (¬ us (4 * m) ∨ bl m)) (hms : cl_M (64 * n) us kk (fun _ => False) a_missing) (hF : ∀ a, a < N → a_isFactAtom a = ma_b (F a)) (Q : cl_Q N T qf d (ma_H us kk aa F bl m0) a_reached a_depth a_queue) (hd : ∀ i, i < T → d (qf i) ≤ 0) (hm0 : ∀ a, a < N → m0 a → ∃ i, i < T ∧ qf i = a)
    (h : ∀ (T' : Nat) (rc dp qu ms : Nat → Int32), (∀ a, a < N → rc a = ma_b (ma_G us kk aa F bl m0 a)) → (∀ a, a < N → ma_G us kk aa F bl m0 a → dp a = nI (ma_rk fun j => ma_H us kk aa F bl m0 j a)) → post (f_kindHead, f_kindPositive, f_kindNegated, f_draftRow, f_constants, f_unary, f_binary, f_maxRules, nI N, nI n, f_hasDraft, f_grounded, f_hasModel, nI T', a_isFactAtom, a_candidate, a_bodyLength, a_cellKind, a_cellPred, a_cellFirst, a_cellSecond, a_groundAtom, a_groundKind, a_positives, a_start, a_cursor, a_occurrence, a_value, a_stage, a_height, rc, dp, qu, ms, a_blocked)) : wpX_runClosure post (f_kindHead, f_kindPositive, f_kindNegated, f_draftRow, f_constants, f_unary, f_binary, f_maxRules, nI N, nI n, f_hasDraft, f_grounded, f_hasModel, nI T, a_isFactAtom, a_candidate, a_bodyLength, a_cellKind, a_cellPred, a_cellFirst, a_cellSecond, a_groundAtom, a_groundKind, a_positives, a_start, a_cursor, a_occurrence, a_value, a_stage, a_height, a_reached, a_depth, a_queue, a_missing, a_blocked) := by
  refine ⟨N + 1, xc_run2 (us := us) (kk := kk) (aa := aa) (F := F) (bl := bl) (m0 := m0) hN hF (fun T1 qf1 d1 rc1 dp1 qu1 J1 J2 J3 J4 => ⟨16 * n + 1, ?_⟩) N 0 _ T qf d a_reached a_depth a_queue (by omega) (by omega) Q (fun i hi => by have := hd i hi; omega) (fun a ha z => ?_) (fun a' ha' => by omega)⟩
  · refine xc_run33 (us := us) (kk := kk) (aa := aa) (F := F) (bl := bl) (m0 := m0) (Q0 := m0) hn hN hS hA G.1 hbk hms (fun T2 qf2 d2 rc2 dp2 qu2 K1 K2 K3 K4 K5 => ⟨N + 1, ?_⟩) (16 * n) 0 _ T1 qf1 d1 rc1 dp1 qu1 (by omega) (by omega) J1 J2 J3 J4 (fun m' hm' => by omega)
    refine xc_run83 (us := us) (kk := kk) (aa := aa) (F := F) (bl := bl) (m0 := m0) hn hN h0 hu hk2 hS hA G hbk h N 0 _ T2 qf2 d2 rc2 dp2 qu2 a_missing (by omega) (by omega) ⟨Nat.zero_le _, K1, fun m hm => ?_, fun m u1 u2 u3 e he => ?_, K3, K4, fun hT i hi => by have := K2 i hi; omega⟩
    · rw [hms m hm]
      refine congrArg nI (gr_mc_c (fun i _ _ _ _ => ⟨fun z => z.elim, ?_⟩))
      rintro ⟨i, hi, _⟩
      omega
    · have := K5 m u1 u2 (by
        rw [← u3]
        refine gr_mc_c (fun i _ _ _ _ => ⟨fun z => z.elim, ?_⟩)
        rintro ⟨i, hi, _⟩
        omega)
      exact ⟨this.1, by have := this.2; omega⟩
  · obtain ⟨i, hi, e⟩ := hm0 a ha z
    refine ⟨⟨i, hi, e⟩, ?_⟩
    rw [← e]
    exact hd i hi
/-- a new closure: nothing reached -/
theorem xc_beg37 {post : SX → Prop} (hn : n ≤ 8) (G : gr_ok (64 * n) us kk aa a_groundAtom a_groundKind a_positives a_start a_occurrence) (hA : ∀ s, us s → aa s < N) (hN : N ≤ 48)
    (h : ∀ (ms bk : Nat → Int32), cl_M (64 * n) us kk (fun _ => False) ms → (∀ m, 4 * m < 64 * n → bk m = ma_b (¬ us (4 * m))) → post (f_kindHead, f_kindPositive, f_kindNegated, f_draftRow, f_constants, f_unary, f_binary, f_maxRules, nI N, nI n, f_hasDraft, f_grounded, f_hasModel, f_tail, a_isFactAtom, a_candidate, a_bodyLength, a_cellKind, a_cellPred, a_cellFirst, a_cellSecond, a_groundAtom, a_groundKind, a_positives, a_start, a_cursor, a_occurrence, a_value, a_stage, a_height, a_reached, a_depth, a_queue, ms, bk)) :
    ∀ (k m f : Nat) (ms bk : Nat → Int32), m + k = 16 * n → k < f → (∀ m', m' < m → ms m' = nI (gr_mc us kk (fun _ => False) m') ∧ bk m' = ma_b (¬ us (4 * m'))) → wX_beginClosure_37 post f_kindHead f_kindPositive f_kindNegated f_draftRow f_constants f_unary f_binary f_maxRules (nI N) (nI n) f_hasDraft f_grounded f_hasModel f_tail f (nI m) a_isFactAtom a_candidate a_bodyLength a_cellKind a_cellPred a_cellFirst a_cellSecond a_groundAtom a_groundKind a_positives a_start a_cursor a_occurrence a_value a_stage a_height a_reached a_depth a_queue ms bk := by
  have e16 : 16 * nI n = nI (16 * n) := by rw [← pk_mul]; rfl
  obtain ⟨g1, g2, g3, g4, g5⟩ := G
  intro k
  induction k with
  | zero =>
    intro m f ms bk h1 h2 I
    obtain ⟨f, rfl⟩ : ∃ m, f = m + 1 := ⟨f - 1, by omega⟩
    rw [wX_beginClosure_37]
    dsimp only
    rw [e16]
    exact br_t (nI_le (by omega) (by omega)) (h ms bk (fun m' hm' => (I m' (by omega)).1) (fun m' hm' => (I m' (by omega)).2))
  | succ k ih =>
    intro m f ms bk h1 h2 I
    obtain ⟨f, rfl⟩ : ∃ m, f = m + 1 := ⟨f - 1, by omega⟩
    have em : (nI m).toNatClampNeg = m := nI_clamp (by omega)
    have wm : vp_in (nI m) 128 := vp_in_nI (by omega) (by omega)
    have e4 : 4 * nI m = nI (4 * m) := by rw [← pk_mul]; rfl
    have e4c : (nI (4 * m)).toNatClampNeg = 4 * m := nI_clamp (by omega)
    have w4 : vp_in (nI (4 * m)) 512 := vp_in_nI (by omega) (by omega)
    rw [wX_beginClosure_37]
    dsimp only
    rw [e16, em, e4, e4c, ma_n0, ma_n1, g3 m (by omega)]
    have st : ∀ x : Int32, x = ma_b (¬ us (4 * m)) → ∀ m', m' < m + 1 → upd ms m (nI (gr_mc us kk (fun _ => False) m)) m' = nI (gr_mc us kk (fun _ => False) m') ∧ upd bk m x m' = ma_b (¬ us (4 * m')) := by
      intro x hx m' hm'
      by_cases c : m' = m
      · rw [c, pk_us, pk_us]; exact ⟨rfl, hx⟩
      · rw [pk_un c, pk_un c]; exact I m' (by omega)
    refine br_f (nI_ge (by omega) (by omega)) ⟨wm, wm, nm_e ⟨w4, ?_⟩⟩
    by_cases u : us (4 * m)
    · have := hA _ u
      refine br_t (by rw [(g1 _ (by omega) u).1]; exact nI_pos' (by omega)) ⟨wm, nm_e (nm_r (nI_1 m) (ih (m + 1) f _ _ (by omega) (by omega) (st 0 ?_)))⟩
      rw [ma_bf (fun z => z u)]
    · refine br_f (by rw [g2 _ (by omega) u]; decide) ⟨wm, nm_e (nm_r (nI_1 m) (ih (m + 1) f _ _ (by omega) (by omega) (st 1 ?_)))⟩
      rw [ma_bt u]
theorem xc_beg7 {post : SX → Prop} (hN : N ≤ 48)
    (h : ∀ (rc dp : Nat → Int32), (∀ a, a < N → rc a = 0) → ∃ f, wX_beginClosure_37 post f_kindHead f_kindPositive f_kindNegated f_draftRow f_constants f_unary f_binary f_maxRules (nI N) (nI n) f_hasDraft f_grounded f_hasModel f_tail f 0 a_isFactAtom a_candidate a_bodyLength a_cellKind a_cellPred a_cellFirst a_cellSecond a_groundAtom a_groundKind a_positives a_start a_cursor a_occurrence a_value a_stage a_height rc dp a_queue a_missing a_blocked) :
    ∀ (k a f : Nat) (rc dp : Nat → Int32), a + k = N → k < f → (∀ a', a' < a → rc a' = 0) → wX_beginClosure_7 post f_kindHead f_kindPositive f_kindNegated f_draftRow f_constants f_unary f_binary f_maxRules (nI N) (nI n) f_hasDraft f_grounded f_hasModel f_tail f (nI a) a_isFactAtom a_candidate a_bodyLength a_cellKind a_cellPred a_cellFirst a_cellSecond a_groundAtom a_groundKind a_positives a_start a_cursor a_occurrence a_value a_stage a_height rc dp a_queue a_missing a_blocked := by
  intro k
  induction k with
  | zero =>
    intro a f rc dp h1 h2 I
    obtain ⟨f, rfl⟩ : ∃ m, f = m + 1 := ⟨f - 1, by omega⟩
    rw [wX_beginClosure_7]
    dsimp only
    exact br_t (nI_le (by omega) (by omega)) (h rc dp (fun a' ha' => I a' (by omega)))
  | succ k ih =>
    intro a f rc dp h1 h2 I
    obtain ⟨f, rfl⟩ : ∃ m, f = m + 1 := ⟨f - 1, by omega⟩
    have ea : (nI a).toNatClampNeg = a := nI_clamp (by omega)
    have wa : vp_in (nI a) 48 := vp_in_nI (by omega) (by omega)
    rw [wX_beginClosure_7]
    dsimp only
    rw [ea, ma_n0]
    refine br_f (nI_ge (by omega) (by omega)) ⟨wa, nm_e ⟨wa, nm_e (nm_r (nI_1 a) (ih (a + 1) f _ _ (by omega) (by omega) (fun a' ha' => ?_)))⟩⟩
    by_cases c : a' = a
    · rw [c, pk_us]
    · rw [pk_un c]; exact I a' (by omega)
theorem xc_begin {post : SX → Prop} (hn : n ≤ 8) (G : gr_ok (64 * n) us kk aa a_groundAtom a_groundKind a_positives a_start a_occurrence) (hA : ∀ s, us s → aa s < N) (hN : N ≤ 48)
    (h : ∀ (rc dp ms bk : Nat → Int32), (∀ a, a < N → rc a = 0) → cl_M (64 * n) us kk (fun _ => False) ms → (∀ m, 4 * m < 64 * n → bk m = ma_b (¬ us (4 * m))) → post (f_kindHead, f_kindPositive, f_kindNegated, f_draftRow, f_constants, f_unary, f_binary, f_maxRules, nI N, nI n, f_hasDraft, f_grounded, f_hasModel, nI 0, a_isFactAtom, a_candidate, a_bodyLength, a_cellKind, a_cellPred, a_cellFirst, a_cellSecond, a_groundAtom, a_groundKind, a_positives, a_start, a_cursor, a_occurrence, a_value, a_stage, a_height, rc, dp, a_queue, ms, bk)) : wpX_beginClosure post (f_kindHead, f_kindPositive, f_kindNegated, f_draftRow, f_constants, f_unary, f_binary, f_maxRules, nI N, nI n, f_hasDraft, f_grounded, f_hasModel, f_tail, a_isFactAtom, a_candidate, a_bodyLength, a_cellKind, a_cellPred, a_cellFirst, a_cellSecond, a_groundAtom, a_groundKind, a_positives, a_start, a_cursor, a_occurrence, a_value, a_stage, a_height, a_reached, a_depth, a_queue, a_missing, a_blocked) :=
  ⟨N + 1, xc_beg7 (f_tail := nI 0) hN (fun rc dp I => ⟨16 * n + 1, xc_beg37 (f_tail := nI 0) hn G hA hN (fun ms bk J1 J2 => h rc dp ms bk I J1 J2) (16 * n) 0 _ a_missing a_blocked (by omega) (by omega) (fun m' hm' => by omega)⟩) N 0 _ a_reached a_depth (by omega) (by omega) (fun a' ha' => by omega)⟩
/-- the ground rules with a literal of this atom and kind are blocked -/
theorem xc_blk14 {post : SX → Prop} {k E : Nat} (hk : k < 144) (hE : a_start (k + 1) = nI E) (hE5 : E ≤ 512)
    : ∀ (l : List Nat) (e f : Nat) (P : Nat → Prop) (bk : Nat → Int32), gr_at a_occurrence e l → e + l.length = E → l.length < f → (∀ s, s ∈ l → s < 512) → (∀ m, m < 128 → 4 * m < 64 * n → bk m = ma_b (P m)) → (∀ bk' : Nat → Int32, (∀ m, m < 128 → 4 * m < 64 * n → bk' m = ma_b (P m ∨ ∃ s, s ∈ l ∧ s / 4 = m)) → post (f_kindHead, f_kindPositive, f_kindNegated, f_draftRow, f_constants, f_unary, f_binary, f_maxRules, nI N, nI n, f_hasDraft, f_grounded, f_hasModel, f_tail, a_isFactAtom, a_candidate, a_bodyLength, a_cellKind, a_cellPred, a_cellFirst, a_cellSecond, a_groundAtom, a_groundKind, a_positives, a_start, a_cursor, a_occurrence, a_value, a_stage, a_height, a_reached, a_depth, a_queue, a_missing, bk')) → wX_blockOccurrences_14 post (nI k) f_kindHead f_kindPositive f_kindNegated f_draftRow f_constants f_unary f_binary f_maxRules (nI N) (nI n) f_hasDraft f_grounded f_hasModel f_tail f (nI e) a_isFactAtom a_candidate a_bodyLength a_cellKind a_cellPred a_cellFirst a_cellSecond a_groundAtom a_groundKind a_positives a_start a_cursor a_occurrence a_value a_stage a_height a_reached a_depth a_queue a_missing bk := by
  have ek : nI k + 1 = nI (k + 1) := nI_1 _
  have ekc : (nI (k + 1)).toNatClampNeg = k + 1 := nI_clamp (by omega)
  have wk : vp_in (nI (k + 1)) 145 := vp_in_nI (by omega) (by omega)
  intro l
  induction l with
  | nil =>
    intro e f P bk o1 o2 o3 o4 I h
    obtain ⟨f, rfl⟩ : ∃ m, f = m + 1 := ⟨f - 1, by omega⟩
    rw [wX_blockOccurrences_14]
    dsimp only
    rw [ek, ekc, hE]
    have o2 : e = E := o2
    subst o2
    refine ⟨wk, br_t (nI_le (Nat.le_refl _) (by omega)) (h bk (fun m m1 m2 => ?_))⟩
    rw [I m m1 m2]
    refine ma_bc ⟨fun z => Or.inl z, ?_⟩
    rintro (z | ⟨s, z, _⟩)
    · exact z
    · exact absurd z List.not_mem_nil
  | cons s l ih =>
    intro e f P bk o1 o2 o3 o4 I h
    obtain ⟨f, rfl⟩ : ∃ m, f = m + 1 := ⟨f - 1, by omega⟩
    rw [List.length_cons] at o2 o3
    obtain ⟨r1, r2⟩ := o1
    have s5 := o4 s List.mem_cons_self
    have ee : (nI e).toNatClampNeg = e := nI_clamp (by omega)
    have esh : nI s >>> ((2 : Int32) &&& 31) = nI (s / 4) := pk_shrN (by omega) _ 2 (by decide)
    have esc : (nI (s / 4)).toNatClampNeg = s / 4 := nI_clamp (by omega)
    have wm : vp_in (nI (s / 4)) 128 := vp_in_nI (by omega) (by omega)
    rw [wX_blockOccurrences_14]
    dsimp only
    rw [ek, ekc, hE, ee, r1, esh, esc, ma_n1]
    refine ⟨wk, br_f (nI_ge (by omega) (by omega)) ⟨vp_in_nI (by omega) (by omega), wm, nm_e (nm_r (nI_1 e) (ih (e + 1) f (fun m => P m ∨ s / 4 = m) _ r2 (by omega) (by omega) (fun t ht => o4 t (List.mem_cons_of_mem _ ht)) (fun m m1 m2 => ?_) (fun bk' J => h bk' (fun m m1 m2 => ?_))))⟩⟩
    · by_cases c : m = s / 4
      · rw [c, pk_us, ma_bt (Or.inr rfl)]
      · rw [pk_un c, I m m1 m2]
        exact ma_bc ⟨fun z => Or.inl z, fun z => z.elim id (fun y => absurd y.symm c)⟩
    · rw [J m m1 m2]
      refine ma_bc ⟨?_, ?_⟩
      · rintro ((z | z) | ⟨t, t1, t2⟩)
        · exact Or.inl z
        · exact Or.inr ⟨s, List.mem_cons_self, z⟩
        · exact Or.inr ⟨t, List.mem_cons_of_mem _ t1, t2⟩
      · rintro (z | ⟨t, t1, t2⟩)
        · exact Or.inl (Or.inl z)
        · rcases List.mem_cons.mp t1 with t1 | t1
          · exact Or.inl (Or.inr (by rw [← t1]; exact t2))
          · exact Or.inr ⟨t, t1, t2⟩
theorem xc_block {post : SX → Prop} {a k : Nat} {P : Nat → Prop} (hn : n ≤ 8) (hN : N ≤ 48) (ha : a < N) (hk : k ≤ 2) (hS : ∀ s, us s → s < 64 * n) (hk2 : ∀ s, us s → kk s ≤ 2) (G : gr_ok (64 * n) us kk aa a_groundAtom a_groundKind a_positives a_start a_occurrence) (hbk : ∀ m, 4 * m < 64 * n → a_blocked m = ma_b (P m))
    (h : ∀ bk : Nat → Int32, (∀ m, 4 * m < 64 * n → bk m = ma_b (P m ∨ ∃ i, i ≤ 3 ∧ us (4 * m + i) ∧ kk (4 * m + i) = k ∧ aa (4 * m + i) = a)) → post (f_kindHead, f_kindPositive, f_kindNegated, f_draftRow, f_constants, f_unary, f_binary, f_maxRules, nI N, nI n, f_hasDraft, f_grounded, f_hasModel, f_tail, a_isFactAtom, a_candidate, a_bodyLength, a_cellKind, a_cellPred, a_cellFirst, a_cellSecond, a_groundAtom, a_groundKind, a_positives, a_start, a_cursor, a_occurrence, a_value, a_stage, a_height, a_reached, a_depth, a_queue, a_missing, bk)) : wpX_blockOccurrences post (f_kindHead, f_kindPositive, f_kindNegated, f_draftRow, f_constants, f_unary, f_binary, f_maxRules, nI N, nI n, f_hasDraft, f_grounded, f_hasModel, f_tail, a_isFactAtom, a_candidate, a_bodyLength, a_cellKind, a_cellPred, a_cellFirst, a_cellSecond, a_groundAtom, a_groundKind, a_positives, a_start, a_cursor, a_occurrence, a_value, a_stage, a_height, a_reached, a_depth, a_queue, a_missing, a_blocked) (nI a) (nI k) := by
  obtain ⟨g1, g2, g3, g4, g5⟩ := G
  have ek : 3 * nI a + nI k = nI (3 * a + k) := xg_key rfl rfl
  have ekc : (nI (3 * a + k)).toNatClampNeg = 3 * a + k := nI_clamp (by omega)
  have hcu : gr_cu us (fun s => 3 * aa s + kk s) (64 * n) (3 * a + k) + (gr_ls us (fun s => 3 * aa s + kk s) (3 * a + k) (64 * n)).length = gr_cu us (fun s => 3 * aa s + kk s) (64 * n) (3 * a + k + 1) := rfl
  have hcl := gr_cu_le (us := us) (ky := fun s => 3 * aa s + kk s) (64 * n) (3 * a + k + 1)
  have key : ∀ s, us s → (3 * aa s + kk s = 3 * a + k ↔ kk s = k ∧ aa s = a) := by
    intro s u
    have := hk2 s u
    omega
  refine nm_r (e' := nI (3 * a + k)) ek ⟨vp_in_nI (by omega) (by omega), nm_r (e' := nI (gr_cu us (fun s => 3 * aa s + kk s) (64 * n) (3 * a + k))) (by rw [ekc]; exact g4 _ (by omega)) ⟨513, ?_⟩⟩
  refine xc_blk14 (n := n) (k := 3 * a + k) (E := gr_cu us (fun s => 3 * aa s + kk s) (64 * n) (3 * a + k + 1)) (by omega) (g4 _ (by omega)) (by omega) (gr_ls us (fun s => 3 * aa s + kk s) (3 * a + k) (64 * n)) _ 513 P a_blocked (g5 _ (by omega)) hcu (by omega) (fun s hs => ?_) (fun m _ hm => hbk m hm) (fun bk J => h bk (fun m hm => ?_))
  · have := (gr_ls_m.mp hs).1
    omega
  · rw [J m (by omega) hm]
    refine ma_bc ⟨?_, ?_⟩
    · rintro (z | ⟨s, z1, z2⟩)
      · exact Or.inl z
      · obtain ⟨_, y2, y3⟩ := gr_ls_m.mp z1
        have e4 : 4 * m + s % 4 = s := by omega
        refine Or.inr ⟨s % 4, by omega, ?_⟩
        rw [e4]
        exact ⟨y2, (key s y2).mp y3⟩
    · rintro (z | ⟨i, z1, z2, z3⟩)
      · exact Or.inl z
      · exact Or.inr ⟨4 * m + i, gr_ls_m.mpr ⟨hS _ z2, z2, (key _ z2).mpr z3⟩, by omega⟩
end C
end
section
/-! the component's model: false phase, true phase, rounds -/
def xm_ok (N n : Nat) (us : Nat → Prop) (kk aa pp w : Nat → Nat) : Prop :=
  n ≤ 8 ∧ N ≤ 48 ∧ (∀ m, us (4 * m) → kk (4 * m) = 0) ∧ (∀ m i, i ≤ 3 → us (4 * m + i) → us (4 * m)) ∧ (∀ s, us s → kk s ≤ 2) ∧ (∀ s, us s → s < 64 * n) ∧ (∀ s, us s → aa s < N) ∧ (∀ s, us s → pp s = w (aa s)) ∧ (∀ a b, a < N → b < N → w a = w b → a = b) ∧ (∀ a, a < N → w a < 96)
/-- blocked by the literals of atoms below a that bb names -/
def xm_B (us : Nat → Prop) (kk aa : Nat → Nat) (bb : Nat → Nat → Prop) (a m : Nat) : Prop := ¬ us (4 * m) ∨ ∃ i, i ≤ 3 ∧ us (4 * m + i) ∧ aa (4 * m + i) < a ∧ bb (kk (4 * m + i)) (aa (4 * m + i))
section B
variable {us : Nat → Prop} {kk aa : Nat → Nat} {bb : Nat → Nat → Prop} {a m : Nat}
theorem xm_B0 : xm_B us kk aa bb 0 m ↔ ¬ us (4 * m) := by
  constructor
  · rintro (z | ⟨i, _, _, z, _⟩)
    · exact z
    · omega
  · exact fun z => Or.inl z
theorem xm_Bn (h : ∀ j, ¬ bb j a) : xm_B us kk aa bb (a + 1) m ↔ xm_B us kk aa bb a m := by
  constructor
  · rintro (z | ⟨i, z1, z2, z3, z4⟩)
    · exact Or.inl z
    · refine Or.inr ⟨i, z1, z2, ?_, z4⟩
      by_cases c : aa (4 * m + i) = a
      · rw [c] at z4; exact absurd z4 (h _)
      · omega
  · rintro (z | ⟨i, z1, z2, z3, z4⟩)
    · exact Or.inl z
    · exact Or.inr ⟨i, z1, z2, by omega, z4⟩
theorem xm_Bs {k : Nat} (h : ∀ j, bb j a ↔ j = k) : (xm_B us kk aa bb a m ∨ ∃ i, i ≤ 3 ∧ us (4 * m + i) ∧ kk (4 * m + i) = k ∧ aa (4 * m + i) = a) ↔ xm_B us kk aa bb (a + 1) m := by
  constructor
  · rintro ((z | ⟨i, z1, z2, z3, z4⟩) | ⟨i, z1, z2, z3, z4⟩)
    · exact Or.inl z
    · exact Or.inr ⟨i, z1, z2, by omega, z4⟩
    · refine Or.inr ⟨i, z1, z2, by omega, ?_⟩
      rw [z4]
      exact (h _).mpr z3
  · rintro (z | ⟨i, z1, z2, z3, z4⟩)
    · exact Or.inl (Or.inl z)
    · by_cases c : aa (4 * m + i) = a
      · rw [c] at z4
        exact Or.inr ⟨i, z1, z2, (h _).mp z4, c⟩
      · exact Or.inl (Or.inr ⟨i, z1, z2, by omega, z4⟩)
/-- the end of the blocking, for negated literals of a set -/
theorem xm_Be {N : Nat} {s : Nat → Prop} (h0 : ∀ m, us (4 * m) → kk (4 * m) = 0) (hA : ∀ s, us s → aa s < N) : xm_B us kk aa (fun j a => j = 2 ∧ s a) N m ↔ (¬ us (4 * m) ∨ ma_bl us kk aa s m) := by
  constructor
  · rintro (z | ⟨i, z1, z2, z3, z4, z5⟩)
    · exact Or.inl z
    · refine Or.inr ⟨i, ?_, z1, z2, z4, z5⟩
      by_cases c : i = 0
      · subst c
        have := h0 m z2
        have z4 : kk (4 * m) = 2 := z4
        omega
      · omega
  · rintro (z | ⟨i, z1, z2, z3, z4, z5⟩)
    · exact Or.inl z
    · exact Or.inr ⟨i, z2, z3, hA _ z3, z4, z5⟩
end B
section T
variable {N n : Nat} {us : Nat → Prop} {kk aa pp w : Nat → Nat} {F sX sY mX mY : Nat → Prop}
theorem xm_bl (O : xm_ok N n us kk aa pp w) (hs : ∀ a, a < N → (sX a ↔ sY (w a))) (m : Nat) : ma_bl us kk aa sX m ↔ ma_bl us kk pp sY m := by
  obtain ⟨_, _, _, _, _, _, hA, hp, _, _⟩ := O
  constructor
  · rintro ⟨i, z1, z2, z3, z4, z5⟩
    exact ⟨i, z1, z2, z3, z4, by rw [hp _ z3]; exact (hs _ (hA _ z3)).mp z5⟩
  · rintro ⟨i, z1, z2, z3, z4, z5⟩
    rw [hp _ z3] at z5
    exact ⟨i, z1, z2, z3, z4, (hs _ (hA _ z3)).mpr z5⟩
theorem xm_H (O : xm_ok N n us kk aa pp w) (hs : ∀ a, a < N → (sX a ↔ sY (w a))) (hm : ∀ a, a < N → (mX a ↔ mY (w a))) (j a : Nat) (ha : a < N) : ma_H us kk aa (fun a => F (w a)) (ma_bl us kk aa sX) mX j a ↔ ma_H us kk pp F (ma_bl us kk pp sY) mY j (w a) := by
  have O' := O
  obtain ⟨_, _, _, _, _, _, hA, hp, hw, _⟩ := O'
  exact ma_tr hA hp hw (fun _ _ => Iff.rfl) (fun m _ => xm_bl O hs m) hm j a ha
theorem xm_G (O : xm_ok N n us kk aa pp w) (hs : ∀ a, a < N → (sX a ↔ sY (w a))) (hm : ∀ a, a < N → (mX a ↔ mY (w a))) (a : Nat) (ha : a < N) : ma_G us kk aa (fun a => F (w a)) (ma_bl us kk aa sX) mX a ↔ ma_G us kk pp F (ma_bl us kk pp sY) mY (w a) := by
  constructor
  · rintro ⟨j, h⟩
    exact ⟨j, (xm_H O hs hm j a ha).mp h⟩
  · rintro ⟨j, h⟩
    exact ⟨j, (xm_H O hs hm j a ha).mpr h⟩
end T
section M
variable {N n : Nat} {us : Nat → Prop} {kk aa pp w : Nat → Nat} {F : Nat → Prop}
variable {f_kindHead f_kindPositive f_kindNegated f_draftRow f_constants f_unary f_binary f_maxRules f_atoms f_ruleCount f_hasDraft f_grounded f_hasModel f_tail : Int32} {a_isFactAtom a_candidate a_bodyLength a_cellKind a_cellPred a_cellFirst a_cellSecond a_groundAtom a_groundKind a_positives a_start a_cursor a_occurrence a_value a_stage a_height a_reached a_depth a_queue a_missing a_blocked : Nat → Int32}
/-- the last loop of the false phase -/
theorem xm_f42 {post : SX → Prop} {x1 : Int32} {R : Nat → Prop} {V S0 W S1 : Nat → Int32} (hN : N ≤ 48) (hr : ∀ a, a < N → a_reached a = ma_b (R a)) (hy : ∀ a, a < N → V a = 2 → ¬ R a → W a = 0 ∧ S1 a = x1) (hno : ∀ a, a < N → ¬ (V a = 2 ∧ ¬ R a) → W a = V a ∧ S1 a = S0 a)
    (h : ∀ (va st : Nat → Int32), (∀ a, a < N → va a = W a ∧ st a = S1 a) → post (f_kindHead, f_kindPositive, f_kindNegated, f_draftRow, f_constants, f_unary, f_binary, f_maxRules, nI N, nI n, f_hasDraft, f_grounded, f_hasModel, f_tail, a_isFactAtom, a_candidate, a_bodyLength, a_cellKind, a_cellPred, a_cellFirst, a_cellSecond, a_groundAtom, a_groundKind, a_positives, a_start, a_cursor, a_occurrence, va, st, a_height, a_reached, a_depth, a_queue, a_missing, a_blocked)) :
    ∀ (d a f : Nat) (va st : Nat → Int32), a + d = N → d < f → (∀ a', a' < a → va a' = W a' ∧ st a' = S1 a') → (∀ a', a ≤ a' → a' < N → va a' = V a' ∧ st a' = S0 a') → wX_settleFalse_42 post x1 f_kindHead f_kindPositive f_kindNegated f_draftRow f_constants f_unary f_binary f_maxRules (nI N) (nI n) f_hasDraft f_grounded f_hasModel f_tail f (nI a) a_isFactAtom a_candidate a_bodyLength a_cellKind a_cellPred a_cellFirst a_cellSecond a_groundAtom a_groundKind a_positives a_start a_cursor a_occurrence va st a_height a_reached a_depth a_queue a_missing a_blocked := by
  intro d
  induction d with
  | zero =>
    intro a f va st h1 h2 I1 I2
    obtain ⟨f, rfl⟩ : ∃ m, f = m + 1 := ⟨f - 1, by omega⟩
    rw [wX_settleFalse_42]
    dsimp only
    exact br_t (nI_le (by omega) (by omega)) (h va st (fun a' ha' => I1 a' (by omega)))
  | succ d ih =>
    intro a f va st h1 h2 I1 I2
    obtain ⟨f, rfl⟩ : ∃ m, f = m + 1 := ⟨f - 1, by omega⟩
    have ea : (nI a).toNatClampNeg = a := nI_clamp (by omega)
    have wa : vp_in (nI a) 48 := vp_in_nI (by omega) (by omega)
    have same : ¬ (V a = 2 ∧ ¬ R a) → wX_settleFalse_42 post x1 f_kindHead f_kindPositive f_kindNegated f_draftRow f_constants f_unary f_binary f_maxRules (nI N) (nI n) f_hasDraft f_grounded f_hasModel f_tail f (nI (a + 1)) a_isFactAtom a_candidate a_bodyLength a_cellKind a_cellPred a_cellFirst a_cellSecond a_groundAtom a_groundKind a_positives a_start a_cursor a_occurrence va st a_height a_reached a_depth a_queue a_missing a_blocked := by
      intro c
      obtain ⟨c1, c2⟩ := hno a (by omega) c
      obtain ⟨j1, j2⟩ := I2 a (by omega) (by omega)
      refine ih (a + 1) f va st (by omega) (by omega) (fun a' ha' => ?_) (fun a' k1 k2 => I2 a' (by omega) k2)
      by_cases z : a' = a
      · rw [z, j1, j2, c1, c2]; exact ⟨rfl, rfl⟩
      · exact I1 a' (by omega)
    rw [wX_settleFalse_42]
    dsimp only
    rw [ea]
    refine br_f (nI_ge (by omega) (by omega)) ⟨wa, ma_br (hr a (by omega)) (fun y => ⟨wa, ?_⟩) (fun y => ?_)⟩
    · rw [(I2 a (by omega) (by omega)).1]
      refine br_c (fun z => ⟨wa, nm_e ⟨wa, nm_e (nm_r (nI_1 a) ?_)⟩⟩) (fun z => nm_r (nI_1 a) (same (fun c => z c.1)))
      obtain ⟨c1, c2⟩ := hy a (by omega) z y
      refine ih (a + 1) f _ _ (by omega) (by omega) (fun a' ha' => ?_) (fun a' k1 k2 => ?_)
      · by_cases x : a' = a
        · rw [x, pk_us, pk_us, c1, c2]; exact ⟨rfl, rfl⟩
        · rw [pk_un x, pk_un x]; exact I1 a' (by omega)
      · rw [pk_un (by omega), pk_un (by omega)]
        exact I2 a' (by omega) k2
    · exact nm_r (nI_1 a) (same (fun c => c.2 y))
/-- the false phase of round k + 1 -/
theorem xm_f6 {post : SX → Prop} {k : Nat} (O : xm_ok N n us kk aa pp w) (G : gr_ok (64 * n) us kk aa a_groundAtom a_groundKind a_positives a_start a_occurrence) (hF : ∀ a, a < N → a_isFactAtom a = ma_b (F (w a))) (hV : ∀ a, a < N → a_value a = ro_v us kk pp F k (w a) ∧ a_stage a = ro_s us kk pp F k (w a)) (hrc : ∀ a, a < N → a_reached a = 0) (hms : cl_M (64 * n) us kk (fun _ => False) a_missing)
    (h : ∀ (T : Nat) (va st rc dp qu ms bk : Nat → Int32), (∀ a, a < N → va a = ro_w us kk pp F k (w a) ∧ st a = ro_t us kk pp F k (w a)) → post (f_kindHead, f_kindPositive, f_kindNegated, f_draftRow, f_constants, f_unary, f_binary, f_maxRules, nI N, nI n, f_hasDraft, f_grounded, f_hasModel, nI T, a_isFactAtom, a_candidate, a_bodyLength, a_cellKind, a_cellPred, a_cellFirst, a_cellSecond, a_groundAtom, a_groundKind, a_positives, a_start, a_cursor, a_occurrence, va, st, a_height, rc, dp, qu, ms, bk)) :
    ∀ (d a f : Nat) (bk : Nat → Int32), a + d = N → d < f → (∀ m, 4 * m < 64 * n → bk m = ma_b (xm_B us kk aa (fun j a => j = 2 ∧ ro_T us kk pp F k (w a)) a m)) → wX_settleFalse_6 post (nI (k + 1)) f (nI a) f_kindHead f_kindPositive f_kindNegated f_draftRow f_constants f_unary f_binary f_maxRules (nI N) (nI n) f_hasDraft f_grounded f_hasModel (nI 0) a_isFactAtom a_candidate a_bodyLength a_cellKind a_cellPred a_cellFirst a_cellSecond a_groundAtom a_groundKind a_positives a_start a_cursor a_occurrence a_value a_stage a_height a_reached a_depth a_queue a_missing bk := by
  have O' := O
  obtain ⟨hn, hN, h0, hu, hk2, hS, hA, hp, hw, h96⟩ := O'
  intro d
  induction d with
  | zero =>
    intro a f bk h1 h2 I
    obtain ⟨f, rfl⟩ : ∃ m, f = m + 1 := ⟨f - 1, by omega⟩
    have e : a = N := by omega
    subst e
    rw [wX_settleFalse_6]
    dsimp only
    refine br_t (nI_le (Nat.le_refl _) (by omega)) ?_
    refine xc_run (us := us) (kk := kk) (aa := aa) (F := fun a => F (w a)) (bl := ma_bl us kk aa (fun a => ro_T us kk pp F k (w a))) (m0 := fun _ => False) (qf := fun _ => 0) (d := fun _ => 0) hn hN h0 hu hk2 hS hA G (fun m hm => (I m hm).trans (ma_bc (xm_Be h0 hA))) hms hF (cl_Q_0 hrc) (fun i hi => by omega) (fun a _ z => z.elim) (fun T rc dp qu ms c1 c2 => ⟨a + 1, ?_⟩)
    refine xm_f42 (R := fun a => ro_P us kk pp F k (w a)) (V := fun a => ro_v us kk pp F k (w a)) (S0 := fun a => ro_s us kk pp F k (w a)) (W := fun a => ro_w us kk pp F k (w a)) (S1 := fun a => ro_t us kk pp F k (w a)) hN (fun b hb => ?_) (fun b _ z1 z2 => ro_fa z1 z2) (fun b _ z => ro_fb z) (fun va st J => h T va st rc dp qu ms bk J) a 0 _ a_value a_stage (by omega) (by omega) (fun a' ha' => by omega) (fun a' _ ha' => hV a' ha')
    rw [c1 b hb]
    exact ma_bc (xm_G (F := F) (sX := fun a => ro_T us kk pp F k (w a)) (sY := ro_T us kk pp F k) (mX := fun _ => False) (mY := fun _ => False) O (fun _ _ => Iff.rfl) (fun _ _ => Iff.rfl) b hb)
  | succ d ih =>
    intro a f bk h1 h2 I
    obtain ⟨f, rfl⟩ : ∃ m, f = m + 1 := ⟨f - 1, by omega⟩
    have ea : (nI a).toNatClampNeg = a := nI_clamp (by omega)
    rw [wX_settleFalse_6]
    dsimp only
    rw [ea, (hV a (by omega)).1]
    refine br_f (nI_ge (by omega) (by omega)) ⟨vp_in_nI (by omega) (by omega), br_c (fun z => ?_) (fun z => ?_)⟩
    · refine xc_block (k := 2) (P := fun m => xm_B us kk aa (fun j a => j = 2 ∧ ro_T us kk pp F k (w a)) a m) hn hN (by omega) (by omega) hS hk2 G I (fun bk' J => ?_)
      refine nm_r (nI_1 a) (ih (a + 1) f bk' (by omega) (by omega) (fun m hm => (J m hm).trans (ma_bc (xm_Bs (fun j => ?_)))))
      exact ⟨fun y => y.1, fun y => ⟨y, ro_vT.mp z⟩⟩
    · refine nm_r (nI_1 a) (ih (a + 1) f bk (by omega) (by omega) (fun m hm => (I m hm).trans (ma_bc (xm_Bn (fun j y => ?_)).symm)))
      exact z (ro_vT.mpr y.2)
theorem xm_false {post : SX → Prop} {k : Nat} (O : xm_ok N n us kk aa pp w) (G : gr_ok (64 * n) us kk aa a_groundAtom a_groundKind a_positives a_start a_occurrence) (hF : ∀ a, a < N → a_isFactAtom a = ma_b (F (w a))) (hV : ∀ a, a < N → a_value a = ro_v us kk pp F k (w a) ∧ a_stage a = ro_s us kk pp F k (w a))
    (h : ∀ (T : Nat) (va st rc dp qu ms bk : Nat → Int32), (∀ a, a < N → va a = ro_w us kk pp F k (w a) ∧ st a = ro_t us kk pp F k (w a)) → post (f_kindHead, f_kindPositive, f_kindNegated, f_draftRow, f_constants, f_unary, f_binary, f_maxRules, nI N, nI n, f_hasDraft, f_grounded, f_hasModel, nI T, a_isFactAtom, a_candidate, a_bodyLength, a_cellKind, a_cellPred, a_cellFirst, a_cellSecond, a_groundAtom, a_groundKind, a_positives, a_start, a_cursor, a_occurrence, va, st, a_height, rc, dp, qu, ms, bk)) : wpX_settleFalse post (f_kindHead, f_kindPositive, f_kindNegated, f_draftRow, f_constants, f_unary, f_binary, f_maxRules, nI N, nI n, f_hasDraft, f_grounded, f_hasModel, f_tail, a_isFactAtom, a_candidate, a_bodyLength, a_cellKind, a_cellPred, a_cellFirst, a_cellSecond, a_groundAtom, a_groundKind, a_positives, a_start, a_cursor, a_occurrence, a_value, a_stage, a_height, a_reached, a_depth, a_queue, a_missing, a_blocked) (nI (k + 1)) := by
  have O' := O
  obtain ⟨hn, hN, h0, hu, hk2, hS, hA, hp, hw, h96⟩ := O'
  refine xc_begin (f_tail := f_tail) hn G hA hN (fun rc dp ms bk I1 I2 I3 => ⟨N + 1, ?_⟩)
  exact xm_f6 O G hF hV I1 I2 h N 0 _ bk (by omega) (by omega) (fun m hm => (I3 m hm).trans (ma_bc xm_B0.symm))
/-- the last loop of the true phase -/
theorem xm_t59 {post : Int32 → SX → Prop} {x1 : Int32} {R : Nat → Prop} {W S1 H1 V2 S2 H2 : Nat → Int32} (hN : N ≤ 48) (hr : ∀ a, a < N → a_reached a = ma_b (R a)) (hy : ∀ a, a < N → R a → W a ≠ 1 → V2 a = 1 ∧ S2 a = x1 ∧ H2 a = a_depth a) (hno : ∀ a, a < N → ¬ (R a ∧ W a ≠ 1) → V2 a = W a ∧ S2 a = S1 a ∧ H2 a = H1 a)
    (h : ∀ (va st he : Nat → Int32), (∀ a, a < N → va a = V2 a ∧ st a = S2 a ∧ he a = H2 a) → post (ma_b (∃ a, a < N ∧ R a ∧ W a ≠ 1)) (f_kindHead, f_kindPositive, f_kindNegated, f_draftRow, f_constants, f_unary, f_binary, f_maxRules, nI N, nI n, f_hasDraft, f_grounded, f_hasModel, f_tail, a_isFactAtom, a_candidate, a_bodyLength, a_cellKind, a_cellPred, a_cellFirst, a_cellSecond, a_groundAtom, a_groundKind, a_positives, a_start, a_cursor, a_occurrence, va, st, he, a_reached, a_depth, a_queue, a_missing, a_blocked)) :
    ∀ (d a f : Nat) (va st he : Nat → Int32), a + d = N → d < f → (∀ a', a' < a → va a' = V2 a' ∧ st a' = S2 a' ∧ he a' = H2 a') → (∀ a', a ≤ a' → a' < N → va a' = W a' ∧ st a' = S1 a' ∧ he a' = H1 a') → wX_settleTrue_59 post x1 f_kindHead f_kindPositive f_kindNegated f_draftRow f_constants f_unary f_binary f_maxRules (nI N) (nI n) f_hasDraft f_grounded f_hasModel f_tail f (ma_b (∃ a', a' < a ∧ R a' ∧ W a' ≠ 1)) (nI a) a_isFactAtom a_candidate a_bodyLength a_cellKind a_cellPred a_cellFirst a_cellSecond a_groundAtom a_groundKind a_positives a_start a_cursor a_occurrence va st he a_reached a_depth a_queue a_missing a_blocked := by
  intro d
  induction d with
  | zero =>
    intro a f va st he h1 h2 I1 I2
    obtain ⟨f, rfl⟩ : ∃ m, f = m + 1 := ⟨f - 1, by omega⟩
    have e : a = N := by omega
    subst e
    rw [wX_settleTrue_59]
    dsimp only
    exact br_t (nI_le (by omega) (by omega)) ⟨ma_nn _, h va st he (fun a' ha' => I1 a' (by omega))⟩
  | succ d ih =>
    intro a f va st he h1 h2 I1 I2
    obtain ⟨f, rfl⟩ : ∃ m, f = m + 1 := ⟨f - 1, by omega⟩
    have ea : (nI a).toNatClampNeg = a := nI_clamp (by omega)
    have wa : vp_in (nI a) 48 := vp_in_nI (by omega) (by omega)
    have same : ¬ (R a ∧ W a ≠ 1) → wX_settleTrue_59 post x1 f_kindHead f_kindPositive f_kindNegated f_draftRow f_constants f_unary f_binary f_maxRules (nI N) (nI n) f_hasDraft f_grounded f_hasModel f_tail f (ma_b (∃ a', a' < a ∧ R a' ∧ W a' ≠ 1)) (nI (a + 1)) a_isFactAtom a_candidate a_bodyLength a_cellKind a_cellPred a_cellFirst a_cellSecond a_groundAtom a_groundKind a_positives a_start a_cursor a_occurrence va st he a_reached a_depth a_queue a_missing a_blocked := by
      intro c
      obtain ⟨c1, c2, c3⟩ := hno a (by omega) c
      obtain ⟨j1, j2, j3⟩ := I2 a (by omega) (by omega)
      have eb : ma_b (∃ a', a' < a ∧ R a' ∧ W a' ≠ 1) = ma_b (∃ a', a' < a + 1 ∧ R a' ∧ W a' ≠ 1) := by
        refine ma_bc ⟨?_, ?_⟩
        · rintro ⟨a', z1, z2⟩
          exact ⟨a', by omega, z2⟩
        · rintro ⟨a', z1, z2⟩
          by_cases z : a' = a
          · rw [z] at z2; exact absurd z2 c
          · exact ⟨a', by omega, z2⟩
      rw [eb]
      refine ih (a + 1) f va st he (by omega) (by omega) (fun a' ha' => ?_) (fun a' k1 k2 => I2 a' (by omega) k2)
      by_cases z : a' = a
      · rw [z, j1, j2, j3, c1, c2, c3]; exact ⟨rfl, rfl, rfl⟩
      · exact I1 a' (by omega)
    rw [wX_settleTrue_59]
    dsimp only
    rw [ea]
    refine br_f (nI_ge (by omega) (by omega)) ⟨wa, ma_br (hr a (by omega)) (fun y => ?_) (fun y => ⟨wa, ?_⟩)⟩
    · exact nm_r (nI_1 a) (same (fun c => y c.1))
    · rw [(I2 a (by omega) (by omega)).1]
      refine br_c (fun z => nm_r (nI_1 a) (same (fun c => c.2 z))) (fun z => ⟨wa, nm_e ⟨wa, nm_e ⟨wa, wa, nm_e (nm_r (nI_1 a) ?_)⟩⟩⟩)
      obtain ⟨c1, c2, c3⟩ := hy a (by omega) y z
      have eb : (1 : Int32) = ma_b (∃ a', a' < a + 1 ∧ R a' ∧ W a' ≠ 1) := (ma_bt ⟨a, by omega, y, z⟩).symm
      rw [eb]
      refine ih (a + 1) f _ _ _ (by omega) (by omega) (fun a' ha' => ?_) (fun a' k1 k2 => ?_)
      · by_cases x : a' = a
        · rw [x, pk_us, pk_us, pk_us, c1, c2, c3]; exact ⟨eb.symm, rfl, rfl⟩
        · rw [pk_un x, pk_un x, pk_un x]; exact I1 a' (by omega)
      · rw [pk_un (by omega), pk_un (by omega), pk_un (by omega)]
        exact I2 a' (by omega) k2
/-- the true phase of round k + 1 -/
theorem xm_t6 {post : Int32 → SX → Prop} {k : Nat} (O : xm_ok N n us kk aa pp w) (G : gr_ok (64 * n) us kk aa a_groundAtom a_groundKind a_positives a_start a_occurrence) (hF : ∀ a, a < N → a_isFactAtom a = ma_b (F (w a))) (hV : ∀ a, a < N → a_value a = ro_w us kk pp F k (w a) ∧ a_stage a = ro_t us kk pp F k (w a) ∧ a_height a = ro_h us kk pp F k (w a)) (hms : cl_M (64 * n) us kk (fun _ => False) a_missing)
    (h : ∀ (T : Nat) (va st he rc dp qu ms bk : Nat → Int32), (∀ a, a < N → va a = ro_v us kk pp F (k + 1) (w a) ∧ st a = ro_s us kk pp F (k + 1) (w a) ∧ he a = ro_h us kk pp F (k + 1) (w a)) → post (ma_b (∃ a, a < N ∧ ro_T us kk pp F (k + 1) (w a) ∧ ¬ ro_T us kk pp F k (w a))) (f_kindHead, f_kindPositive, f_kindNegated, f_draftRow, f_constants, f_unary, f_binary, f_maxRules, nI N, nI n, f_hasDraft, f_grounded, f_hasModel, nI T, a_isFactAtom, a_candidate, a_bodyLength, a_cellKind, a_cellPred, a_cellFirst, a_cellSecond, a_groundAtom, a_groundKind, a_positives, a_start, a_cursor, a_occurrence, va, st, he, rc, dp, qu, ms, bk)) :
    ∀ (d a f T : Nat) (qf dd : Nat → Nat) (bk rc dp qu : Nat → Int32), a + d = N → d < f → (∀ m, 4 * m < 64 * n → bk m = ma_b (xm_B us kk aa (fun j a => j = 2 ∧ ro_P us kk pp F k (w a)) a m)) → cl_Q N T qf dd (ma_H us kk aa (fun a => F (w a)) (ma_bl us kk aa (fun a => ro_P us kk pp F k (w a))) (fun a => ro_T us kk pp F k (w a))) rc dp qu → (∀ i, i < T → dd (qf i) ≤ 0) → (∀ a', a' < a → ro_T us kk pp F k (w a') → ∃ i, i < T ∧ qf i = a') → wX_settleTrue_6 post (nI (k + 1)) f (nI a) f_kindHead f_kindPositive f_kindNegated f_draftRow f_constants f_unary f_binary f_maxRules (nI N) (nI n) f_hasDraft f_grounded f_hasModel (nI T) a_isFactAtom a_candidate a_bodyLength a_cellKind a_cellPred a_cellFirst a_cellSecond a_groundAtom a_groundKind a_positives a_start a_cursor a_occurrence a_value a_stage a_height rc dp qu a_missing bk := by
  have O' := O
  obtain ⟨hn, hN, h0, hu, hk2, hS, hA, hp, hw, h96⟩ := O'
  intro d
  induction d with
  | zero =>
    intro a f T qf dd bk rc dp qu h1 h2 I Q Q0 Q1
    obtain ⟨f, rfl⟩ : ∃ m, f = m + 1 := ⟨f - 1, by omega⟩
    have e : a = N := by omega
    subst e
    rw [wX_settleTrue_6]
    dsimp only
    refine br_t (nI_le (Nat.le_refl _) (by omega)) ?_
    refine xc_run (us := us) (kk := kk) (aa := aa) (F := fun a => F (w a)) (bl := ma_bl us kk aa (fun a => ro_P us kk pp F k (w a))) (m0 := fun a => ro_T us kk pp F k (w a)) (qf := qf) (d := dd) hn hN h0 hu hk2 hS hA G (fun m hm => (I m hm).trans (ma_bc (xm_Be h0 hA))) hms hF Q Q0 (fun a' ha' z => Q1 a' ha' z) (fun T' rc' dp' qu' ms' c1 c2 => ⟨a + 1, ?_⟩)
    have eH : ∀ j b, b < a → (ma_H us kk aa (fun a => F (w a)) (ma_bl us kk aa (fun a => ro_P us kk pp F k (w a))) (fun a => ro_T us kk pp F k (w a)) j b ↔ ro_H us kk pp F k j (w b)) := fun j b hb => xm_H O (fun _ _ => Iff.rfl) (fun _ _ => Iff.rfl) j b hb
    have eG : ∀ b, b < a → (ma_G us kk aa (fun a => F (w a)) (ma_bl us kk aa (fun a => ro_P us kk pp F k (w a))) (fun a => ro_T us kk pp F k (w a)) b ↔ ro_T us kk pp F (k + 1) (w b)) := fun b hb => (xm_G O (fun _ _ => Iff.rfl) (fun _ _ => Iff.rfl) b hb).trans (ro_HT k (w b))
    have eb0 : (0 : Int32) = ma_b (∃ a', a' < 0 ∧ ro_T us kk pp F (k + 1) (w a') ∧ ro_w us kk pp F k (w a') ≠ 1) := (ma_bf (by rintro ⟨a', z, _⟩; omega)).symm
    have w2 : ∀ b, ro_T us kk pp F (k + 1) (w b) → ro_w us kk pp F k (w b) ≠ 1 → ro_w us kk pp F k (w b) = 2 := by
      intro b z1 z2
      rcases ro_w012 (us := us) (kk := kk) (pp := pp) (F := F) k (w b) with ⟨y, _⟩ | ⟨y, _⟩ | ⟨_, _, y⟩
      · exact absurd y z2
      · exact y
      · exact absurd (ro_TsP k _ z1) y
    show wX_settleTrue_59 _ _ f_kindHead f_kindPositive f_kindNegated f_draftRow f_constants f_unary f_binary f_maxRules (nI a) (nI n) f_hasDraft f_grounded f_hasModel (nI T') _ 0 (nI 0) _ _ _ _ _ _ _ _ _ _ _ _ _ _ _ _ _ _ _ _ _
    rw [eb0]
    refine xm_t59 (R := fun b => ro_T us kk pp F (k + 1) (w b)) (W := fun b => ro_w us kk pp F k (w b)) (S1 := fun b => ro_t us kk pp F k (w b)) (H1 := fun b => ro_h us kk pp F k (w b)) (V2 := fun b => ro_v us kk pp F (k + 1) (w b)) (S2 := fun b => ro_s us kk pp F (k + 1) (w b)) (H2 := fun b => ro_h us kk pp F (k + 1) (w b)) hN (fun b hb => (c1 b hb).trans (ma_bc (eG b hb))) (fun b hb z1 z2 => ?_) (fun b hb z => ?_) (fun va st he J => ?_) a 0 _ a_value a_stage a_height (by omega) (by omega) (fun a' ha' => by omega) (fun a' _ ha' => hV a' ha')
    · obtain ⟨y1, y2, y3⟩ := ro_ta (w2 b z1 z2) z1
      exact ⟨y1, y2, y3.trans ((congrArg nI (ma_rk_c (fun j => (eH j b hb).symm))).trans (c2 b hb ((eG b hb).mpr z1)).symm)⟩
    · exact ro_tb (fun y => z ⟨y.2, by rw [y.1]; decide⟩)
    · have e : ma_b (∃ b, b < a ∧ ro_T us kk pp F (k + 1) (w b) ∧ ro_w us kk pp F k (w b) ≠ 1) = ma_b (∃ b, b < a ∧ ro_T us kk pp F (k + 1) (w b) ∧ ¬ ro_T us kk pp F k (w b)) := by
        refine ma_bc ⟨?_, ?_⟩
        · rintro ⟨b, z1, z2, z3⟩
          exact ⟨b, z1, z2, fun y => z3 (ro_wT.mpr y)⟩
        · rintro ⟨b, z1, z2, z3⟩
          exact ⟨b, z1, z2, fun y => z3 (ro_wT.mp y)⟩
      have := h T' va st he rc' dp' qu' ms' bk J
      rw [← e] at this
      exact this
  | succ d ih =>
    intro a f T qf dd bk rc dp qu h1 h2 I Q Q0 Q1
    obtain ⟨f, rfl⟩ : ∃ m, f = m + 1 := ⟨f - 1, by omega⟩
    have ea : (nI a).toNatClampNeg = a := nI_clamp (by omega)
    have wa : vp_in (nI a) 48 := vp_in_nI (by omega) (by omega)
    have join : ∀ bk' : Nat → Int32, (∀ m, 4 * m < 64 * n → bk' m = ma_b (xm_B us kk aa (fun j a => j = 2 ∧ ro_P us kk pp F k (w a)) (a + 1) m)) → wX_settleTrue_29 post (wX_settleTrue_6 post (nI (k + 1)) f) (nI (k + 1)) (nI a) f_kindHead f_kindPositive f_kindNegated f_draftRow f_constants f_unary f_binary f_maxRules (nI N) (nI n) f_hasDraft f_grounded f_hasModel (nI T) a_isFactAtom a_candidate a_bodyLength a_cellKind a_cellPred a_cellFirst a_cellSecond a_groundAtom a_groundKind a_positives a_start a_cursor a_occurrence a_value a_stage a_height rc dp qu a_missing bk' := by
      intro bk' I'
      unfold wX_settleTrue_29
      rw [ea, (hV a (by omega)).1]
      refine ⟨wa, br_c (fun z => ?_) (fun z => ?_)⟩
      · refine xc_reach (e := 0) hN Q (by omega) (ro_wT.mp z) Q0 (fun T' qf' d' rc' dp' qu' Q' X hx hT => ?_)
        refine nm_r (nI_1 a) (ih (a + 1) f T' qf' d' bk' rc' dp' qu' (by omega) (by omega) I' Q' hT (fun a' ha' y => ?_))
        by_cases c : a' = a
        · rw [c]; exact hx
        · obtain ⟨i, hi, e⟩ := Q1 a' (by omega) y
          exact ⟨i, by have := X.1; omega, by rw [X.2.1 i hi]; exact e⟩
      · refine nm_r (nI_1 a) (ih (a + 1) f T qf dd bk' rc dp qu (by omega) (by omega) I' Q Q0 (fun a' ha' y => ?_))
        by_cases c : a' = a
        · rw [c] at y; exact absurd (ro_wT.mpr y) z
        · exact Q1 a' (by omega) y
    rw [wX_settleTrue_6]
    dsimp only
    rw [ea, (hV a (by omega)).1]
    refine br_f (nI_ge (by omega) (by omega)) ⟨wa, br_c (fun z => ?_) (fun z => ?_)⟩
    · exact join bk (fun m hm => (I m hm).trans (ma_bc (xm_Bn (fun j y => ro_wP.mp z y.2)).symm))
    · have zP : ro_P us kk pp F k (w a) := by
        by_cases y : ro_P us kk pp F k (w a)
        · exact y
        · exact absurd (ro_wP.mpr y) z
      refine xc_block (k := 2) (P := fun m => xm_B us kk aa (fun j a => j = 2 ∧ ro_P us kk pp F k (w a)) a m) hn hN (by omega) (by omega) hS hk2 G I (fun bk' J => ?_)
      exact join bk' (fun m hm => (J m hm).trans (ma_bc (xm_Bs (fun j => ⟨fun y => y.1, fun y => ⟨y, zP⟩⟩))))
theorem xm_true {post : Int32 → SX → Prop} {k : Nat} (O : xm_ok N n us kk aa pp w) (G : gr_ok (64 * n) us kk aa a_groundAtom a_groundKind a_positives a_start a_occurrence) (hF : ∀ a, a < N → a_isFactAtom a = ma_b (F (w a))) (hV : ∀ a, a < N → a_value a = ro_w us kk pp F k (w a) ∧ a_stage a = ro_t us kk pp F k (w a) ∧ a_height a = ro_h us kk pp F k (w a))
    (h : ∀ (T : Nat) (va st he rc dp qu ms bk : Nat → Int32), (∀ a, a < N → va a = ro_v us kk pp F (k + 1) (w a) ∧ st a = ro_s us kk pp F (k + 1) (w a) ∧ he a = ro_h us kk pp F (k + 1) (w a)) → post (ma_b (∃ a, a < N ∧ ro_T us kk pp F (k + 1) (w a) ∧ ¬ ro_T us kk pp F k (w a))) (f_kindHead, f_kindPositive, f_kindNegated, f_draftRow, f_constants, f_unary, f_binary, f_maxRules, nI N, nI n, f_hasDraft, f_grounded, f_hasModel, nI T, a_isFactAtom, a_candidate, a_bodyLength, a_cellKind, a_cellPred, a_cellFirst, a_cellSecond, a_groundAtom, a_groundKind, a_positives, a_start, a_cursor, a_occurrence, va, st, he, rc, dp, qu, ms, bk)) : wpX_settleTrue post (f_kindHead, f_kindPositive, f_kindNegated, f_draftRow, f_constants, f_unary, f_binary, f_maxRules, nI N, nI n, f_hasDraft, f_grounded, f_hasModel, f_tail, a_isFactAtom, a_candidate, a_bodyLength, a_cellKind, a_cellPred, a_cellFirst, a_cellSecond, a_groundAtom, a_groundKind, a_positives, a_start, a_cursor, a_occurrence, a_value, a_stage, a_height, a_reached, a_depth, a_queue, a_missing, a_blocked) (nI (k + 1)) := by
  have O' := O
  obtain ⟨hn, hN, h0, hu, hk2, hS, hA, hp, hw, h96⟩ := O'
  refine xc_begin (f_tail := f_tail) hn G hA hN (fun rc dp ms bk I1 I2 I3 => ⟨N + 1, ?_⟩)
  exact xm_t6 O G hF hV I2 h N 0 _ 0 (fun _ => 0) (fun _ => 0) bk rc dp a_queue (by omega) (by omega) (fun m hm => (I3 m hm).trans (ma_bc xm_B0.symm)) (cl_Q_0 I1) (fun i hi => by omega) (fun a' ha' => by omega)
/-- the count of the undecided atoms -/
theorem xm_s81 {post : Int32 → SX → Prop} {V : Nat → Int32} (hN : N ≤ 48) (hV : ∀ a, a < N → a_value a = V a) (h : post (nI (ma_cn (fun a => V a = 2) N)) (f_kindHead, f_kindPositive, f_kindNegated, f_draftRow, f_constants, f_unary, f_binary, f_maxRules, nI N, nI n, f_hasDraft, f_grounded, f_hasModel, f_tail, a_isFactAtom, a_candidate, a_bodyLength, a_cellKind, a_cellPred, a_cellFirst, a_cellSecond, a_groundAtom, a_groundKind, a_positives, a_start, a_cursor, a_occurrence, a_value, a_stage, a_height, a_reached, a_depth, a_queue, a_missing, a_blocked)) :
    ∀ (d a f : Nat), a + d = N → d < f → wX_solve_81 post f_kindHead f_kindPositive f_kindNegated f_draftRow f_constants f_unary f_binary f_maxRules (nI N) (nI n) f_hasDraft f_grounded f_hasModel f_tail a_isFactAtom a_candidate a_bodyLength a_cellKind a_cellPred a_cellFirst a_cellSecond a_groundAtom a_groundKind a_positives a_start a_cursor a_occurrence a_value a_stage a_height a_reached a_depth a_queue a_missing a_blocked f (nI (ma_cn (fun a => V a = 2) a)) (nI a) := by
  intro d
  induction d with
  | zero =>
    intro a f h1 h2
    obtain ⟨f, rfl⟩ : ∃ m, f = m + 1 := ⟨f - 1, by omega⟩
    have e : a = N := by omega
    subst e
    rw [wX_solve_81]
    dsimp only
    exact br_t (nI_le (Nat.le_refl _) (by omega)) h
  | succ d ih =>
    intro a f h1 h2
    obtain ⟨f, rfl⟩ : ∃ m, f = m + 1 := ⟨f - 1, by omega⟩
    have ea : (nI a).toNatClampNeg = a := nI_clamp (by omega)
    have ih := ih (a + 1) f (by omega) (by omega)
    have e : ma_cn (fun a => V a = 2) (a + 1) = ma_cn (fun a => V a = 2) a + ma_o (V a = 2) := rfl
    rw [wX_solve_81]
    dsimp only
    rw [ea, hV a (by omega)]
    refine br_f (nI_ge (by omega) (by omega)) ⟨vp_in_nI (by omega) (by omega), br_c (fun z => ?_) (fun z => ?_)⟩
    · rw [ma_ot z] at e
      rw [e] at ih
      exact nm_r (nI_1 _) (nm_r (nI_1 a) ih)
    · rw [ma_of z] at e
      rw [e] at ih
      exact nm_r (nI_1 a) ih
/-- the rounds -/
theorem xm_s45 {post : Int32 → SX → Prop} {K : Nat} (O : xm_ok N n us kk aa pp w) (G : gr_ok (64 * n) us kk aa a_groundAtom a_groundKind a_positives a_start a_occurrence) (hF : ∀ a, a < N → a_isFactAtom a = ma_b (F (w a))) (hK : K ≤ 48) (hst : ∀ a, a < N → ro_T us kk pp F (K + 1) (w a) → ro_T us kk pp F K (w a)) (hgr : ∀ k, k < K → ∃ a, a < N ∧ ro_T us kk pp F (k + 1) (w a) ∧ ¬ ro_T us kk pp F k (w a))
    (h : ∀ (tl : Int32) (va st he rc dp qu ms bk : Nat → Int32), (∀ a, a < N → va a = ro_v us kk pp F (K + 1) (w a) ∧ st a = ro_s us kk pp F (K + 1) (w a) ∧ he a = ro_h us kk pp F (K + 1) (w a)) → post (nI (ma_cn (fun a => ro_v us kk pp F (K + 1) (w a) = 2) N)) (f_kindHead, f_kindPositive, f_kindNegated, f_draftRow, f_constants, f_unary, f_binary, f_maxRules, nI N, nI n, f_hasDraft, f_grounded, 1, tl, a_isFactAtom, a_candidate, a_bodyLength, a_cellKind, a_cellPred, a_cellFirst, a_cellSecond, a_groundAtom, a_groundKind, a_positives, a_start, a_cursor, a_occurrence, va, st, he, rc, dp, qu, ms, bk)) :
    ∀ (d k f : Nat) (tl : Int32) (va st he rc dp qu ms bk : Nat → Int32), k + d = K + 1 → d < f → (∀ a, a < N → va a = ro_v us kk pp F k (w a) ∧ st a = ro_s us kk pp F k (w a) ∧ he a = ro_h us kk pp F k (w a)) → wX_solve_45 post f (ma_b (k ≤ K)) (nI (k + 1)) f_kindHead f_kindPositive f_kindNegated f_draftRow f_constants f_unary f_binary f_maxRules (nI N) (nI n) f_hasDraft f_grounded f_hasModel tl a_isFactAtom a_candidate a_bodyLength a_cellKind a_cellPred a_cellFirst a_cellSecond a_groundAtom a_groundKind a_positives a_start a_cursor a_occurrence va st he rc dp qu ms bk := by
  have hN := O.2.1
  intro d
  induction d with
  | zero =>
    intro k f tl va st he rc dp qu ms bk h1 h2 I
    obtain ⟨f, rfl⟩ : ∃ m, f = m + 1 := ⟨f - 1, by omega⟩
    have e : k = K + 1 := by omega
    subst e
    rw [wX_solve_45]
    dsimp only
    refine br_t (ma_bf (by omega)) ⟨N + 1, ?_⟩
    exact xm_s81 (V := fun a => ro_v us kk pp F (K + 1) (w a)) hN (fun a ha => (I a ha).1) (h tl va st he rc dp qu ms bk I) N 0 _ (by omega) (by omega)
  | succ d ih =>
    intro k f tl va st he rc dp qu ms bk h1 h2 I
    obtain ⟨f, rfl⟩ : ∃ m, f = m + 1 := ⟨f - 1, by omega⟩
    rw [wX_solve_45]
    dsimp only
    refine br_f (by rw [ma_bt (by omega)]; decide) (br_f (nI_nlt (a := 49) (by omega) (by omega)) ?_)
    refine xm_false O G hF (fun a ha => ⟨(I a ha).1, (I a ha).2.1⟩) (fun T va1 st1 rc1 dp1 qu1 ms1 bk1 J => ?_)
    refine xm_true O G hF (fun a ha => ⟨(J a ha).1, (J a ha).2, (I a ha).2.2⟩) (fun T2 va2 st2 he2 rc2 dp2 qu2 ms2 bk2 J2 => ?_)
    have e : ma_b (∃ a, a < N ∧ ro_T us kk pp F (k + 1) (w a) ∧ ¬ ro_T us kk pp F k (w a)) = ma_b (k + 1 ≤ K) := by
      refine ma_bc ⟨?_, ?_⟩
      · rintro ⟨a, z1, z2, z3⟩
        by_cases c : k = K
        · subst c; exact absurd (hst a z1 z2) z3
        · omega
      · exact fun z => hgr k (by omega)
    refine nm_r (nI_1 (k + 1)) ?_
    rw [e]
    exact ih (k + 1) f _ va2 st2 he2 rc2 dp2 qu2 ms2 bk2 (by omega) (by omega) J2
theorem xm_s6 {post : Int32 → SX → Prop} (hN : N ≤ 48)
    (h : ∀ (va st he : Nat → Int32), (∀ a, a < N → va a = 2 ∧ st a = 0 ∧ he a = 0) → ∃ f, wX_solve_45 post f 1 1 f_kindHead f_kindPositive f_kindNegated f_draftRow f_constants f_unary f_binary f_maxRules (nI N) (nI n) f_hasDraft f_grounded f_hasModel f_tail a_isFactAtom a_candidate a_bodyLength a_cellKind a_cellPred a_cellFirst a_cellSecond a_groundAtom a_groundKind a_positives a_start a_cursor a_occurrence va st he a_reached a_depth a_queue a_missing a_blocked) :
    ∀ (d a f : Nat) (va st he : Nat → Int32), a + d = N → d < f → (∀ a', a' < a → va a' = 2 ∧ st a' = 0 ∧ he a' = 0) → wX_solve_6 post f_kindHead f_kindPositive f_kindNegated f_draftRow f_constants f_unary f_binary f_maxRules (nI N) (nI n) f_hasDraft f_grounded f_hasModel f_tail f (nI a) a_isFactAtom a_candidate a_bodyLength a_cellKind a_cellPred a_cellFirst a_cellSecond a_groundAtom a_groundKind a_positives a_start a_cursor a_occurrence va st he a_reached a_depth a_queue a_missing a_blocked := by
  intro d
  induction d with
  | zero =>
    intro a f va st he h1 h2 I
    obtain ⟨f, rfl⟩ : ∃ m, f = m + 1 := ⟨f - 1, by omega⟩
    rw [wX_solve_6]
    dsimp only
    exact br_t (nI_le (by omega) (by omega)) (h va st he (fun a' ha' => I a' (by omega)))
  | succ d ih =>
    intro a f va st he h1 h2 I
    obtain ⟨f, rfl⟩ : ∃ m, f = m + 1 := ⟨f - 1, by omega⟩
    have ea : (nI a).toNatClampNeg = a := nI_clamp (by omega)
    have wa : vp_in (nI a) 48 := vp_in_nI (by omega) (by omega)
    rw [wX_solve_6]
    dsimp only
    rw [ea]
    refine br_f (nI_ge (by omega) (by omega)) ⟨wa, nm_e ⟨wa, nm_e ⟨wa, nm_e (nm_r (nI_1 a) (ih (a + 1) f _ _ _ (by omega) (by omega) (fun a' ha' => ?_)))⟩⟩⟩
    by_cases c : a' = a
    · rw [c, pk_us, pk_us, pk_us]; exact ⟨rfl, rfl, rfl⟩
    · rw [pk_un c, pk_un c, pk_un c]; exact I a' (by omega)
end M
end
section
/-! the reference's step and least set -/
/-- the literals below place i let ground rule m through -/
def ys_fi (kk pp : Nat → Nat) (S M : Nat → Prop) (m i : Nat) : Prop := ∀ j, 1 ≤ j → j < i → (kk (4 * m + j) = 2 → ¬ S (pp (4 * m + j))) ∧ (¬ kk (4 * m + j) = 2 → M (pp (4 * m + j)))
def ys_D (us : Nat → Prop) (pp : Nat → Nat) (A fi : Nat → Prop) (m q : Nat) : Prop := A q ∨ ∃ j, j < m ∧ us (4 * j) ∧ fi j ∧ pp (4 * j) = q
section D
variable {us : Nat → Prop} {pp : Nat → Nat} {A fi : Nat → Prop} {m m2 q : Nat}
theorem ys_Ds (h : us (4 * m)) : (ys_D us pp A fi m q ∨ (fi m ∧ pp (4 * m) = q)) ↔ ys_D us pp A fi (m + 1) q := by
  constructor
  · rintro ((z | ⟨j, z1, z2⟩) | z)
    · exact Or.inl z
    · exact Or.inr ⟨j, by omega, z2⟩
    · exact Or.inr ⟨m, by omega, h, z⟩
  · rintro (z | ⟨j, z1, z2, z3⟩)
    · exact Or.inl (Or.inl z)
    · by_cases c : j = m
      · subst c; exact Or.inr z3
      · exact Or.inl (Or.inr ⟨j, by omega, z2, z3⟩)
theorem ys_Dk (hm : m ≤ m2) (h : ∀ j, m ≤ j → j < m2 → ¬ us (4 * j)) : ys_D us pp A fi m q ↔ ys_D us pp A fi m2 q := by
  constructor
  · rintro (z | ⟨j, z1, z2⟩)
    · exact Or.inl z
    · exact Or.inr ⟨j, by omega, z2⟩
  · rintro (z | ⟨j, z1, z2, z3⟩)
    · exact Or.inl z
    · refine Or.inr ⟨j, ?_, z2, z3⟩
      by_cases c : j < m
      · exact c
      · exact absurd z2 (h j (by omega) z1)
theorem ys_D0 : ys_D us pp A fi 0 q ↔ A q := by
  constructor
  · rintro (z | ⟨j, z1, z2⟩)
    · exact z
    · omega
  · exact fun z => Or.inl z
end D
section P
variable {C U B n : Nat} {ln kd pd fs sn : Nat → Nat}
theorem ys_n4 {r x j : Nat} (hx : x < 4) (hC : C ≤ 4) (h1 : 16 * r + 4 * x + C ≤ j) (h2 : j < 16 * r + 4 * (x + 1)) : ¬ pg_us C n ln (4 * j) := by
  intro u
  have := u.2.2.1
  omega
theorem ys_n16 {r j : Nat} (hC : C ≤ 4) (h1 : 16 * r + 4 * C ≤ j) (h2 : j < 16 * (r + 1)) : ¬ pg_us C n ln (4 * j) := by
  intro u
  have := u.2.1
  omega
theorem ys_fi_e {S M : Nat → Prop} {r x y : Nat} (K : pg_ok C U B n ln kd pd fs sn) (hr : r < n) (hx : x < C) (hy : y < C) : ys_fi (pg_kk kd) (pg_pp pd fs sn) S M (16 * r + 4 * x + y) (ln r + 1) ↔ (¬ ma_bl (pg_us C n ln) (pg_kk kd) (pg_pp pd fs sn) S (16 * r + 4 * x + y) ∧ ma_ok (pg_us C n ln) (pg_kk kd) (pg_pp pd fs sn) M (16 * r + 4 * x + y)) := by
  have hC := K.1.2.1
  have l3 := K.2.2.1 r (by have := K.2.1; omega)
  have hu : ∀ i, i ≤ 3 → (pg_us C n ln (4 * (16 * r + 4 * x + y) + i) ↔ i ≤ ln r) := fun i hi => by
    rw [pg_us_i (by omega) (by omega) (by omega)]
    exact ⟨fun z => z.2.2.2, fun z => ⟨hr, hx, hy, z⟩⟩
  constructor
  · intro h
    constructor
    · rintro ⟨i, z1, z2, z3, z4, z5⟩
      exact (h i z1 (by have := (hu i z2).mp z3; omega)).1 z4 z5
    · intro i z1 z2 z3 z4
      exact (h i z1 (by have := (hu i z2).mp z3; omega)).2 (by rw [z4]; decide)
  · rintro ⟨h1, h2⟩ j j1 j2
    have u := (hu j (by omega)).mpr (by omega)
    constructor
    · exact fun z y => h1 ⟨j, j1, by omega, u, z, y⟩
    · intro z
      rcases (pg_us_k K (by omega) u).2.1 j1 with k | k
      · exact h2 j j1 (by omega) u k
      · exact absurd k z
end P
section Y
variable {C U B n : Nat} {ln kd pd fs sn : Nat → Nat} {F S M : Nat → Prop}
variable {y_C y_U y_P y_R y_count y_draft y_solved : Int32} {b_facts b_code b_len b_value b_stage b_height b_candidate b_m b_s b_next b_certain : Nat → Int32}
theorem ys_79 {post : Int32 → SY → Prop} {J45 J55 J65 : Int32 → (Nat → Int32) → (Nat → Int32) → (Nat → Int32) → (Nat → Int32) → (Nat → Int32) → (Nat → Int32) → (Nat → Int32) → (Nat → Int32) → (Nat → Int32) → (Nat → Int32) → (Nat → Int32) → Prop} {r x y : Nat} {D : Nat → Prop} (K : pg_ok C U B n ln kd pd fs sn) (E : xa_cy ln kd pd fs sn b_code b_len) (hM : ∀ q, q < 96 → b_m q = ma_b (M q)) (hS : ∀ q, q < 96 → b_s q = ma_b (S q)) (hr : r < n) (hx : x < C) (hy : y < C) (hD : ∀ q, q < 96 → b_next q = ma_b (D q))
    (h : ∀ nx : Nat → Int32, (∀ q, q < 96 → nx q = ma_b (D q ∨ (ys_fi (pg_kk kd) (pg_pp pd fs sn) S M (16 * r + 4 * x + y) (ln r + 1) ∧ pg_pp pd fs sn (4 * (16 * r + 4 * x + y)) = q))) → J65 (nI (y + 1)) b_facts b_code b_len b_value b_stage b_height b_candidate b_m b_s nx b_certain) :
    ∀ (d i f : Nat), 1 ≤ i → i + d = ln r + 1 → d < f → wY_step_79 post J45 J55 J65 (nI r) (nI x) (nI y) (nI C) (nI U) (nI (U + B)) y_R (nI n) y_draft y_solved b_facts b_code b_len b_value b_stage b_height b_candidate b_m b_s b_next b_certain f (ma_b (ys_fi (pg_kk kd) (pg_pp pd fs sn) S M (16 * r + 4 * x + y) i)) (nI i) := by
  have hC := K.1.2.1
  have hn := K.2.1
  have l3 := K.2.2.1 r (by omega)
  have er : (nI r).toNatClampNeg = r := nI_clamp (by omega)
  have wr : vp_in (nI r) 9 := vp_in_nI (by omega) (by omega)
  intro d
  induction d with
  | zero =>
    intro i f h0 h1 h2
    obtain ⟨f, rfl⟩ : ∃ m, f = m + 1 := ⟨f - 1, by omega⟩
    have e : i = ln r + 1 := by omega
    subst e
    rw [wY_step_79]
    dsimp only
    rw [er, E.2 r]
    have u : pg_us C n ln (4 * (16 * r + 4 * x + y) + 0) := (pg_us_i (by omega) (by omega) (by omega)).mpr ⟨hr, hx, hy, by omega⟩
    have ep := pg_pp_i (pd := pd) (fs := fs) (sn := sn) (r := r) (x := x) (y := y) (i := 0) (by omega) (by omega) (by omega)
    have p96 := (pg_us_a K u).2.2.2
    refine ⟨wr, br_t (nI_lt (by omega) (by omega)) (xa_at (r := r) (i := 0) (x := x) (y := y) K E (by omega) ?_)⟩
    rw [← ep]
    have ec : (nI (pg_pp pd fs sn (4 * (16 * r + 4 * x + y) + 0))).toNatClampNeg = pg_pp pd fs sn (4 * (16 * r + 4 * x + y) + 0) := nI_clamp (by omega)
    refine ma_br rfl (fun z => nm_r (nI_1 y) (h _ (fun q hq => ?_))) (fun z => ⟨vp_in_nI p96 (by omega), nm_e (nm_r (nI_1 y) (h _ (fun q hq => ?_)))⟩)
    · rw [hD q hq]
      refine ma_bc ⟨fun k => Or.inl k, ?_⟩
      rintro (k | k)
      · exact k
      · exact absurd k.1 z
    · rw [ec, ma_n1]
      by_cases c : q = pg_pp pd fs sn (4 * (16 * r + 4 * x + y))
      · rw [c]
        refine pk_us.trans (ma_bt (Or.inr ⟨z, rfl⟩)).symm
      · refine (pk_un c).trans ((hD q hq).trans (ma_bc ⟨fun k => Or.inl k, ?_⟩))
        rintro (k | k)
        · exact k
        · exact absurd k.2.symm c
  | succ d ih =>
    intro i f h0 h1 h2
    obtain ⟨f, rfl⟩ : ∃ m, f = m + 1 := ⟨f - 1, by omega⟩
    rw [wY_step_79]
    dsimp only
    rw [er, E.2 r]
    have u : pg_us C n ln (4 * (16 * r + 4 * x + y) + i) := (pg_us_i (by omega) (by omega) (by omega)).mpr ⟨hr, hx, hy, by omega⟩
    have ep := pg_pp_i (pd := pd) (fs := fs) (sn := sn) (r := r) (x := x) (y := y) (i := i) (by omega) (by omega) (by omega)
    have ek : pg_kk kd (4 * (16 * r + 4 * x + y) + i) = kd (4 * r + i) := congrArg kd (pg_c_i (by omega) (by omega) (by omega))
    have p96 := (pg_us_a K u).2.2.2
    refine ⟨wr, br_f (nI_nlt (by omega) (by omega)) (xa_at (r := r) (i := i) (x := x) (y := y) K E (by omega) ?_)⟩
    rw [← ep]
    refine xa_neg (r := r) (i := i) K E (by omega) ?_
    have ec : (nI (pg_pp pd fs sn (4 * (16 * r + 4 * x + y) + i))).toNatClampNeg = pg_pp pd fs sn (4 * (16 * r + 4 * x + y) + i) := nI_clamp (by omega)
    have wp : vp_in (nI (pg_pp pd fs sn (4 * (16 * r + 4 * x + y) + i))) 96 := vp_in_nI p96 (by omega)
    have ih := ih (i + 1) f (by omega) (by omega) (by omega)
    have bad : ¬ ((pg_kk kd (4 * (16 * r + 4 * x + y) + i) = 2 → ¬ S (pg_pp pd fs sn (4 * (16 * r + 4 * x + y) + i))) ∧ (¬ pg_kk kd (4 * (16 * r + 4 * x + y) + i) = 2 → M (pg_pp pd fs sn (4 * (16 * r + 4 * x + y) + i)))) → wY_step_79 post J45 J55 J65 (nI r) (nI x) (nI y) (nI C) (nI U) (nI (U + B)) y_R (nI n) y_draft y_solved b_facts b_code b_len b_value b_stage b_height b_candidate b_m b_s b_next b_certain f 0 (nI (i + 1)) := by
      intro c
      have e : ma_b (ys_fi (pg_kk kd) (pg_pp pd fs sn) S M (16 * r + 4 * x + y) (i + 1)) = 0 := ma_bf (fun z => c (z i h0 (by omega)))
      rw [e] at ih
      exact ih
    have good : ((pg_kk kd (4 * (16 * r + 4 * x + y) + i) = 2 → ¬ S (pg_pp pd fs sn (4 * (16 * r + 4 * x + y) + i))) ∧ (¬ pg_kk kd (4 * (16 * r + 4 * x + y) + i) = 2 → M (pg_pp pd fs sn (4 * (16 * r + 4 * x + y) + i)))) → wY_step_79 post J45 J55 J65 (nI r) (nI x) (nI y) (nI C) (nI U) (nI (U + B)) y_R (nI n) y_draft y_solved b_facts b_code b_len b_value b_stage b_height b_candidate b_m b_s b_next b_certain f (ma_b (ys_fi (pg_kk kd) (pg_pp pd fs sn) S M (16 * r + 4 * x + y) i)) (nI (i + 1)) := by
      intro c
      have e : ma_b (ys_fi (pg_kk kd) (pg_pp pd fs sn) S M (16 * r + 4 * x + y) (i + 1)) = ma_b (ys_fi (pg_kk kd) (pg_pp pd fs sn) S M (16 * r + 4 * x + y) i) := by
        refine ma_bc ⟨fun z j j1 j2 => z j j1 (by omega), fun z j j1 j2 => ?_⟩
        by_cases y : j = i
        · subst y; exact c
        · exact z j j1 (by omega)
      rw [e] at ih
      exact ih
    rw [← ek, ec]
    refine ma_br rfl (fun z => ⟨wp, ma_br (hM _ p96) (fun y => ?_) (fun y => ?_)⟩) (fun z => ⟨wp, ma_br (hS _ p96) (fun y => ?_) (fun y => ?_)⟩)
    · exact nm_r (nI_1 i) (bad (fun c => y (c.2 z)))
    · exact nm_r (nI_1 i) (good ⟨fun c => absurd c z, fun _ => y⟩)
    · exact nm_r (nI_1 i) (good ⟨fun _ => y, fun c => absurd z c⟩)
    · exact nm_r (nI_1 i) (bad (fun c => c.1 z y))
theorem ys_65 {post : Int32 → SY → Prop} {J45 J55 : Int32 → (Nat → Int32) → (Nat → Int32) → (Nat → Int32) → (Nat → Int32) → (Nat → Int32) → (Nat → Int32) → (Nat → Int32) → (Nat → Int32) → (Nat → Int32) → (Nat → Int32) → (Nat → Int32) → Prop} {r x : Nat} {A : Nat → Prop} (K : pg_ok C U B n ln kd pd fs sn) (E : xa_cy ln kd pd fs sn b_code b_len) (hM : ∀ q, q < 96 → b_m q = ma_b (M q)) (hS : ∀ q, q < 96 → b_s q = ma_b (S q)) (hr : r < n) (hx : x < C)
    (h : ∀ nx : Nat → Int32, (∀ q, q < 96 → nx q = ma_b (ys_D (pg_us C n ln) (pg_pp pd fs sn) A (fun m => ¬ ma_bl (pg_us C n ln) (pg_kk kd) (pg_pp pd fs sn) S m ∧ ma_ok (pg_us C n ln) (pg_kk kd) (pg_pp pd fs sn) M m) (16 * r + 4 * (x + 1)) q)) → J55 (nI (x + 1)) b_facts b_code b_len b_value b_stage b_height b_candidate b_m b_s nx b_certain) :
    ∀ (d y f : Nat) (nx : Nat → Int32), y + d = C → d < f → (∀ q, q < 96 → nx q = ma_b (ys_D (pg_us C n ln) (pg_pp pd fs sn) A (fun m => ¬ ma_bl (pg_us C n ln) (pg_kk kd) (pg_pp pd fs sn) S m ∧ ma_ok (pg_us C n ln) (pg_kk kd) (pg_pp pd fs sn) M m) (16 * r + 4 * x + y) q)) → wY_step_65 post J45 J55 (nI r) (nI x) (nI C) (nI U) (nI (U + B)) y_R (nI n) y_draft y_solved f (nI y) b_facts b_code b_len b_value b_stage b_height b_candidate b_m b_s nx b_certain := by
  have hC := K.1.2.1
  intro d
  induction d with
  | zero =>
    intro y f nx h1 h2 I
    obtain ⟨f, rfl⟩ : ∃ m, f = m + 1 := ⟨f - 1, by omega⟩
    have e : y = C := by omega
    subst e
    rw [wY_step_65]
    dsimp only
    refine br_t (nI_le (Nat.le_refl _) (by omega)) (nm_r (nI_1 x) (h nx (fun q hq => (I q hq).trans (ma_bc (ys_Dk (by omega) (fun j j1 j2 => ys_n4 (x := x) (by omega) hC j1 j2))))))
  | succ d ih =>
    intro y f nx h1 h2 I
    obtain ⟨f, rfl⟩ : ∃ m, f = m + 1 := ⟨f - 1, by omega⟩
    rw [wY_step_65]
    dsimp only
    have e1 : (1 : Int32) = ma_b (ys_fi (pg_kk kd) (pg_pp pd fs sn) S M (16 * r + 4 * x + y) 1) := (ma_bt (fun j j1 j2 => by omega)).symm
    have k := ys_79 (post := post) (J45 := J45) (J55 := J55) (J65 := wY_step_65 post J45 J55 (nI r) (nI x) (nI C) (nI U) (nI (U + B)) y_R (nI n) y_draft y_solved f) (b_next := nx) (b_value := b_value) (b_stage := b_stage) (b_height := b_height) (b_candidate := b_candidate) (b_certain := b_certain) (b_facts := b_facts) (y_R := y_R) (y_draft := y_draft) (y_solved := y_solved) (r := r) (x := x) (y := y) K E hM hS hr hx (by omega) I (fun nx' J => ih (y + 1) f nx' (by omega) (by omega) (fun q hq => (J q hq).trans (ma_bc ?_))) (ln r) 1 (ln r + 1) (by omega) (by omega) (by omega)
    · rw [← e1] at k
      exact br_f (nI_ge (by omega) (by omega)) ⟨_, k⟩
    · have u : pg_us C n ln (4 * (16 * r + 4 * x + y)) := (pg_us_i (i := 0) (by omega) (by omega) (by omega)).mpr ⟨hr, hx, by omega, by omega⟩
      rw [ys_fi_e K hr hx (by omega)]
      exact ys_Ds u
theorem ys_55 {post : Int32 → SY → Prop} {J45 : Int32 → (Nat → Int32) → (Nat → Int32) → (Nat → Int32) → (Nat → Int32) → (Nat → Int32) → (Nat → Int32) → (Nat → Int32) → (Nat → Int32) → (Nat → Int32) → (Nat → Int32) → (Nat → Int32) → Prop} {r : Nat} {A : Nat → Prop} (K : pg_ok C U B n ln kd pd fs sn) (E : xa_cy ln kd pd fs sn b_code b_len) (hM : ∀ q, q < 96 → b_m q = ma_b (M q)) (hS : ∀ q, q < 96 → b_s q = ma_b (S q)) (hr : r < n)
    (h : ∀ nx : Nat → Int32, (∀ q, q < 96 → nx q = ma_b (ys_D (pg_us C n ln) (pg_pp pd fs sn) A (fun m => ¬ ma_bl (pg_us C n ln) (pg_kk kd) (pg_pp pd fs sn) S m ∧ ma_ok (pg_us C n ln) (pg_kk kd) (pg_pp pd fs sn) M m) (16 * (r + 1)) q)) → J45 (nI (r + 1)) b_facts b_code b_len b_value b_stage b_height b_candidate b_m b_s nx b_certain) :
    ∀ (d x f : Nat) (nx : Nat → Int32), x + d = C → d < f → (∀ q, q < 96 → nx q = ma_b (ys_D (pg_us C n ln) (pg_pp pd fs sn) A (fun m => ¬ ma_bl (pg_us C n ln) (pg_kk kd) (pg_pp pd fs sn) S m ∧ ma_ok (pg_us C n ln) (pg_kk kd) (pg_pp pd fs sn) M m) (16 * r + 4 * x) q)) → wY_step_55 post J45 (nI r) (nI C) (nI U) (nI (U + B)) y_R (nI n) y_draft y_solved f (nI x) b_facts b_code b_len b_value b_stage b_height b_candidate b_m b_s nx b_certain := by
  have hC := K.1.2.1
  intro d
  induction d with
  | zero =>
    intro x f nx h1 h2 I
    obtain ⟨f, rfl⟩ : ∃ m, f = m + 1 := ⟨f - 1, by omega⟩
    have e : x = C := by omega
    subst e
    rw [wY_step_55]
    dsimp only
    refine br_t (nI_le (Nat.le_refl _) (by omega)) (nm_r (nI_1 r) (h nx (fun q hq => (I q hq).trans (ma_bc (ys_Dk (by omega) (fun j j1 j2 => ys_n16 hC j1 j2))))))
  | succ d ih =>
    intro x f nx h1 h2 I
    obtain ⟨f, rfl⟩ : ∃ m, f = m + 1 := ⟨f - 1, by omega⟩
    rw [wY_step_55]
    dsimp only
    refine br_f (nI_ge (by omega) (by omega)) ⟨C + 1, ?_⟩
    exact ys_65 (r := r) (x := x) (A := A) K E hM hS hr (by omega) (fun nx' J => ih (x + 1) f nx' (by omega) (by omega) J) C 0 (C + 1) nx (by omega) (by omega) I
theorem ys_45 {post : Int32 → SY → Prop} {A : Nat → Prop} (K : pg_ok C U B n ln kd pd fs sn) (E : xa_cy ln kd pd fs sn b_code b_len) (hM : ∀ q, q < 96 → b_m q = ma_b (M q)) (hS : ∀ q, q < 96 → b_s q = ma_b (S q))
    (h : ∀ nx : Nat → Int32, (∀ q, q < 96 → nx q = ma_b (ys_D (pg_us C n ln) (pg_pp pd fs sn) A (fun m => ¬ ma_bl (pg_us C n ln) (pg_kk kd) (pg_pp pd fs sn) S m ∧ ma_ok (pg_us C n ln) (pg_kk kd) (pg_pp pd fs sn) M m) (16 * n) q)) → ∃ f, wY_step_188 post (nI C) (nI U) (nI (U + B)) y_R (nI n) y_draft y_solved f 0 0 b_facts b_code b_len b_value b_stage b_height b_candidate b_m b_s nx b_certain) :
    ∀ (d r f : Nat) (nx : Nat → Int32), r + d = n → d < f → (∀ q, q < 96 → nx q = ma_b (ys_D (pg_us C n ln) (pg_pp pd fs sn) A (fun m => ¬ ma_bl (pg_us C n ln) (pg_kk kd) (pg_pp pd fs sn) S m ∧ ma_ok (pg_us C n ln) (pg_kk kd) (pg_pp pd fs sn) M m) (16 * r) q)) → wY_step_45 post (nI C) (nI U) (nI (U + B)) y_R (nI n) y_draft y_solved f (nI r) b_facts b_code b_len b_value b_stage b_height b_candidate b_m b_s nx b_certain := by
  have hn := K.2.1
  intro d
  induction d with
  | zero =>
    intro r f nx h1 h2 I
    obtain ⟨f, rfl⟩ : ∃ m, f = m + 1 := ⟨f - 1, by omega⟩
    have e : r = n := by omega
    subst e
    rw [wY_step_45]
    dsimp only
    exact br_t (nI_le (Nat.le_refl _) (by omega)) (h nx I)
  | succ d ih =>
    intro r f nx h1 h2 I
    obtain ⟨f, rfl⟩ : ∃ m, f = m + 1 := ⟨f - 1, by omega⟩
    rw [wY_step_45]
    dsimp only
    refine br_f (nI_ge (by omega) (by omega)) ⟨C + 1, ?_⟩
    exact ys_55 (r := r) (A := A) K E hM hS (by omega) (fun nx' J => ih (r + 1) f nx' (by omega) (by omega) J) C 0 (C + 1) nx (by omega) (by omega) I
theorem ys_188 {post : Int32 → SY → Prop} {M2 : Nat → Prop} (h2 : ∀ q, q < 96 → b_next q = ma_b (M2 q))
    (h : ∀ m : Nat → Int32, (∀ q, q < 96 → m q = ma_b (M2 q)) → post (ma_b (∃ q, q < 96 ∧ ¬ (M2 q ↔ M q))) (nI C, nI U, nI (U + B), y_R, nI n, y_draft, y_solved, b_facts, b_code, b_len, b_value, b_stage, b_height, b_candidate, m, b_s, b_next, b_certain)) :
    ∀ (d q f : Nat) (m : Nat → Int32), q + d = 96 → d < f → (∀ q', q' < q → m q' = ma_b (M2 q')) → (∀ q', q ≤ q' → q' < 96 → m q' = ma_b (M q')) → wY_step_188 post (nI C) (nI U) (nI (U + B)) y_R (nI n) y_draft y_solved f (ma_b (∃ q', q' < q ∧ ¬ (M2 q' ↔ M q'))) (nI q) b_facts b_code b_len b_value b_stage b_height b_candidate m b_s b_next b_certain := by
  intro d
  induction d with
  | zero =>
    intro q f m h1 hf I1 I2
    obtain ⟨f, rfl⟩ : ∃ m, f = m + 1 := ⟨f - 1, by omega⟩
    have e : q = 96 := by omega
    subst e
    rw [wY_step_188]
    dsimp only
    exact br_t (nI_le (a := 96) (by omega) (by omega)) ⟨ma_nn _, h m I1⟩
  | succ d ih =>
    intro q f m h1 hf I1 I2
    obtain ⟨f, rfl⟩ : ∃ m, f = m + 1 := ⟨f - 1, by omega⟩
    have eq : (nI q).toNatClampNeg = q := nI_clamp (by omega)
    have wq : vp_in (nI q) 96 := vp_in_nI (by omega) (by omega)
    have nx : ∀ x : Int32, x = ma_b (∃ q', q' < q + 1 ∧ ¬ (M2 q' ↔ M q')) → wY_step_211 post (wY_step_188 post (nI C) (nI U) (nI (U + B)) y_R (nI n) y_draft y_solved f) x (nI q) (nI C) (nI U) (nI (U + B)) y_R (nI n) y_draft y_solved b_facts b_code b_len b_value b_stage b_height b_candidate m b_s b_next b_certain := by
      intro x hx
      unfold wY_step_211
      rw [eq, h2 q (by omega), ma_nb]
      refine ⟨wq, wq, nm_e (nm_r (nI_1 q) ?_)⟩
      rw [hx]
      refine ih (q + 1) f _ (by omega) (by omega) (fun q' hq' => ?_) (fun q' k1 k2 => ?_)
      · by_cases c : q' = q
        · rw [c, pk_us]
        · rw [pk_un c]; exact I1 q' (by omega)
      · rw [pk_un (by omega)]; exact I2 q' (by omega) k2
    rw [wY_step_188]
    dsimp only
    rw [eq, h2 q (by omega), I2 q (by omega) (by omega)]
    refine br_f (nI_ge (b := 96) (by omega) (by omega)) ⟨wq, wq, br_c (fun z => nx _ (ma_bc ⟨?_, ?_⟩)) (fun z => nx _ (ma_bt ⟨q, by omega, fun y => z (ma_bc y)⟩).symm)⟩
    · rintro ⟨q', z1, z2⟩
      exact ⟨q', by omega, z2⟩
    · rintro ⟨q', z1, z2⟩
      by_cases c : q' = q
      · rw [c] at z2; exact absurd (ma_bi z) z2
      · exact ⟨q', by omega, z2⟩
theorem ys_2 {post : Int32 → SY → Prop} (hM : ∀ q, q < 96 → b_m q = ma_b (M q)) (hF : ∀ q, q < 96 → b_facts q = ma_b (F q))
    (h : ∀ nx : Nat → Int32, (∀ q, q < 96 → nx q = ma_b (M q ∨ F q)) → ∃ f, wY_step_45 post (nI C) (nI U) (nI (U + B)) y_R (nI n) y_draft y_solved f 0 b_facts b_code b_len b_value b_stage b_height b_candidate b_m b_s nx b_certain) :
    ∀ (d q f : Nat) (nx : Nat → Int32), q + d = 96 → d < f → (∀ q', q' < q → nx q' = ma_b (M q' ∨ F q')) → wY_step_2 post (nI C) (nI U) (nI (U + B)) y_R (nI n) y_draft y_solved f (nI q) b_facts b_code b_len b_value b_stage b_height b_candidate b_m b_s nx b_certain := by
  intro d
  induction d with
  | zero =>
    intro q f nx h1 hf I
    obtain ⟨f, rfl⟩ : ∃ m, f = m + 1 := ⟨f - 1, by omega⟩
    rw [wY_step_2]
    dsimp only
    exact br_t (nI_le (a := 96) (by omega) (by omega)) (h nx (fun q' hq' => I q' (by omega)))
  | succ d ih =>
    intro q f nx h1 hf I
    obtain ⟨f, rfl⟩ : ∃ m, f = m + 1 := ⟨f - 1, by omega⟩
    have eq : (nI q).toNatClampNeg = q := nI_clamp (by omega)
    have wq : vp_in (nI q) 96 := vp_in_nI (by omega) (by omega)
    have st : ∀ x : Int32, x = ma_b (M q ∨ F q) → ∀ q', q' < q + 1 → upd nx q x q' = ma_b (M q' ∨ F q') := by
      intro x hx q' hq'
      by_cases c : q' = q
      · rw [c, pk_us, hx]
      · rw [pk_un c]; exact I q' (by omega)
    rw [wY_step_2]
    dsimp only
    rw [eq, ma_n0, ma_n1]
    refine br_f (nI_ge (b := 96) (by omega) (by omega)) ⟨wq, ma_br (hM q (by omega)) (fun z => ⟨wq, ma_br (hF q (by omega)) (fun y => ?_) (fun y => ?_)⟩) (fun z => ?_)⟩
    · exact ⟨wq, nm_e (nm_r (nI_1 q) (ih (q + 1) f _ (by omega) (by omega) (st 0 (ma_bf (fun k => k.elim z y)).symm)))⟩
    · exact ⟨wq, nm_e (nm_r (nI_1 q) (ih (q + 1) f _ (by omega) (by omega) (st 1 (ma_bt (Or.inr y)).symm)))⟩
    · exact ⟨wq, nm_e (nm_r (nI_1 q) (ih (q + 1) f _ (by omega) (by omega) (st 1 (ma_bt (Or.inl z)).symm)))⟩
/-- one step -/
theorem ys_step {post : Int32 → SY → Prop} (K : pg_ok C U B n ln kd pd fs sn) (E : xa_cy ln kd pd fs sn b_code b_len) (hF : ∀ q, q < 96 → b_facts q = ma_b (F q)) (hS : ∀ q, q < 96 → b_s q = ma_b (S q)) (hM : ∀ q, q < 96 → b_m q = ma_b (M q))
    (h : ∀ m nx : Nat → Int32, (∀ q, q < 96 → m q = ma_b (ma_st (pg_us C n ln) (pg_kk kd) (pg_pp pd fs sn) F (ma_bl (pg_us C n ln) (pg_kk kd) (pg_pp pd fs sn) S) M q)) → post (ma_b (∃ q, q < 96 ∧ ¬ (ma_st (pg_us C n ln) (pg_kk kd) (pg_pp pd fs sn) F (ma_bl (pg_us C n ln) (pg_kk kd) (pg_pp pd fs sn) S) M q ↔ M q))) (nI C, nI U, nI (U + B), y_R, nI n, y_draft, y_solved, b_facts, b_code, b_len, b_value, b_stage, b_height, b_candidate, m, b_s, nx, b_certain)) : wpY_step post (nI C, nI U, nI (U + B), y_R, nI n, y_draft, y_solved, b_facts, b_code, b_len, b_value, b_stage, b_height, b_candidate, b_m, b_s, b_next, b_certain) := by
  refine ⟨97, ys_2 hM hF (fun nx I => ⟨n + 1, ?_⟩) 96 0 97 b_next (by omega) (by omega) (fun q' hq' => by omega)⟩
  refine ys_45 (A := fun q => M q ∨ F q) K E hM hS (fun nx' J => ⟨97, ?_⟩) n 0 (n + 1) nx (by omega) (by omega) (fun q hq => (I q hq).trans (ma_bc (ys_D0 (A := fun q => M q ∨ F q)).symm))
  have e0 : (0 : Int32) = ma_b (∃ q', q' < 0 ∧ ¬ (ma_st (pg_us C n ln) (pg_kk kd) (pg_pp pd fs sn) F (ma_bl (pg_us C n ln) (pg_kk kd) (pg_pp pd fs sn) S) M q' ↔ M q')) := (ma_bf (by rintro ⟨q', z, _⟩; omega)).symm
  have k := ys_188 (post := post) (M := M) (M2 := ma_st (pg_us C n ln) (pg_kk kd) (pg_pp pd fs sn) F (ma_bl (pg_us C n ln) (pg_kk kd) (pg_pp pd fs sn) S) M) (b_next := nx') (C := C) (U := U) (B := B) (n := n) (y_R := y_R) (y_draft := y_draft) (y_solved := y_solved) (b_facts := b_facts) (b_code := b_code) (b_len := b_len) (b_value := b_value) (b_stage := b_stage) (b_height := b_height) (b_candidate := b_candidate) (b_s := b_s) (b_certain := b_certain) (fun q hq => ?_) (fun m I' => h m nx' I') 96 0 97 b_m (by omega) (by omega) (fun q' hq' => by omega) (fun q' _ hq' => hM q' hq')
  · rw [← e0] at k
    exact k
  · refine (J q hq).trans (ma_bc ⟨?_, ?_⟩)
    · rintro ((z | z) | ⟨j, z1, z2, z3, z4⟩)
      · exact Or.inl z
      · exact Or.inr (Or.inl z)
      · exact Or.inr (Or.inr ⟨j, z2, z3.1, z4, z3.2⟩)
    · rintro (z | z | ⟨j, z1, z2, z3, z4⟩)
      · exact Or.inl (Or.inl z)
      · exact Or.inl (Or.inr z)
      · exact Or.inr ⟨j, by have := z1.1; omega, z1, ⟨z2, z4⟩, z3⟩
/-- a step that grows, or a step that ends -/
theorem ys_grow {us : Nat → Prop} {kk pp : Nat → Nat} {F bl m0 : Nat → Prop} {j : Nat} (hM : ∀ s, us s → pp s < 96) (hj : j ≤ ma_cn (ma_H us kk pp F bl m0 j) 96) : ((∃ q, q < 96 ∧ ¬ (ma_H us kk pp F bl m0 (j + 1) q ↔ ma_H us kk pp F bl m0 j q)) ∧ j + 1 ≤ ma_cn (ma_H us kk pp F bl m0 (j + 1)) 96) ∨ ((¬ ∃ q, q < 96 ∧ ¬ (ma_H us kk pp F bl m0 (j + 1) q ↔ ma_H us kk pp F bl m0 j q)) ∧ ∀ q, q < 96 → (ma_G us kk pp F bl m0 q ↔ ma_H us kk pp F bl m0 (j + 1) q)) := by
  by_cases c : ∃ q, q < 96 ∧ ¬ (ma_H us kk pp F bl m0 (j + 1) q ↔ ma_H us kk pp F bl m0 j q)
  · left
    refine ⟨c, ?_⟩
    obtain ⟨q, q1, q2⟩ := c
    have : ma_cn (ma_H us kk pp F bl m0 j) 96 < ma_cn (ma_H us kk pp F bl m0 (j + 1)) 96 := by
      refine ma_cn_lt (fun q _ z => ma_H_s z) ⟨q, q1, ?_⟩
      by_cases y : ma_H us kk pp F bl m0 j q
      · exact absurd ⟨fun _ => y, fun _ => ma_H_s y⟩ q2
      · refine ⟨?_, y⟩
        by_cases x : ma_H us kk pp F bl m0 (j + 1) q
        · exact x
        · exact absurd ⟨fun z => absurd z x, fun z => absurd z y⟩ q2
    omega
  · right
    refine ⟨c, fun q hq => ?_⟩
    have st : ∀ q, q < 96 → ma_H us kk pp F bl m0 (j + 1) q → ma_H us kk pp F bl m0 j q := by
      intro q hq z
      by_cases y : ma_H us kk pp F bl m0 j q
      · exact y
      · exact absurd ⟨q, hq, fun x => y (x.mp z)⟩ c
    rw [ma_H_fix hM st q hq]
    exact ⟨fun z => ma_H_s z, st q hq⟩
theorem ys_l25 {post : SY → Prop} (K : pg_ok C U B n ln kd pd fs sn) (E : xa_cy ln kd pd fs sn b_code b_len) (hF : ∀ q, q < 96 → b_facts q = ma_b (F q)) (hS : ∀ q, q < 96 → b_s q = ma_b (S q))
    (h : ∀ m nx : Nat → Int32, (∀ q, q < 96 → m q = ma_b (ro_g (pg_us C n ln) (pg_kk kd) (pg_pp pd fs sn) F S q)) → post (nI C, nI U, nI (U + B), y_R, nI n, y_draft, y_solved, b_facts, b_code, b_len, b_value, b_stage, b_height, b_candidate, m, b_s, nx, b_certain)) :
    ∀ (d j f : Nat) (mo : Prop) (m nx : Nat → Int32), j + d = 97 → d < f → (∀ q, q < 96 → m q = ma_b (ma_H (pg_us C n ln) (pg_kk kd) (pg_pp pd fs sn) F (ma_bl (pg_us C n ln) (pg_kk kd) (pg_pp pd fs sn) S) (fun _ => False) j q)) → (mo → j ≤ ma_cn (ma_H (pg_us C n ln) (pg_kk kd) (pg_pp pd fs sn) F (ma_bl (pg_us C n ln) (pg_kk kd) (pg_pp pd fs sn) S) (fun _ => False) j) 96) → (¬ mo → ∀ q, q < 96 → (ro_g (pg_us C n ln) (pg_kk kd) (pg_pp pd fs sn) F S q ↔ ma_H (pg_us C n ln) (pg_kk kd) (pg_pp pd fs sn) F (ma_bl (pg_us C n ln) (pg_kk kd) (pg_pp pd fs sn) S) (fun _ => False) j q)) → wY_least_25 post f (ma_b mo) (nI j) (nI C) (nI U) (nI (U + B)) y_R (nI n) y_draft y_solved b_facts b_code b_len b_value b_stage b_height b_candidate m b_s nx b_certain := by
  have h96 : ∀ s, pg_us C n ln s → pg_pp pd fs sn s < 96 := fun s u => (pg_us_a K u).2.2.2
  intro d
  induction d with
  | zero =>
    intro j f mo m nx h1 h2 I1 I2 I3
    obtain ⟨f, rfl⟩ : ∃ m, f = m + 1 := ⟨f - 1, by omega⟩
    rw [wY_least_25]
    dsimp only
    refine br_t (nI_lt (a := 96) (by omega) (by omega)) (h m nx (fun q hq => (I1 q hq).trans (ma_bc (I3 (fun z => ?_) q hq).symm)))
    have a1 := I2 z
    have a2 := ma_cn_le (ma_H (pg_us C n ln) (pg_kk kd) (pg_pp pd fs sn) F (ma_bl (pg_us C n ln) (pg_kk kd) (pg_pp pd fs sn) S) (fun _ => False) j) 96
    omega
  | succ d ih =>
    intro j f mo m nx h1 h2 I1 I2 I3
    obtain ⟨f, rfl⟩ : ∃ m, f = m + 1 := ⟨f - 1, by omega⟩
    rw [wY_least_25]
    dsimp only
    refine br_f (nI_nlt (a := 96) (by omega) (by omega)) (ma_br rfl (fun z => h m nx (fun q hq => (I1 q hq).trans (ma_bc (I3 z q hq).symm))) (fun z => ?_))
    refine ys_step (F := F) (S := S) (M := ma_H (pg_us C n ln) (pg_kk kd) (pg_pp pd fs sn) F (ma_bl (pg_us C n ln) (pg_kk kd) (pg_pp pd fs sn) S) (fun _ => False) j) K E hF hS I1 (fun m' nx' J => nm_r (nI_1 j) ?_)
    rcases ys_grow (kk := pg_kk kd) (F := F) (bl := ma_bl (pg_us C n ln) (pg_kk kd) (pg_pp pd fs sn) S) (m0 := fun _ => False) (j := j) h96 (I2 z) with ⟨c1, c2⟩ | ⟨c1, c2⟩
    · exact ih (j + 1) f _ m' nx' (by omega) (by omega) J (fun _ => c2) (fun y => absurd c1 y)
    · exact ih (j + 1) f _ m' nx' (by omega) (by omega) J (fun y => absurd y c1) (fun _ => c2)
theorem ys_l2 {post : SY → Prop} (h : ∀ m : Nat → Int32, (∀ q, q < 96 → m q = 0) → ∃ f, wY_least_25 post f 1 0 (nI C) (nI U) (nI (U + B)) y_R (nI n) y_draft y_solved b_facts b_code b_len b_value b_stage b_height b_candidate m b_s b_next b_certain) :
    ∀ (d q f : Nat) (m : Nat → Int32), q + d = 96 → d < f → (∀ q', q' < q → m q' = 0) → wY_least_2 post (nI C) (nI U) (nI (U + B)) y_R (nI n) y_draft y_solved f (nI q) b_facts b_code b_len b_value b_stage b_height b_candidate m b_s b_next b_certain := by
  intro d
  induction d with
  | zero =>
    intro q f m h1 hf I
    obtain ⟨f, rfl⟩ : ∃ m, f = m + 1 := ⟨f - 1, by omega⟩
    rw [wY_least_2]
    dsimp only
    exact br_t (nI_le (a := 96) (by omega) (by omega)) (h m (fun q' hq' => I q' (by omega)))
  | succ d ih =>
    intro q f m h1 hf I
    obtain ⟨f, rfl⟩ : ∃ m, f = m + 1 := ⟨f - 1, by omega⟩
    have eq : (nI q).toNatClampNeg = q := nI_clamp (by omega)
    rw [wY_least_2]
    dsimp only
    rw [eq, ma_n0]
    refine br_f (nI_ge (b := 96) (by omega) (by omega)) ⟨vp_in_nI (by omega) (by omega), nm_e (nm_r (nI_1 q) (ih (q + 1) f _ (by omega) (by omega) (fun q' hq' => ?_)))⟩
    by_cases c : q' = q
    · rw [c, pk_us]
    · rw [pk_un c]; exact I q' (by omega)
/-- the least set -/
theorem ys_least {post : SY → Prop} (K : pg_ok C U B n ln kd pd fs sn) (E : xa_cy ln kd pd fs sn b_code b_len) (hF : ∀ q, q < 96 → b_facts q = ma_b (F q)) (hS : ∀ q, q < 96 → b_s q = ma_b (S q))
    (h : ∀ m nx : Nat → Int32, (∀ q, q < 96 → m q = ma_b (ro_g (pg_us C n ln) (pg_kk kd) (pg_pp pd fs sn) F S q)) → post (nI C, nI U, nI (U + B), y_R, nI n, y_draft, y_solved, b_facts, b_code, b_len, b_value, b_stage, b_height, b_candidate, m, b_s, nx, b_certain)) : wpY_least post (nI C, nI U, nI (U + B), y_R, nI n, y_draft, y_solved, b_facts, b_code, b_len, b_value, b_stage, b_height, b_candidate, b_m, b_s, b_next, b_certain) := by
  refine ⟨97, ys_l2 (fun m I => ⟨98, ?_⟩) 96 0 97 b_m (by omega) (by omega) (fun q' hq' => by omega)⟩
  have k := ys_l25 K E hF hS h 97 0 98 True m b_next (by omega) (by omega) (fun q hq => (I q hq).trans (ma_bf (fun z => z)).symm) (fun _ => Nat.zero_le _) (fun z => absurd trivial z)
  rw [ma_T] at k
  exact k
end Y
end
section
/-! the reference's rounds -/
noncomputable def yv_V (us : Nat → Prop) (kk pp : Nat → Nat) (F : Nat → Prop) (k i q : Nat) : Int32 := ma_if (ro_w us kk pp F k q = 2 ∧ ro_H us kk pp F k i q) 1 (ro_w us kk pp F k q)
noncomputable def yv_S (us : Nat → Prop) (kk pp : Nat → Nat) (F : Nat → Prop) (k i q : Nat) : Int32 := ma_if (ro_w us kk pp F k q = 2 ∧ ro_H us kk pp F k i q) (nI (k + 1)) (ro_t us kk pp F k q)
noncomputable def yv_H (us : Nat → Prop) (kk pp : Nat → Nat) (F : Nat → Prop) (k i q : Nat) : Int32 := ma_if (ro_w us kk pp F k q = 2 ∧ ro_H us kk pp F k i q) (nI (ma_rk fun j => ro_H us kk pp F k j q)) (ro_h us kk pp F k q)
section V
variable {us : Nat → Prop} {kk pp : Nat → Nat} {F : Nat → Prop} {k i q : Nat}
theorem yv_0 : yv_V us kk pp F k 0 q = ro_w us kk pp F k q ∧ yv_S us kk pp F k 0 q = ro_t us kk pp F k q ∧ yv_H us kk pp F k 0 q = ro_h us kk pp F k q := by
  have c : ¬ (ro_w us kk pp F k q = 2 ∧ ro_H us kk pp F k 0 q) := by
    rintro ⟨z1, z2⟩
    have z2 : ro_T us kk pp F k q := z2
    exact absurd ((ro_w1 z2).symm.trans z1) (by decide)
  exact ⟨ma_iff c, ma_iff c, ma_iff c⟩
theorem yv_e (h : ro_T us kk pp F (k + 1) q ↔ ro_H us kk pp F k i q) : yv_V us kk pp F k i q = ro_v us kk pp F (k + 1) q ∧ yv_S us kk pp F k i q = ro_s us kk pp F (k + 1) q ∧ yv_H us kk pp F k i q = ro_h us kk pp F (k + 1) q := by
  by_cases c : ro_w us kk pp F k q = 2 ∧ ro_H us kk pp F k i q
  · obtain ⟨e1, e2, e3⟩ := ro_ta c.1 (h.mpr c.2)
    rw [e1, e2, e3]
    exact ⟨ma_ift c, ma_ift c, ma_ift c⟩
  · obtain ⟨e1, e2, e3⟩ := ro_tb (us := us) (kk := kk) (pp := pp) (F := F) (k := k) (q := q) (fun z => c ⟨z.1, h.mp z.2⟩)
    rw [e1, e2, e3]
    exact ⟨ma_iff c, ma_iff c, ma_iff c⟩
theorem yv_S0 (hk : k + 1 < 2 ^ 31) : yv_S us kk pp F k i q = 0 ↔ (ro_w us kk pp F k q = 2 ∧ ¬ ro_H us kk pp F k i q) := by
  by_cases c : ro_w us kk pp F k q = 2 ∧ ro_H us kk pp F k i q
  · have e : yv_S us kk pp F k i q = nI (k + 1) := ma_ift c
    rw [e]
    exact ⟨fun z => absurd z (nI_ne0 (by omega) hk), fun z => absurd c.2 z.2⟩
  · have e : yv_S us kk pp F k i q = ro_t us kk pp F k q := ma_iff c
    rw [e, (ro_s0 hk).2]
    exact ⟨fun z => ⟨z, fun y => c ⟨z, y⟩⟩, fun z => z.1⟩
theorem yv_y (hk : k + 1 < 2 ^ 31) (h1 : ro_H us kk pp F k (i + 1) q) (h2 : yv_S us kk pp F k i q = 0) : yv_V us kk pp F k (i + 1) q = 1 ∧ yv_S us kk pp F k (i + 1) q = nI (k + 1) ∧ yv_H us kk pp F k (i + 1) q = nI (i + 1) := by
  obtain ⟨w2, nh⟩ := (yv_S0 hk).mp h2
  have c : ro_w us kk pp F k q = 2 ∧ ro_H us kk pp F k (i + 1) q := ⟨w2, h1⟩
  refine ⟨ma_ift c, ma_ift c, (ma_ift c).trans (congrArg nI ?_)⟩
  refine ma_rk_e (P := fun j => ro_H us kk pp F k j q) h1 (fun j hj => ?_)
  by_cases z : i + 1 ≤ j
  · exact z
  · exact absurd (ma_H_le (by omega) hj) nh
theorem yv_n (hk : k + 1 < 2 ^ 31) (h : ¬ (ro_H us kk pp F k (i + 1) q ∧ yv_S us kk pp F k i q = 0)) : yv_V us kk pp F k (i + 1) q = yv_V us kk pp F k i q ∧ yv_S us kk pp F k (i + 1) q = yv_S us kk pp F k i q ∧ yv_H us kk pp F k (i + 1) q = yv_H us kk pp F k i q := by
  by_cases c : ro_w us kk pp F k q = 2 ∧ ro_H us kk pp F k i q
  · have c' : ro_w us kk pp F k q = 2 ∧ ro_H us kk pp F k (i + 1) q := ⟨c.1, ma_H_s c.2⟩
    exact ⟨(ma_ift c').trans (ma_ift c).symm, (ma_ift c').trans (ma_ift c).symm, (ma_ift c').trans (ma_ift c).symm⟩
  · have c' : ¬ (ro_w us kk pp F k q = 2 ∧ ro_H us kk pp F k (i + 1) q) := fun z => h ⟨z.2, (yv_S0 hk).mpr ⟨z.1, fun y => c ⟨z.1, y⟩⟩⟩
    exact ⟨(ma_iff c').trans (ma_iff c).symm, (ma_iff c').trans (ma_iff c).symm, (ma_iff c').trans (ma_iff c).symm⟩
end V
section Y
variable {C U B n : Nat} {ln kd pd fs sn : Nat → Nat} {F : Nat → Prop}
variable {y_C y_U y_P y_R y_count y_draft y_solved : Int32} {b_facts b_code b_len b_value b_stage b_height b_candidate b_m b_s b_next b_certain : Nat → Int32}
/-- the new atoms of one step -/
theorem yv_180 {post : Int32 → SY → Prop} {J46 J161 : Int32 → Int32 → Int32 → Int32 → Int32 → Int32 → Int32 → Int32 → Int32 → (Nat → Int32) → (Nat → Int32) → (Nat → Int32) → (Nat → Int32) → (Nat → Int32) → (Nat → Int32) → (Nat → Int32) → (Nat → Int32) → (Nat → Int32) → (Nat → Int32) → (Nat → Int32) → Prop} {x2 x3 : Int32} {i : Nat} {Hm : Nat → Prop} {V0 S0 H0 V1 S1 H1 : Nat → Int32} (hm : ∀ q, q < 96 → b_m q = ma_b (Hm q)) (hy : ∀ q, Hm q → S0 q = 0 → V1 q = 1 ∧ S1 q = x2 ∧ H1 q = nI i) (hno : ∀ q, ¬ (Hm q ∧ S0 q = 0) → V1 q = V0 q ∧ S1 q = S0 q ∧ H1 q = H0 q)
    (h : ∀ va st he : Nat → Int32, (∀ q, q < 96 → va q = V1 q ∧ st q = S1 q ∧ he q = H1 q) → J161 x3 (nI (i + 1)) (nI C) (nI U) (nI (U + B)) y_R (nI n) y_draft y_solved b_facts b_code b_len va st he b_candidate b_m b_s b_next b_certain) :
    ∀ (d q f : Nat) (va st he : Nat → Int32), q + d = 96 → d < f → (∀ q', q' < q → va q' = V1 q' ∧ st q' = S1 q' ∧ he q' = H1 q') → (∀ q', q ≤ q' → q' < 96 → va q' = V0 q' ∧ st q' = S0 q' ∧ he q' = H0 q') → wY_solve_180 post J46 J161 x2 x3 (nI i) (nI C) (nI U) (nI (U + B)) y_R (nI n) y_draft y_solved f (nI q) b_facts b_code b_len va st he b_candidate b_m b_s b_next b_certain := by
  intro d
  induction d with
  | zero =>
    intro q f va st he h1 h2 I1 I2
    obtain ⟨f, rfl⟩ : ∃ m, f = m + 1 := ⟨f - 1, by omega⟩
    rw [wY_solve_180]
    dsimp only
    exact br_t (nI_le (a := 96) (by omega) (by omega)) (nm_r (nI_1 i) (h va st he (fun q' hq' => I1 q' (by omega))))
  | succ d ih =>
    intro q f va st he h1 h2 I1 I2
    obtain ⟨f, rfl⟩ : ∃ m, f = m + 1 := ⟨f - 1, by omega⟩
    have eq : (nI q).toNatClampNeg = q := nI_clamp (by omega)
    have wq : vp_in (nI q) 96 := vp_in_nI (by omega) (by omega)
    have same : ¬ (Hm q ∧ S0 q = 0) → wY_solve_180 post J46 J161 x2 x3 (nI i) (nI C) (nI U) (nI (U + B)) y_R (nI n) y_draft y_solved f (nI (q + 1)) b_facts b_code b_len va st he b_candidate b_m b_s b_next b_certain := by
      intro c
      obtain ⟨c1, c2, c3⟩ := hno q c
      obtain ⟨j1, j2, j3⟩ := I2 q (by omega) (by omega)
      refine ih (q + 1) f va st he (by omega) (by omega) (fun q' hq' => ?_) (fun q' k1 k2 => I2 q' (by omega) k2)
      by_cases z : q' = q
      · rw [z, j1, j2, j3, c1, c2, c3]; exact ⟨rfl, rfl, rfl⟩
      · exact I1 q' (by omega)
    rw [wY_solve_180]
    dsimp only
    rw [eq, (I2 q (by omega) (by omega)).2.1]
    refine br_f (nI_ge (b := 96) (by omega) (by omega)) ⟨wq, ma_br (hm q (by omega)) (fun z => nm_r (nI_1 q) (same (fun c => z c.1))) (fun z => ⟨wq, br_c (fun y => ⟨wq, nm_e ⟨wq, nm_e ⟨wq, nm_e (nm_r (nI_1 q) ?_)⟩⟩⟩) (fun y => nm_r (nI_1 q) (same (fun c => y c.2)))⟩)⟩
    obtain ⟨c1, c2, c3⟩ := hy q z y
    refine ih (q + 1) f _ _ _ (by omega) (by omega) (fun q' hq' => ?_) (fun q' k1 k2 => ?_)
    · by_cases x : q' = q
      · rw [x, pk_us, pk_us, pk_us, c1, c2, c3]; exact ⟨rfl, rfl, rfl⟩
      · rw [pk_un x, pk_un x, pk_un x]; exact I1 q' (by omega)
    · rw [pk_un (by omega), pk_un (by omega), pk_un (by omega)]
      exact I2 q' (by omega) k2
theorem yv_253 {post : Int32 → SY → Prop} {J46 : Int32 → Int32 → Int32 → Int32 → Int32 → Int32 → Int32 → Int32 → Int32 → (Nat → Int32) → (Nat → Int32) → (Nat → Int32) → (Nat → Int32) → (Nat → Int32) → (Nat → Int32) → (Nat → Int32) → (Nat → Int32) → (Nat → Int32) → (Nat → Int32) → (Nat → Int32) → Prop} {k : Nat} {T0 T1 : Nat → Prop} (hm : ∀ q, q < 96 → b_m q = ma_b (T1 q))
    (h : ∀ ce : Nat → Int32, (∀ q, q < 96 → ce q = ma_b (T1 q)) → J46 (ma_b (∃ q, q < 96 ∧ ¬ (T1 q ↔ T0 q))) (nI (k + 1)) (nI C) (nI U) (nI (U + B)) y_R (nI n) y_draft y_solved b_facts b_code b_len b_value b_stage b_height b_candidate b_m b_s b_next ce) :
    ∀ (d q f : Nat) (ce : Nat → Int32), q + d = 96 → d < f → (∀ q', q' < q → ce q' = ma_b (T1 q')) → (∀ q', q ≤ q' → q' < 96 → ce q' = ma_b (T0 q')) → wY_solve_253 post J46 (nI k) (nI C) (nI U) (nI (U + B)) y_R (nI n) y_draft y_solved f (ma_b (∃ q', q' < q ∧ ¬ (T1 q' ↔ T0 q'))) (nI q) b_facts b_code b_len b_value b_stage b_height b_candidate b_m b_s b_next ce := by
  intro d
  induction d with
  | zero =>
    intro q f ce h1 h2 I1 I2
    obtain ⟨f, rfl⟩ : ∃ m, f = m + 1 := ⟨f - 1, by omega⟩
    have e : q = 96 := by omega
    subst e
    rw [wY_solve_253]
    dsimp only
    exact br_t (nI_le (a := 96) (by omega) (by omega)) (nm_r (nI_1 k) (h ce (fun q' hq' => I1 q' (by omega))))
  | succ d ih =>
    intro q f ce h1 h2 I1 I2
    obtain ⟨f, rfl⟩ : ∃ m, f = m + 1 := ⟨f - 1, by omega⟩
    have eq : (nI q).toNatClampNeg = q := nI_clamp (by omega)
    have wq : vp_in (nI q) 96 := vp_in_nI (by omega) (by omega)
    have nx : ∀ x : Int32, x = ma_b (∃ q', q' < q + 1 ∧ ¬ (T1 q' ↔ T0 q')) → wY_solve_279 post J46 (wY_solve_253 post J46 (nI k) (nI C) (nI U) (nI (U + B)) y_R (nI n) y_draft y_solved f) x (nI k) (nI q) (nI C) (nI U) (nI (U + B)) y_R (nI n) y_draft y_solved b_facts b_code b_len b_value b_stage b_height b_candidate b_m b_s b_next ce := by
      intro x hx
      unfold wY_solve_279
      rw [eq, hm q (by omega), ma_nb]
      refine ⟨wq, wq, nm_e (nm_r (nI_1 q) ?_)⟩
      rw [hx]
      refine ih (q + 1) f _ (by omega) (by omega) (fun q' hq' => ?_) (fun q' k1 k2 => ?_)
      · by_cases c : q' = q
        · rw [c, pk_us]
        · rw [pk_un c]; exact I1 q' (by omega)
      · rw [pk_un (by omega)]; exact I2 q' (by omega) k2
    rw [wY_solve_253]
    dsimp only
    rw [eq, hm q (by omega), I2 q (by omega) (by omega)]
    refine br_f (nI_ge (b := 96) (by omega) (by omega)) ⟨wq, wq, br_c (fun z => nx _ (ma_bc ⟨?_, ?_⟩)) (fun z => nx _ (ma_bt ⟨q, by omega, fun y => z (ma_bc y)⟩).symm)⟩
    · rintro ⟨q', z1, z2⟩
      exact ⟨q', by omega, z2⟩
    · rintro ⟨q', z1, z2⟩
      by_cases c : q' = q
      · rw [c] at z2; exact absurd (ma_bi z) z2
      · exact ⟨q', by omega, z2⟩
/-- the certain atoms from scratch -/
theorem yv_244 {post : Int32 → SY → Prop} {J46 : Int32 → Int32 → Int32 → Int32 → Int32 → Int32 → Int32 → Int32 → Int32 → (Nat → Int32) → (Nat → Int32) → (Nat → Int32) → (Nat → Int32) → (Nat → Int32) → (Nat → Int32) → (Nat → Int32) → (Nat → Int32) → (Nat → Int32) → (Nat → Int32) → (Nat → Int32) → Prop} {k : Nat} (K : pg_ok C U B n ln kd pd fs sn) (E : xa_cy ln kd pd fs sn b_code b_len) (hF : ∀ q, q < 96 → b_facts q = ma_b (F q)) (hS : ∀ q, q < 96 → b_s q = ma_b (ro_P (pg_us C n ln) (pg_kk kd) (pg_pp pd fs sn) F k q)) (hT : ∀ q, q < 96 → b_certain q = ma_b (ro_T (pg_us C n ln) (pg_kk kd) (pg_pp pd fs sn) F k q))
    (h : ∀ m nx ce : Nat → Int32, (∀ q, q < 96 → ce q = ma_b (ro_T (pg_us C n ln) (pg_kk kd) (pg_pp pd fs sn) F (k + 1) q)) → J46 (ma_b (∃ q, q < 96 ∧ ¬ (ro_T (pg_us C n ln) (pg_kk kd) (pg_pp pd fs sn) F (k + 1) q ↔ ro_T (pg_us C n ln) (pg_kk kd) (pg_pp pd fs sn) F k q))) (nI (k + 1 + 1)) (nI C) (nI U) (nI (U + B)) y_R (nI n) y_draft y_solved b_facts b_code b_len b_value b_stage b_height b_candidate m b_s nx ce) :
    wY_solve_244 post J46 (nI (k + 1)) (nI C) (nI U) (nI (U + B)) y_R (nI n) y_draft y_solved b_facts b_code b_len b_value b_stage b_height b_candidate b_m b_s b_next b_certain := by
  unfold wY_solve_244
  refine ys_least (F := F) (S := ro_P (pg_us C n ln) (pg_kk kd) (pg_pp pd fs sn) F k) K E hF hS (fun m nx I => ⟨97, ?_⟩)
  have e0 : (0 : Int32) = ma_b (∃ q', q' < 0 ∧ ¬ (ro_T (pg_us C n ln) (pg_kk kd) (pg_pp pd fs sn) F (k + 1) q' ↔ ro_T (pg_us C n ln) (pg_kk kd) (pg_pp pd fs sn) F k q')) := (ma_bf (by rintro ⟨q', z, _⟩; omega)).symm
  have kk := yv_253 (post := post) (J46 := J46) (k := k + 1) (T0 := ro_T (pg_us C n ln) (pg_kk kd) (pg_pp pd fs sn) F k) (T1 := ro_T (pg_us C n ln) (pg_kk kd) (pg_pp pd fs sn) F (k + 1)) (C := C) (U := U) (B := B) (n := n) (y_R := y_R) (y_draft := y_draft) (y_solved := y_solved) (b_facts := b_facts) (b_code := b_code) (b_len := b_len) (b_value := b_value) (b_stage := b_stage) (b_height := b_height) (b_candidate := b_candidate) (b_m := m) (b_s := b_s) (b_next := nx) I (fun ce J => h m nx ce J) 96 0 97 b_certain (by omega) (by omega) (fun q' hq' => by omega) (fun q' _ hq' => hT q' hq')
  rw [← e0] at kk
  exact kk
/-- the steps of the true phase -/
theorem yv_161 {post : Int32 → SY → Prop} {J46 : Int32 → Int32 → Int32 → Int32 → Int32 → Int32 → Int32 → Int32 → Int32 → (Nat → Int32) → (Nat → Int32) → (Nat → Int32) → (Nat → Int32) → (Nat → Int32) → (Nat → Int32) → (Nat → Int32) → (Nat → Int32) → (Nat → Int32) → (Nat → Int32) → (Nat → Int32) → Prop} {k : Nat} (K : pg_ok C U B n ln kd pd fs sn) (E : xa_cy ln kd pd fs sn b_code b_len) (hF : ∀ q, q < 96 → b_facts q = ma_b (F q)) (hS : ∀ q, q < 96 → b_s q = ma_b (ro_P (pg_us C n ln) (pg_kk kd) (pg_pp pd fs sn) F k q)) (hk : k + 1 < 2 ^ 31)
    (h : ∀ va st he m nx : Nat → Int32, (∀ q, q < 96 → va q = ro_v (pg_us C n ln) (pg_kk kd) (pg_pp pd fs sn) F (k + 1) q ∧ st q = ro_s (pg_us C n ln) (pg_kk kd) (pg_pp pd fs sn) F (k + 1) q ∧ he q = ro_h (pg_us C n ln) (pg_kk kd) (pg_pp pd fs sn) F (k + 1) q) → wY_solve_244 post J46 (nI (k + 1)) (nI C) (nI U) (nI (U + B)) y_R (nI n) y_draft y_solved b_facts b_code b_len va st he b_candidate m b_s nx b_certain) :
    ∀ (d i f : Nat) (mo : Prop) (va st he m nx : Nat → Int32), i + d = 96 → d < f → (∀ q, q < 96 → m q = ma_b (ro_H (pg_us C n ln) (pg_kk kd) (pg_pp pd fs sn) F k i q)) → (∀ q, q < 96 → va q = yv_V (pg_us C n ln) (pg_kk kd) (pg_pp pd fs sn) F k i q ∧ st q = yv_S (pg_us C n ln) (pg_kk kd) (pg_pp pd fs sn) F k i q ∧ he q = yv_H (pg_us C n ln) (pg_kk kd) (pg_pp pd fs sn) F k i q) → (mo → i ≤ ma_cn (ro_H (pg_us C n ln) (pg_kk kd) (pg_pp pd fs sn) F k i) 96) → (¬ mo → ∀ q, q < 96 → (ro_T (pg_us C n ln) (pg_kk kd) (pg_pp pd fs sn) F (k + 1) q ↔ ro_H (pg_us C n ln) (pg_kk kd) (pg_pp pd fs sn) F k i q)) → wY_solve_161 post J46 (nI (k + 1)) f (ma_b mo) (nI (i + 1)) (nI C) (nI U) (nI (U + B)) y_R (nI n) y_draft y_solved b_facts b_code b_len va st he b_candidate m b_s nx b_certain := by
  have h96 : ∀ s, pg_us C n ln s → pg_pp pd fs sn s < 96 := fun s u => (pg_us_a K u).2.2.2
  have fin : ∀ (i : Nat) (va st he m nx : Nat → Int32), (∀ q, q < 96 → va q = yv_V (pg_us C n ln) (pg_kk kd) (pg_pp pd fs sn) F k i q ∧ st q = yv_S (pg_us C n ln) (pg_kk kd) (pg_pp pd fs sn) F k i q ∧ he q = yv_H (pg_us C n ln) (pg_kk kd) (pg_pp pd fs sn) F k i q) → (∀ q, q < 96 → (ro_T (pg_us C n ln) (pg_kk kd) (pg_pp pd fs sn) F (k + 1) q ↔ ro_H (pg_us C n ln) (pg_kk kd) (pg_pp pd fs sn) F k i q)) → wY_solve_244 post J46 (nI (k + 1)) (nI C) (nI U) (nI (U + B)) y_R (nI n) y_draft y_solved b_facts b_code b_len va st he b_candidate m b_s nx b_certain := by
    intro i va st he m nx I c
    refine h va st he m nx (fun q hq => ?_)
    obtain ⟨e1, e2, e3⟩ := I q hq
    obtain ⟨g1, g2, g3⟩ := yv_e (c q hq)
    exact ⟨e1.trans g1, e2.trans g2, e3.trans g3⟩
  intro d
  induction d with
  | zero =>
    intro i f mo va st he m nx h1 h2 I1 I2 I3 I4
    obtain ⟨f, rfl⟩ : ∃ m, f = m + 1 := ⟨f - 1, by omega⟩
    rw [wY_solve_161]
    dsimp only
    refine br_t (nI_lt (a := 96) (by omega) (by omega)) (fin i va st he m nx I2 (fun q hq => ?_))
    by_cases c : mo
    · have a1 := I3 c
      have a2 := ma_cn_all (P := ro_H (pg_us C n ln) (pg_kk kd) (pg_pp pd fs sn) F k i) (N := 96) (by omega) q hq
      exact ⟨fun _ => a2, fun z => (ro_HT k q).mp ⟨i, z⟩⟩
    · exact I4 c q hq
  | succ d ih =>
    intro i f mo va st he m nx h1 h2 I1 I2 I3 I4
    obtain ⟨f, rfl⟩ : ∃ m, f = m + 1 := ⟨f - 1, by omega⟩
    rw [wY_solve_161]
    dsimp only
    refine br_f (nI_nlt (a := 96) (by omega) (by omega)) (ma_br rfl (fun z => fin i va st he m nx I2 (I4 z)) (fun z => ?_))
    refine ys_step (F := F) (S := ro_P (pg_us C n ln) (pg_kk kd) (pg_pp pd fs sn) F k) (M := ro_H (pg_us C n ln) (pg_kk kd) (pg_pp pd fs sn) F k i) K E hF hS I1 (fun m' nx' J => ⟨97, ?_⟩)
    refine yv_180 (i := i + 1) (Hm := ro_H (pg_us C n ln) (pg_kk kd) (pg_pp pd fs sn) F k (i + 1)) (V0 := yv_V (pg_us C n ln) (pg_kk kd) (pg_pp pd fs sn) F k i) (S0 := yv_S (pg_us C n ln) (pg_kk kd) (pg_pp pd fs sn) F k i) (H0 := yv_H (pg_us C n ln) (pg_kk kd) (pg_pp pd fs sn) F k i) (V1 := yv_V (pg_us C n ln) (pg_kk kd) (pg_pp pd fs sn) F k (i + 1)) (S1 := yv_S (pg_us C n ln) (pg_kk kd) (pg_pp pd fs sn) F k (i + 1)) (H1 := yv_H (pg_us C n ln) (pg_kk kd) (pg_pp pd fs sn) F k (i + 1)) J (fun q z1 z2 => yv_y hk z1 z2) (fun q z => yv_n hk z) (fun va' st' he' I' => ?_) 96 0 97 va st he (by omega) (by omega) (fun q' hq' => by omega) (fun q' _ hq' => I2 q' hq')
    rcases ys_grow (kk := pg_kk kd) (F := F) (bl := ma_bl (pg_us C n ln) (pg_kk kd) (pg_pp pd fs sn) (ro_P (pg_us C n ln) (pg_kk kd) (pg_pp pd fs sn) F k)) (m0 := ro_T (pg_us C n ln) (pg_kk kd) (pg_pp pd fs sn) F k) (j := i) h96 (I3 z) with ⟨c1, c2⟩ | ⟨c1, c2⟩
    · exact ih (i + 1) f _ va' st' he' m' nx' (by omega) (by omega) J I' (fun _ => c2) (fun y => absurd c1 y)
    · exact ih (i + 1) f _ va' st' he' m' nx' (by omega) (by omega) J I' (fun y => absurd y c1) (fun _ q hq => (ro_HT k q).symm.trans (c2 q hq))
/-- the false phase -/
theorem yv_88 {post : Int32 → SY → Prop} {J46 : Int32 → Int32 → Int32 → Int32 → Int32 → Int32 → Int32 → Int32 → Int32 → (Nat → Int32) → (Nat → Int32) → (Nat → Int32) → (Nat → Int32) → (Nat → Int32) → (Nat → Int32) → (Nat → Int32) → (Nat → Int32) → (Nat → Int32) → (Nat → Int32) → (Nat → Int32) → Prop} {k : Nat} (hk : k + 1 < 2 ^ 31) (hT : ∀ q, q < 96 → b_certain q = ma_b (ro_T (pg_us C n ln) (pg_kk kd) (pg_pp pd fs sn) F k q))
    (h : ∀ va st m s : Nat → Int32, (∀ q, q < 96 → va q = ro_w (pg_us C n ln) (pg_kk kd) (pg_pp pd fs sn) F k q ∧ st q = ro_t (pg_us C n ln) (pg_kk kd) (pg_pp pd fs sn) F k q ∧ m q = ma_b (ro_T (pg_us C n ln) (pg_kk kd) (pg_pp pd fs sn) F k q) ∧ s q = ma_b (ro_P (pg_us C n ln) (pg_kk kd) (pg_pp pd fs sn) F k q)) → ∃ f, wY_solve_161 post J46 (nI (k + 1)) f 1 1 (nI C) (nI U) (nI (U + B)) y_R (nI n) y_draft y_solved b_facts b_code b_len va st b_height b_candidate m s b_next b_certain) :
    ∀ (d q f : Nat) (va st m s : Nat → Int32), q + d = 96 → d < f → (∀ q', q' < q → va q' = ro_w (pg_us C n ln) (pg_kk kd) (pg_pp pd fs sn) F k q' ∧ st q' = ro_t (pg_us C n ln) (pg_kk kd) (pg_pp pd fs sn) F k q' ∧ m q' = ma_b (ro_T (pg_us C n ln) (pg_kk kd) (pg_pp pd fs sn) F k q') ∧ s q' = ma_b (ro_P (pg_us C n ln) (pg_kk kd) (pg_pp pd fs sn) F k q')) → (∀ q', q ≤ q' → q' < 96 → va q' = ro_v (pg_us C n ln) (pg_kk kd) (pg_pp pd fs sn) F k q' ∧ st q' = ro_s (pg_us C n ln) (pg_kk kd) (pg_pp pd fs sn) F k q' ∧ m q' = ma_b (ro_P (pg_us C n ln) (pg_kk kd) (pg_pp pd fs sn) F k q')) → wY_solve_88 post J46 (nI (k + 1)) (nI C) (nI U) (nI (U + B)) y_R (nI n) y_draft y_solved f (nI q) b_facts b_code b_len va st b_height b_candidate m s b_next b_certain := by
  intro d
  induction d with
  | zero =>
    intro q f va st m s h1 h2 I1 I2
    obtain ⟨f, rfl⟩ : ∃ m, f = m + 1 := ⟨f - 1, by omega⟩
    rw [wY_solve_88]
    dsimp only
    exact br_t (nI_le (a := 96) (by omega) (by omega)) (h va st m s (fun q' hq' => I1 q' (by omega)))
  | succ d ih =>
    intro q f va st m s h1 h2 I1 I2
    obtain ⟨f, rfl⟩ : ∃ m, f = m + 1 := ⟨f - 1, by omega⟩
    have eq : (nI q).toNatClampNeg = q := nI_clamp (by omega)
    have wq : vp_in (nI q) 96 := vp_in_nI (by omega) (by omega)
    obtain ⟨j1, j2, j3⟩ := I2 q (by omega) (by omega)
    have nx : ∀ va' st' : Nat → Int32, (∀ q', q' ≠ q → va' q' = va q' ∧ st' q' = st q') → va' q = ro_w (pg_us C n ln) (pg_kk kd) (pg_pp pd fs sn) F k q → st' q = ro_t (pg_us C n ln) (pg_kk kd) (pg_pp pd fs sn) F k q → wY_solve_126 post J46 (wY_solve_88 post J46 (nI (k + 1)) (nI C) (nI U) (nI (U + B)) y_R (nI n) y_draft y_solved f) (nI (k + 1)) (nI q) (nI C) (nI U) (nI (U + B)) y_R (nI n) y_draft y_solved b_facts b_code b_len va' st' b_height b_candidate m s b_next b_certain := by
      intro va' st' c1 c2 c3
      unfold wY_solve_126
      rw [eq, j3, hT q (by omega), ma_nb, ma_nb]
      refine ⟨wq, wq, nm_e ⟨wq, wq, nm_e (nm_r (nI_1 q) ?_)⟩⟩
      refine ih (q + 1) f _ _ _ _ (by omega) (by omega) (fun q' hq' => ?_) (fun q' k1 k2 => ?_)
      · by_cases c : q' = q
        · rw [c, pk_us, pk_us]; exact ⟨c2, c3, rfl, rfl⟩
        · rw [pk_un c, pk_un c, (c1 q' c).1, (c1 q' c).2]; exact I1 q' (by omega)
      · rw [pk_un (by omega), (c1 q' (by omega)).1, (c1 q' (by omega)).2]; exact I2 q' (by omega) k2
    have same : ¬ (ro_v (pg_us C n ln) (pg_kk kd) (pg_pp pd fs sn) F k q = 2 ∧ ¬ ro_P (pg_us C n ln) (pg_kk kd) (pg_pp pd fs sn) F k q) → wY_solve_126 post J46 (wY_solve_88 post J46 (nI (k + 1)) (nI C) (nI U) (nI (U + B)) y_R (nI n) y_draft y_solved f) (nI (k + 1)) (nI q) (nI C) (nI U) (nI (U + B)) y_R (nI n) y_draft y_solved b_facts b_code b_len va st b_height b_candidate m s b_next b_certain := by
      intro c
      obtain ⟨e1, e2⟩ := ro_fb c
      exact nx va st (fun _ _ => ⟨rfl, rfl⟩) (j1.trans e1.symm) (j2.trans e2.symm)
    rw [wY_solve_88]
    dsimp only
    rw [eq]
    refine br_f (nI_ge (b := 96) (by omega) (by omega)) ⟨wq, ma_br j3 (fun z => ⟨wq, br_c (fun y => ⟨wq, nm_e ⟨wq, nm_e ?_⟩⟩) (fun y => ?_)⟩) (fun z => same (fun c => c.2 z))⟩
    · rw [j2] at y
      obtain ⟨e1, e2⟩ := ro_fa ((ro_s0 hk).1.mp y) z
      exact nx _ _ (fun q' c => ⟨pk_un c, pk_un c⟩) (pk_us.trans e1.symm) (pk_us.trans e2.symm)
    · rw [j2] at y
      exact same (fun c => y ((ro_s0 hk).1.mpr c.1))
theorem yv_58 {post : Int32 → SY → Prop} {J46 : Int32 → Int32 → Int32 → Int32 → Int32 → Int32 → Int32 → Int32 → Int32 → (Nat → Int32) → (Nat → Int32) → (Nat → Int32) → (Nat → Int32) → (Nat → Int32) → (Nat → Int32) → (Nat → Int32) → (Nat → Int32) → (Nat → Int32) → (Nat → Int32) → (Nat → Int32) → Prop} {k : Nat} (K : pg_ok C U B n ln kd pd fs sn) (E : xa_cy ln kd pd fs sn b_code b_len) (hF : ∀ q, q < 96 → b_facts q = ma_b (F q)) (hk : k + 1 < 2 ^ 31) (hT : ∀ q, q < 96 → b_certain q = ma_b (ro_T (pg_us C n ln) (pg_kk kd) (pg_pp pd fs sn) F k q)) (hV : ∀ q, q < 96 → b_value q = ro_v (pg_us C n ln) (pg_kk kd) (pg_pp pd fs sn) F k q ∧ b_stage q = ro_s (pg_us C n ln) (pg_kk kd) (pg_pp pd fs sn) F k q ∧ b_height q = ro_h (pg_us C n ln) (pg_kk kd) (pg_pp pd fs sn) F k q)
    (h : ∀ va st he m s nx ce : Nat → Int32, (∀ q, q < 96 → va q = ro_v (pg_us C n ln) (pg_kk kd) (pg_pp pd fs sn) F (k + 1) q ∧ st q = ro_s (pg_us C n ln) (pg_kk kd) (pg_pp pd fs sn) F (k + 1) q ∧ he q = ro_h (pg_us C n ln) (pg_kk kd) (pg_pp pd fs sn) F (k + 1) q) → (∀ q, q < 96 → ce q = ma_b (ro_T (pg_us C n ln) (pg_kk kd) (pg_pp pd fs sn) F (k + 1) q)) → J46 (ma_b (∃ q, q < 96 ∧ ¬ (ro_T (pg_us C n ln) (pg_kk kd) (pg_pp pd fs sn) F (k + 1) q ↔ ro_T (pg_us C n ln) (pg_kk kd) (pg_pp pd fs sn) F k q))) (nI (k + 1 + 1)) (nI C) (nI U) (nI (U + B)) y_R (nI n) y_draft y_solved b_facts b_code b_len va st he b_candidate m s nx ce) :
    ∀ (d q f : Nat) (s : Nat → Int32), q + d = 96 → d < f → (∀ q', q' < q → s q' = ma_b (ro_T (pg_us C n ln) (pg_kk kd) (pg_pp pd fs sn) F k q')) → wY_solve_58 post J46 (nI (k + 1)) (nI C) (nI U) (nI (U + B)) y_R (nI n) y_draft y_solved f (nI q) b_facts b_code b_len b_value b_stage b_height b_candidate b_m s b_next b_certain := by
  intro d
  induction d with
  | zero =>
    intro q f s h1 h2 I
    obtain ⟨f, rfl⟩ : ∃ m, f = m + 1 := ⟨f - 1, by omega⟩
    rw [wY_solve_58]
    dsimp only
    refine br_t (nI_le (a := 96) (by omega) (by omega)) ?_
    refine ys_least (F := F) (S := ro_T (pg_us C n ln) (pg_kk kd) (pg_pp pd fs sn) F k) K E hF (fun q' hq' => I q' (by omega)) (fun m nx I2 => ⟨97, ?_⟩)
    refine yv_88 hk hT (fun va st m2 s2 J => ⟨97, ?_⟩) 96 0 97 b_value b_stage m s (by omega) (by omega) (fun q' hq' => by omega) (fun q' _ hq' => ⟨(hV q' hq').1, (hV q' hq').2.1, I2 q' hq'⟩)
    have kk := yv_161 (post := post) (J46 := J46) (F := F) (k := k) (C := C) (U := U) (B := B) (n := n) (ln := ln) (kd := kd) (pd := pd) (fs := fs) (sn := sn) (y_R := y_R) (y_draft := y_draft) (y_solved := y_solved) (b_facts := b_facts) (b_code := b_code) (b_len := b_len) (b_candidate := b_candidate) (b_s := s2) (b_certain := b_certain) K E hF (fun q hq => (J q hq).2.2.2) hk (fun va3 st3 he3 m3 nx3 J3 => yv_244 K E hF (fun q hq => (J q hq).2.2.2) hT (fun m4 nx4 ce J4 => h va3 st3 he3 m4 s2 nx4 ce J3 J4)) 96 0 97 True va st b_height m2 nx (by omega) (by omega) (fun q hq => (J q hq).2.2.1) (fun q hq => ?_) (fun _ => Nat.zero_le _) (fun z => absurd trivial z)
    · rw [ma_T] at kk
      exact kk
    · obtain ⟨e1, e2, e3⟩ := yv_0 (us := pg_us C n ln) (kk := pg_kk kd) (pp := pg_pp pd fs sn) (F := F) (k := k) (q := q)
      exact ⟨(J q hq).1.trans e1.symm, (J q hq).2.1.trans e2.symm, (hV q hq).2.2.trans e3.symm⟩
  | succ d ih =>
    intro q f s h1 h2 I
    obtain ⟨f, rfl⟩ : ∃ m, f = m + 1 := ⟨f - 1, by omega⟩
    have eq : (nI q).toNatClampNeg = q := nI_clamp (by omega)
    have wq : vp_in (nI q) 96 := vp_in_nI (by omega) (by omega)
    rw [wY_solve_58]
    dsimp only
    rw [eq, hT q (by omega), ma_nb]
    refine br_f (nI_ge (b := 96) (by omega) (by omega)) ⟨wq, wq, nm_e (nm_r (nI_1 q) (ih (q + 1) f _ (by omega) (by omega) (fun q' hq' => ?_)))⟩
    by_cases c : q' = q
    · rw [c, pk_us]
    · rw [pk_un c]; exact I q' (by omega)
theorem yv_314 {post : Int32 → SY → Prop} {V : Nat → Int32} (hV : ∀ q, q < 96 → b_value q = V q) (h : post (nI (ma_cn (fun q => V q = 2) 96)) (nI C, nI U, nI (U + B), y_R, nI n, y_draft, y_solved, b_facts, b_code, b_len, b_value, b_stage, b_height, b_candidate, b_m, b_s, b_next, b_certain)) :
    ∀ (d q f : Nat), q + d = 96 → d < f → wY_solve_314 post (nI C) (nI U) (nI (U + B)) y_R (nI n) y_draft y_solved b_facts b_code b_len b_value b_stage b_height b_candidate b_m b_s b_next b_certain f (nI (ma_cn (fun q => V q = 2) q)) (nI q) := by
  intro d
  induction d with
  | zero =>
    intro q f h1 h2
    obtain ⟨f, rfl⟩ : ∃ m, f = m + 1 := ⟨f - 1, by omega⟩
    have e : q = 96 := by omega
    subst e
    rw [wY_solve_314]
    dsimp only
    exact br_t (nI_le (a := 96) (by omega) (by omega)) h
  | succ d ih =>
    intro q f h1 h2
    obtain ⟨f, rfl⟩ : ∃ m, f = m + 1 := ⟨f - 1, by omega⟩
    have eq : (nI q).toNatClampNeg = q := nI_clamp (by omega)
    have ih := ih (q + 1) f (by omega) (by omega)
    have e : ma_cn (fun q => V q = 2) (q + 1) = ma_cn (fun q => V q = 2) q + ma_o (V q = 2) := rfl
    rw [wY_solve_314]
    dsimp only
    rw [eq, hV q (by omega)]
    refine br_f (nI_ge (b := 96) (by omega) (by omega)) ⟨vp_in_nI (by omega) (by omega), br_c (fun z => ?_) (fun z => ?_)⟩
    · rw [ma_ot z] at e
      rw [e] at ih
      exact nm_r (nI_1 _) (nm_r (nI_1 q) ih)
    · rw [ma_of z] at e
      rw [e] at ih
      exact nm_r (nI_1 q) ih
theorem yv_46 {post : Int32 → SY → Prop} {KK : Nat} (K : pg_ok C U B n ln kd pd fs sn) (E : xa_cy ln kd pd fs sn b_code b_len) (hF : ∀ q, q < 96 → b_facts q = ma_b (F q)) (hK : KK ≤ 48) (hst : ∀ q, q < 96 → ro_T (pg_us C n ln) (pg_kk kd) (pg_pp pd fs sn) F (KK + 1) q → ro_T (pg_us C n ln) (pg_kk kd) (pg_pp pd fs sn) F KK q) (hgr : ∀ k, k < KK → ∃ q, q < 96 ∧ ro_T (pg_us C n ln) (pg_kk kd) (pg_pp pd fs sn) F (k + 1) q ∧ ¬ ro_T (pg_us C n ln) (pg_kk kd) (pg_pp pd fs sn) F k q)
    (h : ∀ va st he m s nx ce : Nat → Int32, (∀ q, q < 96 → va q = ro_v (pg_us C n ln) (pg_kk kd) (pg_pp pd fs sn) F (KK + 1) q ∧ st q = ro_s (pg_us C n ln) (pg_kk kd) (pg_pp pd fs sn) F (KK + 1) q ∧ he q = ro_h (pg_us C n ln) (pg_kk kd) (pg_pp pd fs sn) F (KK + 1) q) → post (nI (ma_cn (fun q => ro_v (pg_us C n ln) (pg_kk kd) (pg_pp pd fs sn) F (KK + 1) q = 2) 96)) (nI C, nI U, nI (U + B), y_R, nI n, y_draft, 1, b_facts, b_code, b_len, va, st, he, b_candidate, m, s, nx, ce)) :
    ∀ (d k f : Nat) (va st he m s nx ce : Nat → Int32), k + d = KK + 1 → d < f → (∀ q, q < 96 → va q = ro_v (pg_us C n ln) (pg_kk kd) (pg_pp pd fs sn) F k q ∧ st q = ro_s (pg_us C n ln) (pg_kk kd) (pg_pp pd fs sn) F k q ∧ he q = ro_h (pg_us C n ln) (pg_kk kd) (pg_pp pd fs sn) F k q) → (∀ q, q < 96 → ce q = ma_b (ro_T (pg_us C n ln) (pg_kk kd) (pg_pp pd fs sn) F k q)) → wY_solve_46 post f (ma_b (k ≤ KK)) (nI (k + 1)) (nI C) (nI U) (nI (U + B)) y_R (nI n) y_draft y_solved b_facts b_code b_len va st he b_candidate m s nx ce := by
  intro d
  induction d with
  | zero =>
    intro k f va st he m s nx ce h1 h2 I1 I2
    obtain ⟨f, rfl⟩ : ∃ m, f = m + 1 := ⟨f - 1, by omega⟩
    have e : k = KK + 1 := by omega
    subst e
    rw [wY_solve_46]
    dsimp only
    refine br_f (nI_nlt (a := 97) (by omega) (by omega)) (br_t (ma_bf (by omega)) ⟨97, ?_⟩)
    exact yv_314 (V := ro_v (pg_us C n ln) (pg_kk kd) (pg_pp pd fs sn) F (KK + 1)) (fun q hq => (I1 q hq).1) (h va st he m s nx ce I1) 96 0 97 (by omega) (by omega)
  | succ d ih =>
    intro k f va st he m s nx ce h1 h2 I1 I2
    obtain ⟨f, rfl⟩ : ∃ m, f = m + 1 := ⟨f - 1, by omega⟩
    rw [wY_solve_46]
    dsimp only
    refine br_f (nI_nlt (a := 97) (by omega) (by omega)) (br_f (by rw [ma_bt (by omega)]; decide) ⟨97, ?_⟩)
    refine yv_58 (k := k) K E hF (by omega) I2 I1 (fun va2 st2 he2 m2 s2 nx2 ce2 J1 J2 => ?_) 96 0 97 s (by omega) (by omega) (fun q' hq' => by omega)
    have e : ma_b (∃ q, q < 96 ∧ ¬ (ro_T (pg_us C n ln) (pg_kk kd) (pg_pp pd fs sn) F (k + 1) q ↔ ro_T (pg_us C n ln) (pg_kk kd) (pg_pp pd fs sn) F k q)) = ma_b (k + 1 ≤ KK) := by
      refine ma_bc ⟨?_, ?_⟩
      · rintro ⟨q, z1, z2⟩
        by_cases c : k = KK
        · subst c; exact absurd ⟨hst q z1, ro_TT k q⟩ z2
        · omega
      · intro z
        obtain ⟨q, q1, q2, q3⟩ := hgr k (by omega)
        exact ⟨q, q1, fun y => q3 (y.mp q2)⟩
    rw [e]
    exact ih (k + 1) f va2 st2 he2 m2 s2 nx2 ce2 (by omega) (by omega) J1 J2
theorem yv_2 {post : Int32 → SY → Prop} (h : ∀ va st he ce : Nat → Int32, (∀ q, q < 96 → va q = 2 ∧ st q = 0 ∧ he q = 0 ∧ ce q = 0) → ∃ f, wY_solve_46 post f 1 1 (nI C) (nI U) (nI (U + B)) y_R (nI n) y_draft y_solved b_facts b_code b_len va st he b_candidate b_m b_s b_next ce) :
    ∀ (d q f : Nat) (va st he ce : Nat → Int32), q + d = 96 → d < f → (∀ q', q' < q → va q' = 2 ∧ st q' = 0 ∧ he q' = 0 ∧ ce q' = 0) → wY_solve_2 post (nI C) (nI U) (nI (U + B)) y_R (nI n) y_draft y_solved f (nI q) b_facts b_code b_len va st he b_candidate b_m b_s b_next ce := by
  intro d
  induction d with
  | zero =>
    intro q f va st he ce h1 hf I
    obtain ⟨f, rfl⟩ : ∃ m, f = m + 1 := ⟨f - 1, by omega⟩
    rw [wY_solve_2]
    dsimp only
    exact br_t (nI_le (a := 96) (by omega) (by omega)) (h va st he ce (fun q' hq' => I q' (by omega)))
  | succ d ih =>
    intro q f va st he ce h1 hf I
    obtain ⟨f, rfl⟩ : ∃ m, f = m + 1 := ⟨f - 1, by omega⟩
    have eq : (nI q).toNatClampNeg = q := nI_clamp (by omega)
    have wq : vp_in (nI q) 96 := vp_in_nI (by omega) (by omega)
    rw [wY_solve_2]
    dsimp only
    rw [eq, ma_n0]
    refine br_f (nI_ge (b := 96) (by omega) (by omega)) ⟨wq, nm_e ⟨wq, nm_e ⟨wq, nm_e ⟨wq, nm_e (nm_r (nI_1 q) (ih (q + 1) f _ _ _ _ (by omega) (by omega) (fun q' hq' => ?_)))⟩⟩⟩⟩
    by_cases c : q' = q
    · rw [c, pk_us, pk_us, pk_us, pk_us]; exact ⟨rfl, rfl, rfl, rfl⟩
    · rw [pk_un c, pk_un c, pk_un c, pk_un c]; exact I q' (by omega)
/-- solve -/
theorem yv_solve {post : Int32 → SY → Prop} {KK : Nat} (K : pg_ok C U B n ln kd pd fs sn) (E : xa_cy ln kd pd fs sn b_code b_len) (hF : ∀ q, q < 96 → b_facts q = ma_b (F q)) (hK : KK ≤ 48) (hst : ∀ q, q < 96 → ro_T (pg_us C n ln) (pg_kk kd) (pg_pp pd fs sn) F (KK + 1) q → ro_T (pg_us C n ln) (pg_kk kd) (pg_pp pd fs sn) F KK q) (hgr : ∀ k, k < KK → ∃ q, q < 96 ∧ ro_T (pg_us C n ln) (pg_kk kd) (pg_pp pd fs sn) F (k + 1) q ∧ ¬ ro_T (pg_us C n ln) (pg_kk kd) (pg_pp pd fs sn) F k q)
    (h : ∀ va st he m s nx ce : Nat → Int32, (∀ q, q < 96 → va q = ro_v (pg_us C n ln) (pg_kk kd) (pg_pp pd fs sn) F (KK + 1) q ∧ st q = ro_s (pg_us C n ln) (pg_kk kd) (pg_pp pd fs sn) F (KK + 1) q ∧ he q = ro_h (pg_us C n ln) (pg_kk kd) (pg_pp pd fs sn) F (KK + 1) q) → post (nI (ma_cn (fun q => ro_v (pg_us C n ln) (pg_kk kd) (pg_pp pd fs sn) F (KK + 1) q = 2) 96)) (nI C, nI U, nI (U + B), y_R, nI n, y_draft, 1, b_facts, b_code, b_len, va, st, he, b_candidate, m, s, nx, ce)) : wpY_solve post (nI C, nI U, nI (U + B), y_R, nI n, y_draft, y_solved, b_facts, b_code, b_len, b_value, b_stage, b_height, b_candidate, b_m, b_s, b_next, b_certain) := by
  refine ⟨97, yv_2 (fun va st he ce I => ⟨50, ?_⟩) 96 0 97 b_value b_stage b_height b_certain (by omega) (by omega) (fun q' hq' => by omega)⟩
  have kk := yv_46 (y_solved := y_solved) K E hF hK hst hgr h (KK + 1) 0 50 va st he b_m b_s b_next ce (by omega) (by omega) (fun q hq => ⟨(I q hq).1, (I q hq).2.1, (I q hq).2.2.1⟩) (fun q hq => (I q hq).2.2.2.trans (ma_bf (fun z => z)).symm)
  rw [ma_bt (Nat.zero_le _)] at kk
  exact kk
end Y
end
section
/-! judging a candidate: the component -/
def ju_bl (us : Nat → Prop) (kk pp : Nat → Nat) (cd : Nat → Int32) (m : Nat) : Prop := ∃ i, 1 ≤ i ∧ i ≤ 3 ∧ us (4 * m + i) ∧ ((kk (4 * m + i) = 1 ∧ cd (pp (4 * m + i)) = 0) ∨ (kk (4 * m + i) = 2 ∧ cd (pp (4 * m + i)) = 1))
def ju_bh (us : Nat → Prop) (kk pp : Nat → Nat) (cd : Nat → Int32) (m : Nat) : Prop := ∀ i, 1 ≤ i → i ≤ 3 → us (4 * m + i) → (kk (4 * m + i) = 2 → cd (pp (4 * m + i)) = 0) ∧ (¬ kk (4 * m + i) = 2 → cd (pp (4 * m + i)) = 1)
def ju_li (us : Nat → Prop) (kk pp : Nat → Nat) (cd : Nat → Int32) (m : Nat) : Prop := cd (pp (4 * m)) ≠ 1 ∧ ju_bh us kk pp cd m
def ju_L (us : Nat → Prop) (kk pp : Nat → Nat) (F : Nat → Prop) (cd : Nat → Int32) (M : Nat) : Prop := (∃ q, q < M ∧ F q ∧ cd q ≠ 1) ∨ ∃ m, us (4 * m) ∧ ju_li us kk pp cd m
def ju_G (us : Nat → Prop) (kk pp : Nat → Nat) (F : Nat → Prop) (cd : Nat → Int32) : Nat → Prop := ma_G us kk pp F (ju_bl us kk pp cd) (fun _ => False)
def ju_B (us : Nat → Prop) (kk pp : Nat → Nat) (F : Nat → Prop) (cd : Nat → Int32) (M : Nat) : Prop := ∃ q, q < M ∧ ¬ ju_G us kk pp F cd q ∧ cd q ≠ 0
def ju_P (cd : Nat → Int32) (M : Nat) : Prop := ∃ q, q < M ∧ cd q = 2
noncomputable def ju_a (us : Nat → Prop) (kk pp : Nat → Nat) (F : Nat → Prop) (cd : Nat → Int32) (M : Nat) : Int32 := ma_if (ju_L us kk pp F cd M) 0 (ma_if (ju_B us kk pp F cd M) 1 (ma_if (ju_P cd M) 2 3))
/-- the two numberings judge alike -/
theorem ju_tr {N n : Nat} {us : Nat → Prop} {kk aa pp w : Nat → Nat} {F : Nat → Prop} {cd : Nat → Int32} (O : xm_ok N n us kk aa pp w) (hF : ∀ q, q < 96 → F q → ∃ a, a < N ∧ w a = q) (hc : ∀ q, q < 96 → cd q ≠ 0 → ∃ a, a < N ∧ w a = q) : ju_a us kk aa (fun a => F (w a)) (fun a => cd (w a)) N = ju_a us kk pp F cd 96 := by
  have O' := O
  obtain ⟨hn, hN, h0, hu, hk2, hS, hA, hp, hw, h96⟩ := O'
  have ebh : ∀ m, ju_bh us kk aa (fun a => cd (w a)) m ↔ ju_bh us kk pp cd m := by
    intro m
    constructor
    · intro z i i1 i2 i3
      have := z i i1 i2 i3
      rw [hp _ i3]
      exact this
    · intro z i i1 i2 i3
      have := z i i1 i2 i3
      rw [hp _ i3] at this
      exact this
  have eL : ju_L us kk aa (fun a => F (w a)) (fun a => cd (w a)) N ↔ ju_L us kk pp F cd 96 := by
    constructor
    · rintro (⟨a, z1, z2, z3⟩ | ⟨m, z1, z2, z3⟩)
      · exact Or.inl ⟨w a, h96 a z1, z2, z3⟩
      · exact Or.inr ⟨m, z1, by rw [hp _ z1]; exact z2, (ebh m).mp z3⟩
    · rintro (⟨q, z1, z2, z3⟩ | ⟨m, z1, z2, z3⟩)
      · obtain ⟨a, a1, rfl⟩ := hF q z1 z2
        exact Or.inl ⟨a, a1, z2, z3⟩
      · rw [hp _ z1] at z2
        exact Or.inr ⟨m, z1, z2, (ebh m).mpr z3⟩
  have ebl : ∀ m, ju_bl us kk aa (fun a => cd (w a)) m ↔ ju_bl us kk pp cd m := by
    intro m
    constructor
    · rintro ⟨i, z1, z2, z3, z4⟩
      exact ⟨i, z1, z2, z3, by rw [hp _ z3]; exact z4⟩
    · rintro ⟨i, z1, z2, z3, z4⟩
      rw [hp _ z3] at z4
      exact ⟨i, z1, z2, z3, z4⟩
  have eG : ∀ a, a < N → (ju_G us kk aa (fun a => F (w a)) (fun a => cd (w a)) a ↔ ju_G us kk pp F cd (w a)) := by
    intro a ha
    have t := ma_tr (us := us) (kk := kk) (aa := aa) (pp := pp) (w := w) (N := N) (FX := fun a => F (w a)) (FY := F) (bX := ju_bl us kk aa (fun a => cd (w a))) (bY := ju_bl us kk pp cd) (mX := fun _ => False) (mY := fun _ => False) hA hp hw (fun _ _ => Iff.rfl) (fun m _ => ebl m) (fun _ _ => Iff.rfl)
    constructor
    · rintro ⟨j, z⟩
      exact ⟨j, (t j a ha).mp z⟩
    · rintro ⟨j, z⟩
      exact ⟨j, (t j a ha).mpr z⟩
  have eB : ju_B us kk aa (fun a => F (w a)) (fun a => cd (w a)) N ↔ ju_B us kk pp F cd 96 := by
    constructor
    · rintro ⟨a, z1, z2, z3⟩
      exact ⟨w a, h96 a z1, fun y => z2 ((eG a z1).mpr y), z3⟩
    · rintro ⟨q, z1, z2, z3⟩
      obtain ⟨a, a1, rfl⟩ := hc q z1 z3
      exact ⟨a, a1, fun y => z2 ((eG a a1).mp y), z3⟩
  have eP : ju_P (fun a => cd (w a)) N ↔ ju_P cd 96 := by
    constructor
    · rintro ⟨a, z1, z2⟩
      exact ⟨w a, h96 a z1, z2⟩
    · rintro ⟨q, z1, z2⟩
      obtain ⟨a, a1, rfl⟩ := hc q z1 (by rw [z2]; decide)
      exact ⟨a, a1, z2⟩
  unfold ju_a
  rw [propext eL, propext eB, propext eP]
section J
variable {N n : Nat} {us : Nat → Prop} {kk aa pp w : Nat → Nat} {F : Nat → Prop} {cd : Nat → Int32}
variable {f_kindHead f_kindPositive f_kindNegated f_draftRow f_constants f_unary f_binary f_maxRules f_atoms f_ruleCount f_hasDraft f_grounded f_hasModel f_tail : Int32} {a_isFactAtom a_candidate a_bodyLength a_cellKind a_cellPred a_cellFirst a_cellSecond a_groundAtom a_groundKind a_positives a_start a_cursor a_occurrence a_value a_stage a_height a_reached a_depth a_queue a_missing a_blocked : Nat → Int32}
theorem xj_bh {post : Int32 → Prop} {m : Nat} (O : xm_ok N n us kk aa pp w) (g1 : ∀ s, s < 64 * n → us s → a_groundAtom s = nI (aa s) ∧ a_groundKind s = nI (kk s)) (g2 : ∀ s, s < 64 * n → ¬ us s → a_groundAtom s = -1) (hc : ∀ a, a < N → a_candidate a = cd a) (hm : m < 16 * n) (h : post (ma_b (ju_bh us kk aa cd m))) : wpX_bodyHolds post (f_kindHead, f_kindPositive, f_kindNegated, f_draftRow, f_constants, f_unary, f_binary, f_maxRules, nI N, nI n, f_hasDraft, f_grounded, f_hasModel, f_tail, a_isFactAtom, a_candidate, a_bodyLength, a_cellKind, a_cellPred, a_cellFirst, a_cellSecond, a_groundAtom, a_groundKind, a_positives, a_start, a_cursor, a_occurrence, a_value, a_stage, a_height, a_reached, a_depth, a_queue, a_missing, a_blocked) (nI m) := by
  obtain ⟨hn, hN, h0, hu, hk2, hS, hA, hp, hw, h96⟩ := O
  have key : ∀ (d i f : Nat), 1 ≤ i → i + d = 4 → d < f → (∀ j, 1 ≤ j → j < i → us (4 * m + j) → (kk (4 * m + j) = 2 → cd (aa (4 * m + j)) = 0) ∧ (¬ kk (4 * m + j) = 2 → cd (aa (4 * m + j)) = 1)) → wX_bodyHolds_2 post (nI m) f_kindHead f_kindPositive f_kindNegated f_draftRow f_constants f_unary f_binary f_maxRules (nI N) (nI n) f_hasDraft f_grounded f_hasModel f_tail a_isFactAtom a_candidate a_bodyLength a_cellKind a_cellPred a_cellFirst a_cellSecond a_groundAtom a_groundKind a_positives a_start a_cursor a_occurrence a_value a_stage a_height a_reached a_depth a_queue a_missing a_blocked f (nI i) := by
    intro d
    induction d with
    | zero =>
      intro i f i1 h1 h2 I
      obtain ⟨f, rfl⟩ : ∃ m, f = m + 1 := ⟨f - 1, by omega⟩
      rw [wX_bodyHolds_2]
      dsimp only
      refine br_t (nI_lt (a := 3) (by omega) (by omega)) ?_
      rw [ma_bt (p := ju_bh us kk aa cd m) (fun j j1 j2 => I j j1 (by omega))] at h
      exact h
    | succ d ih =>
      intro i f i1 h1 h2 I
      obtain ⟨f, rfl⟩ : ∃ m, f = m + 1 := ⟨f - 1, by omega⟩
      rw [wX_bodyHolds_2]
      dsimp only
      have es : 4 * nI m + nI i = nI (4 * m + i) := by rw [← nI_add, ← pk_mul]; rfl
      have esc : (nI (4 * m + i)).toNatClampNeg = 4 * m + i := nI_clamp (by omega)
      have ws : vp_in (nI (4 * m + i)) 512 := vp_in_nI (by omega) (by omega)
      refine br_f (nI_nlt (a := 3) (by omega) (by omega)) (nm_r (e' := nI (4 * m + i)) es ⟨ws, ?_⟩)
      rw [esc]
      by_cases u : us (4 * m + i)
      · obtain ⟨c1, c2⟩ := g1 _ (by omega) u
        have hb := hA _ u
        have hb2 := hk2 _ u
        have ea : (nI (aa (4 * m + i))).toNatClampNeg = aa (4 * m + i) := nI_clamp (by omega)
        have wa : vp_in (nI (aa (4 * m + i))) 48 := vp_in_nI (by omega) (by omega)
        refine nm_r c1 (br_f (nI_pos (by omega)) ⟨ws, ?_⟩)
        have jn : ∀ z0 : Int32, ((cd (aa (4 * m + i)) = z0) ↔ ((kk (4 * m + i) = 2 → cd (aa (4 * m + i)) = 0) ∧ (¬ kk (4 * m + i) = 2 → cd (aa (4 * m + i)) = 1))) → wX_bodyHolds_41 post (wX_bodyHolds_2 post (nI m) f_kindHead f_kindPositive f_kindNegated f_draftRow f_constants f_unary f_binary f_maxRules (nI N) (nI n) f_hasDraft f_grounded f_hasModel f_tail a_isFactAtom a_candidate a_bodyLength a_cellKind a_cellPred a_cellFirst a_cellSecond a_groundAtom a_groundKind a_positives a_start a_cursor a_occurrence a_value a_stage a_height a_reached a_depth a_queue a_missing a_blocked f) (nI m) (nI i) (nI (aa (4 * m + i))) z0 f_kindHead f_kindPositive f_kindNegated f_draftRow f_constants f_unary f_binary f_maxRules (nI N) (nI n) f_hasDraft f_grounded f_hasModel f_tail a_isFactAtom a_candidate a_bodyLength a_cellKind a_cellPred a_cellFirst a_cellSecond a_groundAtom a_groundKind a_positives a_start a_cursor a_occurrence a_value a_stage a_height a_reached a_depth a_queue a_missing a_blocked := by
          intro z0 hz
          unfold wX_bodyHolds_41
          rw [ea, hc _ hb]
          refine ⟨wa, br_c (fun y => nm_r (nI_1 i) (ih (i + 1) f (by omega) (by omega) (by omega) (fun j j1 j2 u' => ?_))) (fun y => ?_)⟩
          · by_cases c : j = i
            · subst c; exact hz.mp y
            · exact I j j1 (by omega) u'
          · rw [ma_bf (p := ju_bh us kk aa cd m) (fun z => y (hz.mpr (z i i1 (by omega) u)))] at h
            exact h
        rw [c2]
        refine pk_eq (kk (4 * m + i)) 2 (fun z => jn 0 ?_) (fun z => jn 1 ?_)
        · exact ⟨fun y => ⟨fun _ => y, fun x => absurd z x⟩, fun y => y.1 z⟩
        · exact ⟨fun y => ⟨fun x => absurd x z, fun _ => y⟩, fun y => y.2 z⟩
      · refine nm_r (g2 _ (by omega) u) (br_t (by decide) (nm_r (nI_1 i) (ih (i + 1) f (by omega) (by omega) (by omega) (fun j j1 j2 u' => ?_))))
        by_cases c : j = i
        · subst c; exact absurd u' u
        · exact I j j1 (by omega) u'
  exact ⟨4, key 3 1 4 (by omega) (by omega) (by omega) (fun j j1 j2 => by omega)⟩
theorem xj_l39 {post : Int32 → Prop} (O : xm_ok N n us kk aa pp w) (g1 : ∀ s, s < 64 * n → us s → a_groundAtom s = nI (aa s) ∧ a_groundKind s = nI (kk s)) (g2 : ∀ s, s < 64 * n → ¬ us s → a_groundAtom s = -1) (hc : ∀ a, a < N → a_candidate a = cd a) (h0 : (∀ m, us (4 * m) → ¬ ju_li us kk aa cd m) → post 0) (h1 : (∃ m, us (4 * m) ∧ ju_li us kk aa cd m) → post 1) :
    ∀ (d m f : Nat), m + d = 16 * n → d < f → (∀ m', m' < m → us (4 * m') → ¬ ju_li us kk aa cd m') → wX_candidateLacks_39 post f_kindHead f_kindPositive f_kindNegated f_draftRow f_constants f_unary f_binary f_maxRules (nI N) (nI n) f_hasDraft f_grounded f_hasModel f_tail a_isFactAtom a_candidate a_bodyLength a_cellKind a_cellPred a_cellFirst a_cellSecond a_groundAtom a_groundKind a_positives a_start a_cursor a_occurrence a_value a_stage a_height a_reached a_depth a_queue a_missing a_blocked f (nI m) := by
  have O' := O
  obtain ⟨hn, hN, _, hu, hk2, hS, hA, hp, hw, h96⟩ := O'
  have e16 : 16 * nI n = nI (16 * n) := by rw [← pk_mul]; rfl
  intro d
  induction d with
  | zero =>
    intro m f k1 k2 I
    obtain ⟨f, rfl⟩ : ∃ m, f = m + 1 := ⟨f - 1, by omega⟩
    rw [wX_candidateLacks_39]
    dsimp only
    rw [e16]
    refine br_t (nI_le (by omega) (by omega)) (h0 (fun m' u => I m' ?_ u))
    have := hS _ u
    omega
  | succ d ih =>
    intro m f k1 k2 I
    obtain ⟨f, rfl⟩ : ∃ m, f = m + 1 := ⟨f - 1, by omega⟩
    rw [wX_candidateLacks_39]
    dsimp only
    have e4 : 4 * nI m = nI (4 * m) := by rw [← pk_mul]; rfl
    have e4c : (nI (4 * m)).toNatClampNeg = 4 * m := nI_clamp (by omega)
    have w4 : vp_in (nI (4 * m)) 512 := vp_in_nI (by omega) (by omega)
    have next : (us (4 * m) → ¬ ju_li us kk aa cd m) → wX_candidateLacks_39 post f_kindHead f_kindPositive f_kindNegated f_draftRow f_constants f_unary f_binary f_maxRules (nI N) (nI n) f_hasDraft f_grounded f_hasModel f_tail a_isFactAtom a_candidate a_bodyLength a_cellKind a_cellPred a_cellFirst a_cellSecond a_groundAtom a_groundKind a_positives a_start a_cursor a_occurrence a_value a_stage a_height a_reached a_depth a_queue a_missing a_blocked f (nI (m + 1)) := by
      intro c
      refine ih (m + 1) f (by omega) (by omega) (fun m' hm' u => ?_)
      by_cases z : m' = m
      · subst z; exact c u
      · exact I m' (by omega) u
    rw [e16, e4, e4c]
    refine br_f (nI_ge (by omega) (by omega)) ⟨w4, ?_⟩
    by_cases u : us (4 * m)
    · obtain ⟨c1, c2⟩ := g1 _ (by omega) u
      have hb := hA _ u
      have ea : (nI (aa (4 * m))).toNatClampNeg = aa (4 * m) := nI_clamp (by omega)
      refine nm_r c1 (br_f (nI_pos (by omega)) ⟨vp_in_nI (by omega) (by omega), ?_⟩)
      rw [ea, hc _ hb]
      refine br_c (fun z => nm_r (nI_1 m) (next (fun _ y => y.1 z))) (fun z => ?_)
      refine xj_bh O g1 g2 hc (by omega) (ma_br rfl (fun y => nm_r (nI_1 m) (next (fun _ x => y x.2))) (fun y => h1 ⟨m, u, z, y⟩))
    · exact nm_r (g2 _ (by omega) u) (br_t (by decide) (nm_r (nI_1 m) (next (fun y => absurd y u))))
theorem xj_lack {post : Int32 → Prop} (O : xm_ok N n us kk aa pp w) (g1 : ∀ s, s < 64 * n → us s → a_groundAtom s = nI (aa s) ∧ a_groundKind s = nI (kk s)) (g2 : ∀ s, s < 64 * n → ¬ us s → a_groundAtom s = -1) (hc : ∀ a, a < N → a_candidate a = cd a) (hF : ∀ a, a < N → a_isFactAtom a = ma_b (F a)) (h : post (ma_b (ju_L us kk aa F cd N))) : wpX_candidateLacks post (f_kindHead, f_kindPositive, f_kindNegated, f_draftRow, f_constants, f_unary, f_binary, f_maxRules, nI N, nI n, f_hasDraft, f_grounded, f_hasModel, f_tail, a_isFactAtom, a_candidate, a_bodyLength, a_cellKind, a_cellPred, a_cellFirst, a_cellSecond, a_groundAtom, a_groundKind, a_positives, a_start, a_cursor, a_occurrence, a_value, a_stage, a_height, a_reached, a_depth, a_queue, a_missing, a_blocked) := by
  have O' := O
  obtain ⟨hn, hN, _, hu, hk2, hS, hA, hp, hw, h96⟩ := O'
  have key : ∀ (d a f : Nat), a + d = N → d < f → (∀ a', a' < a → F a' → cd a' = 1) → wX_candidateLacks_2 post f_kindHead f_kindPositive f_kindNegated f_draftRow f_constants f_unary f_binary f_maxRules (nI N) (nI n) f_hasDraft f_grounded f_hasModel f_tail a_isFactAtom a_candidate a_bodyLength a_cellKind a_cellPred a_cellFirst a_cellSecond a_groundAtom a_groundKind a_positives a_start a_cursor a_occurrence a_value a_stage a_height a_reached a_depth a_queue a_missing a_blocked f (nI a) := by
    intro d
    induction d with
    | zero =>
      intro a f k1 k2 I
      obtain ⟨f, rfl⟩ : ∃ m, f = m + 1 := ⟨f - 1, by omega⟩
      rw [wX_candidateLacks_2]
      dsimp only
      refine br_t (nI_le (by omega) (by omega)) ⟨16 * n + 1, xj_l39 (cd := cd) O g1 g2 hc (fun z => ?_) (fun z => ?_) (16 * n) 0 _ (by omega) (by omega) (fun m' hm' => by omega)⟩
      · rw [ma_bf (p := ju_L us kk aa F cd N)] at h
        · exact h
        · rintro (⟨q, z1, z2, z3⟩ | ⟨m, z1, z2⟩)
          · exact z3 (I q (by omega) z2)
          · exact z m z1 z2
      · rw [ma_bt (p := ju_L us kk aa F cd N) (Or.inr z)] at h
        exact h
    | succ d ih =>
      intro a f k1 k2 I
      obtain ⟨f, rfl⟩ : ∃ m, f = m + 1 := ⟨f - 1, by omega⟩
      rw [wX_candidateLacks_2]
      dsimp only
      have ea : (nI a).toNatClampNeg = a := nI_clamp (by omega)
      have wa : vp_in (nI a) 48 := vp_in_nI (by omega) (by omega)
      have next : (F a → cd a = 1) → wX_candidateLacks_2 post f_kindHead f_kindPositive f_kindNegated f_draftRow f_constants f_unary f_binary f_maxRules (nI N) (nI n) f_hasDraft f_grounded f_hasModel f_tail a_isFactAtom a_candidate a_bodyLength a_cellKind a_cellPred a_cellFirst a_cellSecond a_groundAtom a_groundKind a_positives a_start a_cursor a_occurrence a_value a_stage a_height a_reached a_depth a_queue a_missing a_blocked f (nI (a + 1)) := by
        intro c
        refine ih (a + 1) f (by omega) (by omega) (fun a' ha' u => ?_)
        by_cases z : a' = a
        · subst z; exact c u
        · exact I a' (by omega) u
      rw [ea, hc a (by omega)]
      refine br_f (nI_ge (by omega) (by omega)) ⟨wa, ma_br (hF a (by omega)) (fun z => nm_r (nI_1 a) (next (fun y => absurd y z))) (fun z => ⟨wa, br_c (fun y => nm_r (nI_1 a) (next (fun _ => y))) (fun y => ?_)⟩)⟩
      rw [ma_bt (p := ju_L us kk aa F cd N) (Or.inl ⟨a, by omega, z, y⟩)] at h
      exact h
  exact ⟨N + 1, key N 0 _ (by omega) (by omega) (fun a' ha' => by omega)⟩
theorem xj_b60 {post : Int32 → SX → Prop} {R : Nat → Prop} (hN : N ≤ 48) (hr : ∀ a, a < N → a_reached a = ma_b (R a)) (hc : ∀ a, a < N → a_candidate a = cd a) (h0 : (∀ a, a < N → R a ∨ cd a = 0) → post 0 (f_kindHead, f_kindPositive, f_kindNegated, f_draftRow, f_constants, f_unary, f_binary, f_maxRules, nI N, nI n, f_hasDraft, f_grounded, f_hasModel, f_tail, a_isFactAtom, a_candidate, a_bodyLength, a_cellKind, a_cellPred, a_cellFirst, a_cellSecond, a_groundAtom, a_groundKind, a_positives, a_start, a_cursor, a_occurrence, a_value, a_stage, a_height, a_reached, a_depth, a_queue, a_missing, a_blocked)) (h1 : (∃ a, a < N ∧ ¬ R a ∧ cd a ≠ 0) → post 1 (f_kindHead, f_kindPositive, f_kindNegated, f_draftRow, f_constants, f_unary, f_binary, f_maxRules, nI N, nI n, f_hasDraft, f_grounded, f_hasModel, f_tail, a_isFactAtom, a_candidate, a_bodyLength, a_cellKind, a_cellPred, a_cellFirst, a_cellSecond, a_groundAtom, a_groundKind, a_positives, a_start, a_cursor, a_occurrence, a_value, a_stage, a_height, a_reached, a_depth, a_queue, a_missing, a_blocked)) :
    ∀ (d a f : Nat), a + d = N → d < f → (∀ a', a' < a → R a' ∨ cd a' = 0) → wX_candidateBaseless_60 post f_kindHead f_kindPositive f_kindNegated f_draftRow f_constants f_unary f_binary f_maxRules (nI N) (nI n) f_hasDraft f_grounded f_hasModel f_tail a_isFactAtom a_candidate a_bodyLength a_cellKind a_cellPred a_cellFirst a_cellSecond a_groundAtom a_groundKind a_positives a_start a_cursor a_occurrence a_value a_stage a_height a_reached a_depth a_queue a_missing a_blocked f (nI a) := by
  intro d
  induction d with
  | zero =>
    intro a f k1 k2 I
    obtain ⟨f, rfl⟩ : ∃ m, f = m + 1 := ⟨f - 1, by omega⟩
    rw [wX_candidateBaseless_60]
    dsimp only
    exact br_t (nI_le (by omega) (by omega)) (h0 (fun a' ha' => I a' (by omega)))
  | succ d ih =>
    intro a f k1 k2 I
    obtain ⟨f, rfl⟩ : ∃ m, f = m + 1 := ⟨f - 1, by omega⟩
    rw [wX_candidateBaseless_60]
    dsimp only
    have ea : (nI a).toNatClampNeg = a := nI_clamp (by omega)
    have wa : vp_in (nI a) 48 := vp_in_nI (by omega) (by omega)
    have next : (R a ∨ cd a = 0) → wX_candidateBaseless_60 post f_kindHead f_kindPositive f_kindNegated f_draftRow f_constants f_unary f_binary f_maxRules (nI N) (nI n) f_hasDraft f_grounded f_hasModel f_tail a_isFactAtom a_candidate a_bodyLength a_cellKind a_cellPred a_cellFirst a_cellSecond a_groundAtom a_groundKind a_positives a_start a_cursor a_occurrence a_value a_stage a_height a_reached a_depth a_queue a_missing a_blocked f (nI (a + 1)) := by
      intro c
      refine ih (a + 1) f (by omega) (by omega) (fun a' ha' => ?_)
      by_cases z : a' = a
      · subst z; exact c
      · exact I a' (by omega)
    rw [ea, hc a (by omega)]
    refine br_f (nI_ge (by omega) (by omega)) ⟨wa, ma_br (hr a (by omega)) (fun z => ⟨wa, br_c (fun y => nm_r (nI_1 a) (next (Or.inr y))) (fun y => h1 ⟨a, by omega, z, y⟩)⟩) (fun z => nm_r (nI_1 a) (next (Or.inl z)))⟩
theorem xj_Be {m : Nat} (h0 : ∀ m, us (4 * m) → kk (4 * m) = 0) (hA : ∀ s, us s → aa s < N) : xm_B us kk aa (fun j a => (j = 1 ∧ cd a = 0) ∨ (j = 2 ∧ cd a = 1)) N m ↔ (¬ us (4 * m) ∨ ju_bl us kk aa cd m) := by
  constructor
  · rintro (z | ⟨i, z1, z2, z3, z4⟩)
    · exact Or.inl z
    · refine Or.inr ⟨i, ?_, z1, z2, z4⟩
      by_cases c : i = 0
      · subst c
        have := h0 m z2
        have z4 : (kk (4 * m) = 1 ∧ _) ∨ (kk (4 * m) = 2 ∧ _) := z4
        omega
      · omega
  · rintro (z | ⟨i, z1, z2, z3, z4⟩)
    · exact Or.inl z
    · exact Or.inr ⟨i, z2, z3, hA _ z3, z4⟩
theorem xj_b6 {post : Int32 → SX → Prop} (O : xm_ok N n us kk aa pp w) (G : gr_ok (64 * n) us kk aa a_groundAtom a_groundKind a_positives a_start a_occurrence) (hF : ∀ a, a < N → a_isFactAtom a = ma_b (F a)) (hc : ∀ a, a < N → a_candidate a = cd a) (hrc : ∀ a, a < N → a_reached a = 0) (hms : cl_M (64 * n) us kk (fun _ => False) a_missing)
    (h : ∀ (tl : Int32) (rc dp qu ms bk : Nat → Int32), post (ma_b (ju_B us kk aa F cd N)) (f_kindHead, f_kindPositive, f_kindNegated, f_draftRow, f_constants, f_unary, f_binary, f_maxRules, nI N, nI n, f_hasDraft, f_grounded, f_hasModel, tl, a_isFactAtom, a_candidate, a_bodyLength, a_cellKind, a_cellPred, a_cellFirst, a_cellSecond, a_groundAtom, a_groundKind, a_positives, a_start, a_cursor, a_occurrence, a_value, a_stage, a_height, rc, dp, qu, ms, bk)) :
    ∀ (d a f : Nat) (bk : Nat → Int32), a + d = N → d < f → (∀ m, 4 * m < 64 * n → bk m = ma_b (xm_B us kk aa (fun j a => (j = 1 ∧ cd a = 0) ∨ (j = 2 ∧ cd a = 1)) a m)) → wX_candidateBaseless_6 post f (nI a) f_kindHead f_kindPositive f_kindNegated f_draftRow f_constants f_unary f_binary f_maxRules (nI N) (nI n) f_hasDraft f_grounded f_hasModel (nI 0) a_isFactAtom a_candidate a_bodyLength a_cellKind a_cellPred a_cellFirst a_cellSecond a_groundAtom a_groundKind a_positives a_start a_cursor a_occurrence a_value a_stage a_height a_reached a_depth a_queue a_missing bk := by
  have O' := O
  obtain ⟨hn, hN, h0, hu, hk2, hS, hA, hp, hw, h96⟩ := O'
  intro d
  induction d with
  | zero =>
    intro a f bk k1 k2 I
    obtain ⟨f, rfl⟩ : ∃ m, f = m + 1 := ⟨f - 1, by omega⟩
    have e : a = N := by omega
    subst e
    rw [wX_candidateBaseless_6]
    dsimp only
    refine br_t (nI_le (Nat.le_refl _) (by omega)) ?_
    refine xc_run (us := us) (kk := kk) (aa := aa) (F := F) (bl := ju_bl us kk aa cd) (m0 := fun _ => False) (qf := fun _ => 0) (d := fun _ => 0) hn hN h0 hu hk2 hS hA G (fun m hm => (I m hm).trans (ma_bc (xj_Be h0 hA))) hms hF (cl_Q_0 hrc) (fun i hi => by omega) (fun a _ z => z.elim) (fun T rc dp qu ms c1 c2 => ⟨a + 1, ?_⟩)
    have h := h (nI T) rc dp qu ms bk
    refine xj_b60 (R := ju_G us kk aa F cd) (cd := cd) hN c1 hc (fun z => ?_) (fun z => ?_) a 0 _ (by omega) (by omega) (fun a' ha' => by omega)
    · rw [ma_bf (p := ju_B us kk aa F cd a)] at h
      · exact h
      · rintro ⟨q, z1, z2, z3⟩
        exact (z q z1).elim z2 z3
    · rw [ma_bt (p := ju_B us kk aa F cd a) z] at h
      exact h
  | succ d ih =>
    intro a f bk k1 k2 I
    obtain ⟨f, rfl⟩ : ∃ m, f = m + 1 := ⟨f - 1, by omega⟩
    have ea : (nI a).toNatClampNeg = a := nI_clamp (by omega)
    have wa : vp_in (nI a) 48 := vp_in_nI (by omega) (by omega)
    rw [wX_candidateBaseless_6]
    dsimp only
    rw [ea, hc a (by omega)]
    have d01 : ¬ (0 : Int32) = 1 := by decide
    refine br_f (nI_ge (by omega) (by omega)) ⟨wa, br_c (fun z => ?_) (fun z => ⟨wa, br_c (fun y => ?_) (fun y => ?_)⟩)⟩
    · refine xc_block (k := 1) (P := fun m => xm_B us kk aa (fun j a => (j = 1 ∧ cd a = 0) ∨ (j = 2 ∧ cd a = 1)) a m) hn hN (by omega) (by omega) hS hk2 G I (fun bk' J => ?_)
      refine nm_r (nI_1 a) (ih (a + 1) f bk' (by omega) (by omega) (fun m hm => (J m hm).trans (ma_bc (xm_Bs (fun j => ?_)))))
      exact ⟨fun y => y.elim (fun x => x.1) (fun x => absurd (z.symm.trans x.2) d01), fun y => Or.inl ⟨y, z⟩⟩
    · refine xc_block (k := 2) (P := fun m => xm_B us kk aa (fun j a => (j = 1 ∧ cd a = 0) ∨ (j = 2 ∧ cd a = 1)) a m) hn hN (by omega) (by omega) hS hk2 G I (fun bk' J => ?_)
      refine nm_r (nI_1 a) (ih (a + 1) f bk' (by omega) (by omega) (fun m hm => (J m hm).trans (ma_bc (xm_Bs (fun j => ?_)))))
      exact ⟨fun x => x.elim (fun v => absurd v.2 z) (fun v => v.1), fun x => Or.inr ⟨x, y⟩⟩
    · refine nm_r (nI_1 a) (ih (a + 1) f bk (by omega) (by omega) (fun m hm => (I m hm).trans (ma_bc (xm_Bn (fun j x => ?_)).symm)))
      exact x.elim (fun v => z v.2) (fun v => y v.2)
theorem xj_base {post : Int32 → SX → Prop} (O : xm_ok N n us kk aa pp w) (G : gr_ok (64 * n) us kk aa a_groundAtom a_groundKind a_positives a_start a_occurrence) (hF : ∀ a, a < N → a_isFactAtom a = ma_b (F a)) (hc : ∀ a, a < N → a_candidate a = cd a)
    (h : ∀ (tl : Int32) (rc dp qu ms bk : Nat → Int32), post (ma_b (ju_B us kk aa F cd N)) (f_kindHead, f_kindPositive, f_kindNegated, f_draftRow, f_constants, f_unary, f_binary, f_maxRules, nI N, nI n, f_hasDraft, f_grounded, f_hasModel, tl, a_isFactAtom, a_candidate, a_bodyLength, a_cellKind, a_cellPred, a_cellFirst, a_cellSecond, a_groundAtom, a_groundKind, a_positives, a_start, a_cursor, a_occurrence, a_value, a_stage, a_height, rc, dp, qu, ms, bk)) : wpX_candidateBaseless post (f_kindHead, f_kindPositive, f_kindNegated, f_draftRow, f_constants, f_unary, f_binary, f_maxRules, nI N, nI n, f_hasDraft, f_grounded, f_hasModel, f_tail, a_isFactAtom, a_candidate, a_bodyLength, a_cellKind, a_cellPred, a_cellFirst, a_cellSecond, a_groundAtom, a_groundKind, a_positives, a_start, a_cursor, a_occurrence, a_value, a_stage, a_height, a_reached, a_depth, a_queue, a_missing, a_blocked) := by
  have O' := O
  obtain ⟨hn, hN, h0, hu, hk2, hS, hA, hp, hw, h96⟩ := O'
  refine xc_begin (f_tail := f_tail) hn G hA hN (fun rc dp ms bk I1 I2 I3 => ⟨N + 1, ?_⟩)
  exact xj_b6 (F := F) (cd := cd) O G hF hc I1 I2 h N 0 _ bk (by omega) (by omega) (fun m hm => (I3 m hm).trans (ma_bc xm_B0.symm))
theorem xj_24 {post : Int32 → SX → Prop} (hN : N ≤ 48) (hc : ∀ a, a < N → a_candidate a = cd a) (h : post (ma_if (ju_P cd N) 2 3) (f_kindHead, f_kindPositive, f_kindNegated, f_draftRow, f_constants, f_unary, f_binary, f_maxRules, nI N, nI n, f_hasDraft, f_grounded, f_hasModel, f_tail, a_isFactAtom, a_candidate, a_bodyLength, a_cellKind, a_cellPred, a_cellFirst, a_cellSecond, a_groundAtom, a_groundKind, a_positives, a_start, a_cursor, a_occurrence, a_value, a_stage, a_height, a_reached, a_depth, a_queue, a_missing, a_blocked)) :
    ∀ (d a f : Nat), a + d = N → d < f → (∀ a', a' < a → cd a' ≠ 2) → wX_judge_24 post f_kindHead f_kindPositive f_kindNegated f_draftRow f_constants f_unary f_binary f_maxRules (nI N) (nI n) f_hasDraft f_grounded f_hasModel f_tail a_isFactAtom a_candidate a_bodyLength a_cellKind a_cellPred a_cellFirst a_cellSecond a_groundAtom a_groundKind a_positives a_start a_cursor a_occurrence a_value a_stage a_height a_reached a_depth a_queue a_missing a_blocked f (nI a) := by
  intro d
  induction d with
  | zero =>
    intro a f k1 k2 I
    obtain ⟨f, rfl⟩ : ∃ m, f = m + 1 := ⟨f - 1, by omega⟩
    rw [wX_judge_24]
    dsimp only
    refine br_t (nI_le (by omega) (by omega)) ?_
    rw [ma_iff (p := ju_P cd N)] at h
    · exact h
    · rintro ⟨q, z1, z2⟩
      exact I q (by omega) z2
  | succ d ih =>
    intro a f k1 k2 I
    obtain ⟨f, rfl⟩ : ∃ m, f = m + 1 := ⟨f - 1, by omega⟩
    rw [wX_judge_24]
    dsimp only
    have ea : (nI a).toNatClampNeg = a := nI_clamp (by omega)
    rw [ea, hc a (by omega)]
    refine br_f (nI_ge (by omega) (by omega)) ⟨vp_in_nI (by omega) (by omega), br_c (fun z => ?_) (fun z => nm_r (nI_1 a) (ih (a + 1) f (by omega) (by omega) (fun a' ha' => ?_)))⟩
    · rw [ma_ift (p := ju_P cd N) ⟨a, by omega, z⟩] at h
      exact h
    · by_cases c : a' = a
      · subst c; exact z
      · exact I a' (by omega)
end J
end
section
/-! judging a candidate: the reference -/
/-- within a sweep, ahead of ground rule m: La lacking so far, mo more, M not yet supported; c: how many were left at the sweep's head -/
def yj_I (us : Nat → Prop) (kk pp : Nat → Nat) (F : Nat → Prop) (cd : Nat → Int32) (Ls : Prop) (c m : Nat) (La mo : Prop) (M : Nat → Prop) : Prop :=
  (La ↔ (Ls ∨ ∃ j, j < m ∧ us (4 * j) ∧ ju_li us kk pp cd j)) ∧ (∀ q, q < 96 → ¬ M q → ju_G us kk pp F cd q) ∧ (∀ q, q < 96 → F q → ¬ M q) ∧ (¬ mo → ∀ j, j < m → us (4 * j) → ¬ ju_bl us kk pp cd j → ma_ok us kk pp (fun q => ¬ M q) j → ¬ M (pp (4 * j))) ∧ ma_cn M 96 ≤ c ∧ (mo → ma_cn M 96 < c)
section I
variable {us : Nat → Prop} {kk pp : Nat → Nat} {F : Nat → Prop} {cd : Nat → Int32} {Ls : Prop} {c m m2 : Nat} {La mo : Prop} {M : Nat → Prop}
theorem yj_Ik (h : yj_I us kk pp F cd Ls c m La mo M) (hm : m ≤ m2) (hn : ∀ j, m ≤ j → j < m2 → ¬ us (4 * j)) : yj_I us kk pp F cd Ls c m2 La mo M := by
  obtain ⟨h1, h2, h3, h4, h5, h6⟩ := h
  refine ⟨h1.trans ⟨?_, ?_⟩, h2, h3, fun z j j1 u => ?_, h5, h6⟩
  · rintro (z | ⟨j, z1, z2⟩)
    · exact Or.inl z
    · exact Or.inr ⟨j, by omega, z2⟩
  · rintro (z | ⟨j, z1, z2, z3⟩)
    · exact Or.inl z
    · refine Or.inr ⟨j, ?_, z2, z3⟩
      by_cases y : j < m
      · exact y
      · exact absurd z2 (hn j (by omega) z1)
  · by_cases y : j < m
    · exact h4 z j y u
    · exact absurd u (hn j (by omega) j1)
theorem yj_La (h : yj_I us kk pp F cd Ls c m La mo M) (u : us (4 * m)) : (La ∨ ju_li us kk pp cd m) ↔ (Ls ∨ ∃ j, j < m + 1 ∧ us (4 * j) ∧ ju_li us kk pp cd j) := by
  rw [h.1]
  constructor
  · rintro ((z | ⟨j, z1, z2⟩) | z)
    · exact Or.inl z
    · exact Or.inr ⟨j, by omega, z2⟩
    · exact Or.inr ⟨m, by omega, u, z⟩
  · rintro (z | ⟨j, z1, z2, z3⟩)
    · exact Or.inl (Or.inl z)
    · by_cases y : j = m
      · subst y; exact Or.inr z3
      · exact Or.inl (Or.inr ⟨j, by omega, z2, z3⟩)
/-- a ground rule that changes nothing -/
theorem yj_In (h : yj_I us kk pp F cd Ls c m La mo M) (u : us (4 * m)) (hn : ¬ ((¬ ju_bl us kk pp cd m ∧ ma_ok us kk pp (fun q => ¬ M q) m) ∧ M (pp (4 * m)))) : yj_I us kk pp F cd Ls c (m + 1) (La ∨ ju_li us kk pp cd m) mo M := by
  have hL := yj_La h u
  obtain ⟨h1, h2, h3, h4, h5, h6⟩ := h
  refine ⟨hL, h2, h3, fun z j j1 u' b o => ?_, h5, h6⟩
  by_cases y : j = m
  · subst y
    exact fun x => hn ⟨⟨b, o⟩, x⟩
  · exact h4 z j (by omega) u' b o
/-- a ground rule that supports its head -/
theorem yj_Is (h : yj_I us kk pp F cd Ls c m La mo M) (u : us (4 * m)) (hp : pp (4 * m) < 96) (h96 : ∀ s, us s → pp s < 96) (hb : ¬ ju_bl us kk pp cd m) (ho : ma_ok us kk pp (fun q => ¬ M q) m) (hM : M (pp (4 * m))) : yj_I us kk pp F cd Ls c (m + 1) (La ∨ ju_li us kk pp cd m) True (fun q => M q ∧ q ≠ pp (4 * m)) := by
  have hL := yj_La h u
  obtain ⟨h1, h2, h3, h4, h5, h6⟩ := h
  have hG : ju_G us kk pp F cd (pp (4 * m)) := ma_G_r u hb (fun i i1 i2 i3 i4 => h2 _ (h96 _ i3) (ho i i1 i2 i3 i4))
  have hc := ma_cn_rm (f := M) (t := pp (4 * m)) (M := 96) hp
  rw [ma_ot hM] at hc
  refine ⟨hL, fun q hq z => ?_, fun q hq z y => h3 q hq z y.1, fun z => absurd trivial z, by omega, fun _ => by omega⟩
  by_cases y : q = pp (4 * m)
  · rw [y]; exact hG
  · exact h2 q hq (fun x => z ⟨x, y⟩)
/-- a sweep without more: the rest is exactly what isn't reached -/
theorem yj_Ie (h : yj_I us kk pp F cd Ls c m La mo M) (hm : ¬ mo) (hu : ∀ j, us (4 * j) → j < m) (h96 : ∀ s, us s → pp s < 96) : ∀ q, q < 96 → (M q ↔ ¬ ju_G us kk pp F cd q) := by
  obtain ⟨h1, h2, h3, h4, h5, h6⟩ := h
  intro q hq
  constructor
  · intro z y
    have : ¬ (q < 96 ∧ M q) := by
      refine ma_G_l (Z := fun q => ¬ (q < 96 ∧ M q)) (fun _ x => x.elim) (fun q x y => h3 q y.1 x y.2) (fun j k1 k2 k3 x => ?_) y
      exact h4 hm j (hu j k1) k1 k2 (fun i i1 i2 i3 i4 x => k3 i i1 i2 i3 i4 ⟨h96 _ i3, x⟩) x.2
    exact this ⟨hq, z⟩
  · intro z
    by_cases y : M q
    · exact y
    · exact absurd (h2 q hq y) z
end I
/-- the flags of one ground rule, ahead of place i -/
def yj_t (kk pp : Nat → Nat) (cd : Nat → Int32) (m i : Nat) : Prop := ∀ j, 1 ≤ j → j < i → (kk (4 * m + j) = 2 → cd (pp (4 * m + j)) = 0) ∧ (¬ kk (4 * m + j) = 2 → cd (pp (4 * m + j)) = 1)
def yj_s (kk pp : Nat → Nat) (cd : Nat → Int32) (M : Nat → Prop) (m i : Nat) : Prop := ∀ j, 1 ≤ j → j < i → (kk (4 * m + j) = 2 → cd (pp (4 * m + j)) ≠ 1) ∧ (¬ kk (4 * m + j) = 2 → cd (pp (4 * m + j)) ≠ 0 ∧ ¬ M (pp (4 * m + j)))
theorem yj_f1 {P : Nat → Prop} {i : Nat} (h : P i) (i1 : 1 ≤ i) : (∀ j, 1 ≤ j → j < i + 1 → P j) ↔ (∀ j, 1 ≤ j → j < i → P j) := by
  constructor
  · exact fun z j j1 j2 => z j j1 (by omega)
  · intro z j j1 j2
    by_cases c : j = i
    · subst c; exact h
    · exact z j j1 (by omega)
theorem yj_f0 {P : Nat → Prop} {i : Nat} (h : ¬ P i) (i1 : 1 ≤ i) : ¬ (∀ j, 1 ≤ j → j < i + 1 → P j) := fun z => h (z i i1 (by omega))
section E
variable {C U B n : Nat} {ln kd pd fs sn : Nat → Nat} {cd : Nat → Int32} {M : Nat → Prop}
theorem yj_te {r x y : Nat} (K : pg_ok C U B n ln kd pd fs sn) (hr : r < n) (hx : x < C) (hy : y < C) : yj_t (pg_kk kd) (pg_pp pd fs sn) cd (16 * r + 4 * x + y) (ln r + 1) ↔ ju_bh (pg_us C n ln) (pg_kk kd) (pg_pp pd fs sn) cd (16 * r + 4 * x + y) := by
  have hC := K.1.2.1
  have l3 := K.2.2.1 r (by have := K.2.1; omega)
  have hu : ∀ i, i ≤ 3 → (pg_us C n ln (4 * (16 * r + 4 * x + y) + i) ↔ i ≤ ln r) := fun i hi => by
    rw [pg_us_i (by omega) (by omega) (by omega)]
    exact ⟨fun z => z.2.2.2, fun z => ⟨hr, hx, hy, z⟩⟩
  constructor
  · intro h i i1 i2 i3
    exact h i i1 (by have := (hu i i2).mp i3; omega)
  · intro h j j1 j2
    exact h j j1 (by omega) ((hu j (by omega)).mpr (by omega))
theorem yj_se {r x y : Nat} (K : pg_ok C U B n ln kd pd fs sn) (hr : r < n) (hx : x < C) (hy : y < C) : yj_s (pg_kk kd) (pg_pp pd fs sn) cd M (16 * r + 4 * x + y) (ln r + 1) ↔ (¬ ju_bl (pg_us C n ln) (pg_kk kd) (pg_pp pd fs sn) cd (16 * r + 4 * x + y) ∧ ma_ok (pg_us C n ln) (pg_kk kd) (pg_pp pd fs sn) (fun q => ¬ M q) (16 * r + 4 * x + y)) := by
  have hC := K.1.2.1
  have l3 := K.2.2.1 r (by have := K.2.1; omega)
  have hu : ∀ i, i ≤ 3 → (pg_us C n ln (4 * (16 * r + 4 * x + y) + i) ↔ i ≤ ln r) := fun i hi => by
    rw [pg_us_i (by omega) (by omega) (by omega)]
    exact ⟨fun z => z.2.2.2, fun z => ⟨hr, hx, hy, z⟩⟩
  constructor
  · intro h
    constructor
    · rintro ⟨i, z1, z2, z3, z4⟩
      have := h i z1 (by have := (hu i z2).mp z3; omega)
      rcases z4 with ⟨z4, z5⟩ | ⟨z4, z5⟩
      · exact (this.2 (by rw [z4]; decide)).1 z5
      · exact this.1 z4 z5
    · intro i z1 z2 z3 z4
      exact ((h i z1 (by have := (hu i z2).mp z3; omega)).2 (by rw [z4]; decide)).2
  · rintro ⟨h1, h2⟩ j j1 j2
    have u := (hu j (by omega)).mpr (by omega)
    have k12 := (pg_us_k K (by omega) u).2.1 j1
    constructor
    · exact fun z y => h1 ⟨j, j1, by omega, u, Or.inr ⟨z, y⟩⟩
    · intro z
      rcases k12 with k | k
      · exact ⟨fun y => h1 ⟨j, j1, by omega, u, Or.inl ⟨k, y⟩⟩, h2 j j1 (by omega) u k⟩
      · exact absurd k z
end E
section Y
variable {C U B n : Nat} {ln kd pd fs sn : Nat → Nat} {F : Nat → Prop}
variable {y_C y_U y_P y_R y_count y_draft y_solved : Int32} {b_facts b_code b_len b_value b_stage b_height b_candidate b_m b_s b_next b_certain : Nat → Int32}
/-- the head of a ground rule: the support -/
theorem yj_276 {post : Int32 → SY → Prop} {J73 J91 J103 J115 : Int32 → Int32 → Int32 → (Nat → Int32) → (Nat → Int32) → (Nat → Int32) → (Nat → Int32) → (Nat → Int32) → (Nat → Int32) → (Nat → Int32) → (Nat → Int32) → (Nat → Int32) → (Nat → Int32) → (Nat → Int32) → Prop} {x2 x3 x5 x6 x7 : Int32} {y p : Nat} {La mo su : Prop} {M : Nat → Prop} (hp : p < 96) (hM : ∀ q, q < 96 → b_m q = ma_b (M q))
    (hn : ¬ (su ∧ M p) → J115 (ma_b La) (ma_b mo) (nI (y + 1)) b_facts b_code b_len b_value b_stage b_height b_candidate b_m b_s b_next b_certain) (hy : su → M p → ∀ m : Nat → Int32, (∀ q, q < 96 → m q = ma_b (M q ∧ q ≠ p)) → J115 (ma_b La) (ma_b True) (nI (y + 1)) b_facts b_code b_len b_value b_stage b_height b_candidate m b_s b_next b_certain) : wY_judge_276 post J73 J91 J103 J115 (ma_b La) x2 x3 (ma_b mo) x5 x6 x7 (nI y) (ma_b su) (nI p) (nI C) (nI U) (nI (U + B)) y_R (nI n) y_draft y_solved b_facts b_code b_len b_value b_stage b_height b_candidate b_m b_s b_next b_certain := by
  have ep : (nI p).toNatClampNeg = p := nI_clamp (by omega)
  have wp : vp_in (nI p) 96 := vp_in_nI hp (by omega)
  unfold wY_judge_276
  rw [ep, ma_n0]
  refine ma_br rfl (fun z => nm_r (nI_1 y) (hn (fun c => z c.1))) (fun z => ⟨wp, ma_br (hM p hp) (fun x => nm_r (nI_1 y) (hn (fun c => x c.2))) (fun x => ⟨wp, nm_e (nm_r (nI_1 y) ?_)⟩)⟩)
  have := hy z x (upd b_m p 0) (fun q hq => ?_)
  · rw [ma_T] at this
    exact this
  · by_cases c : q = p
    · rw [c, pk_us, ma_bf (fun v => v.2 rfl)]
    · rw [pk_un c, hM q hq]
      exact ma_bc ⟨fun v => ⟨v, c⟩, fun v => v.1⟩
/-- the literals of a ground rule -/
theorem yj_133 {post : Int32 → SY → Prop} {J73 J91 J103 J115 : Int32 → Int32 → Int32 → (Nat → Int32) → (Nat → Int32) → (Nat → Int32) → (Nat → Int32) → (Nat → Int32) → (Nat → Int32) → (Nat → Int32) → (Nat → Int32) → (Nat → Int32) → (Nat → Int32) → (Nat → Int32) → Prop} {x2 x3 x5 : Int32} {r x y c : Nat} {La mo Ls : Prop} {M : Nat → Prop} (K : pg_ok C U B n ln kd pd fs sn) (E : xa_cy ln kd pd fs sn b_code b_len) (hM : ∀ q, q < 96 → b_m q = ma_b (M q)) (hr : r < n) (hx : x < C) (hy : y < C) (I : yj_I (pg_us C n ln) (pg_kk kd) (pg_pp pd fs sn) F b_candidate Ls c (16 * r + 4 * x + y) La mo M)
    (h : ∀ (La' mo' : Prop) (M' : Nat → Prop) (m : Nat → Int32), (∀ q, q < 96 → m q = ma_b (M' q)) → yj_I (pg_us C n ln) (pg_kk kd) (pg_pp pd fs sn) F b_candidate Ls c (16 * r + 4 * x + y + 1) La' mo' M' → J115 (ma_b La') (ma_b mo') (nI (y + 1)) b_facts b_code b_len b_value b_stage b_height b_candidate m b_s b_next b_certain) :
    ∀ (d i f : Nat), 1 ≤ i → i + d = ln r + 1 → d < f → wY_judge_133 post J73 J91 J103 J115 (ma_b La) x2 x3 (ma_b mo) x5 (nI r) (nI x) (nI y) (nI C) (nI U) (nI (U + B)) y_R (nI n) y_draft y_solved b_facts b_code b_len b_value b_stage b_height b_candidate b_m b_s b_next b_certain f (ma_b (yj_t (pg_kk kd) (pg_pp pd fs sn) b_candidate (16 * r + 4 * x + y) i)) (ma_b (yj_s (pg_kk kd) (pg_pp pd fs sn) b_candidate M (16 * r + 4 * x + y) i)) (nI i) := by
  have hC := K.1.2.1
  have hn := K.2.1
  have l3 := K.2.2.1 r (by omega)
  have er : (nI r).toNatClampNeg = r := nI_clamp (by omega)
  have wr : vp_in (nI r) 9 := vp_in_nI (by omega) (by omega)
  have h96 : ∀ s, pg_us C n ln s → pg_pp pd fs sn s < 96 := fun s u => (pg_us_a K u).2.2.2
  intro d
  induction d with
  | zero =>
    intro i f h0 h1 h2
    obtain ⟨f, rfl⟩ : ∃ m, f = m + 1 := ⟨f - 1, by omega⟩
    have e : i = ln r + 1 := by omega
    subst e
    rw [wY_judge_133]
    dsimp only
    rw [er, E.2 r]
    have u : pg_us C n ln (4 * (16 * r + 4 * x + y) + 0) := (pg_us_i (by omega) (by omega) (by omega)).mpr ⟨hr, hx, hy, by omega⟩
    have ep := pg_pp_i (pd := pd) (fs := fs) (sn := sn) (r := r) (x := x) (y := y) (i := 0) (by omega) (by omega) (by omega)
    have p96 : pg_pp pd fs sn (4 * (16 * r + 4 * x + y)) < 96 := h96 _ u
    refine ⟨wr, br_t (nI_lt (by omega) (by omega)) (xa_at (r := r) (i := 0) (x := x) (y := y) K E (by omega) ?_)⟩
    rw [← ep]
    have ec : (nI (pg_pp pd fs sn (4 * (16 * r + 4 * x + y) + 0))).toNatClampNeg = pg_pp pd fs sn (4 * (16 * r + 4 * x + y)) := nI_clamp (show pg_pp pd fs sn (4 * (16 * r + 4 * x + y)) < 2 ^ 31 by omega)
    have et := yj_te (cd := b_candidate) K hr hx hy
    have es := yj_se (cd := b_candidate) (M := M) K hr hx hy
    have last : ∀ L : Int32, L = ma_b (La ∨ ju_li (pg_us C n ln) (pg_kk kd) (pg_pp pd fs sn) b_candidate (16 * r + 4 * x + y)) → wY_judge_276 post J73 J91 J103 J115 L x2 x3 (ma_b mo) x5 (nI r) (nI x) (nI y) (ma_b (yj_s (pg_kk kd) (pg_pp pd fs sn) b_candidate M (16 * r + 4 * x + y) (ln r + 1))) (nI (pg_pp pd fs sn (4 * (16 * r + 4 * x + y)))) (nI C) (nI U) (nI (U + B)) y_R (nI n) y_draft y_solved b_facts b_code b_len b_value b_stage b_height b_candidate b_m b_s b_next b_certain := by
      intro L hL
      rw [hL]
      refine yj_276 p96 hM (fun z => h _ _ M b_m hM (yj_In I u (fun k => z ⟨es.mpr k.1, k.2⟩))) (fun z1 z2 m hm => h _ _ _ m hm (yj_Is I u p96 h96 (es.mp z1).1 (es.mp z1).2 z2))
    rw [ec]
    refine ma_br rfl (fun z => last _ (ma_bc ⟨fun k => Or.inl k, fun k => k.elim id (fun v => absurd (et.mpr v.2) z)⟩)) (fun z => ⟨vp_in_nI p96 (by omega), br_c (fun k => last _ (ma_bc ⟨fun v => Or.inl v, fun v => v.elim id (fun v => absurd k v.1)⟩)) (fun k => last _ (ma_bt (Or.inr ⟨k, et.mp z⟩)).symm)⟩)
  | succ d ih =>
    intro i f h0 h1 h2
    obtain ⟨f, rfl⟩ : ∃ m, f = m + 1 := ⟨f - 1, by omega⟩
    rw [wY_judge_133]
    dsimp only
    rw [er, E.2 r]
    have u : pg_us C n ln (4 * (16 * r + 4 * x + y) + i) := (pg_us_i (by omega) (by omega) (by omega)).mpr ⟨hr, hx, hy, by omega⟩
    have ep := pg_pp_i (pd := pd) (fs := fs) (sn := sn) (r := r) (x := x) (y := y) (i := i) (by omega) (by omega) (by omega)
    have ek : pg_kk kd (4 * (16 * r + 4 * x + y) + i) = kd (4 * r + i) := congrArg kd (pg_c_i (by omega) (by omega) (by omega))
    have p96 := h96 _ u
    refine ⟨wr, br_f (nI_nlt (by omega) (by omega)) (xa_at (r := r) (i := i) (x := x) (y := y) K E (by omega) ?_)⟩
    rw [← ep]
    have ec : (nI (pg_pp pd fs sn (4 * (16 * r + 4 * x + y) + i))).toNatClampNeg = pg_pp pd fs sn (4 * (16 * r + 4 * x + y) + i) := nI_clamp (by omega)
    have wp : vp_in (nI (pg_pp pd fs sn (4 * (16 * r + 4 * x + y) + i))) 96 := vp_in_nI p96 (by omega)
    rw [ec]
    refine ⟨wp, nm_e (xa_neg (r := r) (i := i) K E (by omega) ?_)⟩
    rw [← ek]
    have ih := ih (i + 1) f (by omega) (by omega) (by omega)
    -- the flags behind place i
    have j210 : ∀ (v : Int32) (X9 : Int32), X9 = ma_b (yj_t (pg_kk kd) (pg_pp pd fs sn) b_candidate (16 * r + 4 * x + y) (i + 1)) → (v = 0 ↔ ((pg_kk kd (4 * (16 * r + 4 * x + y) + i) = 2 ∧ b_candidate (pg_pp pd fs sn (4 * (16 * r + 4 * x + y) + i)) = 1) ∨ (¬ pg_kk kd (4 * (16 * r + 4 * x + y) + i) = 2 ∧ b_candidate (pg_pp pd fs sn (4 * (16 * r + 4 * x + y) + i)) = 0))) → wY_judge_210 post J73 J91 J103 J115 (wY_judge_133 post J73 J91 J103 J115 (ma_b La) x2 x3 (ma_b mo) x5 (nI r) (nI x) (nI y) (nI C) (nI U) (nI (U + B)) y_R (nI n) y_draft y_solved b_facts b_code b_len b_value b_stage b_height b_candidate b_m b_s b_next b_certain f) (ma_b La) x2 x3 (ma_b mo) x5 (nI r) (nI x) (nI y) X9 (ma_b (yj_s (pg_kk kd) (pg_pp pd fs sn) b_candidate M (16 * r + 4 * x + y) i)) (nI i) (nI (pg_pp pd fs sn (4 * (16 * r + 4 * x + y) + i))) v (nI C) (nI U) (nI (U + B)) y_R (nI n) y_draft y_solved b_facts b_code b_len b_value b_stage b_height b_candidate b_m b_s b_next b_certain := by
      intro v X9 h9 hv
      have good : ((pg_kk kd (4 * (16 * r + 4 * x + y) + i) = 2 → b_candidate (pg_pp pd fs sn (4 * (16 * r + 4 * x + y) + i)) ≠ 1) ∧ (¬ pg_kk kd (4 * (16 * r + 4 * x + y) + i) = 2 → b_candidate (pg_pp pd fs sn (4 * (16 * r + 4 * x + y) + i)) ≠ 0 ∧ ¬ M (pg_pp pd fs sn (4 * (16 * r + 4 * x + y) + i)))) → wY_judge_133 post J73 J91 J103 J115 (ma_b La) x2 x3 (ma_b mo) x5 (nI r) (nI x) (nI y) (nI C) (nI U) (nI (U + B)) y_R (nI n) y_draft y_solved b_facts b_code b_len b_value b_stage b_height b_candidate b_m b_s b_next b_certain f X9 (ma_b (yj_s (pg_kk kd) (pg_pp pd fs sn) b_candidate M (16 * r + 4 * x + y) i)) (nI (i + 1)) := by
        intro k
        have e : ma_b (yj_s (pg_kk kd) (pg_pp pd fs sn) b_candidate M (16 * r + 4 * x + y) (i + 1)) = ma_b (yj_s (pg_kk kd) (pg_pp pd fs sn) b_candidate M (16 * r + 4 * x + y) i) := ma_bc (yj_f1 (P := fun j => (pg_kk kd (4 * (16 * r + 4 * x + y) + j) = 2 → b_candidate (pg_pp pd fs sn (4 * (16 * r + 4 * x + y) + j)) ≠ 1) ∧ (¬ pg_kk kd (4 * (16 * r + 4 * x + y) + j) = 2 → b_candidate (pg_pp pd fs sn (4 * (16 * r + 4 * x + y) + j)) ≠ 0 ∧ ¬ M (pg_pp pd fs sn (4 * (16 * r + 4 * x + y) + j)))) k h0)
        rw [e, ← h9] at ih
        exact ih
      have bad : ¬ ((pg_kk kd (4 * (16 * r + 4 * x + y) + i) = 2 → b_candidate (pg_pp pd fs sn (4 * (16 * r + 4 * x + y) + i)) ≠ 1) ∧ (¬ pg_kk kd (4 * (16 * r + 4 * x + y) + i) = 2 → b_candidate (pg_pp pd fs sn (4 * (16 * r + 4 * x + y) + i)) ≠ 0 ∧ ¬ M (pg_pp pd fs sn (4 * (16 * r + 4 * x + y) + i)))) → wY_judge_133 post J73 J91 J103 J115 (ma_b La) x2 x3 (ma_b mo) x5 (nI r) (nI x) (nI y) (nI C) (nI U) (nI (U + B)) y_R (nI n) y_draft y_solved b_facts b_code b_len b_value b_stage b_height b_candidate b_m b_s b_next b_certain f X9 0 (nI (i + 1)) := by
        intro k
        have e : ma_b (yj_s (pg_kk kd) (pg_pp pd fs sn) b_candidate M (16 * r + 4 * x + y) (i + 1)) = 0 := ma_bf (yj_f0 (P := fun j => (pg_kk kd (4 * (16 * r + 4 * x + y) + j) = 2 → b_candidate (pg_pp pd fs sn (4 * (16 * r + 4 * x + y) + j)) ≠ 1) ∧ (¬ pg_kk kd (4 * (16 * r + 4 * x + y) + j) = 2 → b_candidate (pg_pp pd fs sn (4 * (16 * r + 4 * x + y) + j)) ≠ 0 ∧ ¬ M (pg_pp pd fs sn (4 * (16 * r + 4 * x + y) + j)))) k h0)
        rw [e, ← h9] at ih
        exact ih
      unfold wY_judge_210
      refine br_c (fun z => nm_r (nI_1 i) (bad (fun k => ?_))) (fun z => xa_neg (r := r) (i := i) K E (by omega) ?_)
      · rcases hv.mp z with w | w
        · exact k.1 w.1 w.2
        · exact (k.2 w.1).1 w.2
      · rw [← ek, ec]
        refine ma_br rfl (fun k => ⟨wp, ma_br (hM _ p96) (fun g => nm_r (nI_1 i) (good ⟨fun w => absurd w k, fun _ => ⟨fun w => z (hv.mpr (Or.inr ⟨k, w⟩)), g⟩⟩)) (fun g => nm_r (nI_1 i) (bad (fun w => (w.2 k).2 g)))⟩) (fun k => nm_r (nI_1 i) (good ⟨fun _ w => z (hv.mpr (Or.inl ⟨k, w⟩)), fun w => absurd k w⟩))
    have j201 : ∀ v : Int32, (v = 1 ↔ ((pg_kk kd (4 * (16 * r + 4 * x + y) + i) = 2 → b_candidate (pg_pp pd fs sn (4 * (16 * r + 4 * x + y) + i)) = 0) ∧ (¬ pg_kk kd (4 * (16 * r + 4 * x + y) + i) = 2 → b_candidate (pg_pp pd fs sn (4 * (16 * r + 4 * x + y) + i)) = 1))) → (v = 0 ↔ ((pg_kk kd (4 * (16 * r + 4 * x + y) + i) = 2 ∧ b_candidate (pg_pp pd fs sn (4 * (16 * r + 4 * x + y) + i)) = 1) ∨ (¬ pg_kk kd (4 * (16 * r + 4 * x + y) + i) = 2 ∧ b_candidate (pg_pp pd fs sn (4 * (16 * r + 4 * x + y) + i)) = 0))) → wY_judge_201 post J73 J91 J103 J115 (wY_judge_133 post J73 J91 J103 J115 (ma_b La) x2 x3 (ma_b mo) x5 (nI r) (nI x) (nI y) (nI C) (nI U) (nI (U + B)) y_R (nI n) y_draft y_solved b_facts b_code b_len b_value b_stage b_height b_candidate b_m b_s b_next b_certain f) (ma_b La) x2 x3 (ma_b mo) x5 (nI r) (nI x) (nI y) (ma_b (yj_t (pg_kk kd) (pg_pp pd fs sn) b_candidate (16 * r + 4 * x + y) i)) (ma_b (yj_s (pg_kk kd) (pg_pp pd fs sn) b_candidate M (16 * r + 4 * x + y) i)) (nI i) (nI (pg_pp pd fs sn (4 * (16 * r + 4 * x + y) + i))) v (nI C) (nI U) (nI (U + B)) y_R (nI n) y_draft y_solved b_facts b_code b_len b_value b_stage b_height b_candidate b_m b_s b_next b_certain := by
      intro v hv1 hv0
      unfold wY_judge_201
      refine br_c (fun z => j210 v _ (ma_bc (yj_f1 (P := fun j => (pg_kk kd (4 * (16 * r + 4 * x + y) + j) = 2 → b_candidate (pg_pp pd fs sn (4 * (16 * r + 4 * x + y) + j)) = 0) ∧ (¬ pg_kk kd (4 * (16 * r + 4 * x + y) + j) = 2 → b_candidate (pg_pp pd fs sn (4 * (16 * r + 4 * x + y) + j)) = 1)) (hv1.mp z) h0).symm) hv0) (fun z => j210 v _ (ma_bf (yj_f0 (P := fun j => (pg_kk kd (4 * (16 * r + 4 * x + y) + j) = 2 → b_candidate (pg_pp pd fs sn (4 * (16 * r + 4 * x + y) + j)) = 0) ∧ (¬ pg_kk kd (4 * (16 * r + 4 * x + y) + j) = 2 → b_candidate (pg_pp pd fs sn (4 * (16 * r + 4 * x + y) + j)) = 1)) (fun k => z (hv1.mpr k)) h0)).symm hv0)
    have d01 : ¬ (0 : Int32) = 1 := by decide
    have d10 : ¬ (1 : Int32) = 0 := by decide
    have d20 : ¬ (2 : Int32) = 0 := by decide
    have d21 : ¬ (2 : Int32) = 1 := by decide
    refine ma_br rfl (fun z => j201 _ ⟨fun k => ⟨fun w => absurd w z, fun _ => k⟩, fun k => k.2 z⟩ ⟨fun k => Or.inr ⟨z, k⟩, fun k => k.elim (fun w => absurd w.1 z) (fun w => w.2)⟩) (fun z => br_c (fun k => j201 1 ⟨fun _ => ⟨fun _ => k, fun w => absurd z w⟩, fun _ => rfl⟩ ⟨fun w => absurd w d10, fun w => ?_⟩) (fun k => br_c (fun g => j201 0 ⟨fun w => absurd w d01, fun w => absurd (w.1 z) k⟩ ⟨fun _ => Or.inl ⟨z, g⟩, fun _ => rfl⟩) (fun g => j201 2 ⟨fun w => absurd w d21, fun w => absurd (w.1 z) k⟩ ⟨fun w => absurd w d20, fun w => ?_⟩)))
    · rcases w with w | w
      · exact absurd (k.symm.trans w.2) d01
      · exact absurd z w.1
    · rcases w with w | w
      · exact absurd w.2 g
      · exact absurd z w.1
theorem yj_115 {post : Int32 → SY → Prop} {J73 J91 J103 : Int32 → Int32 → Int32 → (Nat → Int32) → (Nat → Int32) → (Nat → Int32) → (Nat → Int32) → (Nat → Int32) → (Nat → Int32) → (Nat → Int32) → (Nat → Int32) → (Nat → Int32) → (Nat → Int32) → (Nat → Int32) → Prop} {x2 x3 x5 : Int32} {r x c : Nat} {Ls : Prop} (K : pg_ok C U B n ln kd pd fs sn) (E : xa_cy ln kd pd fs sn b_code b_len) (hr : r < n) (hx : x < C)
    (h : ∀ (La' mo' : Prop) (M' : Nat → Prop) (m : Nat → Int32), (∀ q, q < 96 → m q = ma_b (M' q)) → yj_I (pg_us C n ln) (pg_kk kd) (pg_pp pd fs sn) F b_candidate Ls c (16 * r + 4 * (x + 1)) La' mo' M' → J103 (ma_b La') (ma_b mo') (nI (x + 1)) b_facts b_code b_len b_value b_stage b_height b_candidate m b_s b_next b_certain) :
    ∀ (d y f : Nat) (La mo : Prop) (M : Nat → Prop) (m : Nat → Int32), y + d = C → d < f → (∀ q, q < 96 → m q = ma_b (M q)) → yj_I (pg_us C n ln) (pg_kk kd) (pg_pp pd fs sn) F b_candidate Ls c (16 * r + 4 * x + y) La mo M → wY_judge_115 post J73 J91 J103 x2 x3 x5 (nI r) (nI x) (nI C) (nI U) (nI (U + B)) y_R (nI n) y_draft y_solved f (ma_b La) (ma_b mo) (nI y) b_facts b_code b_len b_value b_stage b_height b_candidate m b_s b_next b_certain := by
  have hC := K.1.2.1
  intro d
  induction d with
  | zero =>
    intro y f La mo M m h1 h2 hM I
    obtain ⟨f, rfl⟩ : ∃ m, f = m + 1 := ⟨f - 1, by omega⟩
    have e : y = C := by omega
    subst e
    rw [wY_judge_115]
    dsimp only
    exact br_t (nI_le (Nat.le_refl _) (by omega)) (nm_r (nI_1 x) (h La mo M m hM (yj_Ik I (by omega) (fun j j1 j2 => ys_n4 (x := x) (by omega) hC j1 j2))))
  | succ d ih =>
    intro y f La mo M m h1 h2 hM I
    obtain ⟨f, rfl⟩ : ∃ m, f = m + 1 := ⟨f - 1, by omega⟩
    rw [wY_judge_115]
    dsimp only
    have e1 : ma_b (yj_t (pg_kk kd) (pg_pp pd fs sn) b_candidate (16 * r + 4 * x + y) 1) = 1 := ma_bt (fun j j1 j2 => by omega)
    have e2 : ma_b (yj_s (pg_kk kd) (pg_pp pd fs sn) b_candidate M (16 * r + 4 * x + y) 1) = 1 := ma_bt (fun j j1 j2 => by omega)
    have k := yj_133 (post := post) (J73 := J73) (J91 := J91) (J103 := J103) (J115 := wY_judge_115 post J73 J91 J103 x2 x3 x5 (nI r) (nI x) (nI C) (nI U) (nI (U + B)) y_R (nI n) y_draft y_solved f) (x2 := x2) (x3 := x3) (x5 := x5) (F := F) (b_facts := b_facts) (b_value := b_value) (b_stage := b_stage) (b_height := b_height) (b_candidate := b_candidate) (b_m := m) (b_s := b_s) (b_next := b_next) (b_certain := b_certain) (y_R := y_R) (y_draft := y_draft) (y_solved := y_solved) K E hM hr hx (by omega) I (fun La' mo' M' m' hM' I' => ih (y + 1) f La' mo' M' m' (by omega) (by omega) hM' I') (ln r) 1 (ln r + 1) (by omega) (by omega) (by omega)
    rw [e1, e2] at k
    exact br_f (nI_ge (by omega) (by omega)) ⟨_, k⟩
theorem yj_103 {post : Int32 → SY → Prop} {J73 J91 : Int32 → Int32 → Int32 → (Nat → Int32) → (Nat → Int32) → (Nat → Int32) → (Nat → Int32) → (Nat → Int32) → (Nat → Int32) → (Nat → Int32) → (Nat → Int32) → (Nat → Int32) → (Nat → Int32) → (Nat → Int32) → Prop} {x2 x3 x5 : Int32} {r c : Nat} {Ls : Prop} (K : pg_ok C U B n ln kd pd fs sn) (E : xa_cy ln kd pd fs sn b_code b_len) (hr : r < n)
    (h : ∀ (La' mo' : Prop) (M' : Nat → Prop) (m : Nat → Int32), (∀ q, q < 96 → m q = ma_b (M' q)) → yj_I (pg_us C n ln) (pg_kk kd) (pg_pp pd fs sn) F b_candidate Ls c (16 * (r + 1)) La' mo' M' → J91 (ma_b La') (ma_b mo') (nI (r + 1)) b_facts b_code b_len b_value b_stage b_height b_candidate m b_s b_next b_certain) :
    ∀ (d x f : Nat) (La mo : Prop) (M : Nat → Prop) (m : Nat → Int32), x + d = C → d < f → (∀ q, q < 96 → m q = ma_b (M q)) → yj_I (pg_us C n ln) (pg_kk kd) (pg_pp pd fs sn) F b_candidate Ls c (16 * r + 4 * x) La mo M → wY_judge_103 post J73 J91 x2 x3 x5 (nI r) (nI C) (nI U) (nI (U + B)) y_R (nI n) y_draft y_solved f (ma_b La) (ma_b mo) (nI x) b_facts b_code b_len b_value b_stage b_height b_candidate m b_s b_next b_certain := by
  have hC := K.1.2.1
  intro d
  induction d with
  | zero =>
    intro x f La mo M m h1 h2 hM I
    obtain ⟨f, rfl⟩ : ∃ m, f = m + 1 := ⟨f - 1, by omega⟩
    have e : x = C := by omega
    subst e
    rw [wY_judge_103]
    dsimp only
    exact br_t (nI_le (Nat.le_refl _) (by omega)) (nm_r (nI_1 r) (h La mo M m hM (yj_Ik I (by omega) (fun j j1 j2 => ys_n16 hC j1 j2))))
  | succ d ih =>
    intro x f La mo M m h1 h2 hM I
    obtain ⟨f, rfl⟩ : ∃ m, f = m + 1 := ⟨f - 1, by omega⟩
    rw [wY_judge_103]
    dsimp only
    refine br_f (nI_ge (by omega) (by omega)) ⟨C + 1, ?_⟩
    exact yj_115 (F := F) (r := r) (x := x) K E hr (by omega) (fun La' mo' M' m' hM' I' => ih (x + 1) f La' mo' M' m' (by omega) (by omega) hM' I') C 0 (C + 1) La mo M m (by omega) (by omega) hM I
theorem yj_91 {post : Int32 → SY → Prop} {J73 : Int32 → Int32 → Int32 → (Nat → Int32) → (Nat → Int32) → (Nat → Int32) → (Nat → Int32) → (Nat → Int32) → (Nat → Int32) → (Nat → Int32) → (Nat → Int32) → (Nat → Int32) → (Nat → Int32) → (Nat → Int32) → Prop} {x2 x3 : Int32} {t c : Nat} {Ls : Prop} (K : pg_ok C U B n ln kd pd fs sn) (E : xa_cy ln kd pd fs sn b_code b_len)
    (h : ∀ (La' mo' : Prop) (M' : Nat → Prop) (m : Nat → Int32), (∀ q, q < 96 → m q = ma_b (M' q)) → yj_I (pg_us C n ln) (pg_kk kd) (pg_pp pd fs sn) F b_candidate Ls c (16 * n) La' mo' M' → J73 (ma_b La') (ma_b mo') (nI (t + 1)) b_facts b_code b_len b_value b_stage b_height b_candidate m b_s b_next b_certain) :
    ∀ (d r f : Nat) (La mo : Prop) (M : Nat → Prop) (m : Nat → Int32), r + d = n → d < f → (∀ q, q < 96 → m q = ma_b (M q)) → yj_I (pg_us C n ln) (pg_kk kd) (pg_pp pd fs sn) F b_candidate Ls c (16 * r) La mo M → wY_judge_91 post J73 x2 x3 (nI t) (nI C) (nI U) (nI (U + B)) y_R (nI n) y_draft y_solved f (ma_b La) (ma_b mo) (nI r) b_facts b_code b_len b_value b_stage b_height b_candidate m b_s b_next b_certain := by
  have hn := K.2.1
  intro d
  induction d with
  | zero =>
    intro r f La mo M m h1 h2 hM I
    obtain ⟨f, rfl⟩ : ∃ m, f = m + 1 := ⟨f - 1, by omega⟩
    have e : r = n := by omega
    subst e
    rw [wY_judge_91]
    dsimp only
    exact br_t (nI_le (Nat.le_refl _) (by omega)) (nm_r (nI_1 t) (h La mo M m hM I))
  | succ d ih =>
    intro r f La mo M m h1 h2 hM I
    obtain ⟨f, rfl⟩ : ∃ m, f = m + 1 := ⟨f - 1, by omega⟩
    rw [wY_judge_91]
    dsimp only
    refine br_f (nI_ge (by omega) (by omega)) ⟨C + 1, ?_⟩
    exact yj_103 (F := F) (r := r) K E (by omega) (fun La' mo' M' m' hM' I' => ih (r + 1) f La' mo' M' m' (by omega) (by omega) hM' I') C 0 (C + 1) La mo M m (by omega) (by omega) hM I
/-- the last look -/
theorem yj_329 {post : Int32 → SY → Prop} {M L : Nat → Prop} {La : Prop} (hM : ∀ q, q < 96 → b_m q = ma_b (M q)) (h : post (ma_if La 0 (ma_if (∃ q, q < 96 ∧ M q ∧ b_candidate q ≠ 0) 1 (ma_if (ju_P b_candidate 96) 2 3))) (nI C, nI U, nI (U + B), y_R, nI n, y_draft, y_solved, b_facts, b_code, b_len, b_value, b_stage, b_height, b_candidate, b_m, b_s, b_next, b_certain)) :
    ∀ (d q f : Nat), q + d = 96 → d < f → wY_judge_329 post (ma_b La) (nI C) (nI U) (nI (U + B)) y_R (nI n) y_draft y_solved b_facts b_code b_len b_value b_stage b_height b_candidate b_m b_s b_next b_certain f (ma_b (∃ q', q' < q ∧ M q' ∧ b_candidate q' ≠ 0)) (ma_b (ju_P b_candidate q)) (nI q) := by
  intro d
  induction d with
  | zero =>
    intro q f h1 h2
    obtain ⟨f, rfl⟩ : ∃ m, f = m + 1 := ⟨f - 1, by omega⟩
    have e : q = 96 := by omega
    subst e
    rw [wY_judge_329]
    dsimp only
    refine br_t (nI_le (a := 96) (by omega) (by omega)) (ma_br rfl (fun z => ma_br rfl (fun y => ma_br rfl (fun x => ?_) (fun x => ?_)) (fun y => ?_)) (fun z => ?_))
    · rw [ma_iff z, ma_iff y, ma_iff x] at h; exact h
    · rw [ma_iff z, ma_iff y, ma_ift x] at h; exact h
    · rw [ma_iff z, ma_ift y] at h; exact h
    · rw [ma_ift z] at h; exact h
  | succ d ih =>
    intro q f h1 h2
    obtain ⟨f, rfl⟩ : ∃ m, f = m + 1 := ⟨f - 1, by omega⟩
    have eq : (nI q).toNatClampNeg = q := nI_clamp (by omega)
    have wq : vp_in (nI q) 96 := vp_in_nI (by omega) (by omega)
    have ih := ih (q + 1) f (by omega) (by omega)
    have nx : ∀ X2 : Int32, X2 = ma_b (∃ q', q' < q + 1 ∧ M q' ∧ b_candidate q' ≠ 0) → wY_judge_358 post (wY_judge_329 post (ma_b La) (nI C) (nI U) (nI (U + B)) y_R (nI n) y_draft y_solved b_facts b_code b_len b_value b_stage b_height b_candidate b_m b_s b_next b_certain f) (ma_b La) X2 (ma_b (ju_P b_candidate q)) (nI q) (nI C) (nI U) (nI (U + B)) y_R (nI n) y_draft y_solved b_facts b_code b_len b_value b_stage b_height b_candidate b_m b_s b_next b_certain := by
      intro X2 hX
      unfold wY_judge_358
      rw [eq]
      refine ⟨wq, br_c (fun z => nm_r (nI_1 q) ?_) (fun z => nm_r (nI_1 q) ?_)⟩
      · have e : ma_b (ju_P b_candidate (q + 1)) = 1 := ma_bt ⟨q, by omega, z⟩
        rw [e, ← hX] at ih
        exact ih
      · have e : ma_b (ju_P b_candidate (q + 1)) = ma_b (ju_P b_candidate q) := by
          refine ma_bc ⟨?_, ?_⟩
          · rintro ⟨q', z1, z2⟩
            by_cases c : q' = q
            · subst c; exact absurd z2 z
            · exact ⟨q', by omega, z2⟩
          · rintro ⟨q', z1, z2⟩
            exact ⟨q', by omega, z2⟩
        rw [e, ← hX] at ih
        exact ih
    have same : ¬ (M q ∧ b_candidate q ≠ 0) → ma_b (∃ q', q' < q ∧ M q' ∧ b_candidate q' ≠ 0) = ma_b (∃ q', q' < q + 1 ∧ M q' ∧ b_candidate q' ≠ 0) := by
      intro c
      refine ma_bc ⟨?_, ?_⟩
      · rintro ⟨q', z1, z2⟩
        exact ⟨q', by omega, z2⟩
      · rintro ⟨q', z1, z2⟩
        by_cases z : q' = q
        · subst z; exact absurd z2 c
        · exact ⟨q', by omega, z2⟩
    rw [wY_judge_329]
    dsimp only
    rw [eq]
    refine br_f (nI_ge (b := 96) (by omega) (by omega)) ⟨wq, ma_br (hM q (by omega)) (fun z => nx _ (same (fun c => z c.1))) (fun z => ⟨wq, br_c (fun y => nx _ (same (fun c => c.2 y))) (fun y => nx _ (ma_bt ⟨q, by omega, z, y⟩).symm)⟩)⟩
/-- the sweeps behind the first -/
theorem yj_73 {post : Int32 → SY → Prop} (K : pg_ok C U B n ln kd pd fs sn) (E : xa_cy ln kd pd fs sn b_code b_len)
    (h : ∀ m : Nat → Int32, post (ju_a (pg_us C n ln) (pg_kk kd) (pg_pp pd fs sn) F b_candidate 96) (nI C, nI U, nI (U + B), y_R, nI n, y_draft, y_solved, b_facts, b_code, b_len, b_value, b_stage, b_height, b_candidate, m, b_s, b_next, b_certain)) :
    ∀ (d t f : Nat) (mo : Prop) (M : Nat → Prop) (m : Nat → Int32), t + d = 97 → d < f → (∀ q, q < 96 → m q = ma_b (M q)) → (∀ q, q < 96 → ¬ M q → ju_G (pg_us C n ln) (pg_kk kd) (pg_pp pd fs sn) F b_candidate q) → (∀ q, q < 96 → F q → ¬ M q) → (mo → ma_cn M 96 + t ≤ 96) → (¬ mo → ∀ q, q < 96 → (M q ↔ ¬ ju_G (pg_us C n ln) (pg_kk kd) (pg_pp pd fs sn) F b_candidate q)) → wY_judge_73 post 0 0 (nI C) (nI U) (nI (U + B)) y_R (nI n) y_draft y_solved f (ma_b (ju_L (pg_us C n ln) (pg_kk kd) (pg_pp pd fs sn) F b_candidate 96)) (ma_b mo) (nI t) b_facts b_code b_len b_value b_stage b_height b_candidate m b_s b_next b_certain := by
  have h96 : ∀ s, pg_us C n ln s → pg_pp pd fs sn s < 96 := fun s u => (pg_us_a K u).2.2.2
  have fin : ∀ (M : Nat → Prop) (m : Nat → Int32), (∀ q, q < 96 → m q = ma_b (M q)) → (∀ q, q < 96 → (M q ↔ ¬ ju_G (pg_us C n ln) (pg_kk kd) (pg_pp pd fs sn) F b_candidate q)) → ∃ f, wY_judge_329 post (ma_b (ju_L (pg_us C n ln) (pg_kk kd) (pg_pp pd fs sn) F b_candidate 96)) (nI C) (nI U) (nI (U + B)) y_R (nI n) y_draft y_solved b_facts b_code b_len b_value b_stage b_height b_candidate m b_s b_next b_certain f 0 0 0 := by
    intro M m hM hG
    have k := yj_329 (post := post) (M := M) (L := M) (La := ju_L (pg_us C n ln) (pg_kk kd) (pg_pp pd fs sn) F b_candidate 96) (C := C) (U := U) (B := B) (n := n) (y_R := y_R) (y_draft := y_draft) (y_solved := y_solved) (b_facts := b_facts) (b_code := b_code) (b_len := b_len) (b_value := b_value) (b_stage := b_stage) (b_height := b_height) (b_candidate := b_candidate) (b_m := m) (b_s := b_s) (b_next := b_next) (b_certain := b_certain) hM ?_ 96 0 97 (by omega) (by omega)
    · rw [ma_bf (p := ∃ q', q' < 0 ∧ M q' ∧ b_candidate q' ≠ 0) (by rintro ⟨q', z, _⟩; omega), ma_bf (p := ju_P b_candidate 0) (by rintro ⟨q', z, _⟩; omega)] at k
      exact ⟨97, k⟩
    · have e : (∃ q, q < 96 ∧ M q ∧ b_candidate q ≠ 0) ↔ ju_B (pg_us C n ln) (pg_kk kd) (pg_pp pd fs sn) F b_candidate 96 := by
        constructor
        · rintro ⟨q, z1, z2, z3⟩
          exact ⟨q, z1, (hG q z1).mp z2, z3⟩
        · rintro ⟨q, z1, z2, z3⟩
          exact ⟨q, z1, (hG q z1).mpr z2, z3⟩
      rw [propext e]
      exact h m
  intro d
  induction d with
  | zero =>
    intro t f mo M m h1 h2 hM I1 I2 I3 I4
    obtain ⟨f, rfl⟩ : ∃ m, f = m + 1 := ⟨f - 1, by omega⟩
    rw [wY_judge_73]
    dsimp only
    exact br_t (nI_lt (a := 96) (by omega) (by omega)) (fin M m hM (I4 (fun z => by have := I3 z; omega)))
  | succ d ih =>
    intro t f mo M m h1 h2 hM I1 I2 I3 I4
    obtain ⟨f, rfl⟩ : ∃ m, f = m + 1 := ⟨f - 1, by omega⟩
    rw [wY_judge_73]
    dsimp only
    refine br_f (nI_nlt (a := 96) (by omega) (by omega)) (ma_br rfl (fun z => fin M m hM (I4 z)) (fun z => ⟨n + 1, ?_⟩))
    have k := yj_91 (post := post) (J73 := wY_judge_73 post 0 0 (nI C) (nI U) (nI (U + B)) y_R (nI n) y_draft y_solved f) (x2 := 0) (x3 := 0) (t := t) (F := F) (Ls := ju_L (pg_us C n ln) (pg_kk kd) (pg_pp pd fs sn) F b_candidate 96) (c := ma_cn M 96) (b_facts := b_facts) (b_value := b_value) (b_stage := b_stage) (b_height := b_height) (b_candidate := b_candidate) (b_s := b_s) (b_next := b_next) (b_certain := b_certain) (y_R := y_R) (y_draft := y_draft) (y_solved := y_solved) K E (fun La' mo' M' m' hM' I' => ?_) n 0 (n + 1) (ju_L (pg_us C n ln) (pg_kk kd) (pg_pp pd fs sn) F b_candidate 96) False M m (by omega) (by omega) hM ⟨⟨fun w => Or.inl w, fun w => w.elim id (fun ⟨j, w, _⟩ => by omega)⟩, I1, I2, fun _ j w => by omega, Nat.le_refl _, fun w => w.elim⟩
    · rw [ma_F] at k
      exact k
    · have eL : ma_b La' = ma_b (ju_L (pg_us C n ln) (pg_kk kd) (pg_pp pd fs sn) F b_candidate 96) := by
        refine ma_bc (I'.1.trans ⟨?_, fun w => Or.inl w⟩)
        rintro (w | ⟨j, _, w⟩)
        · exact w
        · exact Or.inr ⟨j, w⟩
      rw [eL]
      refine ih (t + 1) f mo' M' m' (by omega) (by omega) hM' I'.2.1 I'.2.2.1 (fun w => ?_) (fun w => yj_Ie I' w (fun j u => ?_) h96)
      · have a1 := I3 z
        have a2 := I'.2.2.2.2.2 w
        omega
      · have := u.1
        omega
theorem yj_12 {post : Int32 → SY → Prop} (hF : ∀ q, q < 96 → b_facts q = ma_b (F q))
    (h : ∀ m : Nat → Int32, (∀ q, q < 96 → m q = ma_b (¬ F q)) → ∃ f, wY_judge_73 post 0 0 (nI C) (nI U) (nI (U + B)) y_R (nI n) y_draft y_solved f (ma_b (∃ q, q < 96 ∧ F q ∧ b_candidate q ≠ 1)) 1 0 b_facts b_code b_len b_value b_stage b_height b_candidate m b_s b_next b_certain) :
    ∀ (d q f : Nat) (m : Nat → Int32), q + d = 96 → d < f → (∀ q', q' < q → m q' = ma_b (¬ F q')) → wY_judge_12 post 0 0 1 (nI C) (nI U) (nI (U + B)) y_R (nI n) y_draft y_solved f (ma_b (∃ q', q' < q ∧ F q' ∧ b_candidate q' ≠ 1)) (nI q) b_facts b_code b_len b_value b_stage b_height b_candidate m b_s b_next b_certain := by
  intro d
  induction d with
  | zero =>
    intro q f m h1 h2 I
    obtain ⟨f, rfl⟩ : ∃ m, f = m + 1 := ⟨f - 1, by omega⟩
    have e : q = 96 := by omega
    subst e
    rw [wY_judge_12]
    dsimp only
    exact br_t (nI_le (a := 96) (by omega) (by omega)) (h m I)
  | succ d ih =>
    intro q f m h1 h2 I
    obtain ⟨f, rfl⟩ : ∃ m, f = m + 1 := ⟨f - 1, by omega⟩
    have eq : (nI q).toNatClampNeg = q := nI_clamp (by omega)
    have wq : vp_in (nI q) 96 := vp_in_nI (by omega) (by omega)
    have nx : ∀ X1 : Int32, X1 = ma_b (∃ q', q' < q + 1 ∧ F q' ∧ b_candidate q' ≠ 1) → wY_judge_42 post (wY_judge_12 post 0 0 1 (nI C) (nI U) (nI (U + B)) y_R (nI n) y_draft y_solved f) X1 0 0 1 (nI q) (nI C) (nI U) (nI (U + B)) y_R (nI n) y_draft y_solved b_facts b_code b_len b_value b_stage b_height b_candidate m b_s b_next b_certain := by
      intro X1 hX
      unfold wY_judge_42
      rw [eq, ma_n0, ma_n1, hX]
      have st : ∀ v : Int32, v = ma_b (¬ F q) → ∀ q', q' < q + 1 → upd m q v q' = ma_b (¬ F q') := by
        intro v hv q' hq'
        by_cases c : q' = q
        · rw [c, pk_us, hv]
        · rw [pk_un c]; exact I q' (by omega)
      refine ⟨wq, ma_br (hF q (by omega)) (fun z => ⟨wq, nm_e (nm_r (nI_1 q) (ih (q + 1) f _ (by omega) (by omega) (st 1 (ma_bt z).symm)))⟩) (fun z => ⟨wq, nm_e (nm_r (nI_1 q) (ih (q + 1) f _ (by omega) (by omega) (st 0 (ma_bf (fun w => w z)).symm)))⟩)⟩
    have same : ¬ (F q ∧ b_candidate q ≠ 1) → ma_b (∃ q', q' < q ∧ F q' ∧ b_candidate q' ≠ 1) = ma_b (∃ q', q' < q + 1 ∧ F q' ∧ b_candidate q' ≠ 1) := by
      intro c
      refine ma_bc ⟨?_, ?_⟩
      · rintro ⟨q', z1, z2⟩
        exact ⟨q', by omega, z2⟩
      · rintro ⟨q', z1, z2⟩
        by_cases z : q' = q
        · subst z; exact absurd z2 c
        · exact ⟨q', by omega, z2⟩
    rw [wY_judge_12]
    dsimp only
    rw [eq]
    refine br_f (nI_ge (b := 96) (by omega) (by omega)) ⟨wq, ma_br (hF q (by omega)) (fun z => nx _ (same (fun c => z c.1))) (fun z => ⟨wq, br_c (fun y => nx _ (same (fun c => c.2 y))) (fun y => nx _ (ma_bt ⟨q, by omega, z, y⟩).symm)⟩)⟩
/-- judge -/
theorem yj_judge {post : Int32 → SY → Prop} (K : pg_ok C U B n ln kd pd fs sn) (E : xa_cy ln kd pd fs sn b_code b_len) (hF : ∀ q, q < 96 → b_facts q = ma_b (F q))
    (h : ∀ m : Nat → Int32, post (ju_a (pg_us C n ln) (pg_kk kd) (pg_pp pd fs sn) F b_candidate 96) (nI C, nI U, nI (U + B), y_R, nI n, y_draft, y_solved, b_facts, b_code, b_len, b_value, b_stage, b_height, b_candidate, m, b_s, b_next, b_certain)) : wpY_judge post (nI C, nI U, nI (U + B), y_R, nI n, y_draft, y_solved, b_facts, b_code, b_len, b_value, b_stage, b_height, b_candidate, b_m, b_s, b_next, b_certain) := by
  have h96 : ∀ s, pg_us C n ln s → pg_pp pd fs sn s < 96 := fun s u => (pg_us_a K u).2.2.2
  have k := yj_12 (post := post) (F := F) (C := C) (U := U) (B := B) (n := n) (y_R := y_R) (y_draft := y_draft) (y_solved := y_solved) (b_facts := b_facts) (b_code := b_code) (b_len := b_len) (b_value := b_value) (b_stage := b_stage) (b_height := b_height) (b_candidate := b_candidate) (b_s := b_s) (b_next := b_next) (b_certain := b_certain) hF (fun m I => ⟨98, ?_⟩) 96 0 97 b_m (by omega) (by omega) (fun q' hq' => by omega)
  · rw [ma_bf (p := ∃ q', q' < 0 ∧ F q' ∧ b_candidate q' ≠ 1) (by rintro ⟨q', z, _⟩; omega)] at k
    exact ⟨97, k⟩
  · rw [wY_judge_73]
    dsimp only
    refine br_f (by decide) (br_f (by decide) ⟨n + 1, ?_⟩)
    have k := yj_91 (post := post) (J73 := wY_judge_73 post 0 0 (nI C) (nI U) (nI (U + B)) y_R (nI n) y_draft y_solved 97) (x2 := 0) (x3 := 0) (t := 0) (F := F) (Ls := ∃ q, q < 96 ∧ F q ∧ b_candidate q ≠ 1) (c := ma_cn (fun q => ¬ F q) 96) (b_facts := b_facts) (b_value := b_value) (b_stage := b_stage) (b_height := b_height) (b_candidate := b_candidate) (b_s := b_s) (b_next := b_next) (b_certain := b_certain) (y_R := y_R) (y_draft := y_draft) (y_solved := y_solved) K E (fun La' mo' M' m' hM' I' => ?_) n 0 (n + 1) (∃ q, q < 96 ∧ F q ∧ b_candidate q ≠ 1) False (fun q => ¬ F q) m (by omega) (by omega) I ⟨⟨fun w => Or.inl w, fun w => w.elim id (fun ⟨j, w, _⟩ => by omega)⟩, fun q hq w => ?_, fun q hq w y => y w, fun _ j w => by omega, Nat.le_refl _, fun w => w.elim⟩
    · rw [ma_F] at k
      exact k
    · have eL : ma_b La' = ma_b (ju_L (pg_us C n ln) (pg_kk kd) (pg_pp pd fs sn) F b_candidate 96) := by
        refine ma_bc (I'.1.trans ⟨?_, ?_⟩)
        · rintro (w | ⟨j, _, w⟩)
          · exact Or.inl w
          · exact Or.inr ⟨j, w⟩
        · rintro (w | ⟨j, w1, w2⟩)
          · exact Or.inl w
          · exact Or.inr ⟨j, by have := w1.1; omega, w1, w2⟩
      rw [eL]
      refine yj_73 (F := F) K E h 96 1 97 mo' M' m' (by omega) (by omega) hM' I'.2.1 I'.2.2.1 (fun w => ?_) (fun w => yj_Ie I' w (fun j u => ?_) h96)
      · have a1 := ma_cn_le (fun q => ¬ F q) 96
        have a2 := I'.2.2.2.2.2 w
        omega
      · have := u.1
        omega
    · refine ma_G_F ?_
      by_cases y : F q
      · exact y
      · exact absurd y w
end Y
end
section
/-! witness and reason -/
def wi_lit (kk pp : Nat → Nat) (V St Hh : Nat → Int32) (k h : Int32) (s : Nat) : Prop := (kk s = 2 → V (pp s) = 0 ∧ ¬ k < St (pp s)) ∧ (¬ kk s = 2 → V (pp s) = 1 ∧ (St (pp s) < k ∨ (St (pp s) = k ∧ ¬ h ≤ Hh (pp s))))
def wi_sup (us : Nat → Prop) (kk pp : Nat → Nat) (V St Hh : Nat → Int32) (q m : Nat) : Prop := us (4 * m) ∧ pp (4 * m) = q ∧ ∀ i, 1 ≤ i → i ≤ 3 → us (4 * m + i) → wi_lit kk pp V St Hh (St q) (Hh q) (4 * m + i)
def wi_ans (P : Nat → Prop) (r : Int32) : Prop := (∃ m, P m ∧ (∀ j, j < m → ¬ P j) ∧ r = nI m) ∨ ((∀ m, ¬ P m) ∧ r = -6)
theorem wi_u {P : Nat → Prop} {r r' : Int32} (h : wi_ans P r) (h' : wi_ans P r') : r' = r := by
  rcases h with ⟨m, h1, h2, h3⟩ | ⟨h1, h2⟩
  · rcases h' with ⟨m', k1, k2, k3⟩ | ⟨k1, k2⟩
    · have : m = m' := by
        by_cases a : m < m'
        · exact absurd h1 (k2 m a)
        · by_cases b : m' < m
          · exact absurd k1 (h2 m' b)
          · omega
      rw [h3, k3, this]
    · exact absurd h1 (k1 m)
  · rcases h' with ⟨m', k1, k2, k3⟩ | ⟨k1, k2⟩
    · exact absurd k1 (h1 m')
    · rw [h2, k2]
def re_b (kk pp : Nat → Nat) (V St : Nat → Int32) (k : Int32) (s : Nat) : Prop := (kk s = 2 ∧ V (pp s) = 1 ∧ ¬ k ≤ St (pp s)) ∨ (¬ kk s = 2 ∧ V (pp s) = 0 ∧ ¬ k < St (pp s))
def re_ans (l : Nat) (P : Nat → Prop) (r : Int32) : Prop := (∃ i, 1 ≤ i ∧ i ≤ l ∧ P i ∧ (∀ j, 1 ≤ j → j < i → ¬ P j) ∧ r = nI i) ∨ ((∀ i, 1 ≤ i → i ≤ l → ¬ P i) ∧ r = 0)
theorem re_u {l : Nat} {P : Nat → Prop} {r r' : Int32} (h : re_ans l P r) (h' : re_ans l P r') : r' = r := by
  rcases h with ⟨m, h0, h0', h1, h2, h3⟩ | ⟨h1, h2⟩
  · rcases h' with ⟨m', k0, k0', k1, k2, k3⟩ | ⟨k1, k2⟩
    · have : m = m' := by
        by_cases a : m < m'
        · exact absurd h1 (k2 m h0 a)
        · by_cases b : m' < m
          · exact absurd k1 (h2 m' k0 b)
          · omega
      rw [h3, k3, this]
    · exact absurd h1 (k1 m h0 h0')
  · rcases h' with ⟨m', k0, k0', k1, k2, k3⟩ | ⟨k1, k2⟩
    · exact absurd k1 (h1 m' k0 k0')
    · rw [h2, k2]
/-- the two numberings support alike -/
theorem wi_tr {N n : Nat} {us : Nat → Prop} {kk aa pp w : Nat → Nat} {V St Hh : Nat → Int32} (O : xm_ok N n us kk aa pp w) {t : Nat} (ht : t < N) (m : Nat) : wi_sup us kk aa (fun a => V (w a)) (fun a => St (w a)) (fun a => Hh (w a)) t m ↔ wi_sup us kk pp V St Hh (w t) m := by
  obtain ⟨hn, hN, h0, hu, hk2, hS, hA, hp, hw, h96⟩ := O
  constructor
  · rintro ⟨h1, h2, h3⟩
    refine ⟨h1, by rw [hp _ h1, h2], fun i i1 i2 i3 => ?_⟩
    have := h3 i i1 i2 i3
    unfold wi_lit
    rw [hp _ i3]
    exact this
  · rintro ⟨h1, h2, h3⟩
    rw [hp _ h1] at h2
    refine ⟨h1, hw _ _ (hA _ h1) ht h2, fun i i1 i2 i3 => ?_⟩
    have := h3 i i1 i2 i3
    unfold wi_lit at this
    rw [hp _ i3] at this
    exact this
section X
variable {N n : Nat} {us : Nat → Prop} {kk aa pp w : Nat → Nat} {V St Hh : Nat → Int32}
variable {f_kindHead f_kindPositive f_kindNegated f_draftRow f_constants f_unary f_binary f_maxRules f_atoms f_ruleCount f_hasDraft f_grounded f_hasModel f_tail : Int32} {a_isFactAtom a_candidate a_bodyLength a_cellKind a_cellPred a_cellFirst a_cellSecond a_groundAtom a_groundKind a_positives a_start a_cursor a_occurrence a_value a_stage a_height a_reached a_depth a_queue a_missing a_blocked : Nat → Int32}
theorem xw_lb {post : Int32 → Prop} {s : Nat} {k h : Int32} (O : xm_ok N n us kk aa pp w) (g1 : ∀ s, s < 64 * n → us s → a_groundAtom s = nI (aa s) ∧ a_groundKind s = nI (kk s)) (hV : ∀ a, a < N → a_value a = V a ∧ a_stage a = St a ∧ a_height a = Hh a) (u : us s) (hp : post (ma_b (wi_lit kk aa V St Hh k h s))) : wpX_literalBefore post (f_kindHead, f_kindPositive, f_kindNegated, f_draftRow, f_constants, f_unary, f_binary, f_maxRules, nI N, nI n, f_hasDraft, f_grounded, f_hasModel, f_tail, a_isFactAtom, a_candidate, a_bodyLength, a_cellKind, a_cellPred, a_cellFirst, a_cellSecond, a_groundAtom, a_groundKind, a_positives, a_start, a_cursor, a_occurrence, a_value, a_stage, a_height, a_reached, a_depth, a_queue, a_missing, a_blocked) (nI s) k h := by
  obtain ⟨hn, hN, h0, hu, hk2, hS, hA, _, hw, h96⟩ := O
  have hs := hS s u
  have ha := hA s u
  have hk := hk2 s u
  have es : (nI s).toNatClampNeg = s := nI_clamp (by omega)
  have ws : vp_in (nI s) 512 := vp_in_nI (by omega) (by omega)
  have ea : (nI (aa s)).toNatClampNeg = aa s := nI_clamp (by omega)
  have wa : vp_in (nI (aa s)) 48 := vp_in_nI (by omega) (by omega)
  obtain ⟨v1, v2, v3⟩ := hV (aa s) ha
  obtain ⟨c1, c2⟩ := g1 s hs u
  have yes : wi_lit kk aa V St Hh k h s → post 1 := by
    intro z
    rw [ma_bt z] at hp
    exact hp
  have no : ¬ wi_lit kk aa V St Hh k h s → post 0 := by
    intro z
    rw [ma_bf z] at hp
    exact hp
  unfold wpX_literalBefore
  dsimp only
  rw [es, c1, c2]
  refine ⟨ws, nm_e ⟨ws, ?_⟩⟩
  rw [ea, v1, v2, v3]
  refine pk_eq (kk s) 2 (fun z => ⟨wa, br_c (fun y => ⟨wa, br_c (fun x => no (fun g => (g.1 z).2 x)) (fun x => yes ⟨fun _ => ⟨y, x⟩, fun g => absurd z g⟩)⟩) (fun y => no (fun g => y (g.1 z).1))⟩) (fun z => ⟨wa, br_c (fun y => ⟨wa, br_c (fun x => yes ⟨fun g => absurd g z, fun _ => ⟨y, Or.inl x⟩⟩) (fun x => ⟨wa, br_c (fun v => ⟨wa, br_c (fun f => no (fun g => ?_)) (fun f => yes ⟨fun g => absurd g z, fun _ => ⟨y, Or.inr ⟨v, f⟩⟩⟩)⟩) (fun v => no (fun g => ?_))⟩)⟩) (fun y => no (fun g => y (g.2 z).1))⟩)
  · rcases (g.2 z).2 with g | g
    · exact x g
    · exact g.2 f
  · rcases (g.2 z).2 with g | g
    · exact x g
    · exact v g.1
theorem xw_su {post : Int32 → Prop} {m : Nat} {k h : Int32} (O : xm_ok N n us kk aa pp w) (g1 : ∀ s, s < 64 * n → us s → a_groundAtom s = nI (aa s) ∧ a_groundKind s = nI (kk s)) (g2 : ∀ s, s < 64 * n → ¬ us s → a_groundAtom s = -1) (hV : ∀ a, a < N → a_value a = V a ∧ a_stage a = St a ∧ a_height a = Hh a) (hm : m < 16 * n) (hp : post (ma_b (∀ i, 1 ≤ i → i ≤ 3 → us (4 * m + i) → wi_lit kk aa V St Hh k h (4 * m + i)))) : wpX_supports post (f_kindHead, f_kindPositive, f_kindNegated, f_draftRow, f_constants, f_unary, f_binary, f_maxRules, nI N, nI n, f_hasDraft, f_grounded, f_hasModel, f_tail, a_isFactAtom, a_candidate, a_bodyLength, a_cellKind, a_cellPred, a_cellFirst, a_cellSecond, a_groundAtom, a_groundKind, a_positives, a_start, a_cursor, a_occurrence, a_value, a_stage, a_height, a_reached, a_depth, a_queue, a_missing, a_blocked) (nI m) k h := by
  have O' := O
  obtain ⟨hn, hN, h0, hu, hk2, hS, hA, _, hw, h96⟩ := O'
  have key : ∀ (d i f : Nat), 1 ≤ i → i + d = 4 → d < f → (∀ j, 1 ≤ j → j < i → us (4 * m + j) → wi_lit kk aa V St Hh k h (4 * m + j)) → wX_supports_3 post (nI m) k h f_kindHead f_kindPositive f_kindNegated f_draftRow f_constants f_unary f_binary f_maxRules (nI N) (nI n) f_hasDraft f_grounded f_hasModel f_tail a_isFactAtom a_candidate a_bodyLength a_cellKind a_cellPred a_cellFirst a_cellSecond a_groundAtom a_groundKind a_positives a_start a_cursor a_occurrence a_value a_stage a_height a_reached a_depth a_queue a_missing a_blocked f (nI i) := by
    intro d
    induction d with
    | zero =>
      intro i f i1 h1 h2 I
      obtain ⟨f, rfl⟩ : ∃ m, f = m + 1 := ⟨f - 1, by omega⟩
      rw [wX_supports_3]
      dsimp only
      refine br_t (nI_lt (a := 3) (by omega) (by omega)) ?_
      rw [ma_bt (fun j j1 j2 => I j j1 (by omega))] at hp
      exact hp
    | succ d ih =>
      intro i f i1 h1 h2 I
      obtain ⟨f, rfl⟩ : ∃ m, f = m + 1 := ⟨f - 1, by omega⟩
      rw [wX_supports_3]
      dsimp only
      have es : 4 * nI m + nI i = nI (4 * m + i) := by rw [← nI_add, ← pk_mul]; rfl
      have esc : (nI (4 * m + i)).toNatClampNeg = 4 * m + i := nI_clamp (by omega)
      have ws : vp_in (nI (4 * m + i)) 512 := vp_in_nI (by omega) (by omega)
      refine br_f (nI_nlt (a := 3) (by omega) (by omega)) (nm_r (e' := nI (4 * m + i)) es ⟨ws, ?_⟩)
      rw [esc]
      by_cases u : us (4 * m + i)
      · obtain ⟨c1, c2⟩ := g1 _ (by omega) u
        have hb := hA _ u
        refine br_f (by rw [c1]; exact nI_pos (by omega)) (xw_lb O g1 hV u (ma_br rfl (fun z => ?_) (fun z => nm_r (nI_1 i) (ih (i + 1) f (by omega) (by omega) (by omega) (fun j j1 j2 u' => ?_)))))
        · rw [ma_bf (fun y => z (y i i1 (by omega) u))] at hp
          exact hp
        · by_cases c : j = i
          · subst c; exact z
          · exact I j j1 (by omega) u'
      · refine br_t (by rw [g2 _ (by omega) u]; decide) (nm_r (nI_1 i) (ih (i + 1) f (by omega) (by omega) (by omega) (fun j j1 j2 u' => ?_)))
        by_cases c : j = i
        · subst c; exact absurd u' u
        · exact I j j1 (by omega) u'
  exact ⟨4, key 3 1 4 (by omega) (by omega) (by omega) (fun j j1 j2 => by omega)⟩
theorem xw_71 {post : Int32 → Prop} {t E : Nat} (O : xm_ok N n us kk aa pp w) (g1 : ∀ s, s < 64 * n → us s → a_groundAtom s = nI (aa s) ∧ a_groundKind s = nI (kk s)) (g2 : ∀ s, s < 64 * n → ¬ us s → a_groundAtom s = -1) (hV : ∀ a, a < N → a_value a = V a ∧ a_stage a = St a ∧ a_height a = Hh a) (ht : t < N) (hE : a_start (3 * t + 1) = nI E) (hE5 : E ≤ 512) (h : ∀ r, wi_ans (wi_sup us kk aa V St Hh t) r → post r) :
    ∀ (l : List Nat) (e f : Nat), gr_at a_occurrence e l → e + l.length = E → l.length < f → l.Pairwise (fun a b => a < b) → (∀ s, s ∈ l → us s ∧ s % 4 = 0 ∧ aa s = t) → (∀ m, wi_sup us kk aa V St Hh t m → 4 * m ∈ l) → wX_witness_71 post (nI t) (nI (3 * t)) f_kindHead f_kindPositive f_kindNegated f_draftRow f_constants f_unary f_binary f_maxRules (nI N) (nI n) f_hasDraft f_grounded f_hasModel f_tail a_isFactAtom a_candidate a_bodyLength a_cellKind a_cellPred a_cellFirst a_cellSecond a_groundAtom a_groundKind a_positives a_start a_cursor a_occurrence a_value a_stage a_height a_reached a_depth a_queue a_missing a_blocked f (nI e) := by
  have O' := O
  obtain ⟨hn, hN, h0, hu, hk2, hS, hA, _, hw, h96⟩ := O'
  have ek : nI (3 * t) + 1 = nI (3 * t + 1) := nI_1 _
  have ekc : (nI (3 * t + 1)).toNatClampNeg = 3 * t + 1 := nI_clamp (by omega)
  have wk : vp_in (nI (3 * t + 1)) 145 := vp_in_nI (by omega) (by omega)
  have et : (nI t).toNatClampNeg = t := nI_clamp (by omega)
  have wt : vp_in (nI t) 48 := vp_in_nI (by omega) (by omega)
  obtain ⟨v1, v2, v3⟩ := hV t ht
  intro l
  induction l with
  | nil =>
    intro e f o1 o2 o3 o4 o5 I
    obtain ⟨f, rfl⟩ : ∃ m, f = m + 1 := ⟨f - 1, by omega⟩
    rw [wX_witness_71]
    dsimp only
    rw [ek, ekc, hE]
    have o2 : e = E := o2
    subst o2
    exact ⟨wk, br_t (nI_le (Nat.le_refl _) (by omega)) (h _ (Or.inr ⟨fun m z => absurd (I m z) List.not_mem_nil, rfl⟩))⟩
  | cons s l ih =>
    intro e f o1 o2 o3 o4 o5 I
    obtain ⟨f, rfl⟩ : ∃ m, f = m + 1 := ⟨f - 1, by omega⟩
    rw [List.length_cons] at o2 o3
    obtain ⟨p1, p2⟩ := List.pairwise_cons.mp o4
    obtain ⟨r1, r2⟩ := o1
    obtain ⟨u1, u2, u3⟩ := o5 s List.mem_cons_self
    have s5 := hS s u1
    have e4 : 4 * (s / 4) = s := by omega
    have ee : (nI e).toNatClampNeg = e := nI_clamp (by omega)
    have esh : nI s >>> ((2 : Int32) &&& 31) = nI (s / 4) := pk_shrN (by omega) _ 2 (by decide)
    rw [wX_witness_71]
    dsimp only
    rw [ek, ekc, hE, ee, r1, et, v2, v3]
    refine ⟨wk, br_f (nI_ge (by omega) (by omega)) ⟨vp_in_nI (by omega) (by omega), nm_r (e' := nI (s / 4)) esh ⟨wt, wt, ?_⟩⟩⟩
    refine xw_su (V := V) (St := St) (Hh := Hh) O g1 g2 hV (by omega) (ma_br rfl (fun z => nm_r (nI_1 e) (ih (e + 1) f r2 (by omega) (by omega) p2 (fun x hx => o5 x (List.mem_cons_of_mem _ hx)) (fun m hm => ?_))) (fun z => h _ (Or.inl ⟨s / 4, ⟨by rw [e4]; exact u1, by rw [e4]; exact u3, z⟩, fun j hj y => ?_, rfl⟩)))
    · rcases List.mem_cons.mp (I m hm) with y | y
      · have : m = s / 4 := by omega
        subst this
        exact absurd hm.2.2 z
      · exact y
    · rcases List.mem_cons.mp (I j y) with x | x
      · omega
      · have := p1 _ x
        omega
theorem xw_wit {post : Int32 → Prop} {t : Nat} (O : xm_ok N n us kk aa pp w) (G : gr_ok (64 * n) us kk aa a_groundAtom a_groundKind a_positives a_start a_occurrence) (hk0 : ∀ m i, 1 ≤ i → i ≤ 3 → us (4 * m + i) → kk (4 * m + i) ≠ 0) (hV : ∀ a, a < N → a_value a = V a ∧ a_stage a = St a ∧ a_height a = Hh a) (ht : t < N) (h : ∀ r, wi_ans (wi_sup us kk aa V St Hh t) r → post r) : ∀ x5 : Int32, x5 = 3 * nI t + 0 → vp_in x5 145 ∧ ∀ x6 : Int32, x6 = a_start x5.toNatClampNeg → ∃ f, wX_witness_71 post (nI t) x5 f_kindHead f_kindPositive f_kindNegated f_draftRow f_constants f_unary f_binary f_maxRules (nI N) (nI n) f_hasDraft f_grounded f_hasModel f_tail a_isFactAtom a_candidate a_bodyLength a_cellKind a_cellPred a_cellFirst a_cellSecond a_groundAtom a_groundKind a_positives a_start a_cursor a_occurrence a_value a_stage a_height a_reached a_depth a_queue a_missing a_blocked f x6 := by
  have O' := O
  obtain ⟨hn, hN, h0, hu, hk2, hS, hA, _, hw, h96⟩ := O'
  obtain ⟨g1, g2, g3, g4, g5⟩ := G
  have ek : 3 * nI t + 0 = nI (3 * t) := xg_key (y := 0) rfl rfl
  have ekc : (nI (3 * t)).toNatClampNeg = 3 * t := nI_clamp (by omega)
  have hcu : gr_cu us (fun s => 3 * aa s + kk s) (64 * n) (3 * t) + (gr_ls us (fun s => 3 * aa s + kk s) (3 * t) (64 * n)).length = gr_cu us (fun s => 3 * aa s + kk s) (64 * n) (3 * t + 1) := rfl
  have hcl := gr_cu_le (us := us) (ky := fun s => 3 * aa s + kk s) (64 * n) (3 * t + 1)
  refine nm_r (e' := nI (3 * t)) ek ⟨vp_in_nI (by omega) (by omega), nm_r (e' := nI (gr_cu us (fun s => 3 * aa s + kk s) (64 * n) (3 * t))) (by rw [ekc]; exact g4 _ (by omega)) ⟨513, ?_⟩⟩
  refine xw_71 (V := V) (St := St) (Hh := Hh) (E := gr_cu us (fun s => 3 * aa s + kk s) (64 * n) (3 * t + 1)) O g1 g2 hV ht (g4 _ (by omega)) (by omega) h (gr_ls us (fun s => 3 * aa s + kk s) (3 * t) (64 * n)) _ 513 (g5 _ (by omega)) hcu (by omega) gr_ls_p (fun s hs => ?_) (fun m hm => ?_)
  · obtain ⟨m1, m2, m3⟩ := gr_ls_m.mp hs
    have m3 : 3 * aa s + kk s = 3 * t := m3
    have := hk2 s m2
    refine ⟨m2, ?_, by omega⟩
    by_cases c : s % 4 = 0
    · exact c
    · have e4 : 4 * (s / 4) + s % 4 = s := by omega
      have := hk0 (s / 4) (s % 4) (by omega) (by omega) (by rw [e4]; exact m2)
      rw [e4] at this
      omega
  · obtain ⟨h1, h2, h3⟩ := hm
    refine gr_ls_m.mpr ⟨hS _ h1, h1, ?_⟩
    show 3 * aa (4 * m) + kk (4 * m) = 3 * t
    rw [h0 m h1, h2, Nat.add_zero]
/-- reason, the component's loop -/
theorem xw_bk {post : Int32 → Prop} {s : Nat} {k : Int32} (O : xm_ok N n us kk aa pp w) (g1 : ∀ s, s < 64 * n → us s → a_groundAtom s = nI (aa s) ∧ a_groundKind s = nI (kk s)) (hV : ∀ a, a < N → a_value a = V a ∧ a_stage a = St a) (u : us s) (hp : post (ma_b (re_b kk aa V St k s))) : wpX_blocks post (f_kindHead, f_kindPositive, f_kindNegated, f_draftRow, f_constants, f_unary, f_binary, f_maxRules, nI N, nI n, f_hasDraft, f_grounded, f_hasModel, f_tail, a_isFactAtom, a_candidate, a_bodyLength, a_cellKind, a_cellPred, a_cellFirst, a_cellSecond, a_groundAtom, a_groundKind, a_positives, a_start, a_cursor, a_occurrence, a_value, a_stage, a_height, a_reached, a_depth, a_queue, a_missing, a_blocked) (nI s) k := by
  obtain ⟨hn, hN, h0, hu, hk2, hS, hA, _, hw, h96⟩ := O
  have hs := hS s u
  have ha := hA s u
  have hk := hk2 s u
  have es : (nI s).toNatClampNeg = s := nI_clamp (by omega)
  have ws : vp_in (nI s) 512 := vp_in_nI (by omega) (by omega)
  have ea : (nI (aa s)).toNatClampNeg = aa s := nI_clamp (by omega)
  have wa : vp_in (nI (aa s)) 48 := vp_in_nI (by omega) (by omega)
  obtain ⟨v1, v2⟩ := hV (aa s) ha
  obtain ⟨c1, c2⟩ := g1 s hs u
  have yes : re_b kk aa V St k s → post 1 := by
    intro z
    rw [ma_bt z] at hp
    exact hp
  have no : ¬ re_b kk aa V St k s → post 0 := by
    intro z
    rw [ma_bf z] at hp
    exact hp
  unfold wpX_blocks
  dsimp only
  rw [es, c1, c2]
  refine ⟨ws, nm_e ⟨ws, ?_⟩⟩
  rw [ea, v1, v2]
  refine pk_eq (kk s) 2 (fun z => ⟨wa, br_c (fun y => ⟨wa, br_c (fun x => no ?_) (fun x => yes (Or.inl ⟨z, y, x⟩))⟩) (fun y => no ?_)⟩) (fun z => ⟨wa, br_c (fun y => ⟨wa, br_c (fun x => no ?_) (fun x => yes (Or.inr ⟨z, y, x⟩))⟩) (fun y => no ?_)⟩)
  · rintro (g | g)
    · exact g.2.2 x
    · exact g.1 z
  · rintro (g | g)
    · exact y g.2.1
    · exact g.1 z
  · rintro (g | g)
    · exact z g.1
    · exact g.2.2 x
  · rintro (g | g)
    · exact z g.1
    · exact y g.2.1
theorem xw_re {post : Int32 → Prop} {r m l hd : Nat} (O : xm_ok N n us kk aa pp w) (g1 : ∀ s, s < 64 * n → us s → a_groundAtom s = nI (aa s) ∧ a_groundKind s = nI (kk s)) (hV : ∀ a, a < N → a_value a = V a ∧ a_stage a = St a) (hr : r < 9) (hl : a_bodyLength r = nI l) (hl3 : l ≤ 3) (hd48 : hd < N) (hu' : ∀ i, i ≤ 3 → (us (4 * m + i) ↔ i ≤ l)) (h : ∀ x, re_ans l (fun i => re_b kk aa V St (St hd) (4 * m + i)) x → post x) :
    ∀ (d i f : Nat), 1 ≤ i → i + d = l + 1 → d < f → (∀ j, 1 ≤ j → j < i → ¬ re_b kk aa V St (St hd) (4 * m + j)) → wX_reason_87 post (nI r) (nI (4 * m)) (nI hd) f_kindHead f_kindPositive f_kindNegated f_draftRow f_constants f_unary f_binary f_maxRules (nI N) (nI n) f_hasDraft f_grounded f_hasModel f_tail a_isFactAtom a_candidate a_bodyLength a_cellKind a_cellPred a_cellFirst a_cellSecond a_groundAtom a_groundKind a_positives a_start a_cursor a_occurrence a_value a_stage a_height a_reached a_depth a_queue a_missing a_blocked f (nI i) := by
  have O' := O
  obtain ⟨hn, hN, h0, hu, hk2, hS, hA, _, hw, h96⟩ := O'
  have er : (nI r).toNatClampNeg = r := nI_clamp (by omega)
  have wr : vp_in (nI r) 9 := vp_in_nI (by omega) (by omega)
  have eh : (nI hd).toNatClampNeg = hd := nI_clamp (by omega)
  have wh : vp_in (nI hd) 48 := vp_in_nI (by omega) (by omega)
  intro d
  induction d with
  | zero =>
    intro i f i1 h1 h2 I
    obtain ⟨f, rfl⟩ : ∃ m, f = m + 1 := ⟨f - 1, by omega⟩
    rw [wX_reason_87]
    dsimp only
    rw [er, hl]
    exact ⟨wr, br_t (nI_lt (by omega) (by omega)) (h _ (Or.inr ⟨fun j j1 j2 => I j j1 (by omega), rfl⟩))⟩
  | succ d ih =>
    intro i f i1 h1 h2 I
    obtain ⟨f, rfl⟩ : ∃ m, f = m + 1 := ⟨f - 1, by omega⟩
    rw [wX_reason_87]
    dsimp only
    have u : us (4 * m + i) := (hu' i (by omega)).mpr (by omega)
    have es : nI (4 * m) + nI i = nI (4 * m + i) := nI_add _ _
    rw [er, hl, eh, (hV hd hd48).2, es]
    refine ⟨wr, br_f (nI_nlt (by omega) (by omega)) ⟨wh, xw_bk (V := V) (St := St) O g1 hV u (ma_br rfl (fun z => nm_r (nI_1 i) (ih (i + 1) f (by omega) (by omega) (by omega) (fun j j1 j2 => ?_))) (fun z => h _ (Or.inl ⟨i, i1, by omega, z, I, rfl⟩)))⟩⟩
    by_cases c : j = i
    · subst c; exact z
    · exact I j j1 (by omega)
end X
section Y
variable {C U B n : Nat} {ln kd pd fs sn : Nat → Nat}
variable {y_C y_U y_P y_R y_count y_draft y_solved : Int32} {b_facts b_code b_len b_value b_stage b_height b_candidate b_m b_s b_next b_certain : Nat → Int32}
/-- the literals' flag ahead of place i -/
def yw_f (kk pp : Nat → Nat) (V St Hh : Nat → Int32) (q m i : Nat) : Prop := pp (4 * m) = q ∧ ∀ j, 1 ≤ j → j < i → wi_lit kk pp V St Hh (St q) (Hh q) (4 * m + j)
theorem yw_198 {post : Int32 → Prop} {J57 J69 J81 : Int32 → Prop} {J116 : Int32 → Int32 → Prop} {x8 : Int32} {q r x y i p : Nat} {lo : Prop} (K : pg_ok C U B n ln kd pd fs sn) (E : xa_cy ln kd pd fs sn b_code b_len) (hq : q < 96) (hp : p < 96) (hc : 4 * r + i < 36) (hlo : lo ↔ (b_stage p < b_stage q ∨ (b_stage p = b_stage q ∧ ¬ b_height q ≤ b_height p)))
    (hg : ((kd (4 * r + i) = 2 → b_value p = 0 ∧ ¬ b_stage q < b_stage p) ∧ (¬ kd (4 * r + i) = 2 → b_value p = 1 ∧ (b_stage p < b_stage q ∨ (b_stage p = b_stage q ∧ ¬ b_height q ≤ b_height p)))) → J116 x8 (nI (i + 1)))
    (hb : ¬ ((kd (4 * r + i) = 2 → b_value p = 0 ∧ ¬ b_stage q < b_stage p) ∧ (¬ kd (4 * r + i) = 2 → b_value p = 1 ∧ (b_stage p < b_stage q ∨ (b_stage p = b_stage q ∧ ¬ b_height q ≤ b_height p)))) → J116 0 (nI (i + 1))) :
    wY_witness_198 post J57 J69 J81 J116 (nI q) (nI r) (nI x) (nI y) x8 (nI i) (nI p) (ma_b lo) (nI C) (nI U) (nI (U + B)) y_R (nI n) y_draft y_solved b_facts b_code b_len b_value b_stage b_height b_candidate b_m b_s b_next b_certain := by
  have ep : (nI p).toNatClampNeg = p := nI_clamp (by omega)
  have wp : vp_in (nI p) 96 := vp_in_nI hp (by omega)
  have eq : (nI q).toNatClampNeg = q := nI_clamp (by omega)
  have wq : vp_in (nI q) 96 := vp_in_nI hq (by omega)
  unfold wY_witness_198
  refine xa_neg (r := r) (i := i) K E hc ?_
  rw [ep, eq]
  refine ma_br rfl (fun z => ⟨wp, br_c (fun v => ma_br rfl (fun g => nm_r (nI_1 i) (hb (fun k => g (hlo.mpr (k.2 z).2)))) (fun g => nm_r (nI_1 i) (hg ⟨fun k => absurd k z, fun _ => ⟨v, hlo.mp g⟩⟩))) (fun v => nm_r (nI_1 i) (hb (fun k => v (k.2 z).1)))⟩) (fun z => ⟨wp, br_c (fun v => ⟨wp, wq, br_c (fun g => nm_r (nI_1 i) (hg ⟨fun _ => ⟨v, Int32.not_lt.mpr g⟩, fun k => absurd z k⟩)) (fun g => nm_r (nI_1 i) (hb (fun k => g (Int32.not_lt.mp (k.1 z).2))))⟩) (fun v => nm_r (nI_1 i) (hb (fun k => v (k.1 z).1)))⟩)
theorem yw_116 {post : Int32 → Prop} {J57 J69 J81 : Int32 → Prop} {q r x y : Nat} (K : pg_ok C U B n ln kd pd fs sn) (E : xa_cy ln kd pd fs sn b_code b_len) (hq : q < 96) (hr : r < n) (hx : x < C) (hy : y < C) (hno : ¬ wi_sup (pg_us C n ln) (pg_kk kd) (pg_pp pd fs sn) b_value b_stage b_height q (16 * r + 4 * x + y) → J81 (nI (y + 1))) (hyes : wi_sup (pg_us C n ln) (pg_kk kd) (pg_pp pd fs sn) b_value b_stage b_height q (16 * r + 4 * x + y) → post (nI (16 * r + 4 * x + y))) :
    ∀ (d i f : Nat), 1 ≤ i → i + d = ln r + 1 → d < f → wY_witness_116 post J57 J69 J81 (nI q) (nI r) (nI x) (nI y) (nI C) (nI U) (nI (U + B)) y_R (nI n) y_draft y_solved b_facts b_code b_len b_value b_stage b_height b_candidate b_m b_s b_next b_certain f (ma_b (yw_f (pg_kk kd) (pg_pp pd fs sn) b_value b_stage b_height q (16 * r + 4 * x + y) i)) (nI i) := by
  have hC := K.1.2.1
  have hn := K.2.1
  have l3 := K.2.2.1 r (by omega)
  have er : (nI r).toNatClampNeg = r := nI_clamp (by omega)
  have wr : vp_in (nI r) 9 := vp_in_nI (by omega) (by omega)
  have eq : (nI q).toNatClampNeg = q := nI_clamp (by omega)
  have wq : vp_in (nI q) 96 := vp_in_nI hq (by omega)
  have hu : ∀ i, i ≤ 3 → (pg_us C n ln (4 * (16 * r + 4 * x + y) + i) ↔ i ≤ ln r) := fun i hi => by
    rw [pg_us_i (by omega) (by omega) (by omega)]
    exact ⟨fun z => z.2.2.2, fun z => ⟨hr, hx, hy, z⟩⟩
  intro d
  induction d with
  | zero =>
    intro i f h0 h1 h2
    obtain ⟨f, rfl⟩ : ∃ m, f = m + 1 := ⟨f - 1, by omega⟩
    have e : i = ln r + 1 := by omega
    subst e
    rw [wY_witness_116]
    dsimp only
    rw [er, E.2 r]
    have eo : 16 * nI r + 4 * nI x + nI y = nI (16 * r + 4 * x + y) := by
      rw [← nI_add, ← nI_add, ← pk_mul, ← pk_mul]; rfl
    rw [eo]
    refine ⟨wr, br_t (nI_lt (by omega) (by omega)) (ma_br rfl (fun z => nm_r (nI_1 y) (hno (fun k => z ⟨k.2.1, fun j j1 j2 => k.2.2 j j1 (by omega) ((hu j (by omega)).mpr (by omega))⟩))) (fun z => hyes ⟨(hu 0 (by omega)).mpr (by omega), z.1, fun j j1 j2 j3 => z.2 j j1 (by have := (hu j j2).mp j3; omega)⟩))⟩
  | succ d ih =>
    intro i f h0 h1 h2
    obtain ⟨f, rfl⟩ : ∃ m, f = m + 1 := ⟨f - 1, by omega⟩
    rw [wY_witness_116]
    dsimp only
    rw [er, E.2 r]
    have u : pg_us C n ln (4 * (16 * r + 4 * x + y) + i) := (hu i (by omega)).mpr (by omega)
    have ep := pg_pp_i (pd := pd) (fs := fs) (sn := sn) (r := r) (x := x) (y := y) (i := i) (by omega) (by omega) (by omega)
    have ek : pg_kk kd (4 * (16 * r + 4 * x + y) + i) = kd (4 * r + i) := congrArg kd (pg_c_i (by omega) (by omega) (by omega))
    have p96 := (pg_us_a K u).2.2.2
    refine ⟨wr, br_f (nI_nlt (by omega) (by omega)) (xa_at (r := r) (i := i) (x := x) (y := y) K E (by omega) ?_)⟩
    rw [← ep]
    have ec : (nI (pg_pp pd fs sn (4 * (16 * r + 4 * x + y) + i))).toNatClampNeg = pg_pp pd fs sn (4 * (16 * r + 4 * x + y) + i) := nI_clamp (by omega)
    have wp : vp_in (nI (pg_pp pd fs sn (4 * (16 * r + 4 * x + y) + i))) 96 := vp_in_nI p96 (by omega)
    have ih := ih (i + 1) f (by omega) (by omega) (by omega)
    have j198 : ∀ (lo : Prop), (lo ↔ (b_stage (pg_pp pd fs sn (4 * (16 * r + 4 * x + y) + i)) < b_stage q ∨ (b_stage (pg_pp pd fs sn (4 * (16 * r + 4 * x + y) + i)) = b_stage q ∧ ¬ b_height q ≤ b_height (pg_pp pd fs sn (4 * (16 * r + 4 * x + y) + i))))) → wY_witness_198 post J57 J69 J81 (wY_witness_116 post J57 J69 J81 (nI q) (nI r) (nI x) (nI y) (nI C) (nI U) (nI (U + B)) y_R (nI n) y_draft y_solved b_facts b_code b_len b_value b_stage b_height b_candidate b_m b_s b_next b_certain f) (nI q) (nI r) (nI x) (nI y) (ma_b (yw_f (pg_kk kd) (pg_pp pd fs sn) b_value b_stage b_height q (16 * r + 4 * x + y) i)) (nI i) (nI (pg_pp pd fs sn (4 * (16 * r + 4 * x + y) + i))) (ma_b lo) (nI C) (nI U) (nI (U + B)) y_R (nI n) y_draft y_solved b_facts b_code b_len b_value b_stage b_height b_candidate b_m b_s b_next b_certain := by
      intro lo hlo
      refine yw_198 K E hq p96 (by omega) hlo (fun g => ?_) (fun g => ?_)
      · rw [← ek] at g
        have e : ma_b (yw_f (pg_kk kd) (pg_pp pd fs sn) b_value b_stage b_height q (16 * r + 4 * x + y) (i + 1)) = ma_b (yw_f (pg_kk kd) (pg_pp pd fs sn) b_value b_stage b_height q (16 * r + 4 * x + y) i) := by
          refine ma_bc ⟨fun z => ⟨z.1, fun j j1 j2 => z.2 j j1 (by omega)⟩, fun z => ⟨z.1, fun j j1 j2 => ?_⟩⟩
          by_cases c : j = i
          · subst c; exact g
          · exact z.2 j j1 (by omega)
        rw [e] at ih
        exact ih
      · rw [← ek] at g
        have e : ma_b (yw_f (pg_kk kd) (pg_pp pd fs sn) b_value b_stage b_height q (16 * r + 4 * x + y) (i + 1)) = 0 := ma_bf (fun z => g (z.2 i h0 (by omega)))
        rw [e] at ih
        exact ih
    rw [ec, eq]
    refine ⟨wp, wq, br_c (fun z => ?_) (fun z => ⟨wp, wq, br_c (fun v => ⟨wp, wq, br_c (fun g => ?_) (fun g => ?_)⟩) (fun v => ?_)⟩)⟩
    · have := j198 True ⟨fun _ => Or.inl z, fun _ => trivial⟩
      rw [ma_T] at this
      exact this
    · have := j198 False ⟨fun k => k.elim, fun k => k.elim z (fun k => k.2 g)⟩
      rw [ma_F] at this
      exact this
    · have := j198 True ⟨fun _ => Or.inr ⟨v, g⟩, fun _ => trivial⟩
      rw [ma_T] at this
      exact this
    · have := j198 False ⟨fun k => k.elim, fun k => k.elim z (fun k => v k.1)⟩
      rw [ma_F] at this
      exact this
theorem yw_81 {post : Int32 → Prop} {J57 J69 : Int32 → Prop} {q r x : Nat} (K : pg_ok C U B n ln kd pd fs sn) (E : xa_cy ln kd pd fs sn b_code b_len) (hq : q < 96) (hr : r < n) (hx : x < C) (h : ∀ z, wi_ans (wi_sup (pg_us C n ln) (pg_kk kd) (pg_pp pd fs sn) b_value b_stage b_height q) z → post z) (hj : (∀ j, j < 16 * r + 4 * (x + 1) → ¬ wi_sup (pg_us C n ln) (pg_kk kd) (pg_pp pd fs sn) b_value b_stage b_height q j) → J69 (nI (x + 1))) :
    ∀ (d y f : Nat), y + d = C → d < f → (∀ j, j < 16 * r + 4 * x + y → ¬ wi_sup (pg_us C n ln) (pg_kk kd) (pg_pp pd fs sn) b_value b_stage b_height q j) → wY_witness_81 post J57 J69 (nI q) (nI r) (nI x) (nI C) (nI U) (nI (U + B)) y_R (nI n) y_draft y_solved b_facts b_code b_len b_value b_stage b_height b_candidate b_m b_s b_next b_certain f (nI y) := by
  have hC := K.1.2.1
  have hn := K.2.1
  intro d
  induction d with
  | zero =>
    intro y f h1 h2 I
    obtain ⟨f, rfl⟩ : ∃ m, f = m + 1 := ⟨f - 1, by omega⟩
    have e : y = C := by omega
    subst e
    rw [wY_witness_81]
    dsimp only
    refine br_t (nI_le (Nat.le_refl _) (by omega)) (nm_r (nI_1 x) (hj (fun j j1 => ?_)))
    by_cases c : j < 16 * r + 4 * x + y
    · exact I j c
    · exact fun z => ys_n4 (x := x) (by omega) hC (by omega) j1 z.1
  | succ d ih =>
    intro y f h1 h2 I
    obtain ⟨f, rfl⟩ : ∃ m, f = m + 1 := ⟨f - 1, by omega⟩
    rw [wY_witness_81]
    dsimp only
    have u : pg_us C n ln (4 * (16 * r + 4 * x + y) + 0) := (pg_us_i (by omega) (by omega) (by omega)).mpr ⟨hr, hx, by omega, by omega⟩
    have ep := pg_pp_i (pd := pd) (fs := fs) (sn := sn) (r := r) (x := x) (y := y) (i := 0) (by omega) (by omega) (by omega)
    have p96 : pg_pp pd fs sn (4 * (16 * r + 4 * x + y)) < 96 := (pg_us_a K u).2.2.2
    have k := yw_116 (post := post) (J57 := J57) (J69 := J69) (J81 := wY_witness_81 post J57 J69 (nI q) (nI r) (nI x) (nI C) (nI U) (nI (U + B)) y_R (nI n) y_draft y_solved b_facts b_code b_len b_value b_stage b_height b_candidate b_m b_s b_next b_certain f) (q := q) (r := r) (x := x) (y := y) (b_facts := b_facts) (b_value := b_value) (b_stage := b_stage) (b_height := b_height) (b_candidate := b_candidate) (b_m := b_m) (b_s := b_s) (b_next := b_next) (b_certain := b_certain) (y_R := y_R) (y_draft := y_draft) (y_solved := y_solved) K E hq hr hx (by omega) (fun z => ih (y + 1) f (by omega) (by omega) (fun j hj => ?_)) (fun z => h _ (Or.inl ⟨_, z, I, rfl⟩)) (ln r) 1 (ln r + 1) (by omega) (by omega) (by omega)
    · refine br_f (nI_ge (by omega) (by omega)) (xa_at (r := r) (i := 0) (x := x) (y := y) K E (by have := K.2.1; omega) ?_)
      rw [← ep]
      refine pk_eq (pg_pp pd fs sn (4 * (16 * r + 4 * x + y))) q (fun z => ⟨ln r + 1, ?_⟩) (fun z => ⟨ln r + 1, ?_⟩)
      · rw [ma_bt (p := yw_f (pg_kk kd) (pg_pp pd fs sn) b_value b_stage b_height q (16 * r + 4 * x + y) 1) ⟨z, fun j j1 j2 => by omega⟩] at k
        exact k
      · rw [ma_bf (p := yw_f (pg_kk kd) (pg_pp pd fs sn) b_value b_stage b_height q (16 * r + 4 * x + y) 1) (fun v => z v.1)] at k
        exact k
    · by_cases c : j = 16 * r + 4 * x + y
      · rw [c]; exact z
      · exact I j (by omega)
theorem yw_69 {post : Int32 → Prop} {J57 : Int32 → Prop} {q r : Nat} (K : pg_ok C U B n ln kd pd fs sn) (E : xa_cy ln kd pd fs sn b_code b_len) (hq : q < 96) (hr : r < n) (h : ∀ z, wi_ans (wi_sup (pg_us C n ln) (pg_kk kd) (pg_pp pd fs sn) b_value b_stage b_height q) z → post z) (hj : (∀ j, j < 16 * (r + 1) → ¬ wi_sup (pg_us C n ln) (pg_kk kd) (pg_pp pd fs sn) b_value b_stage b_height q j) → J57 (nI (r + 1))) :
    ∀ (d x f : Nat), x + d = C → d < f → (∀ j, j < 16 * r + 4 * x → ¬ wi_sup (pg_us C n ln) (pg_kk kd) (pg_pp pd fs sn) b_value b_stage b_height q j) → wY_witness_69 post J57 (nI q) (nI r) (nI C) (nI U) (nI (U + B)) y_R (nI n) y_draft y_solved b_facts b_code b_len b_value b_stage b_height b_candidate b_m b_s b_next b_certain f (nI x) := by
  have hC := K.1.2.1
  intro d
  induction d with
  | zero =>
    intro x f h1 h2 I
    obtain ⟨f, rfl⟩ : ∃ m, f = m + 1 := ⟨f - 1, by omega⟩
    have e : x = C := by omega
    subst e
    rw [wY_witness_69]
    dsimp only
    refine br_t (nI_le (Nat.le_refl _) (by omega)) (nm_r (nI_1 r) (hj (fun j j1 => ?_)))
    by_cases c : j < 16 * r + 4 * x
    · exact I j c
    · exact fun z => ys_n16 hC (by omega) j1 z.1
  | succ d ih =>
    intro x f h1 h2 I
    obtain ⟨f, rfl⟩ : ∃ m, f = m + 1 := ⟨f - 1, by omega⟩
    rw [wY_witness_69]
    dsimp only
    refine br_f (nI_ge (by omega) (by omega)) ⟨C + 1, ?_⟩
    exact yw_81 K E hq hr (by omega) h (fun z => ih (x + 1) f (by omega) (by omega) z) C 0 (C + 1) (by omega) (by omega) I
theorem yw_57 {post : Int32 → Prop} {q : Nat} (K : pg_ok C U B n ln kd pd fs sn) (E : xa_cy ln kd pd fs sn b_code b_len) (hq : q < 96) (h : ∀ z, wi_ans (wi_sup (pg_us C n ln) (pg_kk kd) (pg_pp pd fs sn) b_value b_stage b_height q) z → post z) :
    ∀ (d r f : Nat), r + d = n → d < f → (∀ j, j < 16 * r → ¬ wi_sup (pg_us C n ln) (pg_kk kd) (pg_pp pd fs sn) b_value b_stage b_height q j) → wY_witness_57 post (nI q) (nI C) (nI U) (nI (U + B)) y_R (nI n) y_draft y_solved b_facts b_code b_len b_value b_stage b_height b_candidate b_m b_s b_next b_certain f (nI r) := by
  have hn := K.2.1
  intro d
  induction d with
  | zero =>
    intro r f h1 h2 I
    obtain ⟨f, rfl⟩ : ∃ m, f = m + 1 := ⟨f - 1, by omega⟩
    have e : r = n := by omega
    subst e
    rw [wY_witness_57]
    dsimp only
    refine br_t (nI_le (Nat.le_refl _) (by omega)) (h _ (Or.inr ⟨fun m z => I m ?_ z, rfl⟩))
    have := z.1.1
    omega
  | succ d ih =>
    intro r f h1 h2 I
    obtain ⟨f, rfl⟩ : ∃ m, f = m + 1 := ⟨f - 1, by omega⟩
    rw [wY_witness_57]
    dsimp only
    refine br_f (nI_ge (by omega) (by omega)) ⟨C + 1, ?_⟩
    exact yw_69 K E hq (by omega) h (fun z => ih (r + 1) f (by omega) (by omega) z) C 0 (C + 1) (by omega) (by omega) I
/-- reason, the reference's loop -/
theorem yw_73 {post : Int32 → Prop} {r x y p : Nat} (K : pg_ok C U B n ln kd pd fs sn) (E : xa_cy ln kd pd fs sn b_code b_len) (hp : p < 96) (hr : r < n) (hx : x < C) (hy : y < C) (h : ∀ z, re_ans (ln r) (fun i => re_b (pg_kk kd) (pg_pp pd fs sn) b_value b_stage (b_stage p) (4 * (16 * r + 4 * x + y) + i)) z → post z) :
    ∀ (d i f : Nat), 1 ≤ i → i + d = ln r + 1 → d < f → (∀ j, 1 ≤ j → j < i → ¬ re_b (pg_kk kd) (pg_pp pd fs sn) b_value b_stage (b_stage p) (4 * (16 * r + 4 * x + y) + j)) → wY_reason_73 post (nI r) (nI x) (nI y) (nI p) (nI C) (nI U) (nI (U + B)) y_R (nI n) y_draft y_solved b_facts b_code b_len b_value b_stage b_height b_candidate b_m b_s b_next b_certain f (nI i) := by
  have hC := K.1.2.1
  have hn := K.2.1
  have l3 := K.2.2.1 r (by omega)
  have er : (nI r).toNatClampNeg = r := nI_clamp (by omega)
  have wr : vp_in (nI r) 9 := vp_in_nI (by omega) (by omega)
  have eq : (nI p).toNatClampNeg = p := nI_clamp (by omega)
  have wq : vp_in (nI p) 96 := vp_in_nI hp (by omega)
  intro d
  induction d with
  | zero =>
    intro i f h0 h1 h2 I
    obtain ⟨f, rfl⟩ : ∃ m, f = m + 1 := ⟨f - 1, by omega⟩
    rw [wY_reason_73]
    dsimp only
    rw [er, E.2 r]
    exact ⟨wr, br_t (nI_lt (by omega) (by omega)) (h _ (Or.inr ⟨fun j j1 j2 => I j j1 (by omega), rfl⟩))⟩
  | succ d ih =>
    intro i f h0 h1 h2 I
    obtain ⟨f, rfl⟩ : ∃ m, f = m + 1 := ⟨f - 1, by omega⟩
    rw [wY_reason_73]
    dsimp only
    rw [er, E.2 r]
    have u : pg_us C n ln (4 * (16 * r + 4 * x + y) + i) := (pg_us_i (by omega) (by omega) (by omega)).mpr ⟨hr, hx, hy, by omega⟩
    have ep := pg_pp_i (pd := pd) (fs := fs) (sn := sn) (r := r) (x := x) (y := y) (i := i) (by omega) (by omega) (by omega)
    have ek : pg_kk kd (4 * (16 * r + 4 * x + y) + i) = kd (4 * r + i) := congrArg kd (pg_c_i (by omega) (by omega) (by omega))
    have p96 := (pg_us_a K u).2.2.2
    refine ⟨wr, br_f (nI_nlt (by omega) (by omega)) (xa_at (r := r) (i := i) (x := x) (y := y) K E (by omega) ?_)⟩
    rw [← ep]
    refine xa_neg (r := r) (i := i) K E (by omega) ?_
    have ec : (nI (pg_pp pd fs sn (4 * (16 * r + 4 * x + y) + i))).toNatClampNeg = pg_pp pd fs sn (4 * (16 * r + 4 * x + y) + i) := nI_clamp (by omega)
    have wp : vp_in (nI (pg_pp pd fs sn (4 * (16 * r + 4 * x + y) + i))) 96 := vp_in_nI p96 (by omega)
    have no : ¬ re_b (pg_kk kd) (pg_pp pd fs sn) b_value b_stage (b_stage p) (4 * (16 * r + 4 * x + y) + i) → wY_reason_73 post (nI r) (nI x) (nI y) (nI p) (nI C) (nI U) (nI (U + B)) y_R (nI n) y_draft y_solved b_facts b_code b_len b_value b_stage b_height b_candidate b_m b_s b_next b_certain f (nI (i + 1)) := by
      intro c
      refine ih (i + 1) f (by omega) (by omega) (by omega) (fun j j1 j2 => ?_)
      by_cases z : j = i
      · subst z; exact c
      · exact I j j1 (by omega)
    have yes : re_b (pg_kk kd) (pg_pp pd fs sn) b_value b_stage (b_stage p) (4 * (16 * r + 4 * x + y) + i) → post (nI i) := fun c => h _ (Or.inl ⟨i, h0, by omega, c, I, rfl⟩)
    rw [← ek, ec, eq]
    refine ma_br rfl (fun z => ⟨wp, br_c (fun v => ⟨wp, wq, br_c (fun g => nm_r (nI_1 i) (no ?_)) (fun g => yes (Or.inr ⟨z, v, g⟩))⟩) (fun v => nm_r (nI_1 i) (no ?_))⟩) (fun z => ⟨wp, br_c (fun v => ⟨wp, wq, br_c (fun g => nm_r (nI_1 i) (no ?_)) (fun g => yes (Or.inl ⟨z, v, g⟩))⟩) (fun v => nm_r (nI_1 i) (no ?_))⟩)
    · rintro (k | k)
      · exact z k.1
      · exact k.2.2 g
    · rintro (k | k)
      · exact z k.1
      · exact v k.2.1
    · rintro (k | k)
      · exact k.2.2 g
      · exact k.1 z
    · rintro (k | k)
      · exact v k.2.1
      · exact k.1 z
end Y
end
section
/-! the relation -/
/-- arrays by atoms and by positions that agree -/
def rl_ag (C U B : Nat) (f g : Nat → Int32) : Prop := (∀ a, a < pg_N C U B → f a = g (pg_w C U a)) ∧ (∀ q, q < 96 → ¬ pg_gd C U B q → g q = 0)
theorem rl_ag_u {C U B t : Nat} {f g : Nat → Int32} {x : Int32} (hz : pg_sz C U B) (h : rl_ag C U B f g) (ht : t < pg_N C U B) : rl_ag C U B (upd f t x) (upd g (pg_w C U t) x) := by
  obtain ⟨h1, h2⟩ := h
  refine ⟨fun a ha => ?_, fun q hq hn => ?_⟩
  · by_cases c : a = t
    · rw [c, pk_us, pk_us]
    · rw [pk_un c, pk_un (fun z => c (pg_w_inj hz a t ha ht z))]
      exact h1 a ha
  · rw [pk_un (fun z => hn (by rw [z]; exact (pg_w_gd hz ht).1))]
    exact h2 q hq hn
/-- what is wanted of the states, beside the fields -/
def rl_F (C U B R n : Nat) (ln kd pd fs sn : Nat → Nat) (f_grounded f_hasModel : Int32) (a_isFactAtom a_candidate a_bodyLength a_cellKind a_cellPred a_cellFirst a_cellSecond a_groundAtom a_groundKind a_positives a_start a_occurrence a_value a_stage a_height b_facts b_code b_len b_value b_stage b_height b_candidate : Nat → Int32) : Prop :=
  pg_ok C U B n ln kd pd fs sn ∧ (n ≤ R ∧ R ≤ 8) ∧ xa_ce ln kd pd fs sn a_bodyLength a_cellKind a_cellPred a_cellFirst a_cellSecond ∧ xa_cy ln kd pd fs sn b_code b_len ∧ (rl_ag C U B a_isFactAtom b_facts ∧ ∀ q, q < 96 → b_facts q = 0 ∨ b_facts q = 1) ∧ rl_ag C U B a_candidate b_candidate ∧ (f_hasModel ≠ 0 → f_grounded ≠ 0) ∧ (f_grounded ≠ 0 → gr_ok (64 * n) (pg_us C n ln) (pg_kk kd) (pg_aa C U pd fs sn) a_groundAtom a_groundKind a_positives a_start a_occurrence) ∧ (f_hasModel ≠ 0 → rl_ag C U B a_value b_value ∧ ∀ a, a < pg_N C U B → a_stage a = b_stage (pg_w C U a) ∧ a_height a = b_height (pg_w C U a))
def rl_E (C U B R n : Nat) (u : SX) (v : SY) : Prop := match u, v with
  | (f_kindHead, f_kindPositive, f_kindNegated, f_draftRow, f_constants, f_unary, f_binary, f_maxRules, f_atoms, f_ruleCount, f_hasDraft, f_grounded, f_hasModel, f_tail, a_isFactAtom, a_candidate, a_bodyLength, a_cellKind, a_cellPred, a_cellFirst, a_cellSecond, a_groundAtom, a_groundKind, a_positives, a_start, a_cursor, a_occurrence, a_value, a_stage, a_height, a_reached, a_depth, a_queue, a_missing, a_blocked), (y_C, y_U, y_P, y_R, y_count, y_draft, y_solved, b_facts, b_code, b_len, b_value, b_stage, b_height, b_candidate, b_m, b_s, b_next, b_certain) => f_constants = nI C ∧ f_unary = nI U ∧ f_binary = nI B ∧ f_maxRules = nI R ∧ f_atoms = nI (pg_N C U B) ∧ f_ruleCount = nI n ∧ y_C = nI C ∧ y_U = nI U ∧ y_P = nI (U + B) ∧ y_R = nI R ∧ y_count = nI n ∧ y_draft = f_hasDraft ∧ y_solved = f_hasModel
def rl_G (C U B R n : Nat) (ln kd pd fs sn : Nat → Nat) (u : SX) (v : SY) : Prop := match u, v with
  | (f_kindHead, f_kindPositive, f_kindNegated, f_draftRow, f_constants, f_unary, f_binary, f_maxRules, f_atoms, f_ruleCount, f_hasDraft, f_grounded, f_hasModel, f_tail, a_isFactAtom, a_candidate, a_bodyLength, a_cellKind, a_cellPred, a_cellFirst, a_cellSecond, a_groundAtom, a_groundKind, a_positives, a_start, a_cursor, a_occurrence, a_value, a_stage, a_height, a_reached, a_depth, a_queue, a_missing, a_blocked), (y_C, y_U, y_P, y_R, y_count, y_draft, y_solved, b_facts, b_code, b_len, b_value, b_stage, b_height, b_candidate, b_m, b_s, b_next, b_certain) => rl_F C U B R n ln kd pd fs sn f_grounded f_hasModel a_isFactAtom a_candidate a_bodyLength a_cellKind a_cellPred a_cellFirst a_cellSecond a_groundAtom a_groundKind a_positives a_start a_occurrence a_value a_stage a_height b_facts b_code b_len b_value b_stage b_height b_candidate
/-- the relation: any turn -/
def i_Rel (k : Nat) (u : SX) (v : SY) : Prop := ∃ (C U B R n : Nat) (ln kd pd fs sn : Nat → Nat), rl_E C U B R n u v ∧ rl_G C U B R n ln kd pd fs sn u v
theorem i_up {k : Nat} {u : SX} {v : SY} (h : i_Rel k u v) : i_Rel (k + 5) u v := h

theorem rl_in {k C U B R n : Nat} {ln kd pd fs sn : Nat → Nat} {f_kindHead f_kindPositive f_kindNegated f_draftRow f_hasDraft f_grounded f_hasModel f_tail : Int32} {a_isFactAtom a_candidate a_bodyLength a_cellKind a_cellPred a_cellFirst a_cellSecond a_groundAtom a_groundKind a_positives a_start a_cursor a_occurrence a_value a_stage a_height a_reached a_depth a_queue a_missing a_blocked b_facts b_code b_len b_value b_stage b_height b_candidate b_m b_s b_next b_certain : Nat → Int32}
    (h : rl_F C U B R n ln kd pd fs sn f_grounded f_hasModel a_isFactAtom a_candidate a_bodyLength a_cellKind a_cellPred a_cellFirst a_cellSecond a_groundAtom a_groundKind a_positives a_start a_occurrence a_value a_stage a_height b_facts b_code b_len b_value b_stage b_height b_candidate) : i_Rel k (f_kindHead, f_kindPositive, f_kindNegated, f_draftRow, nI C, nI U, nI B, nI R, nI (pg_N C U B), nI n, f_hasDraft, f_grounded, f_hasModel, f_tail, a_isFactAtom, a_candidate, a_bodyLength, a_cellKind, a_cellPred, a_cellFirst, a_cellSecond, a_groundAtom, a_groundKind, a_positives, a_start, a_cursor, a_occurrence, a_value, a_stage, a_height, a_reached, a_depth, a_queue, a_missing, a_blocked) (nI C, nI U, nI (U + B), nI R, nI n, f_hasDraft, f_hasModel, b_facts, b_code, b_len, b_value, b_stage, b_height, b_candidate, b_m, b_s, b_next, b_certain) :=
  ⟨C, U, B, R, n, ln, kd, pd, fs, sn, ⟨rfl, rfl, rfl, rfl, rfl, rfl, rfl, rfl, rfl, rfl, rfl, rfl, rfl⟩, h⟩
theorem rl_el {P : SX → SY → Prop} {k : Nat} {u : SX} {v : SY} (I : i_Rel k u v)
    (h : ∀ (C U B R n : Nat) (ln kd pd fs sn : Nat → Nat) (f_kindHead f_kindPositive f_kindNegated f_draftRow f_hasDraft f_grounded f_hasModel f_tail : Int32) (a_isFactAtom a_candidate a_bodyLength a_cellKind a_cellPred a_cellFirst a_cellSecond a_groundAtom a_groundKind a_positives a_start a_cursor a_occurrence a_value a_stage a_height a_reached a_depth a_queue a_missing a_blocked b_facts b_code b_len b_value b_stage b_height b_candidate b_m b_s b_next b_certain : Nat → Int32), rl_F C U B R n ln kd pd fs sn f_grounded f_hasModel a_isFactAtom a_candidate a_bodyLength a_cellKind a_cellPred a_cellFirst a_cellSecond a_groundAtom a_groundKind a_positives a_start a_occurrence a_value a_stage a_height b_facts b_code b_len b_value b_stage b_height b_candidate → P (f_kindHead, f_kindPositive, f_kindNegated, f_draftRow, nI C, nI U, nI B, nI R, nI (pg_N C U B), nI n, f_hasDraft, f_grounded, f_hasModel, f_tail, a_isFactAtom, a_candidate, a_bodyLength, a_cellKind, a_cellPred, a_cellFirst, a_cellSecond, a_groundAtom, a_groundKind, a_positives, a_start, a_cursor, a_occurrence, a_value, a_stage, a_height, a_reached, a_depth, a_queue, a_missing, a_blocked) (nI C, nI U, nI (U + B), nI R, nI n, f_hasDraft, f_hasModel, b_facts, b_code, b_len, b_value, b_stage, b_height, b_candidate, b_m, b_s, b_next, b_certain)) : P u v := by
  obtain ⟨C, U, B, R, n, ln, kd, pd, fs, sn, hE, hG⟩ := I
  revert hE hG
  match u, v with
  | (f_kindHead, f_kindPositive, f_kindNegated, f_draftRow, f_constants, f_unary, f_binary, f_maxRules, f_atoms, f_ruleCount, f_hasDraft, f_grounded, f_hasModel, f_tail, a_isFactAtom, a_candidate, a_bodyLength, a_cellKind, a_cellPred, a_cellFirst, a_cellSecond, a_groundAtom, a_groundKind, a_positives, a_start, a_cursor, a_occurrence, a_value, a_stage, a_height, a_reached, a_depth, a_queue, a_missing, a_blocked), (y_C, y_U, y_P, y_R, y_count, y_draft, y_solved, b_facts, b_code, b_len, b_value, b_stage, b_height, b_candidate, b_m, b_s, b_next, b_certain) =>
    intro hE hG
    have hE : f_constants = nI C ∧ f_unary = nI U ∧ f_binary = nI B ∧ f_maxRules = nI R ∧ f_atoms = nI (pg_N C U B) ∧ f_ruleCount = nI n ∧ y_C = nI C ∧ y_U = nI U ∧ y_P = nI (U + B) ∧ y_R = nI R ∧ y_count = nI n ∧ y_draft = f_hasDraft ∧ y_solved = f_hasModel := hE
    obtain ⟨e1, e2, e3, e4, e5, e6, e7, e8, e9, e10, e11, e12, e13⟩ := hE
    rw [e1, e2, e3, e4, e5, e6, e7, e8, e9, e10, e11, e12, e13]
    exact h C U B R n ln kd pd fs sn f_kindHead f_kindPositive f_kindNegated f_draftRow f_hasDraft f_grounded f_hasModel f_tail a_isFactAtom a_candidate a_bodyLength a_cellKind a_cellPred a_cellFirst a_cellSecond a_groundAtom a_groundKind a_positives a_start a_cursor a_occurrence a_value a_stage a_height a_reached a_depth a_queue a_missing a_blocked b_facts b_code b_len b_value b_stage b_height b_candidate b_m b_s b_next b_certain hG
end
section
/-! the methods that look at atoms, facts, candidates -/

section S
variable {k C U B R n : Nat} {ln kd pd fs sn : Nat → Nat} {f_kindHead f_kindPositive f_kindNegated f_draftRow f_hasDraft f_grounded f_hasModel f_tail : Int32} {a_isFactAtom a_candidate a_bodyLength a_cellKind a_cellPred a_cellFirst a_cellSecond a_groundAtom a_groundKind a_positives a_start a_cursor a_occurrence a_value a_stage a_height a_reached a_depth a_queue a_missing a_blocked b_facts b_code b_len b_value b_stage b_height b_candidate b_m b_s b_next b_certain : Nat → Int32}
theorem rv_m1 : ¬ (0 : Int32) ≤ -1 ∧ (-1 : Int32) < 0 := by decide
theorem rv_fact (H : rl_F C U B R n ln kd pd fs sn f_grounded f_hasModel a_isFactAtom a_candidate a_bodyLength a_cellKind a_cellPred a_cellFirst a_cellSecond a_groundAtom a_groundKind a_positives a_start a_occurrence a_value a_stage a_height b_facts b_code b_len b_value b_stage b_height b_candidate) (v1 v2 v3 v4 : Int32) : wpX_fact (fun r u' => wpY_fact (fun r' v' => r' = r ∧ i_Rel k u' v') (nI C, nI U, nI (U + B), nI R, nI n, f_hasDraft, f_hasModel, b_facts, b_code, b_len, b_value, b_stage, b_height, b_candidate, b_m, b_s, b_next, b_certain) v1 v2 v3 v4) (f_kindHead, f_kindPositive, f_kindNegated, f_draftRow, nI C, nI U, nI B, nI R, nI (pg_N C U B), nI n, f_hasDraft, f_grounded, f_hasModel, f_tail, a_isFactAtom, a_candidate, a_bodyLength, a_cellKind, a_cellPred, a_cellFirst, a_cellSecond, a_groundAtom, a_groundKind, a_positives, a_start, a_cursor, a_occurrence, a_value, a_stage, a_height, a_reached, a_depth, a_queue, a_missing, a_blocked) v1 v2 v3 v4 := by
  have H0 := H
  obtain ⟨K, hR, E, EY, ⟨hf, hf2⟩, hc, hm1, hm2, hm3⟩ := H
  have hz := K.1
  unfold wpX_fact
  dsimp only
  rcases xa_both (n := n) (B := B) (f_kindHead := f_kindHead) (f_kindPositive := f_kindPositive) (f_kindNegated := f_kindNegated) (f_draftRow := f_draftRow) (f_maxRules := nI R) (f_hasDraft := f_hasDraft) (f_grounded := f_grounded) (f_hasModel := f_hasModel) (f_tail := f_tail) (a_isFactAtom := a_isFactAtom) (a_candidate := a_candidate) (a_bodyLength := a_bodyLength) (a_cellKind := a_cellKind) (a_cellPred := a_cellPred) (a_cellFirst := a_cellFirst) (a_cellSecond := a_cellSecond) (a_groundAtom := a_groundAtom) (a_groundKind := a_groundKind) (a_positives := a_positives) (a_start := a_start) (a_cursor := a_cursor) (a_occurrence := a_occurrence) (a_value := a_value) (a_stage := a_stage) (a_height := a_height) (a_reached := a_reached) (a_depth := a_depth) (a_queue := a_queue) (a_missing := a_missing) (a_blocked := a_blocked) (y_R := nI R) (y_draft := f_hasDraft) (y_solved := f_hasModel) (b_facts := b_facts) (b_code := b_code) (b_len := b_len) (b_value := b_value) (b_stage := b_stage) (b_height := b_height) (b_candidate := b_candidate) (b_m := b_m) (b_s := b_s) (b_next := b_next) (b_certain := b_certain) hz v1 v2 v3 with ⟨hX, hY⟩ | ⟨t, ht, hX, hY⟩
  · refine hX _ (br_f rv_m1.1 ?_)
    unfold wpY_fact
    dsimp only
    exact hY _ (br_f rv_m1.1 ⟨rfl, rl_in H0⟩)
  · have h48 := (pg_N48 hz).1
    have h96 := pg_w_in hz ht
    have et : (nI t).toNatClampNeg = t := nI_clamp (by omega)
    have ew : (nI (pg_w C U t)).toNatClampNeg = pg_w C U t := nI_clamp (by omega)
    have wt : vp_in (nI t) 48 := vp_in_nI (by omega) (by omega)
    have ww : vp_in (nI (pg_w C U t)) 96 := vp_in_nI (by omega) (by omega)
    have key : ∀ z : Int32, (z = 0 ∨ z = 1) → vp_nar .boolean z = z → (∀ post : Int32 → SY → Prop, (b_facts (pg_w C U t) = z → post 1 (nI C, nI U, nI (U + B), nI R, nI n, f_hasDraft, f_hasModel, b_facts, b_code, b_len, b_value, b_stage, b_height, b_candidate, b_m, b_s, b_next, b_certain)) → (¬ b_facts (pg_w C U t) = z → post 0 (nI C, nI U, nI (U + B), nI R, nI n, f_hasDraft, 0, upd b_facts (pg_w C U t) z, b_code, b_len, b_value, b_stage, b_height, b_candidate, b_m, b_s, b_next, b_certain)) → wpY_fact post (nI C, nI U, nI (U + B), nI R, nI n, f_hasDraft, f_hasModel, b_facts, b_code, b_len, b_value, b_stage, b_height, b_candidate, b_m, b_s, b_next, b_certain) v1 v2 v3 v4) → wX_fact_26 (fun r u' => wpY_fact (fun r' v' => r' = r ∧ i_Rel k u' v') (nI C, nI U, nI (U + B), nI R, nI n, f_hasDraft, f_hasModel, b_facts, b_code, b_len, b_value, b_stage, b_height, b_candidate, b_m, b_s, b_next, b_certain) v1 v2 v3 v4) (nI t) z f_kindHead f_kindPositive f_kindNegated f_draftRow (nI C) (nI U) (nI B) (nI R) (nI (pg_N C U B)) (nI n) f_hasDraft f_grounded f_hasModel f_tail a_isFactAtom a_candidate a_bodyLength a_cellKind a_cellPred a_cellFirst a_cellSecond a_groundAtom a_groundKind a_positives a_start a_cursor a_occurrence a_value a_stage a_height a_reached a_depth a_queue a_missing a_blocked := by
      intro z hz01 hnz hy
      unfold wX_fact_26
      rw [et, hnz, hf.1 t ht]
      refine ⟨wt, br_c (fun g => hy _ (fun _ => ⟨rfl, rl_in H0⟩) (fun g' => absurd g g')) (fun g => ⟨wt, nm_e (hy _ (fun g' => absurd g' g) (fun _ => ⟨rfl, rl_in ⟨K, hR, E, EY, ⟨rl_ag_u hz hf ht, fun q hq => ?_⟩, hc, fun y => absurd rfl y, hm2, fun y => absurd rfl y⟩⟩))⟩)⟩
      by_cases c : q = pg_w C U t
      · rw [c, pk_us]; exact hz01
      · rw [pk_un c]; exact hf2 q hq
    refine hX _ (br_t (nI_pos' (by omega)) (br_c (fun g => key 0 (Or.inl rfl) rfl (fun post p1 p0 => ?_)) (fun g => key 1 (Or.inr rfl) rfl (fun post p1 p0 => ?_))))
    · unfold wpY_fact
      dsimp only
      refine hY _ (br_t (nI_pos' (by omega)) ⟨ww, br_t g ?_⟩)
      unfold wY_fact_33
      rw [ew, ma_n0]
      exact br_c p1 (fun y => br_t g ⟨ww, nm_e (p0 y)⟩)
    · unfold wpY_fact
      dsimp only
      refine hY _ (br_t (nI_pos' (by omega)) ⟨ww, br_f g ?_⟩)
      unfold wY_fact_33
      rw [ew, ma_n1]
      exact br_c p1 (fun y => br_f g ⟨ww, nm_e (p0 y)⟩)
/-- a method that reads an atom: one answer -/
theorem rv_read (H : rl_F C U B R n ln kd pd fs sn f_grounded f_hasModel a_isFactAtom a_candidate a_bodyLength a_cellKind a_cellPred a_cellFirst a_cellSecond a_groundAtom a_groundKind a_positives a_start a_occurrence a_value a_stage a_height b_facts b_code b_len b_value b_stage b_height b_candidate) (v1 v2 v3 : Int32) : ((∀ post : Int32 → Prop, post (-1) → wpX_atomOf post (f_kindHead, f_kindPositive, f_kindNegated, f_draftRow, nI C, nI U, nI B, nI R, nI (pg_N C U B), nI n, f_hasDraft, f_grounded, f_hasModel, f_tail, a_isFactAtom, a_candidate, a_bodyLength, a_cellKind, a_cellPred, a_cellFirst, a_cellSecond, a_groundAtom, a_groundKind, a_positives, a_start, a_cursor, a_occurrence, a_value, a_stage, a_height, a_reached, a_depth, a_queue, a_missing, a_blocked) v1 v2 v3) ∧ (∀ post : Int32 → Prop, post (-1) → wpY_position post (nI C, nI U, nI (U + B), nI R, nI n, f_hasDraft, f_hasModel, b_facts, b_code, b_len, b_value, b_stage, b_height, b_candidate, b_m, b_s, b_next, b_certain) v1 v2 v3)) ∨ ∃ t, t < pg_N C U B ∧ t < 48 ∧ pg_w C U t < 96 ∧ (nI t).toNatClampNeg = t ∧ (nI (pg_w C U t)).toNatClampNeg = pg_w C U t ∧ vp_in (nI t) 48 ∧ vp_in (nI (pg_w C U t)) 96 ∧ (0 : Int32) ≤ nI t ∧ (0 : Int32) ≤ nI (pg_w C U t) ∧ (∀ post : Int32 → Prop, post (nI t) → wpX_atomOf post (f_kindHead, f_kindPositive, f_kindNegated, f_draftRow, nI C, nI U, nI B, nI R, nI (pg_N C U B), nI n, f_hasDraft, f_grounded, f_hasModel, f_tail, a_isFactAtom, a_candidate, a_bodyLength, a_cellKind, a_cellPred, a_cellFirst, a_cellSecond, a_groundAtom, a_groundKind, a_positives, a_start, a_cursor, a_occurrence, a_value, a_stage, a_height, a_reached, a_depth, a_queue, a_missing, a_blocked) v1 v2 v3) ∧ (∀ post : Int32 → Prop, post (nI (pg_w C U t)) → wpY_position post (nI C, nI U, nI (U + B), nI R, nI n, f_hasDraft, f_hasModel, b_facts, b_code, b_len, b_value, b_stage, b_height, b_candidate, b_m, b_s, b_next, b_certain) v1 v2 v3) := by
  have hz := H.1.1
  rcases xa_both (n := n) (B := B) (f_kindHead := f_kindHead) (f_kindPositive := f_kindPositive) (f_kindNegated := f_kindNegated) (f_draftRow := f_draftRow) (f_maxRules := nI R) (f_hasDraft := f_hasDraft) (f_grounded := f_grounded) (f_hasModel := f_hasModel) (f_tail := f_tail) (a_isFactAtom := a_isFactAtom) (a_candidate := a_candidate) (a_bodyLength := a_bodyLength) (a_cellKind := a_cellKind) (a_cellPred := a_cellPred) (a_cellFirst := a_cellFirst) (a_cellSecond := a_cellSecond) (a_groundAtom := a_groundAtom) (a_groundKind := a_groundKind) (a_positives := a_positives) (a_start := a_start) (a_cursor := a_cursor) (a_occurrence := a_occurrence) (a_value := a_value) (a_stage := a_stage) (a_height := a_height) (a_reached := a_reached) (a_depth := a_depth) (a_queue := a_queue) (a_missing := a_missing) (a_blocked := a_blocked) (y_R := nI R) (y_draft := f_hasDraft) (y_solved := f_hasModel) (b_facts := b_facts) (b_code := b_code) (b_len := b_len) (b_value := b_value) (b_stage := b_stage) (b_height := b_height) (b_candidate := b_candidate) (b_m := b_m) (b_s := b_s) (b_next := b_next) (b_certain := b_certain) hz v1 v2 v3 with ⟨hX, hY⟩ | ⟨t, ht, hX, hY⟩
  · exact Or.inl ⟨hX, hY⟩
  · have h48 := (pg_N48 hz).1
    have h96 := pg_w_in hz ht
    exact Or.inr ⟨t, ht, by omega, h96, nI_clamp (by omega), nI_clamp (by omega), vp_in_nI (by omega) (by omega), vp_in_nI (by omega) (by omega), nI_pos' (by omega), nI_pos' (by omega), hX, hY⟩
theorem rv_isFact (H : rl_F C U B R n ln kd pd fs sn f_grounded f_hasModel a_isFactAtom a_candidate a_bodyLength a_cellKind a_cellPred a_cellFirst a_cellSecond a_groundAtom a_groundKind a_positives a_start a_occurrence a_value a_stage a_height b_facts b_code b_len b_value b_stage b_height b_candidate) (v1 v2 v3 : Int32) : wpX_isFact (fun r => wpY_isFact (fun r' => r' = r ∧ i_Rel k (f_kindHead, f_kindPositive, f_kindNegated, f_draftRow, nI C, nI U, nI B, nI R, nI (pg_N C U B), nI n, f_hasDraft, f_grounded, f_hasModel, f_tail, a_isFactAtom, a_candidate, a_bodyLength, a_cellKind, a_cellPred, a_cellFirst, a_cellSecond, a_groundAtom, a_groundKind, a_positives, a_start, a_cursor, a_occurrence, a_value, a_stage, a_height, a_reached, a_depth, a_queue, a_missing, a_blocked) (nI C, nI U, nI (U + B), nI R, nI n, f_hasDraft, f_hasModel, b_facts, b_code, b_len, b_value, b_stage, b_height, b_candidate, b_m, b_s, b_next, b_certain)) (nI C, nI U, nI (U + B), nI R, nI n, f_hasDraft, f_hasModel, b_facts, b_code, b_len, b_value, b_stage, b_height, b_candidate, b_m, b_s, b_next, b_certain) v1 v2 v3) (f_kindHead, f_kindPositive, f_kindNegated, f_draftRow, nI C, nI U, nI B, nI R, nI (pg_N C U B), nI n, f_hasDraft, f_grounded, f_hasModel, f_tail, a_isFactAtom, a_candidate, a_bodyLength, a_cellKind, a_cellPred, a_cellFirst, a_cellSecond, a_groundAtom, a_groundKind, a_positives, a_start, a_cursor, a_occurrence, a_value, a_stage, a_height, a_reached, a_depth, a_queue, a_missing, a_blocked) v1 v2 v3 := by
  have I : i_Rel k (f_kindHead, f_kindPositive, f_kindNegated, f_draftRow, nI C, nI U, nI B, nI R, nI (pg_N C U B), nI n, f_hasDraft, f_grounded, f_hasModel, f_tail, a_isFactAtom, a_candidate, a_bodyLength, a_cellKind, a_cellPred, a_cellFirst, a_cellSecond, a_groundAtom, a_groundKind, a_positives, a_start, a_cursor, a_occurrence, a_value, a_stage, a_height, a_reached, a_depth, a_queue, a_missing, a_blocked) (nI C, nI U, nI (U + B), nI R, nI n, f_hasDraft, f_hasModel, b_facts, b_code, b_len, b_value, b_stage, b_height, b_candidate, b_m, b_s, b_next, b_certain) := rl_in H
  have hf := H.2.2.2.2.1.1.1
  unfold wpX_isFact wpY_isFact
  dsimp only
  rcases rv_read (f_kindHead := f_kindHead) (f_kindPositive := f_kindPositive) (f_kindNegated := f_kindNegated) (f_draftRow := f_draftRow) (f_hasDraft := f_hasDraft) (f_tail := f_tail) (a_cursor := a_cursor) (a_reached := a_reached) (a_depth := a_depth) (a_queue := a_queue) (a_missing := a_missing) (a_blocked := a_blocked) (b_m := b_m) (b_s := b_s) (b_next := b_next) (b_certain := b_certain) H v1 v2 v3 with ⟨hX, hY⟩ | ⟨t, ht, h48, h96, et, ew, wt, ww, p1, p2, hX, hY⟩
  · exact hX _ (br_f rv_m1.1 (hY _ (br_f rv_m1.1 ⟨rfl, I⟩)))
  · refine hX _ (br_t p1 ⟨wt, ?_⟩)
    rw [et, hf t ht]
    refine br_c (fun g => hY _ (br_t p2 ⟨ww, ?_⟩)) (fun g => hY _ (br_t p2 ⟨ww, ?_⟩))
    · rw [ew]; exact br_t g ⟨rfl, I⟩
    · rw [ew]; exact br_f g ⟨rfl, I⟩
theorem rv_truth (H : rl_F C U B R n ln kd pd fs sn f_grounded f_hasModel a_isFactAtom a_candidate a_bodyLength a_cellKind a_cellPred a_cellFirst a_cellSecond a_groundAtom a_groundKind a_positives a_start a_occurrence a_value a_stage a_height b_facts b_code b_len b_value b_stage b_height b_candidate) (v1 v2 v3 : Int32) : wpX_truth (fun r => wpY_truth (fun r' => r' = r ∧ i_Rel k (f_kindHead, f_kindPositive, f_kindNegated, f_draftRow, nI C, nI U, nI B, nI R, nI (pg_N C U B), nI n, f_hasDraft, f_grounded, f_hasModel, f_tail, a_isFactAtom, a_candidate, a_bodyLength, a_cellKind, a_cellPred, a_cellFirst, a_cellSecond, a_groundAtom, a_groundKind, a_positives, a_start, a_cursor, a_occurrence, a_value, a_stage, a_height, a_reached, a_depth, a_queue, a_missing, a_blocked) (nI C, nI U, nI (U + B), nI R, nI n, f_hasDraft, f_hasModel, b_facts, b_code, b_len, b_value, b_stage, b_height, b_candidate, b_m, b_s, b_next, b_certain)) (nI C, nI U, nI (U + B), nI R, nI n, f_hasDraft, f_hasModel, b_facts, b_code, b_len, b_value, b_stage, b_height, b_candidate, b_m, b_s, b_next, b_certain) v1 v2 v3) (f_kindHead, f_kindPositive, f_kindNegated, f_draftRow, nI C, nI U, nI B, nI R, nI (pg_N C U B), nI n, f_hasDraft, f_grounded, f_hasModel, f_tail, a_isFactAtom, a_candidate, a_bodyLength, a_cellKind, a_cellPred, a_cellFirst, a_cellSecond, a_groundAtom, a_groundKind, a_positives, a_start, a_cursor, a_occurrence, a_value, a_stage, a_height, a_reached, a_depth, a_queue, a_missing, a_blocked) v1 v2 v3 := by
  have I : i_Rel k (f_kindHead, f_kindPositive, f_kindNegated, f_draftRow, nI C, nI U, nI B, nI R, nI (pg_N C U B), nI n, f_hasDraft, f_grounded, f_hasModel, f_tail, a_isFactAtom, a_candidate, a_bodyLength, a_cellKind, a_cellPred, a_cellFirst, a_cellSecond, a_groundAtom, a_groundKind, a_positives, a_start, a_cursor, a_occurrence, a_value, a_stage, a_height, a_reached, a_depth, a_queue, a_missing, a_blocked) (nI C, nI U, nI (U + B), nI R, nI n, f_hasDraft, f_hasModel, b_facts, b_code, b_len, b_value, b_stage, b_height, b_candidate, b_m, b_s, b_next, b_certain) := rl_in H
  have hm := H.2.2.2.2.2.2.2.2
  unfold wpX_truth wpY_truth
  dsimp only
  rcases rv_read (f_kindHead := f_kindHead) (f_kindPositive := f_kindPositive) (f_kindNegated := f_kindNegated) (f_draftRow := f_draftRow) (f_hasDraft := f_hasDraft) (f_tail := f_tail) (a_cursor := a_cursor) (a_reached := a_reached) (a_depth := a_depth) (a_queue := a_queue) (a_missing := a_missing) (a_blocked := a_blocked) (b_m := b_m) (b_s := b_s) (b_next := b_next) (b_certain := b_certain) H v1 v2 v3 with ⟨hX, hY⟩ | ⟨t, ht, h48, h96, et, ew, wt, ww, p1, p2, hX, hY⟩
  · exact hX _ (br_f rv_m1.1 (hY _ (br_f rv_m1.1 ⟨rfl, I⟩)))
  · refine hX _ (br_t p1 (br_c (fun g => hY _ (br_t p2 (br_t g ⟨rfl, I⟩))) (fun g => ⟨wt, hY _ (br_t p2 (br_f g ⟨ww, ?_, I⟩))⟩)))
    rw [et, ew, (hm g).1.1 t ht]
theorem rv_level (H : rl_F C U B R n ln kd pd fs sn f_grounded f_hasModel a_isFactAtom a_candidate a_bodyLength a_cellKind a_cellPred a_cellFirst a_cellSecond a_groundAtom a_groundKind a_positives a_start a_occurrence a_value a_stage a_height b_facts b_code b_len b_value b_stage b_height b_candidate) (v1 v2 v3 : Int32) : wpX_level (fun r => wpY_level (fun r' => r' = r ∧ i_Rel k (f_kindHead, f_kindPositive, f_kindNegated, f_draftRow, nI C, nI U, nI B, nI R, nI (pg_N C U B), nI n, f_hasDraft, f_grounded, f_hasModel, f_tail, a_isFactAtom, a_candidate, a_bodyLength, a_cellKind, a_cellPred, a_cellFirst, a_cellSecond, a_groundAtom, a_groundKind, a_positives, a_start, a_cursor, a_occurrence, a_value, a_stage, a_height, a_reached, a_depth, a_queue, a_missing, a_blocked) (nI C, nI U, nI (U + B), nI R, nI n, f_hasDraft, f_hasModel, b_facts, b_code, b_len, b_value, b_stage, b_height, b_candidate, b_m, b_s, b_next, b_certain)) (nI C, nI U, nI (U + B), nI R, nI n, f_hasDraft, f_hasModel, b_facts, b_code, b_len, b_value, b_stage, b_height, b_candidate, b_m, b_s, b_next, b_certain) v1 v2 v3) (f_kindHead, f_kindPositive, f_kindNegated, f_draftRow, nI C, nI U, nI B, nI R, nI (pg_N C U B), nI n, f_hasDraft, f_grounded, f_hasModel, f_tail, a_isFactAtom, a_candidate, a_bodyLength, a_cellKind, a_cellPred, a_cellFirst, a_cellSecond, a_groundAtom, a_groundKind, a_positives, a_start, a_cursor, a_occurrence, a_value, a_stage, a_height, a_reached, a_depth, a_queue, a_missing, a_blocked) v1 v2 v3 := by
  have I : i_Rel k (f_kindHead, f_kindPositive, f_kindNegated, f_draftRow, nI C, nI U, nI B, nI R, nI (pg_N C U B), nI n, f_hasDraft, f_grounded, f_hasModel, f_tail, a_isFactAtom, a_candidate, a_bodyLength, a_cellKind, a_cellPred, a_cellFirst, a_cellSecond, a_groundAtom, a_groundKind, a_positives, a_start, a_cursor, a_occurrence, a_value, a_stage, a_height, a_reached, a_depth, a_queue, a_missing, a_blocked) (nI C, nI U, nI (U + B), nI R, nI n, f_hasDraft, f_hasModel, b_facts, b_code, b_len, b_value, b_stage, b_height, b_candidate, b_m, b_s, b_next, b_certain) := rl_in H
  have hm := H.2.2.2.2.2.2.2.2
  unfold wpX_level wpY_level
  dsimp only
  rcases rv_read (f_kindHead := f_kindHead) (f_kindPositive := f_kindPositive) (f_kindNegated := f_kindNegated) (f_draftRow := f_draftRow) (f_hasDraft := f_hasDraft) (f_tail := f_tail) (a_cursor := a_cursor) (a_reached := a_reached) (a_depth := a_depth) (a_queue := a_queue) (a_missing := a_missing) (a_blocked := a_blocked) (b_m := b_m) (b_s := b_s) (b_next := b_next) (b_certain := b_certain) H v1 v2 v3 with ⟨hX, hY⟩ | ⟨t, ht, h48, h96, et, ew, wt, ww, p1, p2, hX, hY⟩
  · exact hX _ (br_f rv_m1.1 (hY _ (br_f rv_m1.1 ⟨rfl, I⟩)))
  · refine hX _ (br_t p1 (br_c (fun g => hY _ (br_t p2 (br_t g ⟨rfl, I⟩))) (fun g => ⟨wt, wt, hY _ (br_t p2 (br_f g ⟨ww, ww, ?_, I⟩))⟩)))
    rw [et, ew, ((hm g).2 t ht).1, ((hm g).2 t ht).2]
theorem rv_guessed (H : rl_F C U B R n ln kd pd fs sn f_grounded f_hasModel a_isFactAtom a_candidate a_bodyLength a_cellKind a_cellPred a_cellFirst a_cellSecond a_groundAtom a_groundKind a_positives a_start a_occurrence a_value a_stage a_height b_facts b_code b_len b_value b_stage b_height b_candidate) (v1 v2 v3 : Int32) : wpX_guessed (fun r => wpY_guessed (fun r' => r' = r ∧ i_Rel k (f_kindHead, f_kindPositive, f_kindNegated, f_draftRow, nI C, nI U, nI B, nI R, nI (pg_N C U B), nI n, f_hasDraft, f_grounded, f_hasModel, f_tail, a_isFactAtom, a_candidate, a_bodyLength, a_cellKind, a_cellPred, a_cellFirst, a_cellSecond, a_groundAtom, a_groundKind, a_positives, a_start, a_cursor, a_occurrence, a_value, a_stage, a_height, a_reached, a_depth, a_queue, a_missing, a_blocked) (nI C, nI U, nI (U + B), nI R, nI n, f_hasDraft, f_hasModel, b_facts, b_code, b_len, b_value, b_stage, b_height, b_candidate, b_m, b_s, b_next, b_certain)) (nI C, nI U, nI (U + B), nI R, nI n, f_hasDraft, f_hasModel, b_facts, b_code, b_len, b_value, b_stage, b_height, b_candidate, b_m, b_s, b_next, b_certain) v1 v2 v3) (f_kindHead, f_kindPositive, f_kindNegated, f_draftRow, nI C, nI U, nI B, nI R, nI (pg_N C U B), nI n, f_hasDraft, f_grounded, f_hasModel, f_tail, a_isFactAtom, a_candidate, a_bodyLength, a_cellKind, a_cellPred, a_cellFirst, a_cellSecond, a_groundAtom, a_groundKind, a_positives, a_start, a_cursor, a_occurrence, a_value, a_stage, a_height, a_reached, a_depth, a_queue, a_missing, a_blocked) v1 v2 v3 := by
  have I : i_Rel k (f_kindHead, f_kindPositive, f_kindNegated, f_draftRow, nI C, nI U, nI B, nI R, nI (pg_N C U B), nI n, f_hasDraft, f_grounded, f_hasModel, f_tail, a_isFactAtom, a_candidate, a_bodyLength, a_cellKind, a_cellPred, a_cellFirst, a_cellSecond, a_groundAtom, a_groundKind, a_positives, a_start, a_cursor, a_occurrence, a_value, a_stage, a_height, a_reached, a_depth, a_queue, a_missing, a_blocked) (nI C, nI U, nI (U + B), nI R, nI n, f_hasDraft, f_hasModel, b_facts, b_code, b_len, b_value, b_stage, b_height, b_candidate, b_m, b_s, b_next, b_certain) := rl_in H
  have hc := H.2.2.2.2.2.1.1
  unfold wpX_guessed wpY_guessed
  dsimp only
  rcases rv_read (f_kindHead := f_kindHead) (f_kindPositive := f_kindPositive) (f_kindNegated := f_kindNegated) (f_draftRow := f_draftRow) (f_hasDraft := f_hasDraft) (f_tail := f_tail) (a_cursor := a_cursor) (a_reached := a_reached) (a_depth := a_depth) (a_queue := a_queue) (a_missing := a_missing) (a_blocked := a_blocked) (b_m := b_m) (b_s := b_s) (b_next := b_next) (b_certain := b_certain) H v1 v2 v3 with ⟨hX, hY⟩ | ⟨t, ht, h48, h96, et, ew, wt, ww, p1, p2, hX, hY⟩
  · exact hX _ (br_f rv_m1.1 (hY _ (br_f rv_m1.1 ⟨rfl, I⟩)))
  · refine hX _ (br_t p1 ⟨wt, hY _ (br_t p2 ⟨ww, ?_, I⟩)⟩)
    rw [et, ew, hc t ht]
theorem rv_guess (H : rl_F C U B R n ln kd pd fs sn f_grounded f_hasModel a_isFactAtom a_candidate a_bodyLength a_cellKind a_cellPred a_cellFirst a_cellSecond a_groundAtom a_groundKind a_positives a_start a_occurrence a_value a_stage a_height b_facts b_code b_len b_value b_stage b_height b_candidate) (v1 v2 v3 v4 : Int32) : wpX_guess (fun r u' => wpY_guess (fun r' v' => r' = r ∧ i_Rel k u' v') (nI C, nI U, nI (U + B), nI R, nI n, f_hasDraft, f_hasModel, b_facts, b_code, b_len, b_value, b_stage, b_height, b_candidate, b_m, b_s, b_next, b_certain) v1 v2 v3 v4) (f_kindHead, f_kindPositive, f_kindNegated, f_draftRow, nI C, nI U, nI B, nI R, nI (pg_N C U B), nI n, f_hasDraft, f_grounded, f_hasModel, f_tail, a_isFactAtom, a_candidate, a_bodyLength, a_cellKind, a_cellPred, a_cellFirst, a_cellSecond, a_groundAtom, a_groundKind, a_positives, a_start, a_cursor, a_occurrence, a_value, a_stage, a_height, a_reached, a_depth, a_queue, a_missing, a_blocked) v1 v2 v3 v4 := by
  have I : i_Rel k (f_kindHead, f_kindPositive, f_kindNegated, f_draftRow, nI C, nI U, nI B, nI R, nI (pg_N C U B), nI n, f_hasDraft, f_grounded, f_hasModel, f_tail, a_isFactAtom, a_candidate, a_bodyLength, a_cellKind, a_cellPred, a_cellFirst, a_cellSecond, a_groundAtom, a_groundKind, a_positives, a_start, a_cursor, a_occurrence, a_value, a_stage, a_height, a_reached, a_depth, a_queue, a_missing, a_blocked) (nI C, nI U, nI (U + B), nI R, nI n, f_hasDraft, f_hasModel, b_facts, b_code, b_len, b_value, b_stage, b_height, b_candidate, b_m, b_s, b_next, b_certain) := rl_in H
  have H0 := H
  obtain ⟨K, hR, E, EY, hf, hc, hm1, hm2, hm3⟩ := H
  unfold wpX_guess
  dsimp only
  rcases rv_read (f_kindHead := f_kindHead) (f_kindPositive := f_kindPositive) (f_kindNegated := f_kindNegated) (f_draftRow := f_draftRow) (f_hasDraft := f_hasDraft) (f_tail := f_tail) (a_cursor := a_cursor) (a_reached := a_reached) (a_depth := a_depth) (a_queue := a_queue) (a_missing := a_missing) (a_blocked := a_blocked) (b_m := b_m) (b_s := b_s) (b_next := b_next) (b_certain := b_certain) H0 v1 v2 v3 with ⟨hX, hY⟩ | ⟨t, ht, h48, h96, et, ew, wt, ww, p1, p2, hX, hY⟩
  · refine hX _ (br_t rv_m1.2 ?_)
    unfold wpY_guess
    dsimp only
    exact hY _ (br_t rv_m1.2 ⟨rfl, I⟩)
  · have n1 : ¬ nI t < 0 := nI_pos (by omega)
    have n2 : ¬ nI (pg_w C U t) < 0 := nI_pos (by omega)
    have ok : ¬ v4 < 0 → v4 ≤ 2 → wpY_guess (fun r' v' => r' = 0 ∧ i_Rel k (f_kindHead, f_kindPositive, f_kindNegated, f_draftRow, nI C, nI U, nI B, nI R, nI (pg_N C U B), nI n, f_hasDraft, f_grounded, f_hasModel, f_tail, a_isFactAtom, upd a_candidate t v4, a_bodyLength, a_cellKind, a_cellPred, a_cellFirst, a_cellSecond, a_groundAtom, a_groundKind, a_positives, a_start, a_cursor, a_occurrence, a_value, a_stage, a_height, a_reached, a_depth, a_queue, a_missing, a_blocked) v') (nI C, nI U, nI (U + B), nI R, nI n, f_hasDraft, f_hasModel, b_facts, b_code, b_len, b_value, b_stage, b_height, b_candidate, b_m, b_s, b_next, b_certain) v1 v2 v3 v4 := by
      intro g1 g2
      unfold wpY_guess
      dsimp only
      refine hY _ (br_f n2 (br_f g1 (br_t g2 ⟨ww, nm_r (e' := upd b_candidate (pg_w C U t) v4) (by rw [ew]) ⟨rfl, rl_in ⟨K, hR, E, EY, hf, rl_ag_u K.1 hc ht, hm1, hm2, hm3⟩⟩⟩)))
    refine hX _ (br_f n1 ?_)
    rw [et]
    refine br_c (fun g => ⟨wt, nm_e (ok (by rw [g]; decide) (by rw [g]; decide))⟩) (fun g0 => br_c (fun g => ⟨wt, nm_e (ok (by rw [g]; decide) (by rw [g]; decide))⟩) (fun g1 => br_c (fun g => ⟨wt, nm_e (ok (by rw [g]; decide) (by rw [g]; decide))⟩) (fun g2 => ?_)))
    unfold wpY_guess
    dsimp only
    refine hY _ (br_f n2 (br_c (fun _ => ⟨rfl, I⟩) (fun y0 => br_f (fun y1 => ?_) ⟨rfl, I⟩)))
    obtain ⟨j, hj, rfl⟩ := nI_of2 (M := 2) (n := 2) (by decide) y0 y1
    have hj3 : j = 0 ∨ j = 1 ∨ j = 2 := by omega
    rcases hj3 with rfl | rfl | rfl
    · exact g0 rfl
    · exact g1 rfl
    · exact g2 rfl
/-- adopt -/
theorem rv_xadopt {post : Int32 → SX → Prop} (hN : pg_N C U B ≤ 48) (h : ∀ ca : Nat → Int32, (∀ a, a < pg_N C U B → ca a = a_value a) → post 0 (f_kindHead, f_kindPositive, f_kindNegated, f_draftRow, nI C, nI U, nI B, nI R, nI (pg_N C U B), nI n, f_hasDraft, f_grounded, f_hasModel, f_tail, a_isFactAtom, ca, a_bodyLength, a_cellKind, a_cellPred, a_cellFirst, a_cellSecond, a_groundAtom, a_groundKind, a_positives, a_start, a_cursor, a_occurrence, a_value, a_stage, a_height, a_reached, a_depth, a_queue, a_missing, a_blocked)) :
    ∀ (d a f : Nat) (ca : Nat → Int32), a + d = pg_N C U B → d < f → (∀ a', a' < a → ca a' = a_value a') → wX_adopt_12 post f_kindHead f_kindPositive f_kindNegated f_draftRow (nI C) (nI U) (nI B) (nI R) (nI (pg_N C U B)) (nI n) f_hasDraft f_grounded f_hasModel f_tail f (nI a) a_isFactAtom ca a_bodyLength a_cellKind a_cellPred a_cellFirst a_cellSecond a_groundAtom a_groundKind a_positives a_start a_cursor a_occurrence a_value a_stage a_height a_reached a_depth a_queue a_missing a_blocked := by
  intro d
  induction d with
  | zero =>
    intro a f ca h1 h2 I
    obtain ⟨f, rfl⟩ : ∃ m, f = m + 1 := ⟨f - 1, by omega⟩
    rw [wX_adopt_12]
    dsimp only
    exact br_t (nI_le (by omega) (by omega)) (h ca (fun a' ha' => I a' (by omega)))
  | succ d ih =>
    intro a f ca h1 h2 I
    obtain ⟨f, rfl⟩ : ∃ m, f = m + 1 := ⟨f - 1, by omega⟩
    have ea : (nI a).toNatClampNeg = a := nI_clamp (by omega)
    have wa : vp_in (nI a) 48 := vp_in_nI (by omega) (by omega)
    rw [wX_adopt_12]
    dsimp only
    rw [ea]
    refine br_f (nI_ge (by omega) (by omega)) ⟨wa, wa, nm_e (nm_r (nI_1 a) (ih (a + 1) f _ (by omega) (by omega) (fun a' ha' => ?_)))⟩
    by_cases c : a' = a
    · rw [c, pk_us]
    · rw [pk_un c]; exact I a' (by omega)
theorem rv_yadopt {post : Int32 → SY → Prop} (h : ∀ ca : Nat → Int32, (∀ q, q < 96 → ca q = b_value q) → post 0 (nI C, nI U, nI (U + B), nI R, nI n, f_hasDraft, f_hasModel, b_facts, b_code, b_len, b_value, b_stage, b_height, ca, b_m, b_s, b_next, b_certain)) :
    ∀ (d q f : Nat) (ca : Nat → Int32), q + d = 96 → d < f → (∀ q', q' < q → ca q' = b_value q') → wY_adopt_12 post (nI C) (nI U) (nI (U + B)) (nI R) (nI n) f_hasDraft f_hasModel f (nI q) b_facts b_code b_len b_value b_stage b_height ca b_m b_s b_next b_certain := by
  intro d
  induction d with
  | zero =>
    intro q f ca h1 h2 I
    obtain ⟨f, rfl⟩ : ∃ m, f = m + 1 := ⟨f - 1, by omega⟩
    rw [wY_adopt_12]
    dsimp only
    exact br_t (nI_le (a := 96) (by omega) (by omega)) (h ca (fun q' hq' => I q' (by omega)))
  | succ d ih =>
    intro q f ca h1 h2 I
    obtain ⟨f, rfl⟩ : ∃ m, f = m + 1 := ⟨f - 1, by omega⟩
    have eq : (nI q).toNatClampNeg = q := nI_clamp (by omega)
    have wq : vp_in (nI q) 96 := vp_in_nI (by omega) (by omega)
    rw [wY_adopt_12]
    dsimp only
    rw [eq]
    refine br_f (nI_ge (b := 96) (by omega) (by omega)) ⟨wq, wq, nm_e (nm_r (nI_1 q) (ih (q + 1) f _ (by omega) (by omega) (fun q' hq' => ?_)))⟩
    by_cases c : q' = q
    · rw [c, pk_us]
    · rw [pk_un c]; exact I q' (by omega)
theorem rv_adopt (H : rl_F C U B R n ln kd pd fs sn f_grounded f_hasModel a_isFactAtom a_candidate a_bodyLength a_cellKind a_cellPred a_cellFirst a_cellSecond a_groundAtom a_groundKind a_positives a_start a_occurrence a_value a_stage a_height b_facts b_code b_len b_value b_stage b_height b_candidate) : wpX_adopt (fun r u' => wpY_adopt (fun r' v' => r' = r ∧ i_Rel k u' v') (nI C, nI U, nI (U + B), nI R, nI n, f_hasDraft, f_hasModel, b_facts, b_code, b_len, b_value, b_stage, b_height, b_candidate, b_m, b_s, b_next, b_certain)) (f_kindHead, f_kindPositive, f_kindNegated, f_draftRow, nI C, nI U, nI B, nI R, nI (pg_N C U B), nI n, f_hasDraft, f_grounded, f_hasModel, f_tail, a_isFactAtom, a_candidate, a_bodyLength, a_cellKind, a_cellPred, a_cellFirst, a_cellSecond, a_groundAtom, a_groundKind, a_positives, a_start, a_cursor, a_occurrence, a_value, a_stage, a_height, a_reached, a_depth, a_queue, a_missing, a_blocked) := by
  have I : i_Rel k (f_kindHead, f_kindPositive, f_kindNegated, f_draftRow, nI C, nI U, nI B, nI R, nI (pg_N C U B), nI n, f_hasDraft, f_grounded, f_hasModel, f_tail, a_isFactAtom, a_candidate, a_bodyLength, a_cellKind, a_cellPred, a_cellFirst, a_cellSecond, a_groundAtom, a_groundKind, a_positives, a_start, a_cursor, a_occurrence, a_value, a_stage, a_height, a_reached, a_depth, a_queue, a_missing, a_blocked) (nI C, nI U, nI (U + B), nI R, nI n, f_hasDraft, f_hasModel, b_facts, b_code, b_len, b_value, b_stage, b_height, b_candidate, b_m, b_s, b_next, b_certain) := rl_in H
  obtain ⟨K, hR, E, EY, hf, hc, hm1, hm2, hm3⟩ := H
  have h48 := (pg_N48 K.1).1
  refine br_c (fun g => br_t g ⟨rfl, I⟩) (fun g => ⟨pg_N C U B + 1, ?_⟩)
  refine rv_xadopt h48 (fun ca J => ?_) (pg_N C U B) 0 _ a_candidate (by omega) (by omega) (fun a' ha' => by omega)
  refine br_f g ⟨97, rv_yadopt (fun cb J2 => ⟨rfl, rl_in ⟨K, hR, E, EY, hf, ⟨fun a ha => ?_, fun q hq hn => ?_⟩, hm1, hm2, hm3⟩⟩) 96 0 _ b_candidate (by omega) (by omega) (fun a' ha' => by omega)⟩
  · rw [J a ha, J2 _ (pg_w_in K.1 ha)]
    exact (hm3 g).1.1 a ha
  · rw [J2 q hq]
    exact (hm3 g).1.2 q hq hn
end S
end
section
/-! the methods on rules: literal, head, body -/
theorem gr_ls_c {us : Nat → Prop} {ky ky' : Nat → Nat} (h : ∀ s, us s → ky s = ky' s) (k : Nat) : ∀ S, gr_ls us ky k S = gr_ls us ky' k S
  | 0 => rfl
  | S + 1 => by
    by_cases c : us S ∧ ky S = k
    · rw [gr_ls_t c.1 c.2, gr_ls_t (ky := ky') c.1 (by rw [← h S c.1]; exact c.2), gr_ls_c h k S]
    · rw [gr_ls_f c, gr_ls_f (ky := ky') (fun z => c ⟨z.1, by rw [h S z.1]; exact z.2⟩), gr_ls_c h k S]
theorem gr_cu_c {us : Nat → Prop} {ky ky' : Nat → Nat} (h : ∀ s, us s → ky s = ky' s) (S : Nat) : ∀ k, gr_cu us ky S k = gr_cu us ky' S k
  | 0 => rfl
  | k + 1 => by
    show gr_cu us ky S k + (gr_ls us ky k S).length = gr_cu us ky' S k + (gr_ls us ky' k S).length
    rw [gr_cu_c h S k, gr_ls_c h k S]
theorem gr_mc_k {us : Nat → Prop} {kk kk' : Nat → Nat} {dn : Nat → Prop} (h : ∀ s, us s → kk s = kk' s) (m : Nat) : gr_mc us kk dn m = gr_mc us kk' dn m := by
  have key : ∀ s, (us s ∧ kk s = 1 ∧ ¬ dn s) ↔ (us s ∧ kk' s = 1 ∧ ¬ dn s) := fun s => ⟨fun z => ⟨z.1, by rw [← h s z.1]; exact z.2.1, z.2.2⟩, fun z => ⟨z.1, by rw [h s z.1]; exact z.2.1, z.2.2⟩⟩
  unfold gr_mc
  rw [ma_oc (key (4 * m + 1)), ma_oc (key (4 * m + 2)), ma_oc (key (4 * m + 3))]
theorem gr_ok_c {S : Nat} {us us' : Nat → Prop} {kk kk' aa aa' : Nat → Nat} {ga gk po sa oc : Nat → Int32} (h1 : ∀ s, us s ↔ us' s) (h2 : ∀ s, us s → kk s = kk' s ∧ aa s = aa' s) (h : gr_ok S us kk aa ga gk po sa oc) : gr_ok S us' kk' aa' ga gk po sa oc := by
  have e : us = us' := funext fun s => propext (h1 s)
  subst e
  obtain ⟨g1, g2, g3, g4, g5⟩ := h
  have hk : ∀ s, us s → 3 * aa s + kk s = 3 * aa' s + kk' s := fun s u => by rw [(h2 s u).1, (h2 s u).2]
  refine ⟨fun s hs u => ?_, g2, fun m hm => ?_, fun k hk' => ?_, fun k hk' => ?_⟩
  · rw [← (h2 s u).1, ← (h2 s u).2]; exact g1 s hs u
  · rw [g3 m hm, gr_mc_k (fun s u => (h2 s u).1)]
  · rw [g4 k hk', gr_cu_c hk]
  · have := g5 k hk'
    rw [gr_cu_c hk, gr_ls_c hk] at this
    exact this
/-! one cell of the draft -/
section D
variable {C U B n : Nat} {ln kd pd fs sn : Nat → Nat}
theorem rd_ok {i k P S T : Nat} (K : pg_ok C U B n ln kd pd fs sn) (hi : i ≤ 3) (hi2 : i = 0 ∨ ln 8 + 1 = i) (hk : k ≤ 2) (hk0 : i = 0 ↔ k = 0) (hP : P < U + B) (hS : S < C ∨ S = 4 ∨ S = 5) (hT : T < C ∨ T = 4 ∨ T = 5) (hT0 : P < U → T = 0) : pg_ok C U B n (ma_u ln 8 i) (ma_u kd (32 + i) k) (ma_u pd (32 + i) P) (ma_u fs (32 + i) S) (ma_u sn (32 + i) T) := by
  obtain ⟨k1, k2, k3, k4, k5, k6⟩ := K
  refine ⟨k1, k2, fun r hr => ?_, fun c hc => ?_, fun r hr => ?_, fun r j hr j1 j2 => ?_⟩
  · by_cases z : r = 8
    · rw [z, ma_us]; exact hi
    · rw [ma_un z]; exact k3 r hr
  · by_cases z : c = 32 + i
    · rw [z, ma_us, ma_us, ma_us, ma_us]; exact ⟨hP, hS, hT, hT0, hk⟩
    · rw [ma_un z, ma_un z, ma_un z, ma_un z]; exact k4 c hc
  · by_cases z : 4 * r = 32 + i
    · have : i = 0 := by omega
      rw [z, ma_us]; exact hk0.mp this
    · rw [ma_un z]; exact k5 r hr
  · by_cases z : 4 * r + j = 32 + i
    · rw [z, ma_us]
      intro y
      have i0 := hk0.mpr y
      have l3 : ma_u ln 8 i r ≤ 3 := by
        by_cases x : r = 8
        · rw [x, ma_us]; exact hi
        · rw [ma_un x]; exact k3 r hr
      omega
    · rw [ma_un z]
      by_cases x : r = 8
      · rw [x, ma_us] at j2
        subst x
        rcases hi2 with e | e
        · omega
        · exact k6 8 j (by omega) j1 (by omega)
      · rw [ma_un x] at j2
        exact k6 r j hr j1 j2
theorem rd_us (hn : n ≤ 8) {x : Nat} (s : Nat) : pg_us C n ln s ↔ pg_us C n (ma_u ln 8 x) s := by
  constructor
  · rintro ⟨h1, h2, h3, h4⟩
    exact ⟨h1, h2, h3, by rw [ma_un (by omega)]; exact h4⟩
  · rintro ⟨h1, h2, h3, h4⟩
    rw [ma_un (by omega)] at h4
    exact ⟨h1, h2, h3, h4⟩
theorem rd_gr {i k P S T l : Nat} {ga gk po sa oc : Nat → Int32} (K : pg_ok C U B n ln kd pd fs sn) (h : gr_ok (64 * n) (pg_us C n ln) (pg_kk kd) (pg_aa C U pd fs sn) ga gk po sa oc) : gr_ok (64 * n) (pg_us C n (ma_u ln 8 l)) (pg_kk (ma_u kd (32 + i) k)) (pg_aa C U (ma_u pd (32 + i) P) (ma_u fs (32 + i) S) (ma_u sn (32 + i) T)) ga gk po sa oc := by
  refine gr_ok_c (rd_us K.2.1) (fun s u => ?_) h
  have hc := (pg_us_c K u).1
  have e : pg_c s ≠ 32 + i := by omega
  unfold pg_kk pg_aa
  rw [ma_un e, ma_un e, ma_un e, ma_un e]
  exact ⟨rfl, rfl⟩
theorem rd_ce {i k P S T l : Nat} {bl ck cp cf cs : Nat → Int32} (E : xa_ce ln kd pd fs sn bl ck cp cf cs) : xa_ce (ma_u ln 8 l) (ma_u kd (32 + i) k) (ma_u pd (32 + i) P) (ma_u fs (32 + i) S) (ma_u sn (32 + i) T) (upd bl 8 (nI l)) (upd ck (32 + i) (nI k)) (upd cp (32 + i) (nI P)) (upd cf (32 + i) (nI S)) (upd cs (32 + i) (nI T)) := by
  obtain ⟨e1, e2, e3, e4, e5⟩ := E
  exact ⟨ma_uI e1, ma_uI e2, ma_uI e3, ma_uI e4, ma_uI e5⟩
theorem rd_cy {i k P S T l : Nat} {co le : Nat → Int32} (E : xa_cy ln kd pd fs sn co le) {x : Int32} (hx : x = nI (1000 * (if k = 2 then 1 else 0) + 100 * P + 10 * S + T)) : xa_cy (ma_u ln 8 l) (ma_u kd (32 + i) k) (ma_u pd (32 + i) P) (ma_u fs (32 + i) S) (ma_u sn (32 + i) T) (upd co (32 + i) x) (upd le 8 (nI l)) := by
  obtain ⟨e1, e2⟩ := E
  refine ⟨fun j => ?_, ma_uI e2⟩
  unfold xa_cd xa_ng
  by_cases z : j = 32 + i
  · rw [z, pk_us, ma_us, ma_us, ma_us, ma_us]; exact hx
  · rw [pk_un z, ma_un z, ma_un z, ma_un z, ma_un z]; exact e1 j
end D

section R
variable {k C U B R n : Nat} {ln kd pd fs sn : Nat → Nat} {f_kindHead f_kindPositive f_kindNegated f_draftRow f_hasDraft f_grounded f_hasModel f_tail : Int32} {a_isFactAtom a_candidate a_bodyLength a_cellKind a_cellPred a_cellFirst a_cellSecond a_groundAtom a_groundKind a_positives a_start a_cursor a_occurrence a_value a_stage a_height a_reached a_depth a_queue a_missing a_blocked b_facts b_code b_len b_value b_stage b_height b_candidate b_m b_s b_next b_certain : Nat → Int32}
/-- one term, one pattern: both sides -/
theorem rv_term (hz : pg_sz C U B) (t : Int32) : (∃ T, t = nI T ∧ (T < C ∨ T = 4 ∨ T = 5) ∧ (∀ post : Int32 → Prop, post 1 → wpX_goodTerm post (f_kindHead, f_kindPositive, f_kindNegated, f_draftRow, nI C, nI U, nI B, nI R, nI (pg_N C U B), nI n, f_hasDraft, f_grounded, f_hasModel, f_tail, a_isFactAtom, a_candidate, a_bodyLength, a_cellKind, a_cellPred, a_cellFirst, a_cellSecond, a_groundAtom, a_groundKind, a_positives, a_start, a_cursor, a_occurrence, a_value, a_stage, a_height, a_reached, a_depth, a_queue, a_missing, a_blocked) t) ∧ (∀ post : Int32 → Prop, post 1 → wpY_goodTerm post (nI C, nI U, nI (U + B), nI R, nI n, f_hasDraft, f_hasModel, b_facts, b_code, b_len, b_value, b_stage, b_height, b_candidate, b_m, b_s, b_next, b_certain) t)) ∨ ((∀ post : Int32 → Prop, post 0 → wpX_goodTerm post (f_kindHead, f_kindPositive, f_kindNegated, f_draftRow, nI C, nI U, nI B, nI R, nI (pg_N C U B), nI n, f_hasDraft, f_grounded, f_hasModel, f_tail, a_isFactAtom, a_candidate, a_bodyLength, a_cellKind, a_cellPred, a_cellFirst, a_cellSecond, a_groundAtom, a_groundKind, a_positives, a_start, a_cursor, a_occurrence, a_value, a_stage, a_height, a_reached, a_depth, a_queue, a_missing, a_blocked) t) ∧ (∀ post : Int32 → Prop, post 0 → wpY_goodTerm post (nI C, nI U, nI (U + B), nI R, nI n, f_hasDraft, f_hasModel, b_facts, b_code, b_len, b_value, b_stage, b_height, b_candidate, b_m, b_s, b_next, b_certain) t)) := by
  obtain ⟨z1, z2, z3, z4, z5, z6⟩ := hz
  rcases pk_ix t (n := C) (by omega) with h | h | ⟨T, hT, rfl⟩
  · have n4 : ¬ t = 4 := fun e => by rw [e] at h; exact absurd h (by decide)
    have n5 : ¬ t = 5 := fun e => by rw [e] at h; exact absurd h (by decide)
    exact Or.inr ⟨fun post k => br_t h (br_f n4 (br_f n5 k)), fun post k => br_t h (br_f n4 (br_f n5 k))⟩
  · have n0 : ¬ t < 0 := xa_np (by omega) h
    have nC : ¬ t < nI C := xa_nl h
    by_cases e4 : t = 4
    · exact Or.inl ⟨4, e4, Or.inr (Or.inl rfl), fun post k => br_f n0 (br_f nC (br_t e4 k)), fun post k => br_f n0 (br_f nC (br_t e4 k))⟩
    · by_cases e5 : t = 5
      · exact Or.inl ⟨5, e5, Or.inr (Or.inr rfl), fun post k => br_f n0 (br_f nC (br_f e4 (br_t e5 k))), fun post k => br_f n0 (br_f nC (br_f e4 (br_t e5 k)))⟩
      · exact Or.inr ⟨fun post k => br_f n0 (br_f nC (br_f e4 (br_f e5 k))), fun post k => br_f n0 (br_f nC (br_f e4 (br_f e5 k)))⟩
  · have n0 : ¬ nI T < 0 := nI_pos (by omega)
    have nC : nI T < nI C := nI_lt hT (by omega)
    exact Or.inl ⟨T, rfl, Or.inl hT, fun post k => br_f n0 (br_t nC k), fun post k => br_f n0 (br_t nC k)⟩
theorem rv_pat (hz : pg_sz C U B) (p s t : Int32) : ((∀ post : Int32 → Prop, post 0 → wpX_goodPattern post (f_kindHead, f_kindPositive, f_kindNegated, f_draftRow, nI C, nI U, nI B, nI R, nI (pg_N C U B), nI n, f_hasDraft, f_grounded, f_hasModel, f_tail, a_isFactAtom, a_candidate, a_bodyLength, a_cellKind, a_cellPred, a_cellFirst, a_cellSecond, a_groundAtom, a_groundKind, a_positives, a_start, a_cursor, a_occurrence, a_value, a_stage, a_height, a_reached, a_depth, a_queue, a_missing, a_blocked) p s t) ∧ (∀ post : Int32 → Prop, post 0 → wpY_goodPattern post (nI C, nI U, nI (U + B), nI R, nI n, f_hasDraft, f_hasModel, b_facts, b_code, b_len, b_value, b_stage, b_height, b_candidate, b_m, b_s, b_next, b_certain) p s t)) ∨ (∃ P S T, P < U + B ∧ (S < C ∨ S = 4 ∨ S = 5) ∧ (T < C ∨ T = 4 ∨ T = 5) ∧ (P < U → T = 0) ∧ p = nI P ∧ s = nI S ∧ (U ≤ P → t = nI T) ∧ (∀ post : Int32 → Prop, post 1 → wpX_goodPattern post (f_kindHead, f_kindPositive, f_kindNegated, f_draftRow, nI C, nI U, nI B, nI R, nI (pg_N C U B), nI n, f_hasDraft, f_grounded, f_hasModel, f_tail, a_isFactAtom, a_candidate, a_bodyLength, a_cellKind, a_cellPred, a_cellFirst, a_cellSecond, a_groundAtom, a_groundKind, a_positives, a_start, a_cursor, a_occurrence, a_value, a_stage, a_height, a_reached, a_depth, a_queue, a_missing, a_blocked) p s t) ∧ (∀ post : Int32 → Prop, post 1 → wpY_goodPattern post (nI C, nI U, nI (U + B), nI R, nI n, f_hasDraft, f_hasModel, b_facts, b_code, b_len, b_value, b_stage, b_height, b_candidate, b_m, b_s, b_next, b_certain) p s t)) := by
  have hz' := hz
  obtain ⟨z1, z2, z3, z4, z5, z6⟩ := hz'
  have eS : nI U + nI B = nI (U + B) := nI_add U B
  have d10 : ¬ (1 : Int32) = 0 := by decide
  rcases pk_ix p (n := U + B) (by omega) with h | h | ⟨P, hP, rfl⟩
  · exact Or.inl ⟨fun post k => br_t h k, fun post k => br_t h k⟩
  · have h' : nI U + nI B ≤ p := by rw [eS]; exact h
    exact Or.inl ⟨fun post k => br_f (xa_np (by omega) h) (br_t h' k), fun post k => br_f (xa_np (by omega) h) (br_t h k)⟩
  · have p1 : ¬ nI P < 0 := nI_pos (by omega)
    have p2 : ¬ nI (U + B) ≤ nI P := nI_ge hP (by omega)
    have p2' : ¬ nI U + nI B ≤ nI P := by rw [eS]; exact p2
    rcases rv_term (C := C) (U := U) (B := B) (R := R) (n := n) (f_kindHead := f_kindHead) (f_kindPositive := f_kindPositive) (f_kindNegated := f_kindNegated) (f_draftRow := f_draftRow) (f_hasDraft := f_hasDraft) (f_grounded := f_grounded) (f_hasModel := f_hasModel) (f_tail := f_tail) (a_isFactAtom := a_isFactAtom) (a_candidate := a_candidate) (a_bodyLength := a_bodyLength) (a_cellKind := a_cellKind) (a_cellPred := a_cellPred) (a_cellFirst := a_cellFirst) (a_cellSecond := a_cellSecond) (a_groundAtom := a_groundAtom) (a_groundKind := a_groundKind) (a_positives := a_positives) (a_start := a_start) (a_cursor := a_cursor) (a_occurrence := a_occurrence) (a_value := a_value) (a_stage := a_stage) (a_height := a_height) (a_reached := a_reached) (a_depth := a_depth) (a_queue := a_queue) (a_missing := a_missing) (a_blocked := a_blocked) (b_facts := b_facts) (b_code := b_code) (b_len := b_len) (b_value := b_value) (b_stage := b_stage) (b_height := b_height) (b_candidate := b_candidate) (b_m := b_m) (b_s := b_s) (b_next := b_next) (b_certain := b_certain) hz s with ⟨S, rfl, hS, sX, sY⟩ | ⟨sX, sY⟩
    · by_cases c : P < U
      · have u1 : nI P < nI U := nI_lt c (by omega)
        exact Or.inr ⟨P, S, 0, hP, hS, Or.inl (by omega), fun _ => rfl, rfl, rfl, fun z => by omega, fun post k => br_f p1 (br_f p2' (sX _ (br_f d10 (br_t u1 k)))), fun post k => br_f p1 (br_f p2 (sY _ (br_f d10 (br_t u1 k))))⟩
      · have u1 : ¬ nI P < nI U := nI_nlt (by omega) (by omega)
        rcases rv_term (C := C) (U := U) (B := B) (R := R) (n := n) (f_kindHead := f_kindHead) (f_kindPositive := f_kindPositive) (f_kindNegated := f_kindNegated) (f_draftRow := f_draftRow) (f_hasDraft := f_hasDraft) (f_grounded := f_grounded) (f_hasModel := f_hasModel) (f_tail := f_tail) (a_isFactAtom := a_isFactAtom) (a_candidate := a_candidate) (a_bodyLength := a_bodyLength) (a_cellKind := a_cellKind) (a_cellPred := a_cellPred) (a_cellFirst := a_cellFirst) (a_cellSecond := a_cellSecond) (a_groundAtom := a_groundAtom) (a_groundKind := a_groundKind) (a_positives := a_positives) (a_start := a_start) (a_cursor := a_cursor) (a_occurrence := a_occurrence) (a_value := a_value) (a_stage := a_stage) (a_height := a_height) (a_reached := a_reached) (a_depth := a_depth) (a_queue := a_queue) (a_missing := a_missing) (a_blocked := a_blocked) (b_facts := b_facts) (b_code := b_code) (b_len := b_len) (b_value := b_value) (b_stage := b_stage) (b_height := b_height) (b_candidate := b_candidate) (b_m := b_m) (b_s := b_s) (b_next := b_next) (b_certain := b_certain) hz t with ⟨T, rfl, hT, tX, tY⟩ | ⟨tX, tY⟩
        · exact Or.inr ⟨P, S, T, hP, hS, hT, fun z => absurd z c, rfl, rfl, fun _ => rfl, fun post k => br_f p1 (br_f p2' (sX _ (br_f d10 (br_f u1 (tX _ (br_f d10 k)))))), fun post k => br_f p1 (br_f p2 (sY _ (br_f d10 (br_f u1 (tY _ (br_f d10 k))))))⟩
        · exact Or.inl ⟨fun post k => br_f p1 (br_f p2' (sX _ (br_f d10 (br_f u1 (tX _ (br_t rfl k)))))), fun post k => br_f p1 (br_f p2 (sY _ (br_f d10 (br_f u1 (tY _ (br_t rfl k))))))⟩
    · exact Or.inl ⟨fun post k => br_f p1 (br_f p2' (sX _ (br_t rfl k))), fun post k => br_f p1 (br_f p2 (sY _ (br_t rfl k)))⟩
theorem rv_cell {post : SX → Prop} {c P T : Nat} {kd0 s t : Int32} (hc : c < 36) (hU : U < 2 ^ 31) (hP : P < 2 ^ 31) (hT0 : P < U → T = 0) (hT : U ≤ P → t = nI T) (h : post (f_kindHead, f_kindPositive, f_kindNegated, f_draftRow, nI C, nI U, nI B, nI R, nI (pg_N C U B), nI n, f_hasDraft, f_grounded, f_hasModel, f_tail, a_isFactAtom, a_candidate, a_bodyLength, upd a_cellKind c kd0, upd a_cellPred c (nI P), upd a_cellFirst c s, upd a_cellSecond c (nI T), a_groundAtom, a_groundKind, a_positives, a_start, a_cursor, a_occurrence, a_value, a_stage, a_height, a_reached, a_depth, a_queue, a_missing, a_blocked)) : wpX_setCell post (f_kindHead, f_kindPositive, f_kindNegated, f_draftRow, nI C, nI U, nI B, nI R, nI (pg_N C U B), nI n, f_hasDraft, f_grounded, f_hasModel, f_tail, a_isFactAtom, a_candidate, a_bodyLength, a_cellKind, a_cellPred, a_cellFirst, a_cellSecond, a_groundAtom, a_groundKind, a_positives, a_start, a_cursor, a_occurrence, a_value, a_stage, a_height, a_reached, a_depth, a_queue, a_missing, a_blocked) (nI c) kd0 (nI P) s t := by
  have ec : (nI c).toNatClampNeg = c := nI_clamp (by omega)
  have wc : vp_in (nI c) 36 := vp_in_nI hc (by omega)
  unfold wpX_setCell
  dsimp only
  rw [ec]
  refine ⟨wc, nm_e ⟨wc, nm_e ⟨wc, nm_e (pk_le U P (fun g => ⟨wc, nm_e ?_⟩) (fun g => ⟨wc, nm_e ?_⟩))⟩⟩⟩
  · rw [hT g]; exact h
  · rw [hT0 g] at h; exact h
theorem rv_head (H : rl_F C U B R n ln kd pd fs sn f_grounded f_hasModel a_isFactAtom a_candidate a_bodyLength a_cellKind a_cellPred a_cellFirst a_cellSecond a_groundAtom a_groundKind a_positives a_start a_occurrence a_value a_stage a_height b_facts b_code b_len b_value b_stage b_height b_candidate) (v1 v2 v3 : Int32) : wpX_head (fun r u' => wpY_head (fun r' v' => r' = r ∧ i_Rel k u' v') (nI C, nI U, nI (U + B), nI R, nI n, f_hasDraft, f_hasModel, b_facts, b_code, b_len, b_value, b_stage, b_height, b_candidate, b_m, b_s, b_next, b_certain) v1 v2 v3) (f_kindHead, f_kindPositive, f_kindNegated, f_draftRow, nI C, nI U, nI B, nI R, nI (pg_N C U B), nI n, f_hasDraft, f_grounded, f_hasModel, f_tail, a_isFactAtom, a_candidate, a_bodyLength, a_cellKind, a_cellPred, a_cellFirst, a_cellSecond, a_groundAtom, a_groundKind, a_positives, a_start, a_cursor, a_occurrence, a_value, a_stage, a_height, a_reached, a_depth, a_queue, a_missing, a_blocked) v1 v2 v3 := by
  have I : i_Rel k (f_kindHead, f_kindPositive, f_kindNegated, f_draftRow, nI C, nI U, nI B, nI R, nI (pg_N C U B), nI n, f_hasDraft, f_grounded, f_hasModel, f_tail, a_isFactAtom, a_candidate, a_bodyLength, a_cellKind, a_cellPred, a_cellFirst, a_cellSecond, a_groundAtom, a_groundKind, a_positives, a_start, a_cursor, a_occurrence, a_value, a_stage, a_height, a_reached, a_depth, a_queue, a_missing, a_blocked) (nI C, nI U, nI (U + B), nI R, nI n, f_hasDraft, f_hasModel, b_facts, b_code, b_len, b_value, b_stage, b_height, b_candidate, b_m, b_s, b_next, b_certain) := rl_in H
  obtain ⟨K, hR, E, EY, hf, hc, hm1, hm2, hm3⟩ := H
  have hz := K.1
  obtain ⟨z1, z2, z3, z4, z5, z6⟩ := hz
  have d10 : ¬ (1 : Int32) = 0 := by decide
  unfold wpX_head
  dsimp only
  rcases rv_pat (C := C) (U := U) (B := B) (R := R) (n := n) (f_kindHead := f_kindHead) (f_kindPositive := f_kindPositive) (f_kindNegated := f_kindNegated) (f_draftRow := f_draftRow) (f_hasDraft := f_hasDraft) (f_grounded := f_grounded) (f_hasModel := f_hasModel) (f_tail := f_tail) (a_isFactAtom := a_isFactAtom) (a_candidate := a_candidate) (a_bodyLength := a_bodyLength) (a_cellKind := a_cellKind) (a_cellPred := a_cellPred) (a_cellFirst := a_cellFirst) (a_cellSecond := a_cellSecond) (a_groundAtom := a_groundAtom) (a_groundKind := a_groundKind) (a_positives := a_positives) (a_start := a_start) (a_cursor := a_cursor) (a_occurrence := a_occurrence) (a_value := a_value) (a_stage := a_stage) (a_height := a_height) (a_reached := a_reached) (a_depth := a_depth) (a_queue := a_queue) (a_missing := a_missing) (a_blocked := a_blocked) (b_facts := b_facts) (b_code := b_code) (b_len := b_len) (b_value := b_value) (b_stage := b_stage) (b_height := b_height) (b_candidate := b_candidate) (b_m := b_m) (b_s := b_s) (b_next := b_next) (b_certain := b_certain) K.1 v1 v2 v3 with ⟨hX, hY⟩ | ⟨P, S, T, hP, hS, hT, hT0, rfl, rfl, ht, hX, hY⟩
  · refine hX _ (br_t rfl ?_)
    unfold wpY_head
    dsimp only
    exact hY _ (br_t rfl ⟨rfl, I⟩)
  · refine hX _ (br_f d10 (nm_e ?_))
    refine rv_cell (c := 32) (T := T) (by omega) (by omega) (by omega) hT0 ht ?_
    dsimp only
    unfold wpY_head
    dsimp only
    have hce := rd_ce (i := 0) (k := 0) (P := P) (S := S) (T := T) (l := 0) E
    have hok := rd_ok (i := 0) (k := 0) (P := P) (S := S) (T := T) K (by omega) (Or.inl rfl) (by omega) ⟨fun _ => rfl, fun _ => rfl⟩ hP hS hT hT0
    have fin : ∀ x : Int32, x = nI (100 * P + 10 * S + T) → i_Rel k (f_kindHead, f_kindPositive, f_kindNegated, f_draftRow, nI C, nI U, nI B, nI R, nI (pg_N C U B), nI n, 1, f_grounded, f_hasModel, f_tail, a_isFactAtom, a_candidate, upd a_bodyLength 8 0, upd a_cellKind 32 0, upd a_cellPred 32 (nI P), upd a_cellFirst 32 (nI S), upd a_cellSecond 32 (nI T), a_groundAtom, a_groundKind, a_positives, a_start, a_cursor, a_occurrence, a_value, a_stage, a_height, a_reached, a_depth, a_queue, a_missing, a_blocked) (nI C, nI U, nI (U + B), nI R, nI n, 1, f_hasModel, b_facts, upd b_code 32 x, upd b_len 8 0, b_value, b_stage, b_height, b_candidate, b_m, b_s, b_next, b_certain) := by
      intro x hx
      refine rl_in (f_hasDraft := 1) ⟨hok, hR, hce, rd_cy (i := 0) (k := 0) (P := P) (S := S) (T := T) (l := 0) EY (x := x) ?_, hf, hc, hm1, fun y => rd_gr K (hm2 y), hm3⟩
      rw [hx]
      exact congrArg nI (by rw [if_neg (by omega)]; omega)
    have e2 : 100 * nI P + 10 * nI S = nI (100 * P + 10 * S) := by
      rw [← nI_add, ← pk_mul, ← pk_mul]; rfl
    refine hY _ (br_f d10 (nm_e (pk_le U P (fun g => nm_e ⟨rfl, fin _ ?_⟩) (fun g => nm_e ⟨rfl, fin _ ?_⟩))))
    · rw [ht g, e2, nI_add]
    · rw [hT0 g, e2]
      exact (nI_add _ 0)
theorem rv_body (H : rl_F C U B R n ln kd pd fs sn f_grounded f_hasModel a_isFactAtom a_candidate a_bodyLength a_cellKind a_cellPred a_cellFirst a_cellSecond a_groundAtom a_groundKind a_positives a_start a_occurrence a_value a_stage a_height b_facts b_code b_len b_value b_stage b_height b_candidate) (v1 v2 v3 v4 : Int32) : wpX_body (fun r u' => wpY_body (fun r' v' => r' = r ∧ i_Rel k u' v') (nI C, nI U, nI (U + B), nI R, nI n, f_hasDraft, f_hasModel, b_facts, b_code, b_len, b_value, b_stage, b_height, b_candidate, b_m, b_s, b_next, b_certain) v1 v2 v3 v4) (f_kindHead, f_kindPositive, f_kindNegated, f_draftRow, nI C, nI U, nI B, nI R, nI (pg_N C U B), nI n, f_hasDraft, f_grounded, f_hasModel, f_tail, a_isFactAtom, a_candidate, a_bodyLength, a_cellKind, a_cellPred, a_cellFirst, a_cellSecond, a_groundAtom, a_groundKind, a_positives, a_start, a_cursor, a_occurrence, a_value, a_stage, a_height, a_reached, a_depth, a_queue, a_missing, a_blocked) v1 v2 v3 v4 := by
  have I : i_Rel k (f_kindHead, f_kindPositive, f_kindNegated, f_draftRow, nI C, nI U, nI B, nI R, nI (pg_N C U B), nI n, f_hasDraft, f_grounded, f_hasModel, f_tail, a_isFactAtom, a_candidate, a_bodyLength, a_cellKind, a_cellPred, a_cellFirst, a_cellSecond, a_groundAtom, a_groundKind, a_positives, a_start, a_cursor, a_occurrence, a_value, a_stage, a_height, a_reached, a_depth, a_queue, a_missing, a_blocked) (nI C, nI U, nI (U + B), nI R, nI n, f_hasDraft, f_hasModel, b_facts, b_code, b_len, b_value, b_stage, b_height, b_candidate, b_m, b_s, b_next, b_certain) := rl_in H
  obtain ⟨K, hR, E, EY, hf, hc, hm1, hm2, hm3⟩ := H
  obtain ⟨z1, z2, z3, z4, z5, z6⟩ := K.1
  have d10 : ¬ (1 : Int32) = 0 := by decide
  have l3 := K.2.2.1 8 (by omega)
  -- both sides behind the looks at the draft and at the sign
  have key : ∀ g : Nat, g ≤ 1 → v1 = nI g → (∀ post : Int32 → SY → Prop, wY_body_19 post v1 v2 v3 v4 (nI C) (nI U) (nI (U + B)) (nI R) (nI n) f_hasDraft f_hasModel b_facts b_code b_len b_value b_stage b_height b_candidate b_m b_s b_next b_certain → wpY_body post (nI C, nI U, nI (U + B), nI R, nI n, f_hasDraft, f_hasModel, b_facts, b_code, b_len, b_value, b_stage, b_height, b_candidate, b_m, b_s, b_next, b_certain) v1 v2 v3 v4) → wX_body_19 (fun r u' => wpY_body (fun r' v' => r' = r ∧ i_Rel k u' v') (nI C, nI U, nI (U + B), nI R, nI n, f_hasDraft, f_hasModel, b_facts, b_code, b_len, b_value, b_stage, b_height, b_candidate, b_m, b_s, b_next, b_certain) v1 v2 v3 v4) v1 v2 v3 v4 f_kindHead f_kindPositive f_kindNegated f_draftRow (nI C) (nI U) (nI B) (nI R) (nI (pg_N C U B)) (nI n) f_hasDraft f_grounded f_hasModel f_tail a_isFactAtom a_candidate a_bodyLength a_cellKind a_cellPred a_cellFirst a_cellSecond a_groundAtom a_groundKind a_positives a_start a_cursor a_occurrence a_value a_stage a_height a_reached a_depth a_queue a_missing a_blocked := by
    intro g hg ev hy
    unfold wX_body_19
    rcases rv_pat (C := C) (U := U) (B := B) (R := R) (n := n) (f_kindHead := f_kindHead) (f_kindPositive := f_kindPositive) (f_kindNegated := f_kindNegated) (f_draftRow := f_draftRow) (f_hasDraft := f_hasDraft) (f_grounded := f_grounded) (f_hasModel := f_hasModel) (f_tail := f_tail) (a_isFactAtom := a_isFactAtom) (a_candidate := a_candidate) (a_bodyLength := a_bodyLength) (a_cellKind := a_cellKind) (a_cellPred := a_cellPred) (a_cellFirst := a_cellFirst) (a_cellSecond := a_cellSecond) (a_groundAtom := a_groundAtom) (a_groundKind := a_groundKind) (a_positives := a_positives) (a_start := a_start) (a_cursor := a_cursor) (a_occurrence := a_occurrence) (a_value := a_value) (a_stage := a_stage) (a_height := a_height) (a_reached := a_reached) (a_depth := a_depth) (a_queue := a_queue) (a_missing := a_missing) (a_blocked := a_blocked) (b_facts := b_facts) (b_code := b_code) (b_len := b_len) (b_value := b_value) (b_stage := b_stage) (b_height := b_height) (b_candidate := b_candidate) (b_m := b_m) (b_s := b_s) (b_next := b_next) (b_certain := b_certain) K.1 v2 v3 v4 with ⟨hX, hY⟩ | ⟨P, S, T, hP, hS, hT, hT0, rfl, rfl, ht, hX, hY⟩
    · exact hX _ (br_t rfl (hy _ (hY _ (br_t rfl ⟨rfl, I⟩))))
    · refine hX _ (br_f d10 ?_)
      rw [E.1 8]
      refine pk_lt (ln 8) 3 (fun q => ?_) (fun q => ?_)
      · have hce : ∀ kk : Nat, xa_ce (ma_u ln 8 (ln 8 + 1)) (ma_u kd (32 + (ln 8 + 1)) kk) (ma_u pd (32 + (ln 8 + 1)) P) (ma_u fs (32 + (ln 8 + 1)) S) (ma_u sn (32 + (ln 8 + 1)) T) (upd a_bodyLength 8 (nI (ln 8 + 1))) (upd a_cellKind (32 + (ln 8 + 1)) (nI kk)) (upd a_cellPred (32 + (ln 8 + 1)) (nI P)) (upd a_cellFirst (32 + (ln 8 + 1)) (nI S)) (upd a_cellSecond (32 + (ln 8 + 1)) (nI T)) := fun kk => rd_ce E
        have fin : ∀ (kk : Nat) (x : Int32), (kk = if g = 1 then 2 else 1) → x = nI (1000 * g + 100 * P + 10 * S + T) → i_Rel k (f_kindHead, f_kindPositive, f_kindNegated, f_draftRow, nI C, nI U, nI B, nI R, nI (pg_N C U B), nI n, f_hasDraft, f_grounded, f_hasModel, f_tail, a_isFactAtom, a_candidate, upd a_bodyLength 8 (nI (ln 8 + 1)), upd a_cellKind (32 + (ln 8 + 1)) (nI kk), upd a_cellPred (32 + (ln 8 + 1)) (nI P), upd a_cellFirst (32 + (ln 8 + 1)) (nI S), upd a_cellSecond (32 + (ln 8 + 1)) (nI T), a_groundAtom, a_groundKind, a_positives, a_start, a_cursor, a_occurrence, a_value, a_stage, a_height, a_reached, a_depth, a_queue, a_missing, a_blocked) (nI C, nI U, nI (U + B), nI R, nI n, f_hasDraft, f_hasModel, b_facts, upd b_code (32 + (ln 8 + 1)) x, upd b_len 8 (nI (ln 8 + 1)), b_value, b_stage, b_height, b_candidate, b_m, b_s, b_next, b_certain) := by
          intro kk x hkk hx
          have hkk2 : kk ≤ 2 ∧ kk ≠ 0 ∧ (if kk = 2 then 1 else 0) = g := by
            by_cases y : g = 1
            · rw [if_pos y] at hkk
              subst hkk
              exact ⟨by omega, by omega, by rw [if_pos rfl]; exact y.symm⟩
            · rw [if_neg y] at hkk
              subst hkk
              exact ⟨by omega, by omega, by rw [if_neg (by omega)]; omega⟩
          refine rl_in ⟨rd_ok (i := ln 8 + 1) (k := kk) (P := P) (S := S) (T := T) K (by omega) (Or.inr rfl) hkk2.1 ⟨fun y => by omega, fun y => absurd y hkk2.2.1⟩ hP hS hT hT0, hR, hce kk, rd_cy (i := ln 8 + 1) (k := kk) (P := P) (S := S) (T := T) (l := ln 8 + 1) EY (x := x) ?_, hf, hc, hm1, fun y => rd_gr K (hm2 y), hm3⟩
          rw [hx, hkk2.2.2]
        have ey : ∀ (kk : Nat), (kk = if g = 1 then 2 else 1) → wpY_body (fun r' v' => r' = 0 ∧ i_Rel k (f_kindHead, f_kindPositive, f_kindNegated, f_draftRow, nI C, nI U, nI B, nI R, nI (pg_N C U B), nI n, f_hasDraft, f_grounded, f_hasModel, f_tail, a_isFactAtom, a_candidate, upd a_bodyLength 8 (nI (ln 8 + 1)), upd a_cellKind (32 + (ln 8 + 1)) (nI kk), upd a_cellPred (32 + (ln 8 + 1)) (nI P), upd a_cellFirst (32 + (ln 8 + 1)) (nI S), upd a_cellSecond (32 + (ln 8 + 1)) (nI T), a_groundAtom, a_groundKind, a_positives, a_start, a_cursor, a_occurrence, a_value, a_stage, a_height, a_reached, a_depth, a_queue, a_missing, a_blocked) v') (nI C, nI U, nI (U + B), nI R, nI n, f_hasDraft, f_hasModel, b_facts, b_code, b_len, b_value, b_stage, b_height, b_candidate, b_m, b_s, b_next, b_certain) v1 (nI P) (nI S) v4 := by
          intro kk hkk
          refine hy _ ?_
          unfold wY_body_19
          refine hY _ (br_f d10 ?_)
          rw [EY.2 8]
          refine br_t (nI_lt (b := 3) q (by omega)) (nm_r (e' := upd b_len 8 (nI (ln 8 + 1))) (by rw [nI_1]) ?_)
          have e8 : 32 + upd b_len 8 (nI (ln 8 + 1)) 8 = nI (32 + (ln 8 + 1)) := by
            rw [pk_us]; exact nI_add 32 (ln 8 + 1)
          have e8c : (nI (32 + (ln 8 + 1))).toNatClampNeg = 32 + (ln 8 + 1) := nI_clamp (by omega)
          have w8 : vp_in (nI (32 + (ln 8 + 1))) 36 := vp_in_nI (by omega) (by omega)
          have e2 : 1000 * v1 + 100 * nI P + 10 * nI S = nI (1000 * g + 100 * P + 10 * S) := by
            rw [ev, ← nI_add, ← nI_add, ← pk_mul, ← pk_mul, ← pk_mul]; rfl
          rw [e8, e8c]
          refine pk_le U P (fun y => ⟨w8, nm_e ⟨rfl, fin kk _ hkk ?_⟩⟩) (fun y => ⟨w8, nm_e ⟨rfl, fin kk _ hkk ?_⟩⟩)
          · rw [ht y, e2, nI_add]
          · rw [hT0 y, e2]
            exact nI_add _ 0
        refine nm_r (e' := upd a_bodyLength 8 (nI (ln 8 + 1))) (by rw [nI_1]) ?_
        have e8 : 32 + upd a_bodyLength 8 (nI (ln 8 + 1)) 8 = nI (32 + (ln 8 + 1)) := by
          rw [pk_us]; exact nI_add 32 (ln 8 + 1)
        have jn : ∀ kk : Nat, (kk = if g = 1 then 2 else 1) → wX_body_67 (fun r u' => wpY_body (fun r' v' => r' = r ∧ i_Rel k u' v') (nI C, nI U, nI (U + B), nI R, nI n, f_hasDraft, f_hasModel, b_facts, b_code, b_len, b_value, b_stage, b_height, b_candidate, b_m, b_s, b_next, b_certain) v1 (nI P) (nI S) v4) (nI P) (nI S) v4 (nI kk) f_kindHead f_kindPositive f_kindNegated f_draftRow (nI C) (nI U) (nI B) (nI R) (nI (pg_N C U B)) (nI n) f_hasDraft f_grounded f_hasModel f_tail a_isFactAtom a_candidate (upd a_bodyLength 8 (nI (ln 8 + 1))) a_cellKind a_cellPred a_cellFirst a_cellSecond a_groundAtom a_groundKind a_positives a_start a_cursor a_occurrence a_value a_stage a_height a_reached a_depth a_queue a_missing a_blocked := by
          intro kk hkk
          unfold wX_body_67
          rw [e8]
          exact rv_cell (c := 32 + (ln 8 + 1)) (T := T) (by omega) (by omega) (by omega) hT0 ht (ey kk hkk)
        refine br_c (fun y => jn 2 ?_) (fun y => jn 1 ?_)
        · have : g = 1 := by
            rw [ev] at y
            exact (nI_eq (b := 1) (by omega) (by omega)).mp y
          rw [if_pos this]
        · have : ¬ g = 1 := fun e => y (by rw [ev, e]; rfl)
          rw [if_neg this]
      · refine hy _ ?_
        unfold wY_body_19
        refine hY _ (br_f d10 ?_)
        rw [EY.2 8]
        exact br_f (nI_nlt (b := 3) q (by omega)) ⟨rfl, I⟩
  unfold wpX_body
  dsimp only
  refine br_c (fun g => ?_) (fun g => br_c (fun y => key 0 (by omega) y (fun post w => ?_)) (fun y => br_c (fun x => key 1 (by omega) x (fun post w => ?_)) (fun x => ?_)))
  · unfold wpY_body
    exact br_t g ⟨rfl, I⟩
  · unfold wpY_body
    exact br_f g (br_t y w)
  · unfold wpY_body
    exact br_f g (br_f y (br_t x w))
  · unfold wpY_body
    exact br_f g (br_f y (br_f x ⟨rfl, I⟩))
/-- literal -/
theorem rv_lit41 (H : rl_F C U B R n ln kd pd fs sn f_grounded f_hasModel a_isFactAtom a_candidate a_bodyLength a_cellKind a_cellPred a_cellFirst a_cellSecond a_groundAtom a_groundKind a_positives a_start a_occurrence a_value a_stage a_height b_facts b_code b_len b_value b_stage b_height b_candidate) {r : Nat} (hr : r < 9) (v : Int32) : ∃ z : Int32, (∀ post : Int32 → Prop, post z → wX_literal_41 post v (nI r) f_kindHead f_kindPositive f_kindNegated f_draftRow (nI C) (nI U) (nI B) (nI R) (nI (pg_N C U B)) (nI n) f_hasDraft f_grounded f_hasModel f_tail a_isFactAtom a_candidate a_bodyLength a_cellKind a_cellPred a_cellFirst a_cellSecond a_groundAtom a_groundKind a_positives a_start a_cursor a_occurrence a_value a_stage a_height a_reached a_depth a_queue a_missing a_blocked) ∧ (∀ post : Int32 → Prop, post z → wY_literal_41 post v (nI r) (nI C) (nI U) (nI (U + B)) (nI R) (nI n) f_hasDraft f_hasModel b_facts b_code b_len b_value b_stage b_height b_candidate b_m b_s b_next b_certain) := by
  obtain ⟨K, hR, E, EY, hf, hc, hm1, hm2, hm3⟩ := H
  obtain ⟨z1, z2, z3, z4, z5, z6⟩ := K.1
  have l3 := K.2.2.1 r hr
  have er : (nI r).toNatClampNeg = r := nI_clamp (by omega)
  have wr : vp_in (nI r) 9 := vp_in_nI hr (by omega)
  rcases pk_ix v (n := ln r + 1) (by omega) with h | h | ⟨i, hi, rfl⟩
  · refine ⟨-6, fun post k => br_t h k, fun post k => br_t h k⟩
  · have n0 : ¬ v < 0 := xa_np (by omega) h
    have n1 : ¬ v ≤ nI (ln r) := fun y => absurd (Int32.le_trans h y) (nI_ge (by omega) (by omega))
    refine ⟨-6, fun post k => ?_, fun post k => ?_⟩
    · unfold wX_literal_41
      rw [er, E.1]
      exact br_f n0 ⟨wr, br_f n1 k⟩
    · unfold wY_literal_41
      rw [er, EY.2]
      exact br_f n0 ⟨wr, br_f n1 k⟩
  · have n0 : ¬ nI i < 0 := nI_pos (by omega)
    have n1 : nI i ≤ nI (ln r) := nI_le (by omega) (by omega)
    have hc36 : 4 * r + i < 36 := by omega
    obtain ⟨c1, c2, c3, c4, c5⟩ := K.2.2.2.1 _ hc36
    have e0 : 4 * nI r + nI i = nI (4 * r + i) := by rw [← nI_add, ← pk_mul]; rfl
    have ec : (nI (4 * r + i)).toNatClampNeg = 4 * r + i := nI_clamp (by omega)
    have wc : vp_in (nI (4 * r + i)) 36 := vp_in_nI hc36 (by omega)
    refine ⟨nI (xa_cd kd pd fs sn (4 * r + i)), fun post k => ?_, fun post k => ?_⟩
    · unfold wX_literal_41
      rw [er, E.1]
      refine br_f n0 ⟨wr, br_t n1 (nm_r (e' := nI (4 * r + i)) e0 ⟨wc, ?_⟩)⟩
      rw [ec, E.2.1]
      have jn : ∀ g : Nat, g = xa_ng kd (4 * r + i) → wX_literal_82 post (nI (4 * r + i)) (nI g) f_kindHead f_kindPositive f_kindNegated f_draftRow (nI C) (nI U) (nI B) (nI R) (nI (pg_N C U B)) (nI n) f_hasDraft f_grounded f_hasModel f_tail a_isFactAtom a_candidate a_bodyLength a_cellKind a_cellPred a_cellFirst a_cellSecond a_groundAtom a_groundKind a_positives a_start a_cursor a_occurrence a_value a_stage a_height a_reached a_depth a_queue a_missing a_blocked := by
        intro g hg
        unfold wX_literal_82
        rw [ec, E.2.2.1, E.2.2.2.1, E.2.2.2.2]
        have e : 1000 * nI g + 100 * nI (pd (4 * r + i)) + 10 * nI (fs (4 * r + i)) + nI (sn (4 * r + i)) = nI (xa_cd kd pd fs sn (4 * r + i)) := by
          unfold xa_cd
          rw [← hg, ← nI_add, ← nI_add, ← nI_add, ← pk_mul, ← pk_mul, ← pk_mul]; rfl
        rw [e]
        exact ⟨wc, wc, wc, k⟩
      refine pk_eq (kd (4 * r + i)) 2 (fun y => jn 1 ?_) (fun y => jn 0 ?_)
      · unfold xa_ng; rw [if_pos y]
      · unfold xa_ng; rw [if_neg y]
    · unfold wY_literal_41
      rw [er, EY.2, e0, ec, EY.1]
      exact br_f n0 ⟨wr, br_t n1 ⟨wc, k⟩⟩
theorem rv_literal (H : rl_F C U B R n ln kd pd fs sn f_grounded f_hasModel a_isFactAtom a_candidate a_bodyLength a_cellKind a_cellPred a_cellFirst a_cellSecond a_groundAtom a_groundKind a_positives a_start a_occurrence a_value a_stage a_height b_facts b_code b_len b_value b_stage b_height b_candidate) (v1 v2 : Int32) : wpX_literal (fun r => wpY_literal (fun r' => r' = r ∧ i_Rel k (f_kindHead, f_kindPositive, f_kindNegated, f_draftRow, nI C, nI U, nI B, nI R, nI (pg_N C U B), nI n, f_hasDraft, f_grounded, f_hasModel, f_tail, a_isFactAtom, a_candidate, a_bodyLength, a_cellKind, a_cellPred, a_cellFirst, a_cellSecond, a_groundAtom, a_groundKind, a_positives, a_start, a_cursor, a_occurrence, a_value, a_stage, a_height, a_reached, a_depth, a_queue, a_missing, a_blocked) (nI C, nI U, nI (U + B), nI R, nI n, f_hasDraft, f_hasModel, b_facts, b_code, b_len, b_value, b_stage, b_height, b_candidate, b_m, b_s, b_next, b_certain)) (nI C, nI U, nI (U + B), nI R, nI n, f_hasDraft, f_hasModel, b_facts, b_code, b_len, b_value, b_stage, b_height, b_candidate, b_m, b_s, b_next, b_certain) v1 v2) (f_kindHead, f_kindPositive, f_kindNegated, f_draftRow, nI C, nI U, nI B, nI R, nI (pg_N C U B), nI n, f_hasDraft, f_grounded, f_hasModel, f_tail, a_isFactAtom, a_candidate, a_bodyLength, a_cellKind, a_cellPred, a_cellFirst, a_cellSecond, a_groundAtom, a_groundKind, a_positives, a_start, a_cursor, a_occurrence, a_value, a_stage, a_height, a_reached, a_depth, a_queue, a_missing, a_blocked) v1 v2 := by
  have I : i_Rel k (f_kindHead, f_kindPositive, f_kindNegated, f_draftRow, nI C, nI U, nI B, nI R, nI (pg_N C U B), nI n, f_hasDraft, f_grounded, f_hasModel, f_tail, a_isFactAtom, a_candidate, a_bodyLength, a_cellKind, a_cellPred, a_cellFirst, a_cellSecond, a_groundAtom, a_groundKind, a_positives, a_start, a_cursor, a_occurrence, a_value, a_stage, a_height, a_reached, a_depth, a_queue, a_missing, a_blocked) (nI C, nI U, nI (U + B), nI R, nI n, f_hasDraft, f_hasModel, b_facts, b_code, b_len, b_value, b_stage, b_height, b_candidate, b_m, b_s, b_next, b_certain) := rl_in H
  have n8 := H.1.2.1
  unfold wpX_literal wpY_literal
  dsimp only
  have d1 : ¬ (-1 : Int32) < -1 := by decide
  by_cases h1 : v1 < -1
  · exact br_t h1 (br_t h1 ⟨rfl, I⟩)
  · by_cases h2 : v1 < nI n
    · by_cases h3 : v1 = -1
      · by_cases h4 : f_hasDraft = 0
        · exact br_f h1 (br_t h2 (br_t h3 (br_t h4 (br_f h1 (br_t h2 (br_t h3 (br_t h4 ⟨rfl, I⟩)))))))
        · obtain ⟨z, hX, hY⟩ := rv_lit41 (f_kindHead := f_kindHead) (f_kindPositive := f_kindPositive) (f_kindNegated := f_kindNegated) (f_draftRow := f_draftRow) (f_hasDraft := f_hasDraft) (f_tail := f_tail) (a_cursor := a_cursor) (a_reached := a_reached) (a_depth := a_depth) (a_queue := a_queue) (a_missing := a_missing) (a_blocked := a_blocked) (b_m := b_m) (b_s := b_s) (b_next := b_next) (b_certain := b_certain) H (r := 8) (by omega) v2
          exact br_f h1 (br_t h2 (br_t h3 (br_f h4 (br_t h3 (hX _ (br_f h1 (br_t h2 (br_t h3 (br_f h4 (br_t h3 (hY _ ⟨rfl, I⟩))))))))))) 
      · have h0 : ¬ v1 < 0 := by
          intro y
          rw [Int32.lt_iff_toInt_lt] at h1 y
          have e1 : (-1 : Int32).toInt = -1 := by decide
          have e2 : (0 : Int32).toInt = 0 := by decide
          rw [e1] at h1
          rw [e2] at y
          exact h3 (Int32.toInt_inj.mp (by rw [e1]; omega))
        obtain ⟨r, hr, rfl⟩ := nI_of h0
        have hr' : r < n := (nI_ltI hr (by omega)).mp h2
        obtain ⟨z, hX, hY⟩ := rv_lit41 (f_kindHead := f_kindHead) (f_kindPositive := f_kindPositive) (f_kindNegated := f_kindNegated) (f_draftRow := f_draftRow) (f_hasDraft := f_hasDraft) (f_tail := f_tail) (a_cursor := a_cursor) (a_reached := a_reached) (a_depth := a_depth) (a_queue := a_queue) (a_missing := a_missing) (a_blocked := a_blocked) (b_m := b_m) (b_s := b_s) (b_next := b_next) (b_certain := b_certain) H (r := r) (by omega) v2
        exact br_f h1 (br_t h2 (br_f h3 (br_f h3 (hX _ (br_f h1 (br_t h2 (br_f h3 (br_f h3 (hY _ ⟨rfl, I⟩)))))))))
    · exact br_f h1 (br_f h2 (br_f h1 (br_f h2 ⟨rfl, I⟩)))
end R
end
section
/-! commit and drop -/
def rc_f (f : Nat → Nat) (fr to i : Nat) : Nat → Nat := fun j => if 4 * to ≤ j ∧ j < 4 * to + i then f (4 * fr + (j - 4 * to)) else f j
theorem rc_t {f : Nat → Nat} {fr to i j : Nat} (h : 4 * to ≤ j ∧ j < 4 * to + i) : rc_f f fr to i j = f (4 * fr + (j - 4 * to)) := if_pos h
theorem rc_n {f : Nat → Nat} {fr to i j : Nat} (h : ¬ (4 * to ≤ j ∧ j < 4 * to + i)) : rc_f f fr to i j = f j := if_neg h
theorem rc_0 {f : Nat → Nat} {fr to : Nat} : rc_f f fr to 0 = f := funext fun j => rc_n (by omega)
theorem rc_s {f : Nat → Nat} {fr to i : Nat} : ma_u (rc_f f fr to i) (4 * to + i) (f (4 * fr + i)) = rc_f f fr to (i + 1) := by
  funext j
  by_cases c : j = 4 * to + i
  · rw [c, ma_us, rc_t (by omega)]
    exact congrArg f (by omega)
  · rw [ma_un c]
    by_cases d : 4 * to ≤ j ∧ j < 4 * to + i
    · rw [rc_t d, rc_t (by omega)]
    · rw [rc_n d, rc_n (by omega)]
theorem rc_r {f : Nat → Nat} {fr to i : Nat} (h : fr ≠ to) (hi : i < 4) : rc_f f fr to i (4 * fr + i) = f (4 * fr + i) := rc_n (by omega)
section K
variable {C U B n n' : Nat} {ln kd pd fs sn : Nat → Nat}
theorem rc_ok {fr to : Nat} (K : pg_ok C U B n ln kd pd fs sn) (hf : fr < 9) (ht : to < 9) (hn : n' ≤ 8) : pg_ok C U B n' (ma_u ln to (ln fr)) (rc_f kd fr to 4) (rc_f pd fr to 4) (rc_f fs fr to 4) (rc_f sn fr to 4) := by
  obtain ⟨k1, k2, k3, k4, k5, k6⟩ := K
  refine ⟨k1, hn, fun r hr => ?_, fun c hc => ?_, fun r hr => ?_, fun r j hr j1 j2 => ?_⟩
  · by_cases z : r = to
    · rw [z, ma_us]; exact k3 fr hf
    · rw [ma_un z]; exact k3 r hr
  · by_cases z : 4 * to ≤ c ∧ c < 4 * to + 4
    · rw [rc_t z, rc_t z, rc_t z, rc_t z]; exact k4 _ (by omega)
    · rw [rc_n z, rc_n z, rc_n z, rc_n z]; exact k4 c hc
  · by_cases z : r = to
    · rw [z, rc_t (by omega)]
      have e : 4 * fr + (4 * to - 4 * to) = 4 * fr := by omega
      rw [e]; exact k5 fr hf
    · rw [rc_n (by omega)]; exact k5 r hr
  · by_cases z : r = to
    · subst z
      rw [ma_us] at j2
      have l3 := k3 fr hf
      rw [rc_t (by omega)]
      have e : 4 * fr + (4 * r + j - 4 * r) = 4 * fr + j := by omega
      rw [e]; exact k6 fr j hf j1 j2
    · rw [ma_un z] at j2
      have l3 := k3 r hr
      rw [rc_n (by omega)]; exact k6 r j hr j1 j2
theorem rc_cd {fr to i j : Nat} : xa_cd (rc_f kd fr to i) (rc_f pd fr to i) (rc_f fs fr to i) (rc_f sn fr to i) j = rc_f (xa_cd kd pd fs sn) fr to i j := by
  unfold xa_cd xa_ng
  by_cases c : 4 * to ≤ j ∧ j < 4 * to + i
  · rw [rc_t c, rc_t c, rc_t c, rc_t c, rc_t c]
  · rw [rc_n c, rc_n c, rc_n c, rc_n c, rc_n c]
end K
/-! safety by masks -/
noncomputable def sf_m (a b : Prop) : Int32 := ma_if a (ma_if b 3 1) (ma_if b 2 0)
theorem sf_v (a b : Prop) : (a ∧ b ∧ sf_m a b = 3) ∨ (a ∧ ¬ b ∧ sf_m a b = 1) ∨ (¬ a ∧ b ∧ sf_m a b = 2) ∨ (¬ a ∧ ¬ b ∧ sf_m a b = 0) := by
  unfold sf_m
  by_cases ha : a
  · by_cases hb : b
    · exact Or.inl ⟨ha, hb, by rw [ma_ift ha, ma_ift hb]⟩
    · exact Or.inr (Or.inl ⟨ha, hb, by rw [ma_ift ha, ma_iff hb]⟩)
  · by_cases hb : b
    · exact Or.inr (Or.inr (Or.inl ⟨ha, hb, by rw [ma_iff ha, ma_ift hb]⟩))
    · exact Or.inr (Or.inr (Or.inr ⟨ha, hb, by rw [ma_iff ha, ma_iff hb]⟩))
theorem sf_c {a b c d : Prop} (h1 : a ↔ c) (h2 : b ↔ d) : sf_m a b = sf_m c d := by rw [propext h1, propext h2]
theorem sf_or (a b c d : Prop) : sf_m a b ||| sf_m c d = sf_m (a ∨ c) (b ∨ d) := by
  have t : ∀ p q : Prop, p → ((p ∨ q) ↔ True) := fun p q h => ⟨fun _ => trivial, fun _ => Or.inl h⟩
  have t' : ∀ p q : Prop, q → ((p ∨ q) ↔ True) := fun p q h => ⟨fun _ => trivial, fun _ => Or.inr h⟩
  have f : ∀ p q : Prop, ¬ p → ¬ q → ((p ∨ q) ↔ False) := fun p q h h' => ⟨fun z => z.elim h h', fun z => z.elim⟩
  have m3 : sf_m True True = 3 := by unfold sf_m; rw [ma_ift trivial, ma_ift trivial]
  have m1 : sf_m True False = 1 := by unfold sf_m; rw [ma_ift trivial, ma_iff (fun z => z)]
  have m2 : sf_m False True = 2 := by unfold sf_m; rw [ma_iff (fun z => z), ma_ift trivial]
  have m0 : sf_m False False = 0 := by unfold sf_m; rw [ma_iff (fun z => z), ma_iff (fun z => z)]
  rcases sf_v a b with ⟨ha, hb, e⟩ | ⟨ha, hb, e⟩ | ⟨ha, hb, e⟩ | ⟨ha, hb, e⟩ <;> rcases sf_v c d with ⟨hc, hd, e'⟩ | ⟨hc, hd, e'⟩ | ⟨hc, hd, e'⟩ | ⟨hc, hd, e'⟩ <;> rw [e, e']
  · rw [sf_c (t a c ha) (t b d hb), m3]; decide
  · rw [sf_c (t a c ha) (t b d hb), m3]; decide
  · rw [sf_c (t a c ha) (t b d hb), m3]; decide
  · rw [sf_c (t a c ha) (t b d hb), m3]; decide
  · rw [sf_c (t a c ha) (t' b d hd), m3]; decide
  · rw [sf_c (t a c ha) (f b d hb hd), m1]; decide
  · rw [sf_c (t a c ha) (t' b d hd), m3]; decide
  · rw [sf_c (t a c ha) (f b d hb hd), m1]; decide
  · rw [sf_c (t' a c hc) (t b d hb), m3]; decide
  · rw [sf_c (t' a c hc) (t b d hb), m3]; decide
  · rw [sf_c (f a c ha hc) (t b d hb), m2]; decide
  · rw [sf_c (f a c ha hc) (t b d hb), m2]; decide
  · rw [sf_c (t' a c hc) (t' b d hd), m3]; decide
  · rw [sf_c (t' a c hc) (f b d hb hd), m1]; decide
  · rw [sf_c (f a c ha hc) (t' b d hd), m2]; decide
  · rw [sf_c (f a c ha hc) (f b d hb hd), m0]; decide
theorem sf_i {a b c d : Prop} : sf_m a b = sf_m c d ↔ ((a ↔ c) ∧ (b ↔ d)) := by
  constructor
  · intro h
    rcases sf_v a b with ⟨ha, hb, e⟩ | ⟨ha, hb, e⟩ | ⟨ha, hb, e⟩ | ⟨ha, hb, e⟩ <;> rcases sf_v c d with ⟨hc, hd, e'⟩ | ⟨hc, hd, e'⟩ | ⟨hc, hd, e'⟩ | ⟨hc, hd, e'⟩ <;> rw [e, e'] at h <;> first | exact absurd h (by decide) | exact ⟨⟨fun _ => by assumption, fun _ => by assumption⟩, ⟨fun _ => by assumption, fun _ => by assumption⟩⟩ | exact ⟨⟨fun z => absurd z (by assumption), fun z => absurd z (by assumption)⟩, ⟨fun _ => by assumption, fun _ => by assumption⟩⟩ | exact ⟨⟨fun _ => by assumption, fun _ => by assumption⟩, ⟨fun z => absurd z (by assumption), fun z => absurd z (by assumption)⟩⟩ | exact ⟨⟨fun z => absurd z (by assumption), fun z => absurd z (by assumption)⟩, ⟨fun z => absurd z (by assumption), fun z => absurd z (by assumption)⟩⟩
  · exact fun h => sf_c h.1 h.2
def sf_h (fs sn : Nat → Nat) (v c : Nat) : Prop := fs c = v ∨ sn c = v
def sf_oc (fs sn : Nat → Nat) (v i : Nat) : Prop := ∃ j, j < i ∧ sf_h fs sn v (32 + j)
def sf_bd (kd fs sn : Nat → Nat) (v i : Nat) : Prop := ∃ j, j < i ∧ kd (32 + j) = 1 ∧ sf_h fs sn v (32 + j)
def sf_ok (l : Nat) (kd fs sn : Nat → Nat) : Prop := (sf_oc fs sn 4 (l + 1) → sf_bd kd fs sn 4 (l + 1)) ∧ (sf_oc fs sn 5 (l + 1) → sf_bd kd fs sn 5 (l + 1))
section O
variable {kd fs sn : Nat → Nat} {v i : Nat}
theorem sf_oc_s : (sf_oc fs sn v i ∨ sf_h fs sn v (32 + i)) ↔ sf_oc fs sn v (i + 1) := by
  constructor
  · rintro (⟨j, h1, h2⟩ | h)
    · exact ⟨j, by omega, h2⟩
    · exact ⟨i, by omega, h⟩
  · rintro ⟨j, h1, h2⟩
    by_cases c : j = i
    · subst c; exact Or.inr h2
    · exact Or.inl ⟨j, by omega, h2⟩
theorem sf_bd_s (h : kd (32 + i) = 1) : (sf_bd kd fs sn v i ∨ sf_h fs sn v (32 + i)) ↔ sf_bd kd fs sn v (i + 1) := by
  constructor
  · rintro (⟨j, h1, h2⟩ | h2)
    · exact ⟨j, by omega, h2⟩
    · exact ⟨i, by omega, h, h2⟩
  · rintro ⟨j, h1, h2, h3⟩
    by_cases c : j = i
    · subst c; exact Or.inr h3
    · exact Or.inl ⟨j, by omega, h2, h3⟩
theorem sf_bd_n (h : ¬ (kd (32 + i) = 1 ∧ sf_h fs sn v (32 + i))) : sf_bd kd fs sn v i ↔ sf_bd kd fs sn v (i + 1) := by
  constructor
  · rintro ⟨j, h1, h2⟩
    exact ⟨j, by omega, h2⟩
  · rintro ⟨j, h1, h2⟩
    by_cases c : j = i
    · subst c; exact absurd h2 h
    · exact ⟨j, by omega, h2⟩
theorem sf_bo (h : sf_bd kd fs sn v i) : sf_oc fs sn v i := by
  obtain ⟨j, h1, h2, h3⟩ := h
  exact ⟨j, h1, h3⟩
end O

section C
variable {k C U B R n : Nat} {ln kd pd fs sn : Nat → Nat} {f_kindHead f_kindPositive f_kindNegated f_draftRow f_hasDraft f_grounded f_hasModel f_tail : Int32} {a_isFactAtom a_candidate a_bodyLength a_cellKind a_cellPred a_cellFirst a_cellSecond a_groundAtom a_groundKind a_positives a_start a_cursor a_occurrence a_value a_stage a_height a_reached a_depth a_queue a_missing a_blocked b_facts b_code b_len b_value b_stage b_height b_candidate b_m b_s b_next b_certain : Nat → Int32}
theorem rv_vars {post : Int32 → Prop} {c : Nat} (K : pg_ok C U B n ln kd pd fs sn) (E : xa_ce ln kd pd fs sn a_bodyLength a_cellKind a_cellPred a_cellFirst a_cellSecond) (hc : c < 36) (h : post (sf_m (sf_h fs sn 4 c) (sf_h fs sn 5 c))) : wpX_variablesOf post (f_kindHead, f_kindPositive, f_kindNegated, f_draftRow, nI C, nI U, nI B, nI R, nI (pg_N C U B), nI n, f_hasDraft, f_grounded, f_hasModel, f_tail, a_isFactAtom, a_candidate, a_bodyLength, a_cellKind, a_cellPred, a_cellFirst, a_cellSecond, a_groundAtom, a_groundKind, a_positives, a_start, a_cursor, a_occurrence, a_value, a_stage, a_height, a_reached, a_depth, a_queue, a_missing, a_blocked) (nI c) := by
  obtain ⟨z1, z2, z3, z4, z5, z6⟩ := K.1
  obtain ⟨c1, c2, c3, c4, c5⟩ := K.2.2.2.1 c hc
  have ec : (nI c).toNatClampNeg = c := nI_clamp (by omega)
  have wc : vp_in (nI c) 36 := vp_in_nI hc (by omega)
  have j26 : ∀ a : Prop, (a ↔ sf_h fs sn 4 c) → wX_variablesOf_26 post (nI c) (sf_m a False) f_kindHead f_kindPositive f_kindNegated f_draftRow (nI C) (nI U) (nI B) (nI R) (nI (pg_N C U B)) (nI n) f_hasDraft f_grounded f_hasModel f_tail a_isFactAtom a_candidate a_bodyLength a_cellKind a_cellPred a_cellFirst a_cellSecond a_groundAtom a_groundKind a_positives a_start a_cursor a_occurrence a_value a_stage a_height a_reached a_depth a_queue a_missing a_blocked := by
    intro a ha
    have jn : ∀ b : Prop, (b ↔ sf_h fs sn 5 c) → post (sf_m a b) := by
      intro b hb
      rw [sf_c ha hb]; exact h
    have e2 : sf_m a False ||| 2 = sf_m a True := by
      have m2 : sf_m False True = 2 := by unfold sf_m; rw [ma_iff (fun z => z), ma_ift trivial]
      rw [← m2, sf_or]
      exact sf_c ⟨fun z => z.elim id (fun z => z.elim), fun z => Or.inl z⟩ ⟨fun _ => trivial, fun _ => Or.inr trivial⟩
    unfold wX_variablesOf_26
    rw [ec, E.2.2.2.1, E.2.2.2.2]
    refine ⟨wc, pk_eq (fs c) 5 (fun y => nm_r e2 (jn True ⟨fun _ => Or.inl y, fun _ => trivial⟩)) (fun y => ⟨wc, pk_eq (sn c) 5 (fun x => nm_r e2 (jn True ⟨fun _ => Or.inr x, fun _ => trivial⟩)) (fun x => jn False ⟨fun w => w.elim, fun w => w.elim y x⟩)⟩)⟩
  have m0 : (0 : Int32) = sf_m False False := by unfold sf_m; rw [ma_iff (fun z => z), ma_iff (fun z => z)]
  have e1 : (0 : Int32) ||| 1 = sf_m True False := by
    unfold sf_m; rw [ma_ift trivial, ma_iff (fun z => z)]; decide
  have j22 : sf_h fs sn 4 c → wX_variablesOf_22 post (nI c) 0 f_kindHead f_kindPositive f_kindNegated f_draftRow (nI C) (nI U) (nI B) (nI R) (nI (pg_N C U B)) (nI n) f_hasDraft f_grounded f_hasModel f_tail a_isFactAtom a_candidate a_bodyLength a_cellKind a_cellPred a_cellFirst a_cellSecond a_groundAtom a_groundKind a_positives a_start a_cursor a_occurrence a_value a_stage a_height a_reached a_depth a_queue a_missing a_blocked := fun y => nm_r e1 (j26 True ⟨fun _ => y, fun _ => trivial⟩)
  unfold wpX_variablesOf
  dsimp only
  rw [ec, E.2.2.2.1, E.2.2.2.2]
  refine ⟨wc, pk_eq (fs c) 4 (fun y => j22 (Or.inl y)) (fun y => ⟨wc, pk_eq (sn c) 4 (fun x => j22 (Or.inr x)) (fun x => ?_)⟩)⟩
  have := j26 False ⟨fun w => w.elim, fun w => w.elim y x⟩
  rw [← m0] at this
  exact this
theorem rv_safe {post : Int32 → Prop} (K : pg_ok C U B n ln kd pd fs sn) (E : xa_ce ln kd pd fs sn a_bodyLength a_cellKind a_cellPred a_cellFirst a_cellSecond) (h : post (ma_b (sf_ok (ln 8) kd fs sn))) : wpX_draftIsSafe post (f_kindHead, f_kindPositive, f_kindNegated, f_draftRow, nI C, nI U, nI B, nI R, nI (pg_N C U B), nI n, f_hasDraft, f_grounded, f_hasModel, f_tail, a_isFactAtom, a_candidate, a_bodyLength, a_cellKind, a_cellPred, a_cellFirst, a_cellSecond, a_groundAtom, a_groundKind, a_positives, a_start, a_cursor, a_occurrence, a_value, a_stage, a_height, a_reached, a_depth, a_queue, a_missing, a_blocked) := by
  obtain ⟨z1, z2, z3, z4, z5, z6⟩ := K.1
  have l3 := K.2.2.1 8 (by omega)
  have key : ∀ (d i f : Nat), i + d = ln 8 + 1 → d < f → wX_draftIsSafe_6 post f_kindHead f_kindPositive f_kindNegated f_draftRow (nI C) (nI U) (nI B) (nI R) (nI (pg_N C U B)) (nI n) f_hasDraft f_grounded f_hasModel f_tail a_isFactAtom a_candidate a_bodyLength a_cellKind a_cellPred a_cellFirst a_cellSecond a_groundAtom a_groundKind a_positives a_start a_cursor a_occurrence a_value a_stage a_height a_reached a_depth a_queue a_missing a_blocked f (sf_m (sf_oc fs sn 4 i) (sf_oc fs sn 5 i)) (sf_m (sf_bd kd fs sn 4 i) (sf_bd kd fs sn 5 i)) (nI i) := by
    intro d
    induction d with
    | zero =>
      intro i f h1 h2
      obtain ⟨f, rfl⟩ : ∃ m, f = m + 1 := ⟨f - 1, by omega⟩
      have e : i = ln 8 + 1 := by omega
      subst e
      rw [wX_draftIsSafe_6]
      dsimp only
      rw [E.1 8]
      refine br_t (nI_lt (by omega) (by omega)) (br_c (fun y => ?_) (fun y => ?_))
      · obtain ⟨y1, y2⟩ := sf_i.mp y
        rw [ma_bt (p := sf_ok (ln 8) kd fs sn) ⟨y1.mp, y2.mp⟩] at h
        exact h
      · rw [ma_bf (p := sf_ok (ln 8) kd fs sn) (fun w => y (sf_i.mpr ⟨⟨w.1, sf_bo⟩, ⟨w.2, sf_bo⟩⟩))] at h
        exact h
    | succ d ih =>
      intro i f h1 h2
      obtain ⟨f, rfl⟩ : ∃ m, f = m + 1 := ⟨f - 1, by omega⟩
      have ih := ih (i + 1) f (by omega) (by omega)
      have e32 : 32 + nI i = nI (32 + i) := nI_add 32 i
      have ec : (nI (32 + i)).toNatClampNeg = 32 + i := nI_clamp (by omega)
      have k2 := (K.2.2.2.1 (32 + i) (by omega)).2.2.2.2
      rw [wX_draftIsSafe_6]
      dsimp only
      rw [E.1 8]
      refine br_f (nI_nlt (by omega) (by omega)) (nm_r (e' := nI (32 + i)) e32 (rv_vars K E (by omega) ?_))
      have eo : sf_m (sf_oc fs sn 4 i) (sf_oc fs sn 5 i) ||| sf_m (sf_h fs sn 4 (32 + i)) (sf_h fs sn 5 (32 + i)) = sf_m (sf_oc fs sn 4 (i + 1)) (sf_oc fs sn 5 (i + 1)) := by
        rw [sf_or]; exact sf_c sf_oc_s sf_oc_s
      refine nm_r eo ⟨vp_in_nI (by omega) (by omega), ?_⟩
      rw [ec, E.2.1]
      refine pk_eq (kd (32 + i)) 1 (fun y => ?_) (fun y => ?_)
      · have eb : sf_m (sf_bd kd fs sn 4 i) (sf_bd kd fs sn 5 i) ||| sf_m (sf_h fs sn 4 (32 + i)) (sf_h fs sn 5 (32 + i)) = sf_m (sf_bd kd fs sn 4 (i + 1)) (sf_bd kd fs sn 5 (i + 1)) := by
          rw [sf_or]; exact sf_c (sf_bd_s y) (sf_bd_s y)
        exact nm_r eb (nm_r (nI_1 i) ih)
      · rw [← sf_c (sf_bd_n (v := 4) (fun w => y w.1)) (sf_bd_n (v := 5) (fun w => y w.1))] at ih
        exact nm_r (nI_1 i) ih
  have k := key (ln 8 + 1) 0 (ln 8 + 2) (by omega) (by omega)
  have m0 : (0 : Int32) = sf_m False False := by unfold sf_m; rw [ma_iff (fun z => z), ma_iff (fun z => z)]
  have f0 : ∀ v, sf_oc fs sn v 0 ↔ False := fun v => ⟨fun ⟨j, w, _⟩ => by omega, fun w => w.elim⟩
  have g0 : ∀ v, sf_bd kd fs sn v 0 ↔ False := fun v => ⟨fun ⟨j, w, _⟩ => by omega, fun w => w.elim⟩
  rw [sf_c (f0 4) (f0 5), sf_c (g0 4) (g0 5), ← m0] at k
  exact ⟨_, k⟩
/-- the component copies a row -/
theorem rv_copy14 {post : SX → Prop} {fr to : Nat} (K : pg_ok C U B n ln kd pd fs sn) (hf : fr < 9) (ht : to < 9) (hne : fr ≠ to) (h : ∀ ck cp cf cs : Nat → Int32, (∀ j, ck j = nI (rc_f kd fr to 4 j)) → (∀ j, cp j = nI (rc_f pd fr to 4 j)) → (∀ j, cf j = nI (rc_f fs fr to 4 j)) → (∀ j, cs j = nI (rc_f sn fr to 4 j)) → post (f_kindHead, f_kindPositive, f_kindNegated, f_draftRow, nI C, nI U, nI B, nI R, nI (pg_N C U B), nI n, f_hasDraft, f_grounded, f_hasModel, f_tail, a_isFactAtom, a_candidate, a_bodyLength, ck, cp, cf, cs, a_groundAtom, a_groundKind, a_positives, a_start, a_cursor, a_occurrence, a_value, a_stage, a_height, a_reached, a_depth, a_queue, a_missing, a_blocked)) :
    ∀ (d i f : Nat) (ck cp cf cs : Nat → Int32), i + d = 4 → d < f → (∀ j, ck j = nI (rc_f kd fr to i j)) → (∀ j, cp j = nI (rc_f pd fr to i j)) → (∀ j, cf j = nI (rc_f fs fr to i j)) → (∀ j, cs j = nI (rc_f sn fr to i j)) → wX_copyRow_14 post (nI fr) (nI to) f (nI i) f_kindHead f_kindPositive f_kindNegated f_draftRow (nI C) (nI U) (nI B) (nI R) (nI (pg_N C U B)) (nI n) f_hasDraft f_grounded f_hasModel f_tail a_isFactAtom a_candidate a_bodyLength ck cp cf cs a_groundAtom a_groundKind a_positives a_start a_cursor a_occurrence a_value a_stage a_height a_reached a_depth a_queue a_missing a_blocked := by
  obtain ⟨z1, z2, z3, z4, z5, z6⟩ := K.1
  intro d
  induction d with
  | zero =>
    intro i f ck cp cf cs h1 h2 I1 I2 I3 I4
    obtain ⟨f, rfl⟩ : ∃ m, f = m + 1 := ⟨f - 1, by omega⟩
    have e : i = 4 := by omega
    subst e
    rw [wX_copyRow_14]
    dsimp only
    exact br_t (nI_le (a := 4) (by omega) (by omega)) (h ck cp cf cs I1 I2 I3 I4)
  | succ d ih =>
    intro i f ck cp cf cs h1 h2 I1 I2 I3 I4
    obtain ⟨f, rfl⟩ : ∃ m, f = m + 1 := ⟨f - 1, by omega⟩
    have ef : 4 * nI fr + nI i = nI (4 * fr + i) := by rw [← nI_add, ← pk_mul]; rfl
    have et : 4 * nI to + nI i = nI (4 * to + i) := by rw [← nI_add, ← pk_mul]; rfl
    have efc : (nI (4 * fr + i)).toNatClampNeg = 4 * fr + i := nI_clamp (by omega)
    have wf : vp_in (nI (4 * fr + i)) 36 := vp_in_nI (by omega) (by omega)
    obtain ⟨c1, c2, c3, c4, c5⟩ := K.2.2.2.1 (4 * fr + i) (by omega)
    rw [wX_copyRow_14]
    dsimp only
    refine br_f (nI_ge (b := 4) (by omega) (by omega)) (nm_r (e' := nI (4 * fr + i)) ef ⟨wf, wf, wf, wf, ?_⟩)
    rw [efc, et, I1, I2, I3, I4, rc_r hne (by omega), rc_r hne (by omega), rc_r hne (by omega), rc_r hne (by omega)]
    refine rv_cell (c := 4 * to + i) (T := sn (4 * fr + i)) (by omega) (by omega) (by omega) c4 (fun _ => rfl) ?_
    refine nm_r (nI_1 i) (ih (i + 1) f _ _ _ _ (by omega) (by omega) (fun j => ?_) (fun j => ?_) (fun j => ?_) (fun j => ?_))
    · refine (ma_uI (k := 4 * to + i) (x := kd (4 * fr + i)) I1 j).trans ?_
      rw [rc_s]
    · refine (ma_uI (k := 4 * to + i) (x := pd (4 * fr + i)) I2 j).trans ?_
      rw [rc_s]
    · refine (ma_uI (k := 4 * to + i) (x := fs (4 * fr + i)) I3 j).trans ?_
      rw [rc_s]
    · refine (ma_uI (k := 4 * to + i) (x := sn (4 * fr + i)) I4 j).trans ?_
      rw [rc_s]
theorem rv_copy {post : SX → Prop} {fr to : Nat} (K : pg_ok C U B n ln kd pd fs sn) (E : xa_ce ln kd pd fs sn a_bodyLength a_cellKind a_cellPred a_cellFirst a_cellSecond) (hf : fr < 9) (ht : to < 9) (hne : fr ≠ to) (h : ∀ bl ck cp cf cs : Nat → Int32, xa_ce (ma_u ln to (ln fr)) (rc_f kd fr to 4) (rc_f pd fr to 4) (rc_f fs fr to 4) (rc_f sn fr to 4) bl ck cp cf cs → post (f_kindHead, f_kindPositive, f_kindNegated, f_draftRow, nI C, nI U, nI B, nI R, nI (pg_N C U B), nI n, f_hasDraft, f_grounded, f_hasModel, f_tail, a_isFactAtom, a_candidate, bl, ck, cp, cf, cs, a_groundAtom, a_groundKind, a_positives, a_start, a_cursor, a_occurrence, a_value, a_stage, a_height, a_reached, a_depth, a_queue, a_missing, a_blocked)) : wpX_copyRow post (f_kindHead, f_kindPositive, f_kindNegated, f_draftRow, nI C, nI U, nI B, nI R, nI (pg_N C U B), nI n, f_hasDraft, f_grounded, f_hasModel, f_tail, a_isFactAtom, a_candidate, a_bodyLength, a_cellKind, a_cellPred, a_cellFirst, a_cellSecond, a_groundAtom, a_groundKind, a_positives, a_start, a_cursor, a_occurrence, a_value, a_stage, a_height, a_reached, a_depth, a_queue, a_missing, a_blocked) (nI fr) (nI to) := by
  have efc : (nI fr).toNatClampNeg = fr := nI_clamp (by omega)
  have etc : (nI to).toNatClampNeg = to := nI_clamp (by omega)
  obtain ⟨E1, E2, E3, E4, E5⟩ := E
  unfold wpX_copyRow
  dsimp only
  rw [efc, etc, E1 fr]
  refine ⟨vp_in_nI hf (by omega), vp_in_nI ht (by omega), nm_e ⟨5, ?_⟩⟩
  refine rv_copy14 K hf ht hne (fun ck cp cf cs J1 J2 J3 J4 => h _ _ _ _ _ ⟨ma_uI E1, J1, J2, J3, J4⟩) 4 0 5 a_cellKind a_cellPred a_cellFirst a_cellSecond (by omega) (by omega) ?_ ?_ ?_ ?_
  · rw [rc_0]; exact E2
  · rw [rc_0]; exact E3
  · rw [rc_0]; exact E4
  · rw [rc_0]; exact E5
/-- the reference's copy of the draft -/
theorem rv_y145 {post : Int32 → SY → Prop} (hn : n < 8) (hl : ∀ j, b_len j = nI (ln j)) (h : ∀ co : Nat → Int32, (∀ j, co j = nI (rc_f (xa_cd kd pd fs sn) 8 n 4 j)) → post 0 (nI C, nI U, nI (U + B), nI R, nI (n + 1), 0, 0, b_facts, co, upd b_len n (nI (ln 8)), b_value, b_stage, b_height, b_candidate, b_m, b_s, b_next, b_certain)) :
    ∀ (d i f : Nat) (co : Nat → Int32), i + d = 4 → d < f → (∀ j, co j = nI (rc_f (xa_cd kd pd fs sn) 8 n i j)) → wY_commit_145 post (nI C) (nI U) (nI (U + B)) (nI R) (nI n) f_hasDraft f_hasModel f (nI i) b_facts co b_len b_value b_stage b_height b_candidate b_m b_s b_next b_certain := by
  have en : (nI n).toNatClampNeg = n := nI_clamp (by omega)
  intro d
  induction d with
  | zero =>
    intro i f co h1 h2 I
    obtain ⟨f, rfl⟩ : ∃ m, f = m + 1 := ⟨f - 1, by omega⟩
    have e : i = 4 := by omega
    subst e
    rw [wY_commit_145]
    dsimp only
    rw [en, hl 8]
    exact br_t (nI_le (a := 4) (by omega) (by omega)) ⟨vp_in_nI (by omega) (by omega), nm_e (nm_r (nI_1 n) (h co I))⟩
  | succ d ih =>
    intro i f co h1 h2 I
    obtain ⟨f, rfl⟩ : ∃ m, f = m + 1 := ⟨f - 1, by omega⟩
    have ef : 32 + nI i = nI (4 * 8 + i) := nI_add 32 i
    have efc : (nI (4 * 8 + i)).toNatClampNeg = 4 * 8 + i := nI_clamp (by omega)
    have et : 4 * nI n + nI i = nI (4 * n + i) := by rw [← nI_add, ← pk_mul]; rfl
    have etc : (nI (4 * n + i)).toNatClampNeg = 4 * n + i := nI_clamp (by omega)
    rw [wY_commit_145]
    dsimp only
    rw [ef, efc, et, etc, I (4 * 8 + i), rc_r (by omega) (by omega)]
    refine br_f (nI_ge (b := 4) (by omega) (by omega)) ⟨vp_in_nI (by omega) (by omega), vp_in_nI (by omega) (by omega), nm_e (nm_r (nI_1 i) (ih (i + 1) f _ (by omega) (by omega) (fun j => ?_)))⟩
    rw [ma_uI I j, rc_s]
/-- the reference's look at one variable -/
theorem rv_y38 {post : Int32 → SY → Prop} {J26 : Int32 → Prop} {v : Nat} (K : pg_ok C U B n ln kd pd fs sn) (EY : xa_cy ln kd pd fs sn b_code b_len) (hv : v < 10) (hb : sf_oc fs sn v (ln 8 + 1) → ¬ sf_bd kd fs sn v (ln 8 + 1) → post (-5) (nI C, nI U, nI (U + B), nI R, nI n, f_hasDraft, f_hasModel, b_facts, b_code, b_len, b_value, b_stage, b_height, b_candidate, b_m, b_s, b_next, b_certain)) (hg : (sf_oc fs sn v (ln 8 + 1) → sf_bd kd fs sn v (ln 8 + 1)) → J26 (nI (v + 1))) :
    ∀ (d i f : Nat), i + d = ln 8 + 1 → d < f → wY_commit_38 post J26 (nI v) (nI C) (nI U) (nI (U + B)) (nI R) (nI n) f_hasDraft f_hasModel b_facts b_code b_len b_value b_stage b_height b_candidate b_m b_s b_next b_certain f (ma_b (sf_oc fs sn v i)) (ma_b (sf_bd kd fs sn v i)) (nI i) := by
  obtain ⟨z1, z2, z3, z4, z5, z6⟩ := K.1
  have l3 := K.2.2.1 8 (by omega)
  intro d
  induction d with
  | zero =>
    intro i f h1 h2
    obtain ⟨f, rfl⟩ : ∃ m, f = m + 1 := ⟨f - 1, by omega⟩
    have e : i = ln 8 + 1 := by omega
    subst e
    rw [wY_commit_38]
    dsimp only
    rw [EY.2 8]
    exact br_t (nI_lt (by omega) (by omega)) (ma_br rfl (fun y => nm_r (nI_1 v) (hg (fun w => absurd w y))) (fun y => ma_br rfl (fun x => hb y x) (fun x => nm_r (nI_1 v) (hg (fun _ => x)))))
  | succ d ih =>
    intro i f h1 h2
    obtain ⟨f, rfl⟩ : ∃ m, f = m + 1 := ⟨f - 1, by omega⟩
    have ih := ih (i + 1) f (by omega) (by omega)
    have e32 : 32 + nI i = nI (32 + i) := nI_add 32 i
    have ec : (nI (32 + i)).toNatClampNeg = 32 + i := nI_clamp (by omega)
    obtain ⟨c1, c2, c3, c4, c5⟩ := K.2.2.2.1 (32 + i) (by omega)
    obtain ⟨d1, d2, d3, _⟩ := xa_dig (g := xa_ng kd (32 + i)) (p := pd (32 + i)) (s := fs (32 + i)) (t := sn (32 + i)) (xa_ng1 _) (by omega) (by omega) (by omega)
    have n10 : ¬ (10 : Int32) = 0 := by decide
    have k0 : i = 0 → kd (32 + i) = 0 := fun e => by rw [e]; exact K.2.2.2.2.1 8 (by omega)
    have k1 : 1 ≤ i → kd (32 + i) ≠ 0 := fun e => K.2.2.2.2.2 8 i (by omega) e (by omega)
    have j97 : ∀ (X2 : Int32), X2 = ma_b (sf_oc fs sn v (i + 1)) → wY_commit_97 post J26 (wY_commit_38 post J26 (nI v) (nI C) (nI U) (nI (U + B)) (nI R) (nI n) f_hasDraft f_hasModel b_facts b_code b_len b_value b_stage b_height b_candidate b_m b_s b_next b_certain f) (nI v) X2 (ma_b (sf_bd kd fs sn v i)) (nI i) (ma_b (sf_h fs sn v (32 + i))) (nI C) (nI U) (nI (U + B)) (nI R) (nI n) f_hasDraft f_hasModel b_facts b_code b_len b_value b_stage b_height b_candidate b_m b_s b_next b_certain := by
      intro X2 hX
      have same : ¬ (kd (32 + i) = 1 ∧ sf_h fs sn v (32 + i)) → wY_commit_38 post J26 (nI v) (nI C) (nI U) (nI (U + B)) (nI R) (nI n) f_hasDraft f_hasModel b_facts b_code b_len b_value b_stage b_height b_candidate b_m b_s b_next b_certain f X2 (ma_b (sf_bd kd fs sn v i)) (nI (i + 1)) := by
        intro w
        rw [ma_bc (sf_bd_n w), hX]
        exact ih
      unfold wY_commit_97
      refine ma_br rfl (fun y => nm_r (nI_1 i) (same (fun w => y w.2))) (fun y => pk_le i 0 (fun w => nm_r (nI_1 i) (same (fun x => ?_))) (fun w => ?_))
      · have := k0 (by omega)
        omega
      · refine xa_neg (r := 8) (i := i) K EY (by omega) (ma_br rfl (fun x => nm_r (nI_1 i) ?_) (fun x => nm_r (nI_1 i) (same (fun g => ?_))))
        · have x : ¬ kd (32 + i) = 2 := x
          have e1 : kd (32 + i) = 1 := by
            have := k1 (by omega)
            omega
          have e : ma_b (sf_bd kd fs sn v (i + 1)) = 1 := ma_bt ((sf_bd_s e1).mp (Or.inr y))
          rw [e, ← hX] at ih
          exact ih
        · have x : kd (32 + i) = 2 := x
          omega
    have j88 : ∀ Z : Int32, Z = ma_b (sf_h fs sn v (32 + i)) → wY_commit_88 post J26 (wY_commit_38 post J26 (nI v) (nI C) (nI U) (nI (U + B)) (nI R) (nI n) f_hasDraft f_hasModel b_facts b_code b_len b_value b_stage b_height b_candidate b_m b_s b_next b_certain f) (nI v) (ma_b (sf_oc fs sn v i)) (ma_b (sf_bd kd fs sn v i)) (nI i) Z (nI C) (nI U) (nI (U + B)) (nI R) (nI n) f_hasDraft f_hasModel b_facts b_code b_len b_value b_stage b_height b_candidate b_m b_s b_next b_certain := by
      intro Z hZ
      rw [hZ]
      unfold wY_commit_88
      refine ma_br rfl (fun y => j97 _ (ma_bc ?_)) (fun y => j97 1 (ma_bt (sf_oc_s.mp (Or.inr y))).symm)
      rw [← sf_oc_s]
      exact ⟨fun w => Or.inl w, fun w => w.elim id (fun w => absurd w y)⟩
    rw [wY_commit_38]
    dsimp only
    rw [EY.2 8, e32, ec]
    refine br_f (nI_nlt (by omega) (by omega)) ⟨vp_in_nI (by omega) (by omega), nm_r (e' := nI (xa_cd kd pd fs sn (32 + i))) (EY.1 _) ⟨n10, n10, ?_⟩⟩
    refine pk_eq (fs (32 + i)) v (fun y => j88 1 (ma_bt (Or.inl y)).symm) (fun y => ⟨n10, pk_eq (sn (32 + i)) v (fun x => j88 1 (ma_bt (Or.inr x)).symm) (fun x => j88 0 (ma_bf (fun w => w.elim y x)).symm) d2⟩) d1
theorem rv_y26 {post : Int32 → SY → Prop} (K : pg_ok C U B n ln kd pd fs sn) (EY : xa_cy ln kd pd fs sn b_code b_len) (hs : sf_ok (ln 8) kd fs sn → ∃ f, wY_commit_145 post (nI C) (nI U) (nI (U + B)) (nI R) (nI n) f_hasDraft f_hasModel f 0 b_facts b_code b_len b_value b_stage b_height b_candidate b_m b_s b_next b_certain) (hu : ¬ sf_ok (ln 8) kd fs sn → post (-5) (nI C, nI U, nI (U + B), nI R, nI n, f_hasDraft, f_hasModel, b_facts, b_code, b_len, b_value, b_stage, b_height, b_candidate, b_m, b_s, b_next, b_certain)) : wY_commit_26 post (nI C) (nI U) (nI (U + B)) (nI R) (nI n) f_hasDraft f_hasModel b_facts b_code b_len b_value b_stage b_height b_candidate b_m b_s b_next b_certain 3 4 := by
  have m0 : ∀ v, ma_b (sf_oc fs sn v 0) = 0 := fun v => ma_bf (fun ⟨j, w, _⟩ => by omega)
  have b0 : ∀ v, ma_b (sf_bd kd fs sn v 0) = 0 := fun v => ma_bf (fun ⟨j, w, _⟩ => by omega)
  rw [wY_commit_26]
  dsimp only
  refine br_f (by decide) ⟨ln 8 + 2, ?_⟩
  have k := rv_y38 (post := post) (J26 := wY_commit_26 post (nI C) (nI U) (nI (U + B)) (nI R) (nI n) f_hasDraft f_hasModel b_facts b_code b_len b_value b_stage b_height b_candidate b_m b_s b_next b_certain 2) (v := 4) (C := C) (U := U) (B := B) (R := R) (n := n) (f_hasDraft := f_hasDraft) (f_hasModel := f_hasModel) (b_facts := b_facts) (b_value := b_value) (b_stage := b_stage) (b_height := b_height) (b_candidate := b_candidate) (b_m := b_m) (b_s := b_s) (b_next := b_next) (b_certain := b_certain) K EY (by omega) (fun w1 w2 => hu (fun w => w2 (w.1 w1))) (fun w4 => ?_) (ln 8 + 1) 0 (ln 8 + 2) (by omega) (by omega)
  · rw [m0, b0] at k
    exact k
  · show wY_commit_26 post (nI C) (nI U) (nI (U + B)) (nI R) (nI n) f_hasDraft f_hasModel b_facts b_code b_len b_value b_stage b_height b_candidate b_m b_s b_next b_certain 2 (nI 5)
    rw [wY_commit_26]
    dsimp only
    refine br_f (by decide) ⟨ln 8 + 2, ?_⟩
    have k := rv_y38 (post := post) (J26 := wY_commit_26 post (nI C) (nI U) (nI (U + B)) (nI R) (nI n) f_hasDraft f_hasModel b_facts b_code b_len b_value b_stage b_height b_candidate b_m b_s b_next b_certain 1) (v := 5) (C := C) (U := U) (B := B) (R := R) (n := n) (f_hasDraft := f_hasDraft) (f_hasModel := f_hasModel) (b_facts := b_facts) (b_value := b_value) (b_stage := b_stage) (b_height := b_height) (b_candidate := b_candidate) (b_m := b_m) (b_s := b_s) (b_next := b_next) (b_certain := b_certain) K EY (by omega) (fun w1 w2 => hu (fun w => w2 (w.2 w1))) (fun w5 => ?_) (ln 8 + 1) 0 (ln 8 + 2) (by omega) (by omega)
    · rw [m0, b0] at k
      exact k
    · show wY_commit_26 post (nI C) (nI U) (nI (U + B)) (nI R) (nI n) f_hasDraft f_hasModel b_facts b_code b_len b_value b_stage b_height b_candidate b_m b_s b_next b_certain 1 (nI 6)
      rw [wY_commit_26]
      dsimp only
      exact br_t (by decide) (hs ⟨w4, w5⟩)
theorem rv_commit (H : rl_F C U B R n ln kd pd fs sn f_grounded f_hasModel a_isFactAtom a_candidate a_bodyLength a_cellKind a_cellPred a_cellFirst a_cellSecond a_groundAtom a_groundKind a_positives a_start a_occurrence a_value a_stage a_height b_facts b_code b_len b_value b_stage b_height b_candidate) : wpX_commit (fun r u' => wpY_commit (fun r' v' => r' = r ∧ i_Rel k u' v') (nI C, nI U, nI (U + B), nI R, nI n, f_hasDraft, f_hasModel, b_facts, b_code, b_len, b_value, b_stage, b_height, b_candidate, b_m, b_s, b_next, b_certain)) (f_kindHead, f_kindPositive, f_kindNegated, f_draftRow, nI C, nI U, nI B, nI R, nI (pg_N C U B), nI n, f_hasDraft, f_grounded, f_hasModel, f_tail, a_isFactAtom, a_candidate, a_bodyLength, a_cellKind, a_cellPred, a_cellFirst, a_cellSecond, a_groundAtom, a_groundKind, a_positives, a_start, a_cursor, a_occurrence, a_value, a_stage, a_height, a_reached, a_depth, a_queue, a_missing, a_blocked) := by
  have I : i_Rel k (f_kindHead, f_kindPositive, f_kindNegated, f_draftRow, nI C, nI U, nI B, nI R, nI (pg_N C U B), nI n, f_hasDraft, f_grounded, f_hasModel, f_tail, a_isFactAtom, a_candidate, a_bodyLength, a_cellKind, a_cellPred, a_cellFirst, a_cellSecond, a_groundAtom, a_groundKind, a_positives, a_start, a_cursor, a_occurrence, a_value, a_stage, a_height, a_reached, a_depth, a_queue, a_missing, a_blocked) (nI C, nI U, nI (U + B), nI R, nI n, f_hasDraft, f_hasModel, b_facts, b_code, b_len, b_value, b_stage, b_height, b_candidate, b_m, b_s, b_next, b_certain) := rl_in H
  obtain ⟨K, hR, E, EY, hf, hc, hm1, hm2, hm3⟩ := H
  refine br_c (fun g => br_t g ⟨rfl, I⟩) (fun g => pk_lt n R (fun q => ?_) (fun q => br_f g (br_f (nI_nlt q (by omega)) ⟨rfl, I⟩)))
  have q' : nI n < nI R := nI_lt q (by omega)
  refine rv_safe K E (ma_br rfl (fun z => br_f g (br_t q' ⟨3, rv_y26 K EY (fun w => absurd w z) (fun _ => ⟨rfl, I⟩)⟩)) (fun z => ?_))
  refine rv_copy (fr := 8) (to := n) K E (by omega) (by omega) (by omega) (fun bl ck cp cf cs EX => ?_)
  refine nm_r (nI_1 n) ?_
  refine br_f g (br_t q' ⟨3, rv_y26 K EY (fun _ => ⟨5, ?_⟩) (fun w => absurd z w)⟩)
  refine rv_y145 (ln := ln) (kd := kd) (pd := pd) (fs := fs) (sn := sn) (by omega) EY.2 (fun co J => ⟨rfl, ?_⟩) 4 0 5 b_code (by omega) (by omega) (by rw [rc_0]; exact EY.1)
  refine rl_in (n := n + 1) (f_hasDraft := 0) ⟨rc_ok K (by omega) (by omega) (by omega), ⟨by omega, hR.2⟩, EX, ⟨fun j => (J j).trans (congrArg nI rc_cd.symm), ma_uI EY.2⟩, hf, hc, fun y => absurd rfl y, fun y => absurd rfl y, fun y => absurd rfl y⟩
end C
/-! drop -/
def dr_f (f : Nat → Nat) (r e : Nat) : Nat → Nat := fun j => if 4 * r ≤ j ∧ j < e then f (j + 4) else f j
def dl_f (f : Nat → Nat) (r e : Nat) : Nat → Nat := fun j => if r ≤ j ∧ j < e then f (j + 1) else f j
theorem dr_t {f : Nat → Nat} {r e j : Nat} (h : 4 * r ≤ j ∧ j < e) : dr_f f r e j = f (j + 4) := if_pos h
theorem dr_n {f : Nat → Nat} {r e j : Nat} (h : ¬ (4 * r ≤ j ∧ j < e)) : dr_f f r e j = f j := if_neg h
theorem dl_t {f : Nat → Nat} {r e j : Nat} (h : r ≤ j ∧ j < e) : dl_f f r e j = f (j + 1) := if_pos h
theorem dl_n {f : Nat → Nat} {r e j : Nat} (h : ¬ (r ≤ j ∧ j < e)) : dl_f f r e j = f j := if_neg h
theorem dr_0 {f : Nat → Nat} {r : Nat} : dr_f f r (4 * r) = f := funext fun j => dr_n (by omega)
theorem dl_0 {f : Nat → Nat} {r : Nat} : dl_f f r r = f := funext fun j => dl_n (by omega)
theorem dr_s {f : Nat → Nat} {r e : Nat} (h : 4 * r ≤ e) : ma_u (dr_f f r e) e (f (e + 4)) = dr_f f r (e + 1) := by
  funext j
  by_cases c : j = e
  · rw [c, ma_us, dr_t (by omega)]
  · rw [ma_un c]
    by_cases d : 4 * r ≤ j ∧ j < e
    · rw [dr_t d, dr_t (by omega)]
    · rw [dr_n d, dr_n (by omega)]
theorem dl_s {f : Nat → Nat} {r e : Nat} (h : r ≤ e) : ma_u (dl_f f r e) e (f (e + 1)) = dl_f f r (e + 1) := by
  funext j
  by_cases c : j = e
  · rw [c, ma_us, dl_t (by omega)]
  · rw [ma_un c]
    by_cases d : r ≤ j ∧ j < e
    · rw [dl_t d, dl_t (by omega)]
    · rw [dl_n d, dl_n (by omega)]
/-- a row copied down -/
theorem dr_rc {f : Nat → Nat} {r q : Nat} (h : r ≤ q) : rc_f (dr_f f r (4 * q)) (q + 1) q 4 = dr_f f r (4 * (q + 1)) := by
  funext j
  by_cases c : 4 * q ≤ j ∧ j < 4 * q + 4
  · rw [rc_t c, dr_n (by omega), dr_t (by omega)]
    exact congrArg f (by omega)
  · rw [rc_n c]
    by_cases d : 4 * r ≤ j ∧ j < 4 * q
    · rw [dr_t d, dr_t (by omega)]
    · rw [dr_n d, dr_n (by omega)]
theorem dl_rc {f : Nat → Nat} {r q : Nat} (h : r ≤ q) : ma_u (dl_f f r q) q (dl_f f r q (q + 1)) = dl_f f r (q + 1) := by
  rw [dl_n (f := f) (r := r) (e := q) (j := q + 1) (by omega)]
  exact dl_s h
theorem dr_cd {kd pd fs sn : Nat → Nat} {r e j : Nat} : xa_cd (dr_f kd r e) (dr_f pd r e) (dr_f fs r e) (dr_f sn r e) j = dr_f (xa_cd kd pd fs sn) r e j := by
  unfold xa_cd xa_ng
  by_cases c : 4 * r ≤ j ∧ j < e
  · rw [dr_t c, dr_t c, dr_t c, dr_t c, dr_t c]
  · rw [dr_n c, dr_n c, dr_n c, dr_n c, dr_n c]
section D
variable {k C U B R n : Nat} {ln kd pd fs sn : Nat → Nat} {f_kindHead f_kindPositive f_kindNegated f_draftRow f_hasDraft f_grounded f_hasModel f_tail : Int32} {a_isFactAtom a_candidate a_bodyLength a_cellKind a_cellPred a_cellFirst a_cellSecond a_groundAtom a_groundKind a_positives a_start a_cursor a_occurrence a_value a_stage a_height a_reached a_depth a_queue a_missing a_blocked b_facts b_code b_len b_value b_stage b_height b_candidate b_m b_s b_next b_certain : Nat → Int32}
theorem rv_x16 {post : Int32 → SX → Prop} {r : Nat} (hn : n ≤ 8) (hr : r < n) (h : ∀ bl ck cp cf cs : Nat → Int32, pg_ok C U B (n - 1) (dl_f ln r (n - 1)) (dr_f kd r (4 * (n - 1))) (dr_f pd r (4 * (n - 1))) (dr_f fs r (4 * (n - 1))) (dr_f sn r (4 * (n - 1))) → xa_ce (dl_f ln r (n - 1)) (dr_f kd r (4 * (n - 1))) (dr_f pd r (4 * (n - 1))) (dr_f fs r (4 * (n - 1))) (dr_f sn r (4 * (n - 1))) bl ck cp cf cs → post 0 (f_kindHead, f_kindPositive, f_kindNegated, f_draftRow, nI C, nI U, nI B, nI R, nI (pg_N C U B), nI (n - 1), f_hasDraft, 0, 0, f_tail, a_isFactAtom, a_candidate, bl, ck, cp, cf, cs, a_groundAtom, a_groundKind, a_positives, a_start, a_cursor, a_occurrence, a_value, a_stage, a_height, a_reached, a_depth, a_queue, a_missing, a_blocked)) :
    ∀ (d q f : Nat) (bl ck cp cf cs : Nat → Int32), q + d = n - 1 → d < f → r ≤ q → pg_ok C U B (n - 1) (dl_f ln r q) (dr_f kd r (4 * q)) (dr_f pd r (4 * q)) (dr_f fs r (4 * q)) (dr_f sn r (4 * q)) → xa_ce (dl_f ln r q) (dr_f kd r (4 * q)) (dr_f pd r (4 * q)) (dr_f fs r (4 * q)) (dr_f sn r (4 * q)) bl ck cp cf cs → wX_drop_16 post f (nI q) f_kindHead f_kindPositive f_kindNegated f_draftRow (nI C) (nI U) (nI B) (nI R) (nI (pg_N C U B)) (nI n) f_hasDraft f_grounded f_hasModel f_tail a_isFactAtom a_candidate bl ck cp cf cs a_groundAtom a_groundKind a_positives a_start a_cursor a_occurrence a_value a_stage a_height a_reached a_depth a_queue a_missing a_blocked := by
  intro d
  induction d with
  | zero =>
    intro q f bl ck cp cf cs h1 h2 hq K E
    obtain ⟨f, rfl⟩ : ∃ m, f = m + 1 := ⟨f - 1, by omega⟩
    have e : q = n - 1 := by omega
    subst e
    rw [wX_drop_16]
    dsimp only
    rw [nI_1 (n - 1)]
    have en : nI n - 1 = nI (n - 1) := pk_sub (b := 1) (by omega)
    exact br_t (nI_le (by omega) (by omega)) (nm_r en (h bl ck cp cf cs K E))
  | succ d ih =>
    intro q f bl ck cp cf cs h1 h2 hq K E
    obtain ⟨f, rfl⟩ : ∃ m, f = m + 1 := ⟨f - 1, by omega⟩
    rw [wX_drop_16]
    dsimp only
    rw [nI_1 q]
    have K' := rc_ok (n' := n - 1) (fr := q + 1) (to := q) K (by omega) (by omega) (by omega)
    rw [dl_rc hq, dr_rc hq, dr_rc hq, dr_rc hq, dr_rc hq] at K'
    refine br_f (nI_ge (by omega) (by omega)) (rv_copy (n := n) (fr := q + 1) (to := q) (ln := dl_f ln r q) (kd := dr_f kd r (4 * q)) (pd := dr_f pd r (4 * q)) (fs := dr_f fs r (4 * q)) (sn := dr_f sn r (4 * q)) ⟨K.1, hn, K.2.2⟩ E (by omega) (by omega) (by omega) (fun bl' ck' cp' cf' cs' E' => ?_))
    rw [dl_rc hq, dr_rc hq, dr_rc hq, dr_rc hq, dr_rc hq] at E'
    exact nm_e (ih (q + 1) f bl' ck' cp' cf' cs' (by omega) (by omega) (by omega) K' E')
theorem rv_y52 {post : Int32 → SY → Prop} {r : Nat} (hn : n ≤ 8) (hr : r < n) (h : ∀ le : Nat → Int32, (∀ j, le j = nI (dl_f ln r (n - 1) j)) → post 0 (nI C, nI U, nI (U + B), nI R, nI (n - 1), f_hasDraft, 0, b_facts, b_code, le, b_value, b_stage, b_height, b_candidate, b_m, b_s, b_next, b_certain)) :
    ∀ (d q f : Nat) (le : Nat → Int32), q + d = n - 1 → d < f → r ≤ q → (∀ j, le j = nI (dl_f ln r q j)) → wY_drop_52 post (nI C) (nI U) (nI (U + B)) (nI R) (nI n) f_hasDraft f_hasModel f (nI q) b_facts b_code le b_value b_stage b_height b_candidate b_m b_s b_next b_certain := by
  have en : nI n - 1 = nI (n - 1) := pk_sub (b := 1) (by omega)
  intro d
  induction d with
  | zero =>
    intro q f le h1 h2 hq I
    obtain ⟨f, rfl⟩ : ∃ m, f = m + 1 := ⟨f - 1, by omega⟩
    have e : q = n - 1 := by omega
    subst e
    rw [wY_drop_52]
    dsimp only
    rw [en]
    exact br_t (nI_le (Nat.le_refl _) (by omega)) (nm_e (h le I))
  | succ d ih =>
    intro q f le h1 h2 hq I
    obtain ⟨f, rfl⟩ : ∃ m, f = m + 1 := ⟨f - 1, by omega⟩
    have eq : (nI q).toNatClampNeg = q := nI_clamp (by omega)
    have eq1 : (nI (q + 1)).toNatClampNeg = q + 1 := nI_clamp (by omega)
    rw [wY_drop_52]
    dsimp only
    rw [en, nI_1 q, eq, eq1, I (q + 1), dl_n (by omega)]
    refine br_f (nI_ge (by omega) (by omega)) ⟨vp_in_nI (by omega) (by omega), vp_in_nI (by omega) (by omega), nm_e (nm_e (ih (q + 1) f _ (by omega) (by omega) (by omega) (fun j => ?_)))⟩
    rw [ma_uI I j, dl_s hq]
theorem rv_y18 {post : Int32 → SY → Prop} {r : Nat} {x1 : Int32} (hn : n ≤ 8) (hr : r < n) (h : ∀ co : Nat → Int32, (∀ j, co j = nI (dr_f (xa_cd kd pd fs sn) r (4 * (n - 1)) j)) → ∃ f, wY_drop_52 post (nI C) (nI U) (nI (U + B)) (nI R) (nI n) f_hasDraft f_hasModel f x1 b_facts co b_len b_value b_stage b_height b_candidate b_m b_s b_next b_certain) :
    ∀ (d q f : Nat) (co : Nat → Int32), q + d = 4 * (n - 1) → d < f → 4 * r ≤ q → (∀ j, co j = nI (dr_f (xa_cd kd pd fs sn) r q j)) → wY_drop_18 post x1 (nI C) (nI U) (nI (U + B)) (nI R) (nI n) f_hasDraft f_hasModel f (nI q) b_facts co b_len b_value b_stage b_height b_candidate b_m b_s b_next b_certain := by
  have en : 4 * nI n - 4 = nI (4 * (n - 1)) := by
    have e : 4 * nI n = nI (4 * n) := by rw [← pk_mul]; rfl
    rw [e]
    refine Eq.trans (pk_sub (a := 4 * n) (b := 4) (by omega)) (congrArg nI (by omega))
  intro d
  induction d with
  | zero =>
    intro q f co h1 h2 hq I
    obtain ⟨f, rfl⟩ : ∃ m, f = m + 1 := ⟨f - 1, by omega⟩
    have e : q = 4 * (n - 1) := by omega
    subst e
    rw [wY_drop_18]
    dsimp only
    rw [en]
    exact br_t (nI_le (Nat.le_refl _) (by omega)) (h co I)
  | succ d ih =>
    intro q f co h1 h2 hq I
    obtain ⟨f, rfl⟩ : ∃ m, f = m + 1 := ⟨f - 1, by omega⟩
    have eq : (nI q).toNatClampNeg = q := nI_clamp (by omega)
    have e4 : nI q + 4 = nI (q + 4) := nI_add q 4
    have eq4 : (nI (q + 4)).toNatClampNeg = q + 4 := nI_clamp (by omega)
    rw [wY_drop_18]
    dsimp only
    rw [en, e4, eq, eq4, I (q + 4), dr_n (by omega)]
    refine br_f (nI_ge (by omega) (by omega)) ⟨vp_in_nI (by omega) (by omega), vp_in_nI (by omega) (by omega), nm_e (nm_r (nI_1 q) (ih (q + 1) f _ (by omega) (by omega) (by omega) (fun j => ?_)))⟩
    rw [ma_uI I j, dr_s hq]
theorem rv_drop (H : rl_F C U B R n ln kd pd fs sn f_grounded f_hasModel a_isFactAtom a_candidate a_bodyLength a_cellKind a_cellPred a_cellFirst a_cellSecond a_groundAtom a_groundKind a_positives a_start a_occurrence a_value a_stage a_height b_facts b_code b_len b_value b_stage b_height b_candidate) (v1 : Int32) : wpX_drop (fun r u' => wpY_drop (fun r' v' => r' = r ∧ i_Rel k u' v') (nI C, nI U, nI (U + B), nI R, nI n, f_hasDraft, f_hasModel, b_facts, b_code, b_len, b_value, b_stage, b_height, b_candidate, b_m, b_s, b_next, b_certain) v1) (f_kindHead, f_kindPositive, f_kindNegated, f_draftRow, nI C, nI U, nI B, nI R, nI (pg_N C U B), nI n, f_hasDraft, f_grounded, f_hasModel, f_tail, a_isFactAtom, a_candidate, a_bodyLength, a_cellKind, a_cellPred, a_cellFirst, a_cellSecond, a_groundAtom, a_groundKind, a_positives, a_start, a_cursor, a_occurrence, a_value, a_stage, a_height, a_reached, a_depth, a_queue, a_missing, a_blocked) v1 := by
  have I : i_Rel k (f_kindHead, f_kindPositive, f_kindNegated, f_draftRow, nI C, nI U, nI B, nI R, nI (pg_N C U B), nI n, f_hasDraft, f_grounded, f_hasModel, f_tail, a_isFactAtom, a_candidate, a_bodyLength, a_cellKind, a_cellPred, a_cellFirst, a_cellSecond, a_groundAtom, a_groundKind, a_positives, a_start, a_cursor, a_occurrence, a_value, a_stage, a_height, a_reached, a_depth, a_queue, a_missing, a_blocked) (nI C, nI U, nI (U + B), nI R, nI n, f_hasDraft, f_hasModel, b_facts, b_code, b_len, b_value, b_stage, b_height, b_candidate, b_m, b_s, b_next, b_certain) := rl_in H
  obtain ⟨K, hR, E, EY, hf, hc, hm1, hm2, hm3⟩ := H
  have hn := K.2.1
  rcases pk_ix v1 (n := n) (by omega) with h | h | ⟨r, hr, rfl⟩
  · exact br_t h (br_t h ⟨rfl, I⟩)
  · have n0 : ¬ v1 < 0 := xa_np (by omega) h
    have n1 : ¬ v1 < nI n := xa_nl h
    exact br_f n0 (br_f n1 (br_f n0 (br_f n1 ⟨rfl, I⟩)))
  · have n0 : ¬ nI r < 0 := nI_pos (by omega)
    have n1 : nI r < nI n := nI_lt hr (by omega)
    refine br_f n0 (br_t n1 ⟨n + 1, ?_⟩)
    refine rv_x16 (ln := ln) (kd := kd) (pd := pd) (fs := fs) (sn := sn) hn hr (fun bl ck cp cf cs K' E' => ?_) (n - 1 - r) r _ a_bodyLength a_cellKind a_cellPred a_cellFirst a_cellSecond (by omega) (by omega) (Nat.le_refl _) (by rw [dl_0, dr_0, dr_0, dr_0, dr_0]; exact ⟨K.1, by omega, K.2.2⟩) (by rw [dl_0, dr_0, dr_0, dr_0, dr_0]; exact E)
    have e4 : 4 * nI r = nI (4 * r) := by rw [← pk_mul]; rfl
    refine br_f n0 (br_t n1 (nm_r e4 ⟨4 * n + 1, ?_⟩))
    refine rv_y18 (r := r) (kd := kd) (pd := pd) (fs := fs) (sn := sn) hn hr (fun co J => ⟨n + 1, ?_⟩) (4 * (n - 1) - 4 * r) (4 * r) _ b_code (by omega) (by omega) (Nat.le_refl _) (by rw [dr_0]; exact EY.1)
    refine rv_y52 (r := r) (ln := ln) hn hr (fun le J2 => ⟨rfl, ?_⟩) (n - 1 - r) r _ b_len (by omega) (by omega) (Nat.le_refl _) (by rw [dl_0]; exact EY.2)
    exact rl_in (n := n - 1) ⟨K', ⟨by omega, hR.2⟩, E', ⟨fun j => (J j).trans (congrArg nI dr_cd.symm), J2⟩, hf, hc, fun y => absurd rfl y, fun y => absurd rfl y, fun y => absurd rfl y⟩
end D
end
section
/-! solve, judge, witness, reason: both sides -/
theorem rs_ok {C U B n : Nat} {ln kd pd fs sn : Nat → Nat} (K : pg_ok C U B n ln kd pd fs sn) : xm_ok (pg_N C U B) n (pg_us C n ln) (pg_kk kd) (pg_aa C U pd fs sn) (pg_pp pd fs sn) (pg_w C U) := by
  refine ⟨K.2.1, (pg_N48 K.1).1, fun m u => ?_, fun m i hi u => pg_us_h hi u, fun s u => ?_, fun s u => u.1, fun s u => (pg_us_a K u).1, fun s u => (pg_us_a K u).2.1, fun a b ha hb e => pg_w_inj K.1 a b ha hb e, fun a ha => pg_w_in K.1 ha⟩
  · exact (pg_us_k K (m := m) (i := 0) (by omega) u).1 rfl
  · have e : 4 * (s / 4) + s % 4 = s := by omega
    have h3 := (pg_us_k K (m := s / 4) (i := s % 4) (by omega) (by rw [e]; exact u)).2.2
    rw [e] at h3
    exact h3
/-- the facts as a set of positions -/
def rs_F (b_facts : Nat → Int32) (q : Nat) : Prop := q < 96 ∧ b_facts q = 1
section F
variable {C U B : Nat} {a_isFactAtom b_facts : Nat → Int32}
theorem rs_FY (h : ∀ q, q < 96 → b_facts q = 0 ∨ b_facts q = 1) : ∀ q, q < 96 → b_facts q = ma_b (rs_F b_facts q) := by
  intro q hq
  rcases h q hq with e | e
  · rw [e, ma_bf (fun z => absurd (e.symm.trans z.2) (by decide))]
  · rw [e, ma_bt ⟨hq, e⟩]
theorem rs_FX (hz : pg_sz C U B) (g : rl_ag C U B a_isFactAtom b_facts) (h : ∀ q, q < 96 → b_facts q = 0 ∨ b_facts q = 1) : ∀ a, a < pg_N C U B → a_isFactAtom a = ma_b (rs_F b_facts (pg_w C U a)) := by
  intro a ha
  rw [g.1 a ha]
  exact rs_FY h _ (pg_w_in hz ha)
theorem rs_Fg (g : rl_ag C U B a_isFactAtom b_facts) : ∀ q, rs_F b_facts q → q < 96 ∧ pg_gd C U B q := by
  intro q h
  refine ⟨h.1, ?_⟩
  by_cases c : pg_gd C U B q
  · exact c
  · exact absurd ((g.2 q h.1 c).symm.trans h.2) (by decide)
end F

section S
variable {k C U B R n : Nat} {ln kd pd fs sn : Nat → Nat} {f_kindHead f_kindPositive f_kindNegated f_draftRow f_hasDraft f_grounded f_hasModel f_tail : Int32} {a_isFactAtom a_candidate a_bodyLength a_cellKind a_cellPred a_cellFirst a_cellSecond a_groundAtom a_groundKind a_positives a_start a_cursor a_occurrence a_value a_stage a_height a_reached a_depth a_queue a_missing a_blocked b_facts b_code b_len b_value b_stage b_height b_candidate b_m b_s b_next b_certain : Nat → Int32}
theorem rs_xsolve {post : Int32 → SX → Prop} {F : Nat → Prop} {KK : Nat} (K : pg_ok C U B n ln kd pd fs sn) (E : xa_ce ln kd pd fs sn a_bodyLength a_cellKind a_cellPred a_cellFirst a_cellSecond) (Gd : f_grounded ≠ 0 → gr_ok (64 * n) (pg_us C n ln) (pg_kk kd) (pg_aa C U pd fs sn) a_groundAtom a_groundKind a_positives a_start a_occurrence) (hF : ∀ a, a < pg_N C U B → a_isFactAtom a = ma_b (F (pg_w C U a))) (hK : KK ≤ 48) (hst : ∀ a, a < pg_N C U B → ro_T (pg_us C n ln) (pg_kk kd) (pg_pp pd fs sn) F (KK + 1) (pg_w C U a) → ro_T (pg_us C n ln) (pg_kk kd) (pg_pp pd fs sn) F KK (pg_w C U a)) (hgr : ∀ k, k < KK → ∃ a, a < pg_N C U B ∧ ro_T (pg_us C n ln) (pg_kk kd) (pg_pp pd fs sn) F (k + 1) (pg_w C U a) ∧ ¬ ro_T (pg_us C n ln) (pg_kk kd) (pg_pp pd fs sn) F k (pg_w C U a))
    (h : ∀ (gr tl : Int32) (ga gk po sa cu oc va st he rc dp qu ms bk : Nat → Int32), gr ≠ 0 → gr_ok (64 * n) (pg_us C n ln) (pg_kk kd) (pg_aa C U pd fs sn) ga gk po sa oc → (∀ a, a < pg_N C U B → va a = ro_v (pg_us C n ln) (pg_kk kd) (pg_pp pd fs sn) F (KK + 1) (pg_w C U a) ∧ st a = ro_s (pg_us C n ln) (pg_kk kd) (pg_pp pd fs sn) F (KK + 1) (pg_w C U a) ∧ he a = ro_h (pg_us C n ln) (pg_kk kd) (pg_pp pd fs sn) F (KK + 1) (pg_w C U a)) → post (nI (ma_cn (fun a => ro_v (pg_us C n ln) (pg_kk kd) (pg_pp pd fs sn) F (KK + 1) (pg_w C U a) = 2) (pg_N C U B))) (f_kindHead, f_kindPositive, f_kindNegated, f_draftRow, nI C, nI U, nI B, nI R, nI (pg_N C U B), nI n, f_hasDraft, gr, 1, tl, a_isFactAtom, a_candidate, a_bodyLength, a_cellKind, a_cellPred, a_cellFirst, a_cellSecond, ga, gk, po, sa, cu, oc, va, st, he, rc, dp, qu, ms, bk)) : wpX_solve post (f_kindHead, f_kindPositive, f_kindNegated, f_draftRow, nI C, nI U, nI B, nI R, nI (pg_N C U B), nI n, f_hasDraft, f_grounded, f_hasModel, f_tail, a_isFactAtom, a_candidate, a_bodyLength, a_cellKind, a_cellPred, a_cellFirst, a_cellSecond, a_groundAtom, a_groundKind, a_positives, a_start, a_cursor, a_occurrence, a_value, a_stage, a_height, a_reached, a_depth, a_queue, a_missing, a_blocked) := by
  have h48 := (pg_N48 K.1).1
  unfold wpX_solve
  dsimp only
  refine xg_ensure (f_grounded := f_grounded) (f_hasModel := f_hasModel) K E Gd (fun gr ga gk po sa cu oc hg G => ⟨pg_N C U B + 1, ?_⟩)
  refine xm_s6 h48 (fun va st he I => ⟨KK + 2, ?_⟩) (pg_N C U B) 0 _ a_value a_stage a_height (by omega) (by omega) (fun a' ha' => by omega)
  have k := xm_s45 (f_hasModel := f_hasModel) (post := post) (K := KK) (N := pg_N C U B) (n := n) (w := pg_w C U) (F := F) (f_kindHead := f_kindHead) (f_kindPositive := f_kindPositive) (f_kindNegated := f_kindNegated) (f_draftRow := f_draftRow) (f_constants := nI C) (f_unary := nI U) (f_binary := nI B) (f_maxRules := nI R) (f_hasDraft := f_hasDraft) (f_grounded := gr) (a_isFactAtom := a_isFactAtom) (a_candidate := a_candidate) (a_bodyLength := a_bodyLength) (a_cellKind := a_cellKind) (a_cellPred := a_cellPred) (a_cellFirst := a_cellFirst) (a_cellSecond := a_cellSecond) (a_cursor := cu) (rs_ok K) G hF hK hst hgr (fun tl va2 st2 he2 rc2 dp2 qu2 ms2 bk2 J => h gr tl ga gk po sa cu oc va2 st2 he2 rc2 dp2 qu2 ms2 bk2 hg G J) (KK + 1) 0 (KK + 2) f_tail va st he a_reached a_depth a_queue a_missing a_blocked (by omega) (by omega) I
  rw [ma_bt (Nat.zero_le _)] at k
  exact k
theorem rs_solve (H : rl_F C U B R n ln kd pd fs sn f_grounded f_hasModel a_isFactAtom a_candidate a_bodyLength a_cellKind a_cellPred a_cellFirst a_cellSecond a_groundAtom a_groundKind a_positives a_start a_occurrence a_value a_stage a_height b_facts b_code b_len b_value b_stage b_height b_candidate) : wpX_solve (fun r u' => wpY_solve (fun r' v' => r' = r ∧ i_Rel k u' v') (nI C, nI U, nI (U + B), nI R, nI n, f_hasDraft, f_hasModel, b_facts, b_code, b_len, b_value, b_stage, b_height, b_candidate, b_m, b_s, b_next, b_certain)) (f_kindHead, f_kindPositive, f_kindNegated, f_draftRow, nI C, nI U, nI B, nI R, nI (pg_N C U B), nI n, f_hasDraft, f_grounded, f_hasModel, f_tail, a_isFactAtom, a_candidate, a_bodyLength, a_cellKind, a_cellPred, a_cellFirst, a_cellSecond, a_groundAtom, a_groundKind, a_positives, a_start, a_cursor, a_occurrence, a_value, a_stage, a_height, a_reached, a_depth, a_queue, a_missing, a_blocked) := by
  obtain ⟨K, hR, E, EY, ⟨hf, hf2⟩, hc, hm1, hm2, hm3⟩ := H
  have hz := K.1
  have h48 := (pg_N48 hz).1
  have hFg := rs_Fg hf
  have hFY := rs_FY hf2
  have hFX := rs_FX hz hf hf2
  have gd : ∀ s, pg_us C n ln s → (pg_pp pd fs sn s < 96 ∧ pg_gd C U B (pg_pp pd fs sn s)) := fun s u => ⟨(pg_us_a K u).2.2.2, (pg_us_a K u).2.2.1⟩
  have hT : ∀ k q, ro_T (pg_us C n ln) (pg_kk kd) (pg_pp pd fs sn) (rs_F b_facts) k q → q < 96 ∧ pg_gd C U B q := fun k q z => ro_inT (Z := fun q => q < 96 ∧ pg_gd C U B q) hFg gd z
  have hP : ∀ k q, ro_P (pg_us C n ln) (pg_kk kd) (pg_pp pd fs sn) (rs_F b_facts) k q → q < 96 ∧ pg_gd C U B q := fun k q z => ro_in (Z := fun q => q < 96 ∧ pg_gd C U B q) hFg gd z
  have inj := fun (f : Nat → Prop) (hs : ∀ q, q < 96 → f q → pg_gd C U B q) => ma_cn_inj (w := pg_w C U) (M := 96) (pg_N C U B) f (fun a ha => pg_w_in hz ha) (fun a b ha hb e => pg_w_inj hz a b ha hb e) (fun q hq z => pg_w_sur hz (hs q hq z))
  have hcn : ∀ k, ma_cn (ro_T (pg_us C n ln) (pg_kk kd) (pg_pp pd fs sn) (rs_F b_facts) k) 96 ≤ 48 := by
    intro k
    rw [← inj (ro_T (pg_us C n ln) (pg_kk kd) (pg_pp pd fs sn) (rs_F b_facts) k) (fun q _ z => (hT k q z).2)]
    have := ma_cn_le (fun a => ro_T (pg_us C n ln) (pg_kk kd) (pg_pp pd fs sn) (rs_F b_facts) k (pg_w C U a)) (pg_N C U B)
    omega
  obtain ⟨KK, hK, hst, hgr⟩ := ro_end hcn
  refine rs_xsolve (F := rs_F b_facts) (KK := KK) K E hm2 hFX hK (fun a ha z => hst _ (pg_w_in hz ha) z) (fun k hk => ?_) (fun gr tl ga gk po sa cu oc va st he rc dp qu ms bk hg G J => ?_)
  · obtain ⟨q, q1, q2, q3⟩ := hgr k hk
    obtain ⟨a, a1, rfl⟩ := pg_w_sur hz (hT _ q q2).2
    exact ⟨a, a1, q2, q3⟩
  · have v2P : ∀ q, ro_v (pg_us C n ln) (pg_kk kd) (pg_pp pd fs sn) (rs_F b_facts) (KK + 1) q = 2 → pg_gd C U B q := by
      intro q z
      refine (hP KK q ?_).2
      by_cases y : ro_P (pg_us C n ln) (pg_kk kd) (pg_pp pd fs sn) (rs_F b_facts) KK q
      · exact y
      · exact absurd ((ro_v0 y).symm.trans z) (by decide)
    refine yv_solve (F := rs_F b_facts) (KK := KK) K EY hFY hK hst hgr (fun vb sb hb mb ssb nb cb JY => ⟨?_, ?_⟩)
    · exact congrArg nI (inj (fun q => ro_v (pg_us C n ln) (pg_kk kd) (pg_pp pd fs sn) (rs_F b_facts) (KK + 1) q = 2) (fun q _ z => v2P q z)).symm
    · refine rl_in (f_hasModel := 1) ⟨K, hR, E, EY, ⟨hf, hf2⟩, hc, fun _ => hg, fun _ => G, fun _ => ⟨⟨fun a ha => ?_, fun q hq hn => ?_⟩, fun a ha => ?_⟩⟩
      · rw [(J a ha).1, (JY _ (pg_w_in hz ha)).1]
      · rw [(JY q hq).1]
        exact ro_v0 (fun z => hn (hP KK q z).2)
      · rw [(J a ha).2.1, (J a ha).2.2, (JY _ (pg_w_in hz ha)).2.1, (JY _ (pg_w_in hz ha)).2.2]
        exact ⟨rfl, rfl⟩
theorem rs_xjudge {post : Int32 → SX → Prop} {F : Nat → Prop} {cd : Nat → Int32} (K : pg_ok C U B n ln kd pd fs sn) (E : xa_ce ln kd pd fs sn a_bodyLength a_cellKind a_cellPred a_cellFirst a_cellSecond) (Gd : f_grounded ≠ 0 → gr_ok (64 * n) (pg_us C n ln) (pg_kk kd) (pg_aa C U pd fs sn) a_groundAtom a_groundKind a_positives a_start a_occurrence) (hF : ∀ a, a < pg_N C U B → a_isFactAtom a = ma_b (F a)) (hc : ∀ a, a < pg_N C U B → a_candidate a = cd a)
    (h : ∀ (gr tl : Int32) (ga gk po sa cu oc rc dp qu ms bk : Nat → Int32), gr ≠ 0 → gr_ok (64 * n) (pg_us C n ln) (pg_kk kd) (pg_aa C U pd fs sn) ga gk po sa oc → post (ju_a (pg_us C n ln) (pg_kk kd) (pg_aa C U pd fs sn) F cd (pg_N C U B)) (f_kindHead, f_kindPositive, f_kindNegated, f_draftRow, nI C, nI U, nI B, nI R, nI (pg_N C U B), nI n, f_hasDraft, gr, f_hasModel, tl, a_isFactAtom, a_candidate, a_bodyLength, a_cellKind, a_cellPred, a_cellFirst, a_cellSecond, ga, gk, po, sa, cu, oc, a_value, a_stage, a_height, rc, dp, qu, ms, bk)) : wpX_judge post (f_kindHead, f_kindPositive, f_kindNegated, f_draftRow, nI C, nI U, nI B, nI R, nI (pg_N C U B), nI n, f_hasDraft, f_grounded, f_hasModel, f_tail, a_isFactAtom, a_candidate, a_bodyLength, a_cellKind, a_cellPred, a_cellFirst, a_cellSecond, a_groundAtom, a_groundKind, a_positives, a_start, a_cursor, a_occurrence, a_value, a_stage, a_height, a_reached, a_depth, a_queue, a_missing, a_blocked) := by
  have h48 := (pg_N48 K.1).1
  unfold wpX_judge
  dsimp only
  refine xg_ensure (f_grounded := f_grounded) (f_hasModel := f_hasModel) K E Gd (fun gr ga gk po sa cu oc hg G => ?_)
  refine xj_lack (F := F) (cd := cd) (rs_ok K) G.1 G.2.1 hc hF (ma_br rfl (fun z => ?_) (fun z => ?_))
  · refine xj_base (F := F) (cd := cd) (rs_ok K) G hF hc (fun tl rc dp qu ms bk => ma_br rfl (fun y => ⟨pg_N C U B + 1, ?_⟩) (fun y => ?_))
    · refine xj_24 (cd := cd) h48 hc ?_ (pg_N C U B) 0 _ (by omega) (by omega) (fun a' ha' => by omega)
      have := h gr tl ga gk po sa cu oc rc dp qu ms bk hg G
      unfold ju_a at this
      rw [ma_iff z, ma_iff y] at this
      exact this
    · have := h gr tl ga gk po sa cu oc rc dp qu ms bk hg G
      unfold ju_a at this
      rw [ma_iff z, ma_ift y] at this
      exact this
  · have := h gr f_tail ga gk po sa cu oc a_reached a_depth a_queue a_missing a_blocked hg G
    unfold ju_a at this
    rw [ma_ift z] at this
    exact this
theorem rs_judge (H : rl_F C U B R n ln kd pd fs sn f_grounded f_hasModel a_isFactAtom a_candidate a_bodyLength a_cellKind a_cellPred a_cellFirst a_cellSecond a_groundAtom a_groundKind a_positives a_start a_occurrence a_value a_stage a_height b_facts b_code b_len b_value b_stage b_height b_candidate) : wpX_judge (fun r u' => wpY_judge (fun r' v' => r' = r ∧ i_Rel k u' v') (nI C, nI U, nI (U + B), nI R, nI n, f_hasDraft, f_hasModel, b_facts, b_code, b_len, b_value, b_stage, b_height, b_candidate, b_m, b_s, b_next, b_certain)) (f_kindHead, f_kindPositive, f_kindNegated, f_draftRow, nI C, nI U, nI B, nI R, nI (pg_N C U B), nI n, f_hasDraft, f_grounded, f_hasModel, f_tail, a_isFactAtom, a_candidate, a_bodyLength, a_cellKind, a_cellPred, a_cellFirst, a_cellSecond, a_groundAtom, a_groundKind, a_positives, a_start, a_cursor, a_occurrence, a_value, a_stage, a_height, a_reached, a_depth, a_queue, a_missing, a_blocked) := by
  obtain ⟨K, hR, E, EY, ⟨hf, hf2⟩, hc, hm1, hm2, hm3⟩ := H
  have hz := K.1
  refine rs_xjudge (F := fun a => rs_F b_facts (pg_w C U a)) (cd := fun a => b_candidate (pg_w C U a)) K E hm2 (rs_FX hz hf hf2) hc.1 (fun gr tl ga gk po sa cu oc rc dp qu ms bk hg G => ?_)
  refine yj_judge (F := rs_F b_facts) K EY (rs_FY hf2) (fun m => ⟨?_, rl_in ⟨K, hR, E, EY, ⟨hf, hf2⟩, hc, fun _ => hg, fun _ => G, hm3⟩⟩)
  refine (ju_tr (rs_ok K) (fun q _ z => pg_w_sur hz (rs_Fg hf q z).2) (fun q hq z => pg_w_sur hz ?_)).symm
  by_cases c : pg_gd C U B q
  · exact c
  · exact absurd (hc.2 q hq c) z
theorem rs_witness (H : rl_F C U B R n ln kd pd fs sn f_grounded f_hasModel a_isFactAtom a_candidate a_bodyLength a_cellKind a_cellPred a_cellFirst a_cellSecond a_groundAtom a_groundKind a_positives a_start a_occurrence a_value a_stage a_height b_facts b_code b_len b_value b_stage b_height b_candidate) (v1 v2 v3 : Int32) : wpX_witness (fun r => wpY_witness (fun r' => r' = r ∧ i_Rel k (f_kindHead, f_kindPositive, f_kindNegated, f_draftRow, nI C, nI U, nI B, nI R, nI (pg_N C U B), nI n, f_hasDraft, f_grounded, f_hasModel, f_tail, a_isFactAtom, a_candidate, a_bodyLength, a_cellKind, a_cellPred, a_cellFirst, a_cellSecond, a_groundAtom, a_groundKind, a_positives, a_start, a_cursor, a_occurrence, a_value, a_stage, a_height, a_reached, a_depth, a_queue, a_missing, a_blocked) (nI C, nI U, nI (U + B), nI R, nI n, f_hasDraft, f_hasModel, b_facts, b_code, b_len, b_value, b_stage, b_height, b_candidate, b_m, b_s, b_next, b_certain)) (nI C, nI U, nI (U + B), nI R, nI n, f_hasDraft, f_hasModel, b_facts, b_code, b_len, b_value, b_stage, b_height, b_candidate, b_m, b_s, b_next, b_certain) v1 v2 v3) (f_kindHead, f_kindPositive, f_kindNegated, f_draftRow, nI C, nI U, nI B, nI R, nI (pg_N C U B), nI n, f_hasDraft, f_grounded, f_hasModel, f_tail, a_isFactAtom, a_candidate, a_bodyLength, a_cellKind, a_cellPred, a_cellFirst, a_cellSecond, a_groundAtom, a_groundKind, a_positives, a_start, a_cursor, a_occurrence, a_value, a_stage, a_height, a_reached, a_depth, a_queue, a_missing, a_blocked) v1 v2 v3 := by
  have I : i_Rel k (f_kindHead, f_kindPositive, f_kindNegated, f_draftRow, nI C, nI U, nI B, nI R, nI (pg_N C U B), nI n, f_hasDraft, f_grounded, f_hasModel, f_tail, a_isFactAtom, a_candidate, a_bodyLength, a_cellKind, a_cellPred, a_cellFirst, a_cellSecond, a_groundAtom, a_groundKind, a_positives, a_start, a_cursor, a_occurrence, a_value, a_stage, a_height, a_reached, a_depth, a_queue, a_missing, a_blocked) (nI C, nI U, nI (U + B), nI R, nI n, f_hasDraft, f_hasModel, b_facts, b_code, b_len, b_value, b_stage, b_height, b_candidate, b_m, b_s, b_next, b_certain) := rl_in H
  have H0 := H
  obtain ⟨K, hR, E, EY, ⟨hf, hf2⟩, hc, hm1, hm2, hm3⟩ := H
  unfold wpX_witness wpY_witness
  dsimp only
  rcases rv_read (f_kindHead := f_kindHead) (f_kindPositive := f_kindPositive) (f_kindNegated := f_kindNegated) (f_draftRow := f_draftRow) (f_hasDraft := f_hasDraft) (f_tail := f_tail) (a_cursor := a_cursor) (a_reached := a_reached) (a_depth := a_depth) (a_queue := a_queue) (a_missing := a_missing) (a_blocked := a_blocked) (b_m := b_m) (b_s := b_s) (b_next := b_next) (b_certain := b_certain) H0 v1 v2 v3 with ⟨hX, hY⟩ | ⟨t, ht, h48, h96, et, ew, wt, ww, p1, p2, hX, hY⟩
  · exact hX _ (br_f rv_m1.1 (hY _ (br_f rv_m1.1 ⟨rfl, I⟩)))
  · refine hX _ (br_t p1 (br_c (fun g => hY _ (br_t p2 (br_t g ⟨rfl, I⟩))) (fun g => ⟨wt, ?_⟩)))
    have hv := (hm3 g).1.1
    have hs := (hm3 g).2
    rw [et, hv t ht, hf.1 t ht]
    refine br_c (fun y => ⟨wt, br_c (fun x => ?_) (fun x => hY _ (br_t p2 (br_f g ⟨ww, ?_⟩)))⟩) (fun y => hY _ (br_t p2 (br_f g ⟨ww, ?_⟩)))
    · refine xw_wit (V := fun a => b_value (pg_w C U a)) (St := fun a => b_stage (pg_w C U a)) (Hh := fun a => b_height (pg_w C U a)) (rs_ok K) (hm2 (hm1 g)) (fun m i i1 i2 u => ?_) (fun a ha => ⟨hv a ha, (hs a ha).1, (hs a ha).2⟩) ht (fun r hr => hY _ (br_t p2 (br_f g ⟨ww, ?_⟩)))
      · rcases (pg_us_k K i2 u).2.1 i1 with e | e
        · rw [e]; decide
        · rw [e]; decide
      · rw [ew]
        refine br_t y ⟨ww, br_t x ⟨n + 1, yw_57 K EY h96 (fun r' hr' => ⟨wi_u (P := wi_sup (pg_us C n ln) (pg_kk kd) (pg_pp pd fs sn) b_value b_stage b_height (pg_w C U t)) ?_ hr', I⟩) n 0 _ (by omega) (by omega) (fun j hj => by omega)⟩⟩
        have e : wi_sup (pg_us C n ln) (pg_kk kd) (pg_aa C U pd fs sn) (fun a => b_value (pg_w C U a)) (fun a => b_stage (pg_w C U a)) (fun a => b_height (pg_w C U a)) t = wi_sup (pg_us C n ln) (pg_kk kd) (pg_pp pd fs sn) b_value b_stage b_height (pg_w C U t) := funext fun m => propext (wi_tr (rs_ok K) ht m)
        rw [← e]
        exact hr
    · rw [ew]
      exact br_t y ⟨ww, br_f x ⟨rfl, I⟩⟩
    · rw [ew]
      exact br_f y ⟨rfl, I⟩
theorem rs_reason (H : rl_F C U B R n ln kd pd fs sn f_grounded f_hasModel a_isFactAtom a_candidate a_bodyLength a_cellKind a_cellPred a_cellFirst a_cellSecond a_groundAtom a_groundKind a_positives a_start a_occurrence a_value a_stage a_height b_facts b_code b_len b_value b_stage b_height b_candidate) (v1 v2 v3 : Int32) : wpX_reason (fun r => wpY_reason (fun r' => r' = r ∧ i_Rel k (f_kindHead, f_kindPositive, f_kindNegated, f_draftRow, nI C, nI U, nI B, nI R, nI (pg_N C U B), nI n, f_hasDraft, f_grounded, f_hasModel, f_tail, a_isFactAtom, a_candidate, a_bodyLength, a_cellKind, a_cellPred, a_cellFirst, a_cellSecond, a_groundAtom, a_groundKind, a_positives, a_start, a_cursor, a_occurrence, a_value, a_stage, a_height, a_reached, a_depth, a_queue, a_missing, a_blocked) (nI C, nI U, nI (U + B), nI R, nI n, f_hasDraft, f_hasModel, b_facts, b_code, b_len, b_value, b_stage, b_height, b_candidate, b_m, b_s, b_next, b_certain)) (nI C, nI U, nI (U + B), nI R, nI n, f_hasDraft, f_hasModel, b_facts, b_code, b_len, b_value, b_stage, b_height, b_candidate, b_m, b_s, b_next, b_certain) v1 v2 v3) (f_kindHead, f_kindPositive, f_kindNegated, f_draftRow, nI C, nI U, nI B, nI R, nI (pg_N C U B), nI n, f_hasDraft, f_grounded, f_hasModel, f_tail, a_isFactAtom, a_candidate, a_bodyLength, a_cellKind, a_cellPred, a_cellFirst, a_cellSecond, a_groundAtom, a_groundKind, a_positives, a_start, a_cursor, a_occurrence, a_value, a_stage, a_height, a_reached, a_depth, a_queue, a_missing, a_blocked) v1 v2 v3 := by
  have I : i_Rel k (f_kindHead, f_kindPositive, f_kindNegated, f_draftRow, nI C, nI U, nI B, nI R, nI (pg_N C U B), nI n, f_hasDraft, f_grounded, f_hasModel, f_tail, a_isFactAtom, a_candidate, a_bodyLength, a_cellKind, a_cellPred, a_cellFirst, a_cellSecond, a_groundAtom, a_groundKind, a_positives, a_start, a_cursor, a_occurrence, a_value, a_stage, a_height, a_reached, a_depth, a_queue, a_missing, a_blocked) (nI C, nI U, nI (U + B), nI R, nI n, f_hasDraft, f_hasModel, b_facts, b_code, b_len, b_value, b_stage, b_height, b_candidate, b_m, b_s, b_next, b_certain) := rl_in H
  obtain ⟨K, hR, E, EY, ⟨hf, hf2⟩, hc, hm1, hm2, hm3⟩ := H
  obtain ⟨z1, z2, z3, z4, z5, z6⟩ := K.1
  have hn := K.2.1
  unfold wpX_reason wpY_reason
  dsimp only
  rcases pk_ix v1 (n := n) (by omega) with h | h | ⟨r, hr, rfl⟩
  · exact br_t h (br_t h ⟨rfl, I⟩)
  · have n0 : ¬ v1 < 0 := xa_np (by omega) h
    exact br_f n0 (br_t h (br_f n0 (br_t h ⟨rfl, I⟩)))
  · have r0 : ¬ nI r < 0 := nI_pos (by omega)
    have r1 : ¬ nI n ≤ nI r := nI_ge hr (by omega)
    rcases pk_ix v2 (n := C) (by omega) with h | h | ⟨x, hx, rfl⟩
    · exact br_f r0 (br_f r1 (br_t h (br_f r0 (br_f r1 (br_t h ⟨rfl, I⟩)))))
    · have n0 : ¬ v2 < 0 := xa_np (by omega) h
      exact br_f r0 (br_f r1 (br_f n0 (br_t h (br_f r0 (br_f r1 (br_f n0 (br_t h ⟨rfl, I⟩)))))))
    · have x0 : ¬ nI x < 0 := nI_pos (by omega)
      have x1 : ¬ nI C ≤ nI x := nI_ge hx (by omega)
      rcases pk_ix v3 (n := C) (by omega) with h | h | ⟨y, hy, rfl⟩
      · exact br_f r0 (br_f r1 (br_f x0 (br_f x1 (br_t h (br_f r0 (br_f r1 (br_f x0 (br_f x1 (br_t h ⟨rfl, I⟩)))))))))
      · have n0 : ¬ v3 < 0 := xa_np (by omega) h
        have n1 : ¬ v3 < nI C := xa_nl h
        exact br_f r0 (br_f r1 (br_f x0 (br_f x1 (br_f n0 (br_f n1 (br_f r0 (br_f r1 (br_f x0 (br_f x1 (br_f n0 (br_f n1 ⟨rfl, I⟩)))))))))))
      · have y0 : ¬ nI y < 0 := nI_pos (by omega)
        have y1 : nI y < nI C := nI_lt hy (by omega)
        refine br_f r0 (br_f r1 (br_f x0 (br_f x1 (br_f y0 (br_t y1 (br_c (fun g => br_f r0 (br_f r1 (br_f x0 (br_f x1 (br_f y0 (br_t y1 (br_t g ⟨rfl, I⟩))))))) (fun g => ?_)))))))
        have O := rs_ok K
        have G := hm2 (hm1 g)
        have hv := (hm3 g).1.1
        have hs := (hm3 g).2
        have l3 := K.2.2.1 r (by omega)
        have u : pg_us C n ln (4 * (16 * r + 4 * x + y) + 0) := (pg_us_i (by omega) (by omega) (by omega)).mpr ⟨hr, hx, hy, by omega⟩
        have ep := pg_pp_i (pd := pd) (fs := fs) (sn := sn) (r := r) (x := x) (y := y) (i := 0) (by omega) (by omega) (by omega)
        obtain ⟨a1, a2, a3, a4⟩ := pg_us_a K u
        have h48 := (pg_N48 K.1).1
        have eb : 64 * nI r + 16 * nI x + 4 * nI y = nI (4 * (16 * r + 4 * x + y)) := by
          have e : 4 * (16 * r + 4 * x + y) = 64 * r + 16 * x + 4 * y := by omega
          rw [e, ← nI_add, ← nI_add, ← pk_mul, ← pk_mul, ← pk_mul]; rfl
        have ebc : (nI (4 * (16 * r + 4 * x + y))).toNatClampNeg = 4 * (16 * r + 4 * x + y) := nI_clamp (by omega)
        have ga := (G.1 (4 * (16 * r + 4 * x + y)) (by omega) u).1
        have eac : (nI (pg_aa C U pd fs sn (4 * (16 * r + 4 * x + y)))).toNatClampNeg = pg_aa C U pd fs sn (4 * (16 * r + 4 * x + y)) := nI_clamp (show pg_aa C U pd fs sn (4 * (16 * r + 4 * x + y) + 0) < 2 ^ 31 by omega)
        have a1 : pg_aa C U pd fs sn (4 * (16 * r + 4 * x + y)) < pg_N C U B := a1
        have a2 : pg_pp pd fs sn (4 * (16 * r + 4 * x + y)) = pg_w C U (pg_aa C U pd fs sn (4 * (16 * r + 4 * x + y))) := a2
        have a4 : pg_pp pd fs sn (4 * (16 * r + 4 * x + y)) < 96 := a4
        have epc : (nI (pg_pp pd fs sn (4 * (16 * r + 4 * x + y)))).toNatClampNeg = pg_pp pd fs sn (4 * (16 * r + 4 * x + y)) := nI_clamp (by omega)
        have wp : vp_in (nI (pg_pp pd fs sn (4 * (16 * r + 4 * x + y)))) 96 := vp_in_nI a4 (by omega)
        -- the reference's road behind the looks
        have goY : ∀ post : Int32 → Prop, (¬ b_value (pg_pp pd fs sn (4 * (16 * r + 4 * x + y))) = 0 → post 0) → (b_value (pg_pp pd fs sn (4 * (16 * r + 4 * x + y))) = 0 → ∃ f, wY_reason_73 post (nI r) (nI x) (nI y) (nI (pg_pp pd fs sn (4 * (16 * r + 4 * x + y)))) (nI C) (nI U) (nI (U + B)) (nI R) (nI n) f_hasDraft f_hasModel b_facts b_code b_len b_value b_stage b_height b_candidate b_m b_s b_next b_certain f 1) → wpY_at (fun r_8 => (vp_in r_8 96 ∧ ((b_value r_8.toNatClampNeg = 0 → (∃ n73 : Nat, wY_reason_73 post (nI r) (nI x) (nI y) r_8 (nI C) (nI U) (nI (U + B)) (nI R) (nI n) f_hasDraft f_hasModel b_facts b_code b_len b_value b_stage b_height b_candidate b_m b_s b_next b_certain n73 1)) ∧ (¬ b_value r_8.toNatClampNeg = 0 → post 0)))) (nI C, nI U, nI (U + B), nI R, nI n, f_hasDraft, f_hasModel, b_facts, b_code, b_len, b_value, b_stage, b_height, b_candidate, b_m, b_s, b_next, b_certain) (nI r) (nI 0) (nI x) (nI y) := by
          intro post q1 q2
          refine xa_at (r := r) (i := 0) (x := x) (y := y) K EY (by omega) ?_
          rw [← ep]
          show vp_in (nI (pg_pp pd fs sn (4 * (16 * r + 4 * x + y)))) 96 ∧ _
          refine ⟨wp, ?_⟩
          show (b_value (nI (pg_pp pd fs sn (4 * (16 * r + 4 * x + y)))).toNatClampNeg = 0 → _) ∧ (¬ b_value (nI (pg_pp pd fs sn (4 * (16 * r + 4 * x + y)))).toNatClampNeg = 0 → _)
          rw [epc]
          exact br_c q2 q1
        refine nm_r eb ⟨vp_in_nI (by omega) (by omega), ?_⟩
        rw [ebc]
        refine nm_r ga ⟨vp_in_nI (by omega) (by omega), ?_⟩
        rw [eac, hv _ a1, ← a2]
        refine br_c (fun q => ⟨ln r + 1, ?_⟩) (fun q => br_f r0 (br_f r1 (br_f x0 (br_f x1 (br_f y0 (br_t y1 (br_f g (goY _ (fun _ => ⟨rfl, I⟩) (fun w => absurd w q)))))))))
        refine xw_re (V := fun a => b_value (pg_w C U a)) (St := fun a => b_stage (pg_w C U a)) (m := 16 * r + 4 * x + y) (l := ln r) (hd := pg_aa C U pd fs sn (4 * (16 * r + 4 * x + y))) O G.1 (fun a ha => ⟨hv a ha, (hs a ha).1⟩) (by omega) (E.1 r) l3 a1 (fun i hi => ?_) (fun zz hz => br_f r0 (br_f r1 (br_f x0 (br_f x1 (br_f y0 (br_t y1 (br_f g (goY _ (fun w => absurd q w) (fun _ => ⟨ln r + 1, ?_⟩))))))))) (ln r) 1 _ (by omega) (by omega) (by omega) (fun j j1 j2 => by omega)
        · rw [pg_us_i (by omega) (by omega) (by omega)]
          exact ⟨fun w => w.2.2.2, fun w => ⟨hr, hx, hy, w⟩⟩
        · refine yw_73 K EY a4 hr hx hy (fun z' hz' => ⟨re_u (l := ln r) (P := fun i => re_b (pg_kk kd) (pg_pp pd fs sn) b_value b_stage (b_stage (pg_pp pd fs sn (4 * (16 * r + 4 * x + y)))) (4 * (16 * r + 4 * x + y) + i)) ?_ hz', I⟩) (ln r) 1 _ (by omega) (by omega) (by omega) (fun j j1 j2 => by omega)
          -- the same answers
          have hu : ∀ i, 1 ≤ i → i ≤ ln r → (re_b (pg_kk kd) (pg_aa C U pd fs sn) (fun a => b_value (pg_w C U a)) (fun a => b_stage (pg_w C U a)) (b_stage (pg_w C U (pg_aa C U pd fs sn (4 * (16 * r + 4 * x + y))))) (4 * (16 * r + 4 * x + y) + i) ↔ re_b (pg_kk kd) (pg_pp pd fs sn) b_value b_stage (b_stage (pg_pp pd fs sn (4 * (16 * r + 4 * x + y)))) (4 * (16 * r + 4 * x + y) + i)) := by
            intro i i1 i2
            have ui : pg_us C n ln (4 * (16 * r + 4 * x + y) + i) := (pg_us_i (by omega) (by omega) (by omega)).mpr ⟨hr, hx, hy, i2⟩
            have e2 := (pg_us_a K ui).2.1
            unfold re_b
            rw [e2, a2]
          rcases hz with ⟨i, i1, i2, i3, i4, i5⟩ | ⟨i1, i2⟩
          · exact Or.inl ⟨i, i1, i2, (hu i i1 i2).mp i3, fun j j1 j2 w => i4 j j1 j2 ((hu j j1 (by omega)).mpr w), i5⟩
          · exact Or.inr ⟨fun i j1 j2 w => i1 i j1 j2 ((hu i j1 j2).mpr w), i2⟩
end S
end
section
/-! the constructors -/
theorem in_cl (v : Int32) (lo hi : Nat) (h : lo ≤ hi) (hh : hi < 2 ^ 31) : ∃ c, lo ≤ c ∧ c ≤ hi ∧ ∀ A : Int32 → Prop, A (nI c) → ((nI lo ≤ v → ((v ≤ nI hi → A v) ∧ (¬ v ≤ nI hi → A (nI hi)))) ∧ (¬ nI lo ≤ v → A (nI lo))) := by
  by_cases h1 : nI lo ≤ v
  · by_cases h2 : v ≤ nI hi
    · have n0 : ¬ v < 0 := xa_np (by omega) h1
      obtain ⟨c, hc, rfl⟩ := nI_of n0
      rw [nI_leI (by omega) hc] at h1
      rw [nI_leI hc hh] at h2
      refine ⟨c, h1, h2, fun A a => br_t (nI_le h1 (by omega)) (br_t (nI_le h2 hh) a)⟩
    · exact ⟨hi, h, Nat.le_refl _, fun A a => br_t h1 (br_f h2 a)⟩
  · exact ⟨lo, Nat.le_refl _, h, fun A a => br_f h1 a⟩
theorem in_x {post : Int32 → Prop} {u : SX} {v : Int32} {lo hi c : Nat} (hA : ∀ A : Int32 → Prop, A (nI c) → ((nI lo ≤ v → ((v ≤ nI hi → A v) ∧ (¬ v ≤ nI hi → A (nI hi)))) ∧ (¬ nI lo ≤ v → A (nI lo)))) (h : post (nI c)) : wpX_clamp post u v (nI lo) (nI hi) := by
  match u with
  | (f_kindHead, f_kindPositive, f_kindNegated, f_draftRow, f_constants, f_unary, f_binary, f_maxRules, f_atoms, f_ruleCount, f_hasDraft, f_grounded, f_hasModel, f_tail, a_isFactAtom, a_candidate, a_bodyLength, a_cellKind, a_cellPred, a_cellFirst, a_cellSecond, a_groundAtom, a_groundKind, a_positives, a_start, a_cursor, a_occurrence, a_value, a_stage, a_height, a_reached, a_depth, a_queue, a_missing, a_blocked) => exact hA post h
section I
variable {f_kindHead f_kindPositive f_kindNegated f_draftRow f_constants f_unary f_binary f_maxRules f_atoms f_ruleCount f_hasDraft f_grounded f_hasModel f_tail : Int32} {a_isFactAtom a_candidate a_bodyLength a_cellKind a_cellPred a_cellFirst a_cellSecond a_groundAtom a_groundKind a_positives a_start a_cursor a_occurrence a_value a_stage a_height a_reached a_depth a_queue a_missing a_blocked : Nat → Int32}
theorem in_278 {post : SX → Prop} (h : ∀ ca : Nat → Int32, (∀ a, a < 48 → ca a = 2) → post (f_kindHead, f_kindPositive, f_kindNegated, f_draftRow, f_constants, f_unary, f_binary, f_maxRules, f_atoms, f_ruleCount, f_hasDraft, f_grounded, f_hasModel, f_tail, a_isFactAtom, ca, a_bodyLength, a_cellKind, a_cellPred, a_cellFirst, a_cellSecond, a_groundAtom, a_groundKind, a_positives, a_start, a_cursor, a_occurrence, a_value, a_stage, a_height, a_reached, a_depth, a_queue, a_missing, a_blocked)) :
    ∀ (d a f : Nat) (ca : Nat → Int32), a + d = 48 → d < f → (∀ a', a' < a → ca a' = 2) → wX_init_278 post f_kindHead f_kindPositive f_kindNegated f_draftRow f_constants f_unary f_binary f_maxRules f_atoms f_ruleCount f_hasDraft f_grounded f_hasModel f_tail f (nI a) a_isFactAtom ca a_bodyLength a_cellKind a_cellPred a_cellFirst a_cellSecond a_groundAtom a_groundKind a_positives a_start a_cursor a_occurrence a_value a_stage a_height a_reached a_depth a_queue a_missing a_blocked := by
  intro d
  induction d with
  | zero =>
    intro a f ca h1 h2 I
    obtain ⟨f, rfl⟩ : ∃ m, f = m + 1 := ⟨f - 1, by omega⟩
    rw [wX_init_278]
    dsimp only
    exact br_t (nI_le (a := 48) (by omega) (by omega)) (h ca (fun a' ha' => I a' (by omega)))
  | succ d ih =>
    intro a f ca h1 h2 I
    obtain ⟨f, rfl⟩ : ∃ m, f = m + 1 := ⟨f - 1, by omega⟩
    have ea : (nI a).toNatClampNeg = a := nI_clamp (by omega)
    rw [wX_init_278]
    dsimp only
    rw [ea]
    refine br_f (nI_ge (b := 48) (by omega) (by omega)) ⟨vp_in_nI (by omega) (by omega), nm_e (nm_r (nI_1 a) (ih (a + 1) f _ (by omega) (by omega) (fun a' ha' => ?_)))⟩
    by_cases c : a' = a
    · rw [c, pk_us]
    · rw [pk_un c]; exact I a' (by omega)
end I
/-- the candidates of the reference, below position e -/
def in_c (C U B e : Nat) (ca : Nat → Int32) : Prop := ∀ q, q < 96 → ca q = ma_if (pg_gd C U B q ∧ q < e) 2 0
theorem in_k {C U B e e' : Nat} {ca : Nat → Int32} (h : in_c C U B e ca) (he : e ≤ e') (hn : ∀ q, e ≤ q → q < e' → ¬ pg_gd C U B q) : in_c C U B e' ca := by
  intro q hq
  rw [h q hq]
  by_cases c : pg_gd C U B q ∧ q < e
  · rw [ma_ift c, ma_ift ⟨c.1, by omega⟩]
  · rw [ma_iff c, ma_iff]
    rintro ⟨z1, z2⟩
    by_cases y : q < e
    · exact c ⟨z1, y⟩
    · exact hn q (by omega) z2 z1
theorem in_s {C U B e : Nat} {ca : Nat → Int32} (h : in_c C U B e ca) (hg : pg_gd C U B e) : in_c C U B (e + 1) (upd ca e 2) := by
  intro q hq
  by_cases c : q = e
  · rw [c, pk_us, ma_ift ⟨hg, by omega⟩]
  · rw [pk_un c, h q hq]
    by_cases d : pg_gd C U B q ∧ q < e
    · rw [ma_ift d, ma_ift ⟨d.1, by omega⟩]
    · rw [ma_iff d, ma_iff (fun z => d ⟨z.1, by omega⟩)]
section J
variable {C U B : Nat}
variable {y_C y_U y_P y_R y_count y_draft y_solved : Int32} {b_facts b_code b_len b_value b_stage b_height b_candidate b_m b_s b_next b_certain : Nat → Int32}
theorem in_221 {post : SY → Prop} {J197 J209 : Int32 → (Nat → Int32) → (Nat → Int32) → (Nat → Int32) → (Nat → Int32) → (Nat → Int32) → (Nat → Int32) → (Nat → Int32) → (Nat → Int32) → (Nat → Int32) → (Nat → Int32) → (Nat → Int32) → Prop} {p a : Nat} (hz : pg_sz C U B) (hp : p < U + B) (ha : a < C) (h : ∀ ca : Nat → Int32, in_c C U B (16 * p + 4 * (a + 1)) ca → J209 (nI (a + 1)) b_facts b_code b_len b_value b_stage b_height ca b_m b_s b_next b_certain) :
    ∀ (d b f : Nat) (ca : Nat → Int32), b + d = (if p < U then 1 else C) → d < f → in_c C U B (16 * p + 4 * a + b) ca → wY_init_221 post J197 J209 (nI p) (nI a) (nI C) (nI U) (nI (U + B)) y_R y_count y_draft y_solved f (nI b) b_facts b_code b_len b_value b_stage b_height ca b_m b_s b_next b_certain := by
  obtain ⟨z1, z2, z3, z4, z5, z6⟩ := hz
  have hl : (if p < U then 1 else C) ≤ 4 := by split <;> omega
  intro d
  induction d with
  | zero =>
    intro b f ca h1 h2 I
    obtain ⟨f, rfl⟩ : ∃ m, f = m + 1 := ⟨f - 1, by omega⟩
    have stop : ∀ z : Nat, z = b → wY_init_240 post J197 J209 (wY_init_221 post J197 J209 (nI p) (nI a) (nI C) (nI U) (nI (U + B)) y_R y_count y_draft y_solved f) (nI p) (nI a) (nI b) (nI z) (nI b) (nI C) (nI U) (nI (U + B)) y_R y_count y_draft y_solved b_facts b_code b_len b_value b_stage b_height ca b_m b_s b_next b_certain := by
      intro z hz
      unfold wY_init_240
      refine br_t (nI_le (by omega) (by omega)) (nm_r (nI_1 a) (h ca (in_k I (by omega) (fun q q1 q2 g => ?_))))
      obtain ⟨g1, g2, g3, g4⟩ := g
      by_cases c : p < U
      · rw [if_pos c] at h1
        have := g3 (by omega)
        omega
      · rw [if_neg c] at h1
        have := g4 (by omega)
        omega
    rw [wY_init_221]
    dsimp only
    refine pk_le U p (fun c => stop C ?_) (fun c => stop 1 ?_)
    · rw [if_neg (by omega)] at h1; omega
    · rw [if_pos c] at h1; omega
  | succ d ih =>
    intro b f ca h1 h2 I
    obtain ⟨f, rfl⟩ : ∃ m, f = m + 1 := ⟨f - 1, by omega⟩
    have ix : 16 * nI p + 4 * nI a + nI b = nI (16 * p + 4 * a + b) := by
      rw [← nI_add, ← nI_add, ← pk_mul, ← pk_mul]; rfl
    have ic : (nI (16 * p + 4 * a + b)).toNatClampNeg = 16 * p + 4 * a + b := nI_clamp (by omega)
    have go : ∀ z : Nat, b < z → z ≤ 4 → wY_init_240 post J197 J209 (wY_init_221 post J197 J209 (nI p) (nI a) (nI C) (nI U) (nI (U + B)) y_R y_count y_draft y_solved f) (nI p) (nI a) (nI b) (nI z) (nI b) (nI C) (nI U) (nI (U + B)) y_R y_count y_draft y_solved b_facts b_code b_len b_value b_stage b_height ca b_m b_s b_next b_certain := by
      intro z hz hz4
      unfold wY_init_240
      rw [ix, ic]
      have hg : pg_gd C U B (16 * p + 4 * a + b) := by
        refine ⟨by omega, by omega, fun g => ?_, fun g => ?_⟩
        · rw [if_pos (by omega)] at h1
          omega
        · rw [if_neg (by omega)] at h1
          omega
      exact br_f (nI_ge hz (by omega)) ⟨vp_in_nI (by omega) (by omega), nm_e (nm_r (nI_1 b) (ih (b + 1) f _ (by omega) (by omega) (in_s (e := 16 * p + 4 * a + b) I hg)))⟩
    rw [wY_init_221]
    dsimp only
    refine pk_le U p (fun c => go C ?_ z2) (fun c => go 1 ?_ (by omega))
    · rw [if_neg (by omega)] at h1; omega
    · rw [if_pos c] at h1; omega
theorem in_209 {post : SY → Prop} {J197 : Int32 → (Nat → Int32) → (Nat → Int32) → (Nat → Int32) → (Nat → Int32) → (Nat → Int32) → (Nat → Int32) → (Nat → Int32) → (Nat → Int32) → (Nat → Int32) → (Nat → Int32) → (Nat → Int32) → Prop} {p : Nat} (hz : pg_sz C U B) (hp : p < U + B) (h : ∀ ca : Nat → Int32, in_c C U B (16 * (p + 1)) ca → J197 (nI (p + 1)) b_facts b_code b_len b_value b_stage b_height ca b_m b_s b_next b_certain) :
    ∀ (d a f : Nat) (ca : Nat → Int32), a + d = C → d < f → in_c C U B (16 * p + 4 * a) ca → wY_init_209 post J197 (nI p) (nI C) (nI U) (nI (U + B)) y_R y_count y_draft y_solved f (nI a) b_facts b_code b_len b_value b_stage b_height ca b_m b_s b_next b_certain := by
  have hz' := hz
  obtain ⟨z1, z2, z3, z4, z5, z6⟩ := hz'
  intro d
  induction d with
  | zero =>
    intro a f ca h1 h2 I
    obtain ⟨f, rfl⟩ : ∃ m, f = m + 1 := ⟨f - 1, by omega⟩
    rw [wY_init_209]
    dsimp only
    refine br_t (nI_le (by omega) (by omega)) (nm_r (nI_1 p) (h ca (in_k I (by omega) (fun q q1 q2 g => ?_))))
    have := g.2.1
    omega
  | succ d ih =>
    intro a f ca h1 h2 I
    obtain ⟨f, rfl⟩ : ∃ m, f = m + 1 := ⟨f - 1, by omega⟩
    rw [wY_init_209]
    dsimp only
    refine br_f (nI_ge (by omega) (by omega)) ⟨5, ?_⟩
    exact in_221 hz hp (by omega) (fun ca' J => ih (a + 1) f ca' (by omega) (by omega) J) (if p < U then 1 else C) 0 5 ca (by omega) (by split <;> omega) I
theorem in_197 {post : SY → Prop} (hz : pg_sz C U B) (h : ∀ ca : Nat → Int32, in_c C U B 96 ca → post (nI C, nI U, nI (U + B), y_R, y_count, y_draft, y_solved, b_facts, b_code, b_len, b_value, b_stage, b_height, ca, b_m, b_s, b_next, b_certain)) :
    ∀ (d p f : Nat) (ca : Nat → Int32), p + d = U + B → d < f → in_c C U B (16 * p) ca → wY_init_197 post (nI C) (nI U) (nI (U + B)) y_R y_count y_draft y_solved f (nI p) b_facts b_code b_len b_value b_stage b_height ca b_m b_s b_next b_certain := by
  have hz' := hz
  obtain ⟨z1, z2, z3, z4, z5, z6⟩ := hz'
  intro d
  induction d with
  | zero =>
    intro p f ca h1 h2 I
    obtain ⟨f, rfl⟩ : ∃ m, f = m + 1 := ⟨f - 1, by omega⟩
    rw [wY_init_197]
    dsimp only
    refine br_t (nI_le (by omega) (by omega)) (h ca (in_k I (by omega) (fun q q1 q2 g => ?_)))
    have := g.1
    omega
  | succ d ih =>
    intro p f ca h1 h2 I
    obtain ⟨f, rfl⟩ : ∃ m, f = m + 1 := ⟨f - 1, by omega⟩
    rw [wY_init_197]
    dsimp only
    refine br_f (nI_ge (by omega) (by omega)) ⟨5, ?_⟩
    exact in_209 hz (by omega) (fun ca' J => ih (p + 1) f ca' (by omega) (by omega) J) C 0 5 ca (by omega) (by omega) I
end J
theorem in_zero {C U B R : Nat} {ca cb : Nat → Int32} (hz : pg_sz C U B) (hR : R ≤ 8) (h1 : ∀ a, a < 48 → ca a = 2) (h2 : in_c C U B 96 cb) : rl_F C U B R 0 (fun _ => 0) (fun _ => 0) (fun _ => 0) (fun _ => 0) (fun _ => 0) 0 0 (fun _ => 0) ca (fun _ => 0) (fun _ => 0) (fun _ => 0) (fun _ => 0) (fun _ => 0) (fun _ => 0) (fun _ => 0) (fun _ => 0) (fun _ => 0) (fun _ => 0) (fun _ => 0) (fun _ => 0) (fun _ => 0) (fun _ => 0) (fun _ => 0) (fun _ => 0) (fun _ => 0) (fun _ => 0) (fun _ => 0) cb := by
  have hz' := hz
  obtain ⟨z1, z2, z3, z4, z5, z6⟩ := hz'
  have h48 := (pg_N48 hz).1
  refine ⟨⟨hz, by omega, fun r _ => Nat.zero_le _, fun c _ => ⟨show 0 < U + B by omega, Or.inl (show 0 < C by omega), Or.inl (show 0 < C by omega), fun _ => rfl, Nat.zero_le _⟩, fun r _ => rfl, fun r i _ i1 i2 => ?_⟩, ⟨by omega, hR⟩, ⟨fun _ => rfl, fun _ => rfl, fun _ => rfl, fun _ => rfl, fun _ => rfl⟩, ⟨fun _ => rfl, fun _ => rfl⟩, ⟨⟨fun _ _ => rfl, fun _ _ _ => rfl⟩, fun _ _ => Or.inl rfl⟩, ⟨fun a ha => ?_, fun q hq hn => ?_⟩, fun y => absurd rfl y, fun y => absurd rfl y, fun y => absurd rfl y⟩
  · have i2 : i ≤ 0 := i2
    omega
  · rw [h1 a (by omega), h2 _ (pg_w_in hz ha), ma_ift ⟨(pg_w_gd hz ha).1, pg_w_in hz ha⟩]
  · rw [h2 q hq, ma_iff (fun z => hn z.1)]
theorem i_vc0 (k0 : Int32) (k1 : Int32) (k2 : Int32) (k3 : Int32) : wpX_init (fun u => wpY_init (fun v => i_Rel 4 u v) k0 k1 k2 k3) k0 k1 k2 k3 := by
  obtain ⟨C, C1, C2, hC⟩ := in_cl k0 2 4 (by omega) (by omega)
  obtain ⟨U, U1, U2, hU⟩ := in_cl k1 1 4 (by omega) (by omega)
  obtain ⟨B, B1, B2, hB⟩ := in_cl k2 1 2 (by omega) (by omega)
  obtain ⟨R, R1, R2, hR⟩ := in_cl k3 1 8 (by omega) (by omega)
  have hz : pg_sz C U B := ⟨C1, C2, U1, U2, B1, B2⟩
  unfold wpX_init
  refine in_x hC (in_x hU (in_x hB (in_x hR ?_)))
  have en : nI U * nI C + nI B * nI C * nI C = nI (pg_N C U B) := by
    unfold pg_N
    rw [pk_mul, pk_mul, pk_mul, nI_add]
  refine nm_r en ⟨49, ?_⟩
  refine in_278 (fun ca J => ?_) 48 0 49 (fun _ => 0) (by omega) (by omega) (fun a' ha' => by omega)
  unfold wpY_init
  refine hC (fun z => wY_init_112 _ k1 k2 k3 z 0 0 0 0 0 0 0 (fun _ => 0) (fun _ => 0) (fun _ => 0) (fun _ => 0) (fun _ => 0) (fun _ => 0) (fun _ => 0) (fun _ => 0) (fun _ => 0) (fun _ => 0) (fun _ => 0)) ?_
  unfold wY_init_112
  refine hU (fun z => wY_init_135 _ k2 k3 z (nI C) 0 0 0 0 0 0 (fun _ => 0) (fun _ => 0) (fun _ => 0) (fun _ => 0) (fun _ => 0) (fun _ => 0) (fun _ => 0) (fun _ => 0) (fun _ => 0) (fun _ => 0) (fun _ => 0)) ?_
  unfold wY_init_135
  refine hB (fun z => wY_init_162 _ k3 z (nI U) (nI C) (nI U) 0 0 0 0 0 (fun _ => 0) (fun _ => 0) (fun _ => 0) (fun _ => 0) (fun _ => 0) (fun _ => 0) (fun _ => 0) (fun _ => 0) (fun _ => 0) (fun _ => 0) (fun _ => 0)) ?_
  unfold wY_init_162
  refine nm_r (e' := nI (U + B)) (nI_add U B) ?_
  refine hR (fun z => ∃ n197 : Nat, wY_init_197 _ (nI C) (nI U) (nI (U + B)) z 0 0 0 n197 0 (fun _ => 0) (fun _ => 0) (fun _ => 0) (fun _ => 0) (fun _ => 0) (fun _ => 0) (fun _ => 0) (fun _ => 0) (fun _ => 0) (fun _ => 0) (fun _ => 0)) ⟨7, ?_⟩
  refine in_197 hz (fun cb J2 => ?_) (U + B) 0 7 (fun _ => 0) (by omega) (by omega) (fun q hq => ?_)
  · exact rl_in (n := 0) (f_hasDraft := 0) (in_zero hz R2 J J2)
  · rw [ma_iff (fun z => by omega)]
end
section
/-! what is owed -/
theorem i_vc_fact {k : Nat} {u : SX} {v : SY} (I : i_Rel k u v) (hk : k + 5 ≤ 2564) (v1 : Int32) (v2 : Int32) (v3 : Int32) (v4 : Int32) : wpX_fact (fun r u' => wpY_fact (fun r' v' => r' = r ∧ i_Rel (k + 5) u' v') v v1 v2 v3 v4) u v1 v2 v3 v4 :=
  rl_el (P := fun u v => wpX_fact (fun r u' => wpY_fact (fun r' v' => r' = r ∧ i_Rel (k + 5) u' v') v v1 v2 v3 v4) u v1 v2 v3 v4) I (fun C U B R n ln kd pd fs sn f_kindHead f_kindPositive f_kindNegated f_draftRow f_hasDraft f_grounded f_hasModel f_tail a_isFactAtom a_candidate a_bodyLength a_cellKind a_cellPred a_cellFirst a_cellSecond a_groundAtom a_groundKind a_positives a_start a_cursor a_occurrence a_value a_stage a_height a_reached a_depth a_queue a_missing a_blocked b_facts b_code b_len b_value b_stage b_height b_candidate b_m b_s b_next b_certain H => rv_fact H v1 v2 v3 v4)
theorem i_vc_isFact {k : Nat} {u : SX} {v : SY} (I : i_Rel k u v) (hk : k + 5 ≤ 2564) (v1 : Int32) (v2 : Int32) (v3 : Int32) : wpX_isFact (fun r => wpY_isFact (fun r' => r' = r ∧ i_Rel (k + 5) u v) v v1 v2 v3) u v1 v2 v3 :=
  rl_el (P := fun u v => wpX_isFact (fun r => wpY_isFact (fun r' => r' = r ∧ i_Rel (k + 5) u v) v v1 v2 v3) u v1 v2 v3) I (fun C U B R n ln kd pd fs sn f_kindHead f_kindPositive f_kindNegated f_draftRow f_hasDraft f_grounded f_hasModel f_tail a_isFactAtom a_candidate a_bodyLength a_cellKind a_cellPred a_cellFirst a_cellSecond a_groundAtom a_groundKind a_positives a_start a_cursor a_occurrence a_value a_stage a_height a_reached a_depth a_queue a_missing a_blocked b_facts b_code b_len b_value b_stage b_height b_candidate b_m b_s b_next b_certain H => rv_isFact H v1 v2 v3)
theorem i_vc_head {k : Nat} {u : SX} {v : SY} (I : i_Rel k u v) (hk : k + 5 ≤ 2564) (v1 : Int32) (v2 : Int32) (v3 : Int32) : wpX_head (fun r u' => wpY_head (fun r' v' => r' = r ∧ i_Rel (k + 5) u' v') v v1 v2 v3) u v1 v2 v3 :=
  rl_el (P := fun u v => wpX_head (fun r u' => wpY_head (fun r' v' => r' = r ∧ i_Rel (k + 5) u' v') v v1 v2 v3) u v1 v2 v3) I (fun C U B R n ln kd pd fs sn f_kindHead f_kindPositive f_kindNegated f_draftRow f_hasDraft f_grounded f_hasModel f_tail a_isFactAtom a_candidate a_bodyLength a_cellKind a_cellPred a_cellFirst a_cellSecond a_groundAtom a_groundKind a_positives a_start a_cursor a_occurrence a_value a_stage a_height a_reached a_depth a_queue a_missing a_blocked b_facts b_code b_len b_value b_stage b_height b_candidate b_m b_s b_next b_certain H => rv_head H v1 v2 v3)
theorem i_vc_body {k : Nat} {u : SX} {v : SY} (I : i_Rel k u v) (hk : k + 5 ≤ 2564) (v1 : Int32) (v2 : Int32) (v3 : Int32) (v4 : Int32) : wpX_body (fun r u' => wpY_body (fun r' v' => r' = r ∧ i_Rel (k + 5) u' v') v v1 v2 v3 v4) u v1 v2 v3 v4 :=
  rl_el (P := fun u v => wpX_body (fun r u' => wpY_body (fun r' v' => r' = r ∧ i_Rel (k + 5) u' v') v v1 v2 v3 v4) u v1 v2 v3 v4) I (fun C U B R n ln kd pd fs sn f_kindHead f_kindPositive f_kindNegated f_draftRow f_hasDraft f_grounded f_hasModel f_tail a_isFactAtom a_candidate a_bodyLength a_cellKind a_cellPred a_cellFirst a_cellSecond a_groundAtom a_groundKind a_positives a_start a_cursor a_occurrence a_value a_stage a_height a_reached a_depth a_queue a_missing a_blocked b_facts b_code b_len b_value b_stage b_height b_candidate b_m b_s b_next b_certain H => rv_body H v1 v2 v3 v4)
theorem i_vc_commit {k : Nat} {u : SX} {v : SY} (I : i_Rel k u v) (hk : k + 5 ≤ 2564) : wpX_commit (fun r u' => wpY_commit (fun r' v' => r' = r ∧ i_Rel (k + 5) u' v') v) u :=
  rl_el (P := fun u v => wpX_commit (fun r u' => wpY_commit (fun r' v' => r' = r ∧ i_Rel (k + 5) u' v') v) u) I (fun C U B R n ln kd pd fs sn f_kindHead f_kindPositive f_kindNegated f_draftRow f_hasDraft f_grounded f_hasModel f_tail a_isFactAtom a_candidate a_bodyLength a_cellKind a_cellPred a_cellFirst a_cellSecond a_groundAtom a_groundKind a_positives a_start a_cursor a_occurrence a_value a_stage a_height a_reached a_depth a_queue a_missing a_blocked b_facts b_code b_len b_value b_stage b_height b_candidate b_m b_s b_next b_certain H => rv_commit H)
theorem i_vc_drop {k : Nat} {u : SX} {v : SY} (I : i_Rel k u v) (hk : k + 5 ≤ 2564) (v1 : Int32) : wpX_drop (fun r u' => wpY_drop (fun r' v' => r' = r ∧ i_Rel (k + 5) u' v') v v1) u v1 :=
  rl_el (P := fun u v => wpX_drop (fun r u' => wpY_drop (fun r' v' => r' = r ∧ i_Rel (k + 5) u' v') v v1) u v1) I (fun C U B R n ln kd pd fs sn f_kindHead f_kindPositive f_kindNegated f_draftRow f_hasDraft f_grounded f_hasModel f_tail a_isFactAtom a_candidate a_bodyLength a_cellKind a_cellPred a_cellFirst a_cellSecond a_groundAtom a_groundKind a_positives a_start a_cursor a_occurrence a_value a_stage a_height a_reached a_depth a_queue a_missing a_blocked b_facts b_code b_len b_value b_stage b_height b_candidate b_m b_s b_next b_certain H => rv_drop H v1)
theorem i_vc_literal {k : Nat} {u : SX} {v : SY} (I : i_Rel k u v) (hk : k + 5 ≤ 2564) (v1 : Int32) (v2 : Int32) : wpX_literal (fun r => wpY_literal (fun r' => r' = r ∧ i_Rel (k + 5) u v) v v1 v2) u v1 v2 :=
  rl_el (P := fun u v => wpX_literal (fun r => wpY_literal (fun r' => r' = r ∧ i_Rel (k + 5) u v) v v1 v2) u v1 v2) I (fun C U B R n ln kd pd fs sn f_kindHead f_kindPositive f_kindNegated f_draftRow f_hasDraft f_grounded f_hasModel f_tail a_isFactAtom a_candidate a_bodyLength a_cellKind a_cellPred a_cellFirst a_cellSecond a_groundAtom a_groundKind a_positives a_start a_cursor a_occurrence a_value a_stage a_height a_reached a_depth a_queue a_missing a_blocked b_facts b_code b_len b_value b_stage b_height b_candidate b_m b_s b_next b_certain H => rv_literal H v1 v2)
theorem i_vc_solve {k : Nat} {u : SX} {v : SY} (I : i_Rel k u v) (hk : k + 5 ≤ 2564) : wpX_solve (fun r u' => wpY_solve (fun r' v' => r' = r ∧ i_Rel (k + 5) u' v') v) u :=
  rl_el (P := fun u v => wpX_solve (fun r u' => wpY_solve (fun r' v' => r' = r ∧ i_Rel (k + 5) u' v') v) u) I (fun C U B R n ln kd pd fs sn f_kindHead f_kindPositive f_kindNegated f_draftRow f_hasDraft f_grounded f_hasModel f_tail a_isFactAtom a_candidate a_bodyLength a_cellKind a_cellPred a_cellFirst a_cellSecond a_groundAtom a_groundKind a_positives a_start a_cursor a_occurrence a_value a_stage a_height a_reached a_depth a_queue a_missing a_blocked b_facts b_code b_len b_value b_stage b_height b_candidate b_m b_s b_next b_certain H => rs_solve H)
theorem i_vc_truth {k : Nat} {u : SX} {v : SY} (I : i_Rel k u v) (hk : k + 5 ≤ 2564) (v1 : Int32) (v2 : Int32) (v3 : Int32) : wpX_truth (fun r => wpY_truth (fun r' => r' = r ∧ i_Rel (k + 5) u v) v v1 v2 v3) u v1 v2 v3 :=
  rl_el (P := fun u v => wpX_truth (fun r => wpY_truth (fun r' => r' = r ∧ i_Rel (k + 5) u v) v v1 v2 v3) u v1 v2 v3) I (fun C U B R n ln kd pd fs sn f_kindHead f_kindPositive f_kindNegated f_draftRow f_hasDraft f_grounded f_hasModel f_tail a_isFactAtom a_candidate a_bodyLength a_cellKind a_cellPred a_cellFirst a_cellSecond a_groundAtom a_groundKind a_positives a_start a_cursor a_occurrence a_value a_stage a_height a_reached a_depth a_queue a_missing a_blocked b_facts b_code b_len b_value b_stage b_height b_candidate b_m b_s b_next b_certain H => rv_truth H v1 v2 v3)
theorem i_vc_level {k : Nat} {u : SX} {v : SY} (I : i_Rel k u v) (hk : k + 5 ≤ 2564) (v1 : Int32) (v2 : Int32) (v3 : Int32) : wpX_level (fun r => wpY_level (fun r' => r' = r ∧ i_Rel (k + 5) u v) v v1 v2 v3) u v1 v2 v3 :=
  rl_el (P := fun u v => wpX_level (fun r => wpY_level (fun r' => r' = r ∧ i_Rel (k + 5) u v) v v1 v2 v3) u v1 v2 v3) I (fun C U B R n ln kd pd fs sn f_kindHead f_kindPositive f_kindNegated f_draftRow f_hasDraft f_grounded f_hasModel f_tail a_isFactAtom a_candidate a_bodyLength a_cellKind a_cellPred a_cellFirst a_cellSecond a_groundAtom a_groundKind a_positives a_start a_cursor a_occurrence a_value a_stage a_height a_reached a_depth a_queue a_missing a_blocked b_facts b_code b_len b_value b_stage b_height b_candidate b_m b_s b_next b_certain H => rv_level H v1 v2 v3)
theorem i_vc_witness {k : Nat} {u : SX} {v : SY} (I : i_Rel k u v) (hk : k + 5 ≤ 2564) (v1 : Int32) (v2 : Int32) (v3 : Int32) : wpX_witness (fun r => wpY_witness (fun r' => r' = r ∧ i_Rel (k + 5) u v) v v1 v2 v3) u v1 v2 v3 :=
  rl_el (P := fun u v => wpX_witness (fun r => wpY_witness (fun r' => r' = r ∧ i_Rel (k + 5) u v) v v1 v2 v3) u v1 v2 v3) I (fun C U B R n ln kd pd fs sn f_kindHead f_kindPositive f_kindNegated f_draftRow f_hasDraft f_grounded f_hasModel f_tail a_isFactAtom a_candidate a_bodyLength a_cellKind a_cellPred a_cellFirst a_cellSecond a_groundAtom a_groundKind a_positives a_start a_cursor a_occurrence a_value a_stage a_height a_reached a_depth a_queue a_missing a_blocked b_facts b_code b_len b_value b_stage b_height b_candidate b_m b_s b_next b_certain H => rs_witness H v1 v2 v3)
theorem i_vc_reason {k : Nat} {u : SX} {v : SY} (I : i_Rel k u v) (hk : k + 5 ≤ 2564) (v1 : Int32) (v2 : Int32) (v3 : Int32) : wpX_reason (fun r => wpY_reason (fun r' => r' = r ∧ i_Rel (k + 5) u v) v v1 v2 v3) u v1 v2 v3 :=
  rl_el (P := fun u v => wpX_reason (fun r => wpY_reason (fun r' => r' = r ∧ i_Rel (k + 5) u v) v v1 v2 v3) u v1 v2 v3) I (fun C U B R n ln kd pd fs sn f_kindHead f_kindPositive f_kindNegated f_draftRow f_hasDraft f_grounded f_hasModel f_tail a_isFactAtom a_candidate a_bodyLength a_cellKind a_cellPred a_cellFirst a_cellSecond a_groundAtom a_groundKind a_positives a_start a_cursor a_occurrence a_value a_stage a_height a_reached a_depth a_queue a_missing a_blocked b_facts b_code b_len b_value b_stage b_height b_candidate b_m b_s b_next b_certain H => rs_reason H v1 v2 v3)
theorem i_vc_guess {k : Nat} {u : SX} {v : SY} (I : i_Rel k u v) (hk : k + 5 ≤ 2564) (v1 : Int32) (v2 : Int32) (v3 : Int32) (v4 : Int32) : wpX_guess (fun r u' => wpY_guess (fun r' v' => r' = r ∧ i_Rel (k + 5) u' v') v v1 v2 v3 v4) u v1 v2 v3 v4 :=
  rl_el (P := fun u v => wpX_guess (fun r u' => wpY_guess (fun r' v' => r' = r ∧ i_Rel (k + 5) u' v') v v1 v2 v3 v4) u v1 v2 v3 v4) I (fun C U B R n ln kd pd fs sn f_kindHead f_kindPositive f_kindNegated f_draftRow f_hasDraft f_grounded f_hasModel f_tail a_isFactAtom a_candidate a_bodyLength a_cellKind a_cellPred a_cellFirst a_cellSecond a_groundAtom a_groundKind a_positives a_start a_cursor a_occurrence a_value a_stage a_height a_reached a_depth a_queue a_missing a_blocked b_facts b_code b_len b_value b_stage b_height b_candidate b_m b_s b_next b_certain H => rv_guess H v1 v2 v3 v4)
theorem i_vc_guessed {k : Nat} {u : SX} {v : SY} (I : i_Rel k u v) (hk : k + 5 ≤ 2564) (v1 : Int32) (v2 : Int32) (v3 : Int32) : wpX_guessed (fun r => wpY_guessed (fun r' => r' = r ∧ i_Rel (k + 5) u v) v v1 v2 v3) u v1 v2 v3 :=
  rl_el (P := fun u v => wpX_guessed (fun r => wpY_guessed (fun r' => r' = r ∧ i_Rel (k + 5) u v) v v1 v2 v3) u v1 v2 v3) I (fun C U B R n ln kd pd fs sn f_kindHead f_kindPositive f_kindNegated f_draftRow f_hasDraft f_grounded f_hasModel f_tail a_isFactAtom a_candidate a_bodyLength a_cellKind a_cellPred a_cellFirst a_cellSecond a_groundAtom a_groundKind a_positives a_start a_cursor a_occurrence a_value a_stage a_height a_reached a_depth a_queue a_missing a_blocked b_facts b_code b_len b_value b_stage b_height b_candidate b_m b_s b_next b_certain H => rv_guessed H v1 v2 v3)
theorem i_vc_adopt {k : Nat} {u : SX} {v : SY} (I : i_Rel k u v) (hk : k + 5 ≤ 2564) : wpX_adopt (fun r u' => wpY_adopt (fun r' v' => r' = r ∧ i_Rel (k + 5) u' v') v) u :=
  rl_el (P := fun u v => wpX_adopt (fun r u' => wpY_adopt (fun r' v' => r' = r ∧ i_Rel (k + 5) u' v') v) u) I (fun C U B R n ln kd pd fs sn f_kindHead f_kindPositive f_kindNegated f_draftRow f_hasDraft f_grounded f_hasModel f_tail a_isFactAtom a_candidate a_bodyLength a_cellKind a_cellPred a_cellFirst a_cellSecond a_groundAtom a_groundKind a_positives a_start a_cursor a_occurrence a_value a_stage a_height a_reached a_depth a_queue a_missing a_blocked b_facts b_code b_len b_value b_stage b_height b_candidate b_m b_s b_next b_certain H => rv_adopt H)
theorem i_vc_judge {k : Nat} {u : SX} {v : SY} (I : i_Rel k u v) (hk : k + 5 ≤ 2564) : wpX_judge (fun r u' => wpY_judge (fun r' v' => r' = r ∧ i_Rel (k + 5) u' v') v) u :=
  rl_el (P := fun u v => wpX_judge (fun r u' => wpY_judge (fun r' v' => r' = r ∧ i_Rel (k + 5) u' v') v) u) I (fun C U B R n ln kd pd fs sn f_kindHead f_kindPositive f_kindNegated f_draftRow f_hasDraft f_grounded f_hasModel f_tail a_isFactAtom a_candidate a_bodyLength a_cellKind a_cellPred a_cellFirst a_cellSecond a_groundAtom a_groundKind a_positives a_start a_cursor a_occurrence a_value a_stage a_height a_reached a_depth a_queue a_missing a_blocked b_facts b_code b_len b_value b_stage b_height b_candidate b_m b_s b_next b_certain H => rs_judge H)
end
