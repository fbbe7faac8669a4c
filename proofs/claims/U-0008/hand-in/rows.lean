section
theorem pk_us {f : Nat → Int32} {k : Nat} {x : Int32} : upd f k x k = x := if_pos rfl
theorem pk_un {f : Nat → Int32} {k j : Nat} {x : Int32} (h : j ≠ k) : upd f k x j = f j := if_neg h
theorem pk_sub {a b : Nat} (h : b ≤ a) : nI a - nI b = nI (a - b) := by
  obtain ⟨c, rfl⟩ : ∃ c, a = c + b := ⟨a - b, by omega⟩
  rw [← nI_add, Int32.add_sub_cancel, Nat.add_sub_cancel]
theorem pk_m1 (n : Nat) : nI (n + 1) + (-1) = nI n := by
  rw [← nI_1, Int32.add_assoc, show (1 : Int32) + (-1) = 0 from rfl, Int32.add_zero]
theorem pk_mul (a b : Nat) : nI a * nI b = nI (a * b) := (Int32.ofNat_mul a b).symm
theorem pk_sub_toInt {a b : Nat} (ha : a < 2 ^ 30) (hb : b < 2 ^ 30) : (nI a - nI b).toInt = (a : Int) - b := by
  rw [Int32.toInt_sub, nI_toInt (by omega), nI_toInt (by omega)]
  exact Int.bmod_eq_of_le (by omega) (by omega)
theorem pk_sneg {a b : Nat} (hb : b < 2 ^ 30) (h : a < b) : nI a - nI b < 0 := by
  rw [Int32.lt_iff_toInt_lt, pk_sub_toInt (by omega) hb, show (0 : Int32).toInt = 0 from by decide]
  omega
theorem pk_ix (x : Int32) {n : Nat} (hn : n < 2 ^ 31) : x < 0 ∨ nI n ≤ x ∨ ∃ j : Nat, j < n ∧ x = nI j := by
  by_cases h : x < 0
  · exact Or.inl h
  · obtain ⟨j, hj, rfl⟩ := nI_of h
    by_cases h2 : j < n
    · exact Or.inr (Or.inr ⟨j, h2, rfl⟩)
    · exact Or.inr (Or.inl (nI_le (by omega) hj))
theorem pk_le {x y : Int32} {A B : Prop} (a b : Nat) (f : a ≤ b → A) (g : b < a → B) (hx : x = nI a := by rfl) (hy : y = nI b := by rfl) (ha : a < 2 ^ 31 := by omega) (hb : b < 2 ^ 31 := by omega) : (x ≤ y → A) ∧ (¬ x ≤ y → B) := by
  subst hx hy
  rw [nI_leI ha hb]
  exact ⟨f, fun z => g (by omega)⟩
theorem pk_lt {x y : Int32} {A B : Prop} (a b : Nat) (f : a < b → A) (g : b ≤ a → B) (hx : x = nI a := by rfl) (hy : y = nI b := by rfl) (ha : a < 2 ^ 31 := by omega) (hb : b < 2 ^ 31 := by omega) : (x < y → A) ∧ (¬ x < y → B) := by
  subst hx hy
  rw [nI_ltI ha hb]
  exact ⟨f, fun z => g (by omega)⟩
theorem pk_eq {x y : Int32} {A B : Prop} (a b : Nat) (f : a = b → A) (g : a ≠ b → B) (hx : x = nI a := by rfl) (hy : y = nI b := by rfl) (ha : a < 2 ^ 31 := by omega) (hb : b < 2 ^ 31 := by omega) : (x = y → A) ∧ (¬ x = y → B) := by
  subst hx hy
  rw [nI_eq ha hb]
  exact ⟨f, g⟩
theorem pk_in {x : Int32} (n N : Nat) (h : n < N) (hx : x = nI n := by rfl) (hN : N < 2 ^ 31 := by omega) : vp_in x N := by
  subst hx
  exact vp_in_nI h hN
theorem pk_cl {x : Int32} (n : Nat) (hx : x = nI n := by rfl) (h : n < 2 ^ 31 := by omega) : x.toNatClampNeg = n := by
  subst hx
  exact nI_clamp h
theorem pk_tn {n : Nat} (h : n < 2 ^ 32) : (nI n).toBitVec.toNat = n := Nat.mod_eq_of_lt h
theorem pk_and (x : Int32) {m : Int32} (k : Nat) (hm : m.toBitVec.toNat = 2 ^ k - 1) : x &&& m = nI (x.toBitVec.toNat % 2 ^ k) := by
  apply Int32.toBitVec_inj.mp
  apply BitVec.eq_of_toNat_eq
  rw [Int32.toBitVec_and, BitVec.toNat_and, hm, Nat.and_two_pow_sub_one_eq_mod]
  show _ = (BitVec.ofNat 32 _).toNat
  rw [BitVec.toNat_ofNat]
  exact (Nat.mod_eq_of_lt (Nat.lt_of_le_of_lt (Nat.mod_le _ _) x.toBitVec.isLt)).symm
theorem pk_andN {n : Nat} (h : n < 2 ^ 32) {m : Int32} (k : Nat) (hm : m.toBitVec.toNat = 2 ^ k - 1) : nI n &&& m = nI (n % 2 ^ k) := by
  rw [pk_and _ k hm, pk_tn h]
theorem pk_andE (x : Int32) {m : Int32} (k : Nat) (hm : m.toBitVec.toNat = 2 ^ k - 1) : ∃ j : Nat, j < 2 ^ k ∧ x &&& m = nI j := ⟨_, Nat.mod_lt _ (Nat.two_pow_pos k), pk_and x k hm⟩
theorem pk_ushr (x s : Int32) (k : Nat) (hs : ((s.toUInt32 &&& Int32.toUInt32 31).toBitVec % 32).toNat = k) : (x.toUInt32 >>> (s.toUInt32 &&& Int32.toUInt32 31)).toInt32.toBitVec.toNat = x.toBitVec.toNat / 2 ^ k := by
  have e : (x.toUInt32 >>> (s.toUInt32 &&& Int32.toUInt32 31)).toInt32.toBitVec = x.toBitVec >>> k := by
    rw [← hs]
    exact UInt32.toBitVec_shiftRight _ _
  rw [e, BitVec.toNat_ushiftRight, Nat.shiftRight_eq_div_pow]
theorem pk_least (P : Nat → Prop) (h : ∃ k, P k) : ∃ k, P k ∧ ∀ j, j < k → ¬ P j := by
  obtain ⟨k, hk⟩ := h
  induction k using Nat.strongRecOn with
  | ind k ih =>
    by_cases e : ∃ j, j < k ∧ P j
    · obtain ⟨j, hj, pj⟩ := e
      exact ih j hj pj
    · exact ⟨k, hk, fun j hj pj => e ⟨j, hj, pj⟩⟩
theorem nf_sh : ∀ l, l < 32 → ((1 : Int32) <<< (nI l &&& 31)).toBitVec = BitVec.twoPow 32 l := by decide +kernel
theorem nf_tp : ∀ l, l < 32 → BitVec.twoPow 32 l ≠ 0#32 := by decide +kernel
noncomputable def b01 (P : Prop) : Nat := @ite Nat P (Classical.propDecidable P) 1 0
theorem b01_t {P : Prop} (h : P) : b01 P = 1 := by unfold b01; rw [if_pos h]
theorem b01_f {P : Prop} (h : ¬ P) : b01 P = 0 := by unfold b01; rw [if_neg h]
theorem b01_le (P : Prop) : b01 P ≤ 1 := by
  rcases Classical.em P with h | h
  · rw [b01_t h]; omega
  · rw [b01_f h]; omega
theorem b01_mono {P Q : Prop} (h : P → Q) : b01 P ≤ b01 Q := by
  rcases Classical.em P with hp | hp
  · rw [b01_t hp, b01_t (h hp)]; omega
  · rw [b01_f hp]; omega
noncomputable def cn (P : Nat → Prop) : Nat → Nat
  | 0 => 0
  | k + 1 => cn P k + b01 (P k)
theorem cn_mono {P Q : Nat → Prop} : ∀ {N : Nat}, (∀ k, k < N → P k → Q k) → cn P N ≤ cn Q N
  | 0, _ => Nat.le_refl _
  | N + 1, h => by
    have a := cn_mono (P := P) (Q := Q) (N := N) (fun k hk => h k (by omega))
    have b := b01_mono (h N (by omega))
    simp only [cn]; omega
theorem cn_lt {P Q : Nat → Prop} {a : Nat} (hp : ¬ P a) (hq : Q a) : ∀ {N : Nat}, (∀ k, k < N → P k → Q k) → a < N → cn P N < cn Q N
  | 0, _, h => by omega
  | N + 1, h, ha => by
    simp only [cn]
    rcases Nat.lt_or_ge a N with z | z
    · have x := cn_lt hp hq (N := N) (fun k hk => h k (by omega)) z
      have b := b01_mono (h N (by omega))
      omega
    · have e : a = N := by omega
      subst e
      have x := cn_mono (P := P) (Q := Q) (N := a) (fun k hk => h k (by omega))
      rw [b01_t hq, b01_f hp]; omega
theorem cn_le (P : Nat → Prop) : ∀ N, cn P N ≤ N
  | 0 => Nat.le_refl _
  | N + 1 => by have := cn_le P N; have := b01_le (P N); simp only [cn]; omega
theorem cn_eq {P Q : Nat → Prop} {N : Nat} (h : ∀ k, k < N → (P k ↔ Q k)) : cn P N = cn Q N :=
  Nat.le_antisymm (cn_mono fun k hk => (h k hk).mp) (cn_mono fun k hk => (h k hk).mpr)
theorem cn_add {P : Nat → Prop} {a : Nat} (hp : ¬ P a) : ∀ {N : Nat}, a < N → cn (fun k => P k ∨ k = a) N = cn P N + 1
  | 0, h => by omega
  | N + 1, h => by
    simp only [cn]
    rcases Nat.lt_or_ge a N with z | z
    · rw [cn_add hp z]
      have : b01 (P N ∨ N = a) = b01 (P N) := Nat.le_antisymm (b01_mono fun q => q.elim id (fun e => by omega)) (b01_mono Or.inl)
      omega
    · have e : a = N := by omega
      subst e
      rw [cn_eq (P := fun k => P k ∨ k = a) (Q := P) (fun k hk => ⟨fun q => q.elim id (fun e => by omega), Or.inl⟩), b01_t (Or.inr rfl), b01_f hp]
end
section
theorem ch_m1 {i : Nat} (h : i < 2 ^ 31) : ¬ nI i = -1 := by
  intro e
  have e2 := congrArg Int32.toInt e
  rw [nI_toInt h, show (-1 : Int32).toInt = -1 from by decide] at e2
  omega
theorem ch_m2 {i : Nat} (h : i < 2 ^ 31) : ¬ nI i = -2 := by
  intro e
  have e2 := congrArg Int32.toInt e
  rw [nI_toInt h, show (-2 : Int32).toInt = -2 from by decide] at e2
  omega
def ch_cd (j : Nat) : Int32 := nI j - 1
theorem ch_cd0 : ch_cd 0 = -1 := by decide
theorem ch_cdS (j : Nat) : ch_cd (j + 1) = nI j := nI_pred j
theorem ch_cdA (j : Nat) : ch_cd j + 1 = ch_cd (j + 1) := by
  rw [ch_cdS]
  exact Int32.sub_add_cancel _ _
theorem ch_cdI {a b : Nat} (ha : a < 2 ^ 31) (hb : b < 2 ^ 31) (h : ch_cd a = ch_cd b) : a = b := by
  have e : ch_cd a + 1 = ch_cd b + 1 := by rw [h]
  rw [ch_cdA, ch_cdA, ch_cdS, ch_cdS] at e
  exact (nI_eq ha hb).mp e
theorem ch_cdN {a i : Nat} (ha : a < 2 ^ 31) (hi : i < 2 ^ 30) : ch_cd a = nI i ↔ a = i + 1 := by
  rw [← ch_cdS i]
  exact ⟨ch_cdI ha (by omega), fun e => by rw [e]⟩
theorem ch_cdM {a : Nat} (ha : a < 2 ^ 31) : ch_cd a = -1 ↔ a = 0 := by
  rw [← ch_cd0]
  exact ⟨ch_cdI ha (by omega), fun e => by rw [e]⟩
theorem ch_cdle {n j : Nat} (hn : n < 2 ^ 31) (hj : j < 2 ^ 31) : nI n ≤ ch_cd j ↔ n < j := by
  cases j with
  | zero =>
    rw [ch_cd0, Int32.le_iff_toInt_le, nI_toInt hn, show (-1 : Int32).toInt = -1 from by decide]
    omega
  | succ j =>
    rw [ch_cdS, nI_leI hn (by omega)]
    omega
/-- bits -/
def ch_b (m : Int32) (p : Nat) : Prop := ¬ (m &&& ((1 : Int32) <<< (nI p &&& 31))) = 0
theorem ch_b_iff (m : Int32) {p : Nat} (hp : p < 32) : ch_b m p ↔ m.toBitVec.getLsbD p = true := by
  unfold ch_b
  rw [← Int32.toBitVec_inj, Int32.toBitVec_and, nf_sh p hp, BitVec.and_twoPow]
  cases hb : m.toBitVec.getLsbD p
  · exact ⟨fun z => absurd (by simp) z, fun z => by cases z⟩
  · exact ⟨fun _ => rfl, fun _ z => absurd ((if_pos rfl).symm.trans z) (nf_tp p hp)⟩
theorem ch_b_or (m : Int32) {p q : Nat} (hp : p < 32) (hq : q < 32) : ch_b (m ||| ((1 : Int32) <<< (nI p &&& 31))) q ↔ ch_b m q ∨ q = p := by
  rw [ch_b_iff _ hq, ch_b_iff _ hq, Int32.toBitVec_or, BitVec.getLsbD_or, nf_sh p hp, BitVec.getLsbD_twoPow, Bool.or_eq_true]
  apply or_congr Iff.rfl
  simp
  omega
theorem ch_b0 {q : Nat} (hq : q < 32) : ¬ ch_b 0 q := by
  rw [ch_b_iff _ hq]
  show ¬ (0#32).getLsbD q = true
  rw [BitVec.getLsbD_zero]
  exact fun z => by cases z
/-- index sums -/
theorem ch_a1 (a : Nat) : nI a + 1 = nI (a + 1) := nI_add a 1
theorem ch_a2 (a : Nat) : nI a + 2 = nI (a + 2) := nI_add a 2
theorem ch_a3 (a : Nat) : nI a + 3 = nI (a + 3) := nI_add a 3
theorem ch_a4 (a : Nat) : nI a + 4 = nI (a + 4) := nI_add a 4
theorem ch_a5 (a : Nat) : nI a + 5 = nI (a + 5) := nI_add a 5
theorem ch_a6 (a : Nat) : nI a + 6 = nI (a + 6) := nI_add a 6
theorem ch_a15 (a : Nat) : nI a + 15 = nI (a + 15) := nI_add a 15
theorem ch_a18 (a : Nat) : nI a + 18 = nI (a + 18) := nI_add a 18
theorem ch_a31 (a : Nat) : nI a + 31 = nI (a + 31) := nI_add a 31
theorem ch_a32 (a : Nat) : nI a + 32 = nI (a + 32) := nI_add a 32
theorem ch_a33 (a : Nat) : nI a + 33 = nI (a + 33) := nI_add a 33
theorem ch_t40 (a : Nat) : nI a * 40 = nI (40 * a) := by rw [Nat.mul_comm]; exact pk_mul a 40
theorem ch_40t (a : Nat) : 40 * nI a = nI (40 * a) := pk_mul 40 a
theorem ch_4t (a : Nat) : 4 * nI a = nI (4 * a) := pk_mul 4 a
theorem ch_3t (a : Nat) : 3 * nI a = nI (3 * a) := pk_mul 3 a
theorem ch_lt {a b : Nat} (ha : a < 2 ^ 31) (hb : b < 2 ^ 31) : nI a < nI b ↔ a < b := nI_ltI ha hb
theorem ch_1 : (1 : Int32) = nI 1 := rfl
theorem ch_n64 {p : Nat} (hp : p < 64) : nI p < 64 := nI_lt (b := 64) hp (by omega)
theorem ch_g64 {q : Nat} (h : 64 ≤ q) (hq : q < 2 ^ 31) : ¬ nI q < 64 := nI_nlt (b := 64) h hq
/-- counts -/
theorem ch_cn_full {P : Nat → Prop} : ∀ {N : Nat}, (∀ k, k < N → P k) → cn P N = N
  | 0, _ => rfl
  | N + 1, h => by
    have a := ch_cn_full (P := P) (N := N) (fun k hk => h k (by omega))
    have b := b01_t (h N (by omega))
    simp only [cn]; omega
theorem ch_cn_hole {P : Nat → Prop} {N : Nat} (h : cn P N < N) : ∃ k, k < N ∧ ¬ P k := by
  rcases Classical.em (∃ k, k < N ∧ ¬ P k) with z | z
  · exact z
  · have := ch_cn_full (P := P) (N := N) (fun k hk => Classical.byContradiction fun q => z ⟨k, hk, q⟩)
    omega
theorem ch_cn_pos {P : Nat → Prop} {N a : Nat} (ha : a < N) (hp : P a) : 0 < cn P N := by
  have := cn_lt (P := fun _ => False) (Q := P) (a := a) (fun z => z) hp (N := N) (fun k _ z => z.elim) ha
  omega
/-- taking one out -/
theorem ch_cn_del {P : Nat → Prop} {N a : Nat} (ha : a < N) (hp : P a) : cn (fun k => P k ∧ k ≠ a) N + 1 = cn P N := by
  have e := cn_add (P := fun k => P k ∧ k ≠ a) (a := a) (fun z => z.2 rfl) ha
  rw [← e]
  exact cn_eq (fun k _ => ⟨fun z => z.elim (fun z => z.1) (fun z => by rw [z]; exact hp), fun z => by
    rcases Classical.em (k = a) with q | q
    · exact Or.inr q
    · exact Or.inl ⟨z, q⟩⟩)
theorem ch_upd_s {f : Nat → Int32} {k : Nat} {x : Int32} : upd f k x k = x := if_pos rfl
theorem ch_upd_n {f : Nat → Int32} {k j : Nat} {x : Int32} (h : j ≠ k) : upd f k x j = f j := if_neg h
theorem ch_nar0 : vp_nar .boolean 0 = 0 := rfl
theorem ch_nar1 : vp_nar .boolean 1 = 1 := rfl
theorem ch_bo0 : narrow .boolean (.int 0) = .int 0 := rfl
theorem ch_bo1 : narrow .boolean (.int 1) = .int 1 := rfl
theorem ch_bo {r : Int32} (h : r = 0 ∨ r = 1) : narrow .boolean (.int r) = .int r := by
  rcases h with h | h <;> subst h <;> rfl
theorem ch_10 : ¬ (1 : Int32) = 0 := by decide
end
section
/-- one rule's block of forty cells, nothing beyond -/
def ch_bl (R : Nat → Int32) (r : Nat) : Nat → Int32 := fun j => if j < 40 then R (40 * r + j) else 0
theorem ch_blE {R : Nat → Int32} {r j : Nat} (h : j < 40) : R (40 * r + j) = ch_bl R r j := by
  unfold ch_bl; rw [if_pos h]
theorem ch_blI {R : Nat → Int32} {r j a : Nat} (h : j < 40) (e : a = 40 * r + j) : R a = ch_bl R r j := by
  rw [e]; exact ch_blE h
theorem ch_bl_ne {R : Nat → Int32} {r r' k : Nat} {x : Int32} (h : r ≠ r') (hk : k < 40) : ch_bl (upd R (40 * r' + k) x) r = ch_bl R r := by
  funext j
  unfold ch_bl
  by_cases hj : j < 40
  · rw [if_pos hj, if_pos hj, ch_upd_n (by omega)]
  · rw [if_neg hj, if_neg hj]
theorem ch_bl_eq {R : Nat → Int32} {r k : Nat} {x : Int32} (hk : k < 40) : ch_bl (upd R (40 * r + k) x) r = upd (ch_bl R r) k x := by
  funext j
  unfold ch_bl upd
  by_cases hj : j < 40
  · by_cases e : j = k
    · rw [if_pos hj, if_pos e, if_pos (by omega)]
    · rw [if_pos hj, if_neg e, if_neg (by omega)]
      exact (if_pos hj).symm
  · rw [if_neg hj, if_neg (show ¬ j = k by omega)]
    exact (if_neg hj).symm
def ch_nh (K : Nat → Int32) : Nat := (K 0).toNatClampNeg
def ch_ns (K : Nat → Int32) : Nat := (K 1).toNatClampNeg
def ch_nb (K : Nat → Int32) : Nat := (K 2).toNatClampNeg
/-- variable p is bound ahead of step i -/
def ch_D (K : Nat → Int32) (i p : Nat) : Prop := p < 6 ∧
  ((∃ h, h < ch_nh K ∧ (K (5 + 4 * h) = nI p ∨ K (6 + 4 * h) = nI p)) ∨ (∃ j, j < i ∧ ¬ K (15 + 4 * j) < 5 ∧ K (18 + 4 * j) = nI p))
def ch_Pa (x : Int32) : Prop := (∃ p, p < 6 ∧ x = nI p) ∨ (∃ q, 64 ≤ q ∧ q ≤ 191 ∧ x = nI q)
def ch_Op (K : Nat → Int32) (i : Nat) (x : Int32) : Prop := (∃ p, x = nI p ∧ ch_D K i p) ∨ (∃ q, 64 ≤ q ∧ q ≤ 191 ∧ x = nI q)
def ch_W1 (K : Nat → Int32) : Prop := K 0 = nI (ch_nh K) ∧ ch_nh K ≤ 3 ∧ K 1 = nI (ch_ns K) ∧ ch_ns K ≤ 4 ∧ K 2 = nI (ch_nb K) ∧ ch_nb K ≤ 3
def ch_W2 (K : Nat → Int32) : Prop := ∀ h, h < ch_nh K → (K (3 + 4 * h) = 0 ∨ K (3 + 4 * h) = 1) ∧ (∃ s, s < 8 ∧ K (4 + 4 * h) = nI s) ∧ ch_Pa (K (5 + 4 * h)) ∧ ch_Pa (K (6 + 4 * h))
def ch_W3 (K : Nat → Int32) : Prop := ∀ i, i < ch_ns K → (∃ o, o < 8 ∧ K (15 + 4 * i) = nI o ∧ (5 ≤ o → ∃ p, p < 6 ∧ K (18 + 4 * i) = nI p ∧ ¬ ch_D K i p)) ∧ ch_Op K i (K (16 + 4 * i)) ∧ ch_Op K i (K (17 + 4 * i))
def ch_W4 (K : Nat → Int32) : Prop := ∀ g, g < ch_nb K → (∃ s, s < 8 ∧ K (31 + 3 * g) = nI s) ∧ ch_Op K (ch_ns K) (K (32 + 3 * g)) ∧ ch_Op K (ch_ns K) (K (33 + 3 * g))
/-- a well-formed rule, perhaps still without heads -/
def ch_W (K : Nat → Int32) : Prop := ch_W1 K ∧ ch_W2 K ∧ ch_W3 K ∧ ch_W4 K
theorem ch_D_mono {K : Nat → Int32} {i j p : Nat} (h : i ≤ j) (d : ch_D K i p) : ch_D K j p :=
  ⟨d.1, d.2.elim Or.inl (fun ⟨k, hk, x⟩ => Or.inr ⟨k, by omega, x⟩)⟩
/-- an argument against a pattern -/
def ch_Ag (p v : Int32) (w : Nat → Int32) : Prop := (p < 64 → w p.toNatClampNeg = v) ∧ (¬ p < 64 → v = p - 128)
theorem ch_Ag_v {p : Nat} (hp : p < 6) {v : Int32} {w : Nat → Int32} : ch_Ag (nI p) v w ↔ w p = v := by
  unfold ch_Ag
  rw [nI_clamp (by omega)]
  exact ⟨fun z => z.1 (ch_n64 (by omega)), fun z => ⟨fun _ => z, fun q => absurd (ch_n64 (by omega)) q⟩⟩
theorem ch_Ag_c {q : Nat} (h : 64 ≤ q) (hq : q ≤ 191) {v : Int32} {w : Nat → Int32} : ch_Ag (nI q) v w ↔ v = nI q - 128 := by
  unfold ch_Ag
  exact ⟨fun z => z.2 (ch_g64 h (by omega)), fun z => ⟨fun y => absurd y (ch_g64 h (by omega)), fun _ => z⟩⟩
def ch_Hd (K S A B : Nat → Int32) (h i : Nat) (w : Nat → Int32) : Prop :=
  S i = K (4 + 4 * h) ∧ ch_Ag (K (5 + 4 * h)) (A i) w ∧ ch_Ag (K (6 + 4 * h)) (B i) w
/-- a match in the making: Q holds of w just if w agrees with v on the bound variables -/
def ch_M (b : Nat → Prop) (Q : (Nat → Int32) → Prop) (v : Nat → Int32) : Prop := ∀ w, Q w ↔ ∀ p, p < 6 → b p → w p = v p
theorem ch_M_cg {b : Nat → Prop} {Q Q' : (Nat → Int32) → Prop} {v : Nat → Int32} (h : ch_M b Q v) (e : ∀ w, Q w ↔ Q' w) : ch_M b Q' v :=
  fun w => (e w).symm.trans (h w)
theorem ch_M_v {b : Nat → Prop} {Q : (Nat → Int32) → Prop} {v v' : Nat → Int32} (h : ch_M b Q v) (e : ∀ p, p < 6 → b p → v' p = v p) : ch_M b Q v' :=
  fun w => (h w).trans ⟨fun z p hp hb => (z p hp hb).trans (e p hp hb).symm, fun z p hp hb => (z p hp hb).trans (e p hp hb)⟩
theorem ch_M_b {b b' : Nat → Prop} {Q : (Nat → Int32) → Prop} {v : Nat → Int32} (h : ch_M b Q v) (e : ∀ p, p < 6 → (b p ↔ b' p)) : ch_M b' Q v :=
  fun w => (h w).trans ⟨fun z p hp hb => z p hp ((e p hp).mpr hb), fun z p hp hb => z p hp ((e p hp).mp hb)⟩
theorem ch_M_self {b : Nat → Prop} {Q : (Nat → Int32) → Prop} {v : Nat → Int32} (h : ch_M b Q v) : Q v := (h v).mpr fun _ _ _ => rfl
theorem ch_M_0 {b : Nat → Prop} (h : ∀ p, p < 6 → ¬ b p) (v : Nat → Int32) : ch_M b (fun _ => True) v :=
  fun _ => ⟨fun _ p hp hb => absurd hb (h p hp), fun _ => trivial⟩
theorem ch_M_new {b b' : Nat → Prop} {Q : (Nat → Int32) → Prop} {v v' : Nat → Int32} {q : Nat} {a : Int32} (h : ch_M b Q v) (hq : q < 6) (nb : ¬ b q)
    (eb : ∀ p, p < 6 → (b' p ↔ b p ∨ p = q)) (ev : v' = upd v q a) : ch_M b' (fun w => Q w ∧ ch_Ag (nI q) a w) v' := by
  intro w
  subst ev
  show Q w ∧ ch_Ag (nI q) a w ↔ _
  rw [ch_Ag_v hq, h w]
  constructor
  · intro z p hp hb
    by_cases e : p = q
    · rw [e, ch_upd_s]; exact z.2
    · rw [ch_upd_n e]
      exact z.1 p hp (((eb p hp).mp hb).resolve_right e)
  · intro z
    constructor
    · intro p hp hb
      have e : p ≠ q := fun e => nb (e ▸ hb)
      have := z p hp ((eb p hp).mpr (Or.inl hb))
      rwa [ch_upd_n e] at this
    · have := z q hq ((eb q hq).mpr (Or.inr rfl))
      rwa [ch_upd_s] at this
theorem ch_M_old {b : Nat → Prop} {Q : (Nat → Int32) → Prop} {v : Nat → Int32} {q : Nat} {a : Int32} (h : ch_M b Q v) (hq : q < 6) (hb : b q)
    (e : v q = a) : ch_M b (fun w => Q w ∧ ch_Ag (nI q) a w) v :=
  ch_M_cg h fun w => ⟨fun z => ⟨z, (ch_Ag_v hq).mpr (((h w).mp z q hq hb).trans e)⟩, fun z => z.1⟩
theorem ch_M_bad {b : Nat → Prop} {Q : (Nat → Int32) → Prop} {v : Nat → Int32} {q : Nat} {a : Int32} (h : ch_M b Q v) (hq : q < 6) (hb : b q)
    (e : ¬ v q = a) : ∀ w, ¬ (Q w ∧ ch_Ag (nI q) a w) :=
  fun w z => e (((h w).mp z.1 q hq hb).symm.trans ((ch_Ag_v hq).mp z.2))
/-- the steps -/
def ch_ov (p : Int32) (w : Nat → Int32) : Int32 := if p < 64 then w p.toNatClampNeg else p - 128
def ch_sx (K : Nat → Int32) (i : Nat) (w : Nat → Int32) : Int32 := ch_ov (K (16 + 4 * i)) w
def ch_sy (K : Nat → Int32) (i : Nat) (w : Nat → Int32) : Int32 := ch_ov (K (17 + 4 * i)) w
def ch_ok (o x y : Int32) : Prop := (o = 0 → x = y) ∧ (o = 1 → ¬ x = y) ∧ (o = 2 → ¬ y ≤ x) ∧ (o = 3 → x ≤ y) ∧ (o = 4 → ¬ x = 0 ∧ y - y / x * x = 0)
def ch_rs (o x y : Int32) : Int32 := if o = 5 then x + y else if o = 6 then x - y else x * y
def ch_sUp (K : Nat → Int32) (i : Nat) (w : Nat → Int32) : Nat → Int32 :=
  if K (15 + 4 * i) < 5 then w else upd w (K (18 + 4 * i)).toNatClampNeg (ch_rs (K (15 + 4 * i)) (ch_sx K i w) (ch_sy K i w))
def ch_sOk (K : Nat → Int32) (i : Nat) (w : Nat → Int32) : Prop := ch_ok (K (15 + 4 * i)) (ch_sx K i w) (ch_sy K i w)
def ch_sV (K : Nat → Int32) : Nat → (Nat → Int32) → (Nat → Int32)
  | 0, w => w
  | i + 1, w => ch_sUp K i (ch_sV K i w)
def ch_Gd (K : Nat → Int32) (w : Nat → Int32) : Prop := ∀ i, i < ch_ns K → ch_sOk K i (ch_sV K i w)
def ch_Fn (K : Nat → Int32) (w : Nat → Int32) : Nat → Int32 := ch_sV K (ch_ns K) w
theorem ch_ov_v {p : Nat} (hp : p < 6) (w : Nat → Int32) : ch_ov (nI p) w = w p := by
  unfold ch_ov
  rw [if_pos (ch_n64 (by omega)), nI_clamp (by omega)]
theorem ch_ov_c {q : Nat} (h : 64 ≤ q) (hq : q ≤ 191) (w : Nat → Int32) : ch_ov (nI q) w = nI q - 128 := by
  unfold ch_ov
  rw [if_neg (ch_g64 h (by omega))]
theorem ch_ov_ag {K : Nat → Int32} {i : Nat} {x : Int32} {w w' : Nat → Int32} (o : ch_Op K i x) (e : ∀ p, ch_D K i p → w p = w' p) : ch_ov x w = ch_ov x w' := by
  rcases o with ⟨p, rfl, d⟩ | ⟨q, h1, h2, rfl⟩
  · rw [ch_ov_v d.1, ch_ov_v d.1, e p d]
  · rw [ch_ov_c h1 h2, ch_ov_c h1 h2]
theorem ch_sV_ag {K : Nat → Int32} (W : ch_W K) {w w' : Nat → Int32} (e : ∀ p, ch_D K 0 p → w p = w' p) :
    ∀ i, i ≤ ch_ns K → ∀ p, ch_D K i p → ch_sV K i w p = ch_sV K i w' p := by
  intro i
  induction i with
  | zero => intro _ p d; exact e p d
  | succ i ih =>
    intro hi p d
    have IH := ih (by omega)
    obtain ⟨⟨o, ho, eo, hv⟩, o1, o2⟩ := W.2.2.1 i (by omega)
    have e1 : ch_sx K i (ch_sV K i w) = ch_sx K i (ch_sV K i w') := ch_ov_ag o1 IH
    have e2 : ch_sy K i (ch_sV K i w) = ch_sy K i (ch_sV K i w') := ch_ov_ag o2 IH
    show ch_sUp K i (ch_sV K i w) p = ch_sUp K i (ch_sV K i w') p
    unfold ch_sUp
    rw [e1, e2]
    by_cases c : K (15 + 4 * i) < 5
    · rw [if_pos c, if_pos c]
      refine IH p ⟨d.1, d.2.elim Or.inl ?_⟩
      rintro ⟨j, hj, nj, ej⟩
      refine Or.inr ⟨j, ?_, nj, ej⟩
      have : j ≠ i := fun z => nj (z ▸ c)
      omega
    · rw [if_neg c, if_neg c]
      by_cases q : p = (K (18 + 4 * i)).toNatClampNeg
      · rw [q, ch_upd_s, ch_upd_s]
      · rw [ch_upd_n q, ch_upd_n q]
        refine IH p ⟨d.1, d.2.elim Or.inl ?_⟩
        rintro ⟨j, hj, nj, ej⟩
        refine Or.inr ⟨j, ?_, nj, ej⟩
        have : j ≠ i := fun z => q (by rw [← z, ej, nI_clamp (by have := d.1; omega)])
        omega
theorem ch_sOk_ag {K : Nat → Int32} (W : ch_W K) {i : Nat} (hi : i < ch_ns K) {w w' : Nat → Int32} (e : ∀ p, ch_D K i p → w p = w' p) : ch_sOk K i w ↔ ch_sOk K i w' := by
  obtain ⟨_, o1, o2⟩ := W.2.2.1 i hi
  unfold ch_sOk
  rw [show ch_sx K i w = ch_sx K i w' from ch_ov_ag o1 e, show ch_sy K i w = ch_sy K i w' from ch_ov_ag o2 e]
theorem ch_Gd_ag {K : Nat → Int32} (W : ch_W K) {w w' : Nat → Int32} (e : ∀ p, ch_D K 0 p → w p = w' p) (g : ch_Gd K w) : ch_Gd K w' :=
  fun i hi => (ch_sOk_ag W hi (ch_sV_ag W e i (by omega))).mp (g i hi)
/-- the steps leave the heads' variables alone -/
theorem ch_sV_keep {K : Nat → Int32} (W : ch_W K) (w : Nat → Int32) : ∀ i, i ≤ ch_ns K → ∀ p, ch_D K 0 p → ch_sV K i w p = w p := by
  intro i
  induction i with
  | zero => intro _ p _; rfl
  | succ i ih =>
    intro hi p d
    obtain ⟨⟨o, ho, eo, hv⟩, _, _⟩ := W.2.2.1 i (by omega)
    show ch_sUp K i (ch_sV K i w) p = w p
    unfold ch_sUp
    by_cases c : K (15 + 4 * i) < 5
    · rw [if_pos c]; exact ih (by omega) p d
    · rw [if_neg c]
      have h5 : 5 ≤ o := by
        rcases Nat.lt_or_ge o 5 with z | z
        · exact absurd (by rw [eo]; exact nI_lt (b := 5) z (by omega)) c
        · exact z
      obtain ⟨v, v6, ev, nd⟩ := hv h5
      have pv : p ≠ v := by
        intro z
        subst z
        exact nd (ch_D_mono (Nat.zero_le i) d)
      rw [ev, nI_clamp (by omega), ch_upd_n pv]
      exact ih (by omega) p d
/-- three ids as a function of the head -/
def ch_t3 (x y z : Int32) (h : Nat) : Int32 := if h = 0 then x else if h = 1 then y else z
theorem ch_t30 (x y z : Int32) : ch_t3 x y z 0 = x := rfl
theorem ch_t31 (x y z : Int32) : ch_t3 x y z 1 = y := rfl
theorem ch_t32 (x y z : Int32) : ch_t3 x y z 2 = z := rfl
def ch_Mt (K S A B : Nat → Int32) (x y z : Int32) (w : Nat → Int32) : Prop := ∀ h, h < ch_nh K → ch_Hd K S A B h (ch_t3 x y z h).toNatClampNeg w
theorem ch_Mt_ag {K S A B : Nat → Int32} (W : ch_W K) {x y z : Int32} {w w' : Nat → Int32} (a : ch_Mt K S A B x y z w) (b : ch_Mt K S A B x y z w') : ∀ p, ch_D K 0 p → w p = w' p := by
  rintro p ⟨hp, ⟨h, hh, e⟩ | ⟨j, hj, _⟩⟩
  · obtain ⟨_, a1, a2⟩ := a h hh
    obtain ⟨_, b1, b2⟩ := b h hh
    rcases e with e | e
    · rw [e] at a1 b1
      exact ((ch_Ag_v hp).mp a1).trans ((ch_Ag_v hp).mp b1).symm
    · rw [e] at a2 b2
      exact ((ch_Ag_v hp).mp a2).trans ((ch_Ag_v hp).mp b2).symm
  · omega
def ch_Al (L : Nat → Int32) (n : Nat) (x : Int32) : Prop := ∃ i, i < n ∧ x = nI i ∧ ¬ L i = 0
def ch_Pr (K : Nat → Int32) : Prop := ∀ h, h < ch_nh K → ¬ K (3 + 4 * h) = 1
def ch_Lg (G : Nat → Int32) (lg : Nat) (r x y z : Int32) : Prop := ∃ k, k < lg ∧ G (4 * k) = r ∧ G (4 * k + 1) = x ∧ G (4 * k + 2) = y ∧ G (4 * k + 3) = z
/-- ids in place: alive at the heads, none beyond, all different -/
def ch_Id (K L : Nat → Int32) (n : Nat) (x y z : Int32) : Prop :=
  (∀ h, h < ch_nh K → ch_Al L n (ch_t3 x y z h)) ∧ (∀ h, ch_nh K ≤ h → h < 3 → ch_t3 x y z h = -1) ∧ (∀ h h', h < h' → h' < ch_nh K → ¬ ch_t3 x y z h = ch_t3 x y z h')
def ch_Ap (R S A B L G : Nat → Int32) (n lg r : Nat) (x y z : Int32) : Prop :=
  ch_Id (ch_bl R r) L n x y z ∧ (∃ w, ch_Mt (ch_bl R r) S A B x y z w ∧ ch_Gd (ch_bl R r) w) ∧ (ch_Pr (ch_bl R r) → ¬ ch_Lg G lg (nI r) x y z)
end
section
/-- e is the first alive id of symbol s at or above l -/
def ch_Nx (S L : Nat → Int32) (n : Nat) (s : Int32) (l : Nat) (e : Int32) : Prop :=
  (e = -1 ∧ ∀ j, l ≤ j → j < n → ¬ L j = 0 → ¬ S j = s) ∨
  (∃ i, e = nI i ∧ l ≤ i ∧ i < n ∧ ¬ L i = 0 ∧ S i = s ∧ ∀ j, l ≤ j → j < i → ¬ L j = 0 → ¬ S j = s)
/-- e is the last alive id of symbol s below m -/
def ch_Pv (S L : Nat → Int32) (s : Int32) (m : Nat) (e : Int32) : Prop :=
  (e = -1 ∧ ∀ j, j < m → ¬ L j = 0 → ¬ S j = s) ∨
  (∃ i, e = nI i ∧ i < m ∧ ¬ L i = 0 ∧ S i = s ∧ ∀ j, i < j → j < m → ¬ L j = 0 → ¬ S j = s)
/-- the forward link of a dead id; T: the count of ids when it died -/
def ch_Dd (S L : Nat → Int32) (n : Nat) (T : Nat → Nat) (i : Nat) (e : Int32) : Prop :=
  (e = -1 ∧ ∀ j, i < j → j < n → ¬ L j = 0 → S j = S i → T i ≤ j) ∨
  (∃ k, e = nI k ∧ i < k ∧ k < n ∧ S k = S i ∧ (∀ j, i < j → j < k → ¬ L j = 0 → ¬ S j = S i) ∧ (¬ L k = 0 ∨ T i ≤ T k))
def ch_LK (S L bf af fo lo : Nat → Int32) (n : Nat) (T : Nat → Nat) : Prop :=
  (∀ s, s < 8 → ch_Nx S L n (nI s) 0 (fo s)) ∧
  (∀ s, s < 8 → ch_Pv S L (nI s) n (lo s)) ∧
  (∀ i, i < n → ¬ L i = 0 → ch_Nx S L n (S i) (i + 1) (af i)) ∧
  (∀ i, i < n → ¬ L i = 0 → ch_Pv S L (S i) i (bf i)) ∧
  (∀ i, i < n → L i = 0 → T i ≤ n ∧ ch_Dd S L n T i (af i))
def ch_SR (S : Nat → Int32) (n : Nat) : Prop := ∀ i, i < n → ∃ s, s < 8 ∧ S i = nI s
/-- e leads to all alive ids of symbol s from l up to c -/
def ch_Ch (S L : Nat → Int32) (n : Nat) (T : Nat → Nat) (c : Nat) (s : Int32) (l : Nat) (e : Int32) : Prop :=
  (e = -1 ∧ ∀ j, l ≤ j → j < c → ¬ L j = 0 → ¬ S j = s) ∨
  (∃ i, e = nI i ∧ l ≤ i ∧ i < n ∧ S i = s ∧ (∀ j, l ≤ j → j < i → ¬ L j = 0 → ¬ S j = s) ∧ (i < c → ¬ L i = 0 ∨ c < T i))
theorem ch_Ch_0 {S L bf af fo lo : Nat → Int32} {n c s : Nat} {T : Nat → Nat} (K : ch_LK S L bf af fo lo n T) (hc : c ≤ n) (hs : s < 8) : ch_Ch S L n T c (nI s) 0 (fo s) := by
  rcases K.1 s hs with ⟨e, h⟩ | ⟨i, e, hl, hn, a, b, h⟩
  · exact Or.inl ⟨e, fun j x y => h j x (by omega)⟩
  · exact Or.inr ⟨i, e, hl, hn, b, h, fun _ => Or.inl a⟩
theorem ch_Ch_s {S L bf af fo lo : Nat → Int32} {n c i : Nat} {T : Nat → Nat} (K : ch_LK S L bf af fo lo n T) (hc : c ≤ n) (hi : i < c)
    (hx : ¬ L i = 0 ∨ c < T i) : ch_Ch S L n T c (S i) (i + 1) (af i) := by
  rcases Classical.em (L i = 0) with z | z
  · have hT : c < T i := hx.resolve_left (fun q => q z)
    rcases (K.2.2.2.2 i (by omega) z).2 with ⟨e, h⟩ | ⟨k, e, h1, h2, h3, h4, h5⟩
    · refine Or.inl ⟨e, fun j x y w v => ?_⟩
      have := h j (by omega) (by omega) w v
      omega
    · refine Or.inr ⟨k, e, h1, h2, h3, fun j x y => h4 j x y, fun _ => ?_⟩
      rcases h5 with h5 | h5
      · exact Or.inl h5
      · exact Or.inr (by omega)
  · rcases K.2.2.1 i (by omega) z with ⟨e, h⟩ | ⟨k, e, h1, h2, h3, h4, h5⟩
    · exact Or.inl ⟨e, fun j x y => h j x (by omega)⟩
    · exact Or.inr ⟨k, e, h1, h2, h4, h5, fun _ => Or.inl h3⟩
def ch_kfo (fo : Nat → Int32) (s : Nat) (p q : Int32) : Nat → Int32 := if p = -1 then upd fo s q else fo
def ch_kaf (af : Nat → Int32) (p q : Int32) : Nat → Int32 := if p = -1 then af else upd af p.toNatClampNeg q
def ch_klo (lo : Nat → Int32) (s : Nat) (p q : Int32) : Nat → Int32 := if q = -1 then upd lo s p else lo
def ch_kbf (bf : Nat → Int32) (p q : Int32) : Nat → Int32 := if q = -1 then bf else upd bf q.toNatClampNeg p
theorem ch_d_iff {L : Nat → Int32} {x j : Nat} : ¬ upd L x 0 j = 0 ↔ ¬ L j = 0 ∧ j ≠ x := by
  by_cases e : j = x
  · rw [e, ch_upd_s]; exact ⟨fun z => absurd rfl z, fun z => absurd rfl z.2⟩
  · rw [ch_upd_n e]; exact ⟨fun z => ⟨z, e⟩, fun z => z.1⟩
/-- taking an alive id out of its list -/
theorem ch_kill {S L bf af fo lo : Nat → Int32} {n x s : Nat} {T : Nat → Nat} (K : ch_LK S L bf af fo lo n T) (hn : n < 2 ^ 30) (hx : x < n) (ax : ¬ L x = 0)
    (hs : s < 8) (es : S x = nI s) :
    ch_LK S (upd L x 0) (ch_kbf bf (bf x) (af x)) (ch_kaf af (bf x) (af x)) (ch_kfo fo s (bf x) (af x)) (ch_klo lo s (bf x) (af x)) n (fun i => if i = x then n else T i) := by
  have hp := K.2.2.2.1 x hx ax
  have hq := K.2.2.1 x hx ax
  rw [es] at hp hq
  have sne : ∀ t, t < 8 → t ≠ s → ¬ (nI s : Int32) = nI t := fun t ht ne z => ne ((nI_eq (by omega) (by omega)).mp z).symm
  refine ⟨?_, ?_, ?_, ?_, ?_⟩
  · intro t ht
    by_cases ts : t = s
    · subst ts
      rcases hp with ⟨ep, hp⟩ | ⟨p, ep, p1, p2, p3, p4⟩
      · have e : ch_kfo fo t (bf x) (af x) t = af x := by unfold ch_kfo; rw [if_pos ep, ch_upd_s]
        rw [e]
        rcases hq with ⟨eq, hq⟩ | ⟨q, eq, q1, q2, q3, q4, q5⟩
        · refine Or.inl ⟨eq, fun j _ hj a => ?_⟩
          have a' := ch_d_iff.mp a
          rcases Nat.lt_trichotomy j x with z | z | z
          · exact hp j z a'.1
          · exact absurd z a'.2
          · exact hq j z hj a'.1
        · refine Or.inr ⟨q, eq, Nat.zero_le _, q2, ch_d_iff.mpr ⟨q3, by omega⟩, q4, fun j _ hj a => ?_⟩
          have a' := ch_d_iff.mp a
          rcases Nat.lt_trichotomy j x with z | z | z
          · exact hp j z a'.1
          · exact absurd z a'.2
          · exact q5 j z hj a'.1
      · have e : ch_kfo fo t (bf x) (af x) t = fo t := by unfold ch_kfo; rw [ep, if_neg (ch_m1 (by omega))]
        rw [e]
        rcases K.1 t ht with ⟨e1, h⟩ | ⟨i, e1, i1, i2, i3, i4, i5⟩
        · exact absurd p3 (h p (Nat.zero_le _) (by omega) p2)
        · have : ¬ p < i := fun z => i5 p (Nat.zero_le _) z p2 p3
          exact Or.inr ⟨i, e1, i1, i2, ch_d_iff.mpr ⟨i3, by omega⟩, i4, fun j a b d => i5 j a b (ch_d_iff.mp d).1⟩
    · have e : ch_kfo fo s (bf x) (af x) t = fo t := by
        unfold ch_kfo
        by_cases z : bf x = -1
        · rw [if_pos z, ch_upd_n ts]
        · rw [if_neg z]
      rw [e]
      rcases K.1 t ht with ⟨e1, h⟩ | ⟨i, e1, i1, i2, i3, i4, i5⟩
      · exact Or.inl ⟨e1, fun j a b d => h j a b (ch_d_iff.mp d).1⟩
      · refine Or.inr ⟨i, e1, i1, i2, ch_d_iff.mpr ⟨i3, fun z => ?_⟩, i4, fun j a b d => i5 j a b (ch_d_iff.mp d).1⟩
        subst z
        exact sne t ht ts (es.symm.trans i4)
  · intro t ht
    by_cases ts : t = s
    · subst ts
      rcases hq with ⟨eq, hq⟩ | ⟨q, eq, q1, q2, q3, q4, q5⟩
      · have e : ch_klo lo t (bf x) (af x) t = bf x := by unfold ch_klo; rw [if_pos eq, ch_upd_s]
        rw [e]
        rcases hp with ⟨ep, hp⟩ | ⟨p, ep, p1, p2, p3, p4⟩
        · refine Or.inl ⟨ep, fun j hj a => ?_⟩
          have a' := ch_d_iff.mp a
          rcases Nat.lt_trichotomy j x with z | z | z
          · exact hp j z a'.1
          · exact absurd z a'.2
          · exact hq j z hj a'.1
        · refine Or.inr ⟨p, ep, by omega, ch_d_iff.mpr ⟨p2, by omega⟩, p3, fun j hpj hj a => ?_⟩
          have a' := ch_d_iff.mp a
          rcases Nat.lt_trichotomy j x with z | z | z
          · exact p4 j hpj z a'.1
          · exact absurd z a'.2
          · exact hq j z hj a'.1
      · have e : ch_klo lo t (bf x) (af x) t = lo t := by unfold ch_klo; rw [eq, if_neg (ch_m1 (by omega))]
        rw [e]
        rcases K.2.1 t ht with ⟨e1, h⟩ | ⟨i, e1, i2, i3, i4, i5⟩
        · exact absurd q4 (h q q2 q3)
        · have : ¬ i < q := fun z => i5 q z q2 q3 q4
          exact Or.inr ⟨i, e1, i2, ch_d_iff.mpr ⟨i3, by omega⟩, i4, fun j a b d => i5 j a b (ch_d_iff.mp d).1⟩
    · have e : ch_klo lo s (bf x) (af x) t = lo t := by
        unfold ch_klo
        by_cases z : af x = -1
        · rw [if_pos z, ch_upd_n ts]
        · rw [if_neg z]
      rw [e]
      rcases K.2.1 t ht with ⟨e1, h⟩ | ⟨i, e1, i2, i3, i4, i5⟩
      · exact Or.inl ⟨e1, fun j b d => h j b (ch_d_iff.mp d).1⟩
      · refine Or.inr ⟨i, e1, i2, ch_d_iff.mpr ⟨i3, fun z => ?_⟩, i4, fun j a b d => i5 j a b (ch_d_iff.mp d).1⟩
        subst z
        exact sne t ht ts (es.symm.trans i4)
  · intro i hi ai
    have am := (ch_d_iff.mp ai).1
    have ix := (ch_d_iff.mp ai).2
    clear ai
    have gen : (∀ p, bf x = nI p → p < x → ¬ L p = 0 → S p = nI s → (∀ j, p < j → j < x → ¬ L j = 0 → ¬ S j = nI s) → i ≠ p) → ch_Nx S (upd L x 0) n (S i) (i + 1) (af i) := by
      intro np
      rcases K.2.2.1 i hi am with ⟨e1, h⟩ | ⟨k, e1, k1, k2, k3, k4, k5⟩
      · exact Or.inl ⟨e1, fun j a b d => h j a b (ch_d_iff.mp d).1⟩
      · refine Or.inr ⟨k, e1, k1, k2, ch_d_iff.mpr ⟨k3, fun z => ?_⟩, k4, fun j a b d => k5 j a b (ch_d_iff.mp d).1⟩
        subst z
        have si : S i = nI s := k4.symm.trans es
        rcases hp with ⟨ep, hp⟩ | ⟨p, ep, p1, p2, p3, p4⟩
        · exact hp i (by omega) am si
        · have h1 : ¬ p < i := fun z => p4 i z (by omega) am si
          have h2 : ¬ i < p := fun z => k5 p z p1 p2 (p3.trans si.symm)
          exact np p ep p1 p2 p3 p4 (by omega)
    rcases hp with ⟨ep, hp'⟩ | ⟨p, ep, p1, p2, p3, p4⟩
    · have e : ch_kaf af (bf x) (af x) i = af i := by unfold ch_kaf; rw [if_pos ep]
      rw [e]
      exact gen (fun p z h1 => absurd (ep.symm.trans z).symm (ch_m1 (by omega)))
    · by_cases ip : i = p
      · subst ip
        have e : ch_kaf af (bf x) (af x) i = af x := by
          unfold ch_kaf
          rw [if_neg (by rw [ep]; exact ch_m1 (by omega)), ep, nI_clamp (by omega), ch_upd_s]
        rw [e, p3]
        rcases hq with ⟨eq, hq⟩ | ⟨q, eq, q1, q2, q3, q4, q5⟩
        · refine Or.inl ⟨eq, fun j hl hj a => ?_⟩
          have a' := ch_d_iff.mp a
          rcases Nat.lt_trichotomy j x with z | z | z
          · exact p4 j hl z a'.1
          · exact absurd z a'.2
          · exact hq j z hj a'.1
        · refine Or.inr ⟨q, eq, by omega, q2, ch_d_iff.mpr ⟨q3, by omega⟩, q4, fun j hl hj a => ?_⟩
          have a' := ch_d_iff.mp a
          rcases Nat.lt_trichotomy j x with z | z | z
          · exact p4 j hl z a'.1
          · exact absurd z a'.2
          · exact q5 j z hj a'.1
      · have e : ch_kaf af (bf x) (af x) i = af i := by
          unfold ch_kaf
          rw [if_neg (by rw [ep]; exact ch_m1 (by omega)), ep, nI_clamp (by omega), ch_upd_n ip]
        rw [e]
        refine gen (fun p' e' h1 h2 h3 h4 => ?_)
        have : p' = p := (nI_eq (by omega) (by omega)).mp (e'.symm.trans ep)
        omega
  · intro i hi ai
    have am := (ch_d_iff.mp ai).1
    have ix := (ch_d_iff.mp ai).2
    clear ai
    have gen : (∀ q, af x = nI q → x < q → q < n → ¬ L q = 0 → S q = nI s → i ≠ q) → ch_Pv S (upd L x 0) (S i) i (bf i) := by
      intro nq
      rcases K.2.2.2.1 i hi am with ⟨e1, h⟩ | ⟨k, e1, k1, k3, k4, k5⟩
      · exact Or.inl ⟨e1, fun j b d => h j b (ch_d_iff.mp d).1⟩
      · refine Or.inr ⟨k, e1, k1, ch_d_iff.mpr ⟨k3, fun z => ?_⟩, k4, fun j a b d => k5 j a b (ch_d_iff.mp d).1⟩
        subst z
        have si : S i = nI s := k4.symm.trans es
        rcases hq with ⟨eq, hq⟩ | ⟨q, eq, q1, q2, q3, q4, q5⟩
        · exact hq i (by omega) hi am si
        · have h1 : ¬ i < q := fun z => q5 i (by omega) z am si
          have h2 : ¬ q < i := fun z => k5 q (by omega) z q3 (q4.trans si.symm)
          exact nq q eq (by omega) q2 q3 q4 (by omega)
    rcases hq with ⟨eq, hq'⟩ | ⟨q, eq, q1, q2, q3, q4, q5⟩
    · have e : ch_kbf bf (bf x) (af x) i = bf i := by unfold ch_kbf; rw [if_pos eq]
      rw [e]
      exact gen (fun q z _ h2 => absurd (eq.symm.trans z).symm (ch_m1 (by omega)))
    · by_cases iq : i = q
      · subst iq
        have e : ch_kbf bf (bf x) (af x) i = bf x := by
          unfold ch_kbf
          rw [if_neg (by rw [eq]; exact ch_m1 (by omega)), eq, nI_clamp (by omega), ch_upd_s]
        rw [e, q4]
        rcases hp with ⟨ep, hp⟩ | ⟨p, ep, p1, p2, p3, p4⟩
        · refine Or.inl ⟨ep, fun j hj a => ?_⟩
          have a' := ch_d_iff.mp a
          rcases Nat.lt_trichotomy j x with z | z | z
          · exact hp j z a'.1
          · exact absurd z a'.2
          · exact q5 j z hj a'.1
        · refine Or.inr ⟨p, ep, by omega, ch_d_iff.mpr ⟨p2, by omega⟩, p3, fun j hl hj a => ?_⟩
          have a' := ch_d_iff.mp a
          rcases Nat.lt_trichotomy j x with z | z | z
          · exact p4 j hl z a'.1
          · exact absurd z a'.2
          · exact q5 j z hj a'.1
      · have e : ch_kbf bf (bf x) (af x) i = bf i := by
          unfold ch_kbf
          rw [if_neg (by rw [eq]; exact ch_m1 (by omega)), eq, nI_clamp (by omega), ch_upd_n iq]
        rw [e]
        refine gen (fun q' e' h1 h2 h3 h4 => ?_)
        have : q' = q := (nI_eq (by omega) (by omega)).mp (e'.symm.trans eq)
        omega
  · intro i hi di
    have eaf : (L i = 0 ∨ i = x) → ch_kaf af (bf x) (af x) i = af i := by
      intro hh
      unfold ch_kaf
      rcases hp with ⟨ep, hp⟩ | ⟨p, ep, p1, p2, p3, p4⟩
      · rw [if_pos ep]
      · rw [if_neg (by rw [ep]; exact ch_m1 (by omega)), ep, nI_clamp (by omega), ch_upd_n]
        intro z
        rcases hh with hh | hh
        · exact p2 (z ▸ hh)
        · omega
    by_cases ix : i = x
    · subst ix
      rw [eaf (Or.inr rfl)]
      refine ⟨Nat.le_of_eq (if_pos rfl), ?_⟩
      rcases hq with ⟨eq, hq⟩ | ⟨q, eq, q1, q2, q3, q4, q5⟩
      · refine Or.inl ⟨eq, fun j h1 h2 h3 h4 => ?_⟩
        exact absurd (h4.trans es) (hq j h1 h2 (ch_d_iff.mp h3).1)
      · refine Or.inr ⟨q, eq, q1, q2, q4.trans es.symm, fun j h1 h2 h3 => ?_, Or.inl (ch_d_iff.mpr ⟨q3, by omega⟩)⟩
        rw [es]
        exact q5 j h1 h2 (ch_d_iff.mp h3).1
    · have di' : L i = 0 := by rwa [ch_upd_n ix] at di
      rw [eaf (Or.inl di')]
      obtain ⟨t1, t2⟩ := K.2.2.2.2 i hi di'
      refine ⟨Nat.le_trans (Nat.le_of_eq (if_neg ix)) t1, ?_⟩
      have eT : (if i = x then n else T i) = T i := if_neg ix
      rcases t2 with ⟨e1, h⟩ | ⟨k, e1, k1, k2, k3, k4, k5⟩
      · refine Or.inl ⟨e1, fun j h1 h2 h3 h4 => ?_⟩
        show (if i = x then n else T i) ≤ j
        rw [eT]
        exact h j h1 h2 (ch_d_iff.mp h3).1 h4
      · refine Or.inr ⟨k, e1, k1, k2, k3, fun j h1 h2 h3 => k4 j h1 h2 (ch_d_iff.mp h3).1, ?_⟩
        by_cases kx : k = x
        · refine Or.inr ?_
          show (if i = x then n else T i) ≤ (if k = x then n else T k)
          rw [eT, if_pos kx]; exact t1
        · rcases k5 with k5 | k5
          · exact Or.inl (ch_d_iff.mpr ⟨k5, kx⟩)
          · refine Or.inr ?_
            show (if i = x then n else T i) ≤ (if k = x then n else T k)
            rw [eT, if_neg kx]; exact k5
def ch_efo (fo : Nat → Int32) (s n : Nat) (l : Int32) : Nat → Int32 := if l = -1 then upd fo s (nI n) else fo
def ch_eaf (af : Nat → Int32) (n : Nat) (l : Int32) : Nat → Int32 := if l = -1 then upd af n (-1) else upd (upd af n (-1)) l.toNatClampNeg (nI n)
/-- a new id at the end of its list -/
theorem ch_enter {S L bf af fo lo : Nat → Int32} {n s : Nat} {T : Nat → Nat} (K : ch_LK S L bf af fo lo n T) (hn : n < 2 ^ 30) (hs : s < 8) :
    ch_LK (upd S n (nI s)) (upd L n 1) (upd bf n (lo s)) (ch_eaf af n (lo s)) (ch_efo fo s n (lo s)) (upd lo s (nI n)) (n + 1) T := by
  have sne : ∀ t, t < 8 → t ≠ s → ¬ (nI s : Int32) = nI t := fun t ht ne z => ne ((nI_eq (by omega) (by omega)).mp z).symm
  have hl := K.2.1 s hs
  have eL : ∀ j, j < n → upd L n 1 j = L j := fun j hj => ch_upd_n (by omega)
  have eS : ∀ j, j < n → upd S n (nI s) j = S j := fun j hj => ch_upd_n (by omega)
  have nL : ¬ upd L n 1 n = 0 := by rw [ch_upd_s]; decide
  have nS : upd S n (nI s) n = nI s := ch_upd_s
  have up : ∀ {P : Nat → Prop} {j : Nat}, j < n + 1 → (j < n → P j) → P n → P j := by
    intro P j h1 h2 h3
    rcases Nat.lt_or_ge j n with z | z
    · exact h2 z
    · rw [show j = n by omega]; exact h3
  refine ⟨?_, ?_, ?_, ?_, ?_⟩
  · intro t ht
    by_cases ts : t = s
    · subst ts
      rcases hl with ⟨el, hl⟩ | ⟨p, el, p1, p2, p3, p4⟩
      · have e : ch_efo fo t n (lo t) t = nI n := by unfold ch_efo; rw [if_pos el, ch_upd_s]
        rw [e]
        refine Or.inr ⟨n, rfl, Nat.zero_le _, by omega, nL, nS, fun j _ hj => ?_⟩
        rw [eL j hj, eS j hj]
        exact hl j hj
      · have e : ch_efo fo t n (lo t) t = fo t := by unfold ch_efo; rw [el, if_neg (ch_m1 (by omega))]
        rw [e]
        rcases K.1 t ht with ⟨e1, h⟩ | ⟨i, e1, i1, i2, i3, i4, i5⟩
        · exact absurd p3 (h p (Nat.zero_le _) p1 p2)
        · refine Or.inr ⟨i, e1, i1, by omega, by rw [eL i i2]; exact i3, by rw [eS i i2]; exact i4, fun j a b => ?_⟩
          rw [eL j (by omega), eS j (by omega)]
          exact i5 j a b
    · have e : ch_efo fo s n (lo s) t = fo t := by
        unfold ch_efo
        by_cases z : lo s = -1
        · rw [if_pos z, ch_upd_n ts]
        · rw [if_neg z]
      rw [e]
      rcases K.1 t ht with ⟨e1, h⟩ | ⟨i, e1, i1, i2, i3, i4, i5⟩
      · refine Or.inl ⟨e1, fun j a b => up (P := fun j => ¬ upd L n 1 j = 0 → ¬ upd S n (nI s) j = nI t) b (fun hj => ?_) (fun _ => by rw [nS]; exact sne t ht ts)⟩
        show ¬ upd L n 1 j = 0 → ¬ upd S n (nI s) j = nI t
        rw [eL j hj, eS j hj]
        exact h j a hj
      · refine Or.inr ⟨i, e1, i1, by omega, by rw [eL i i2]; exact i3, by rw [eS i i2]; exact i4, fun j a b => ?_⟩
        rw [eL j (by omega), eS j (by omega)]
        exact i5 j a b
  · intro t ht
    by_cases ts : t = s
    · subst ts
      rw [ch_upd_s]
      exact Or.inr ⟨n, rfl, by omega, nL, nS, fun j a b => by omega⟩
    · rw [ch_upd_n ts]
      rcases K.2.1 t ht with ⟨e1, h⟩ | ⟨i, e1, i2, i3, i4, i5⟩
      · refine Or.inl ⟨e1, fun j b => up (P := fun j => ¬ upd L n 1 j = 0 → ¬ upd S n (nI s) j = nI t) b (fun hj => ?_) (fun _ => by rw [nS]; exact sne t ht ts)⟩
        show ¬ upd L n 1 j = 0 → ¬ upd S n (nI s) j = nI t
        rw [eL j hj, eS j hj]
        exact h j hj
      · refine Or.inr ⟨i, e1, by omega, by rw [eL i i2]; exact i3, by rw [eS i i2]; exact i4, fun j a b => up (P := fun j => ¬ upd L n 1 j = 0 → ¬ upd S n (nI s) j = nI t) b (fun hj => ?_) (fun _ => by rw [nS]; exact sne t ht ts)⟩
        show ¬ upd L n 1 j = 0 → ¬ upd S n (nI s) j = nI t
        rw [eL j hj, eS j hj]
        exact i5 j a hj
  · intro i hi ai
    by_cases ei : i = n
    · subst ei
      have e : ch_eaf af i (lo s) i = -1 := by
        unfold ch_eaf
        rcases hl with ⟨el, hl⟩ | ⟨p, el, p1, p2, p3, p4⟩
        · rw [if_pos el, ch_upd_s]
        · rw [el, if_neg (ch_m1 (by omega)), nI_clamp (by omega), ch_upd_n (by omega), ch_upd_s]
      rw [e]
      exact Or.inl ⟨rfl, fun j a b => by omega⟩
    · have hi' : i < n := by omega
      rw [eL i hi'] at ai
      rw [eS i hi']
      have gen : (S i = nI s → ∃ p, i < p ∧ p < n ∧ ¬ L p = 0 ∧ S p = nI s) → ch_Nx (upd S n (nI s)) (upd L n 1) (n + 1) (S i) (i + 1) (af i) := by
        intro g
        rcases K.2.2.1 i hi' ai with ⟨e1, h⟩ | ⟨k, e1, k1, k2, k3, k4, k5⟩
        · refine Or.inl ⟨e1, fun j a b => up (P := fun j => ¬ upd L n 1 j = 0 → ¬ upd S n (nI s) j = S i) b (fun hj => ?_) (fun _ z => ?_)⟩
          · show ¬ upd L n 1 j = 0 → ¬ upd S n (nI s) j = S i
            rw [eL j hj, eS j hj]
            exact h j a hj
          · rw [nS] at z
            obtain ⟨p, p1, p2, p3, p4⟩ := g z.symm
            exact h p p1 p2 p3 (p4.trans z)
        · refine Or.inr ⟨k, e1, k1, by omega, by rw [eL k k2]; exact k3, by rw [eS k k2]; exact k4, fun j a b => ?_⟩
          rw [eL j (by omega), eS j (by omega)]
          exact k5 j a b
      rcases hl with ⟨el, hl⟩ | ⟨p, el, p1, p2, p3, p4⟩
      · have e : ch_eaf af n (lo s) i = af i := by unfold ch_eaf; rw [if_pos el, ch_upd_n ei]
        rw [e]
        exact gen (fun z => absurd z (hl i hi' ai))
      · by_cases ip : i = p
        · subst ip
          have e : ch_eaf af n (lo s) i = nI n := by
            unfold ch_eaf
            rw [el, if_neg (ch_m1 (by omega)), nI_clamp (by omega), ch_upd_s]
          rw [e]
          refine Or.inr ⟨n, rfl, by omega, by omega, nL, by rw [nS, p3], fun j a b => ?_⟩
          rw [eL j b, eS j b, p3]
          exact p4 j a b
        · have e : ch_eaf af n (lo s) i = af i := by
            unfold ch_eaf
            rw [el, if_neg (ch_m1 (by omega)), nI_clamp (by omega), ch_upd_n ip, ch_upd_n ei]
          rw [e]
          refine gen (fun z => ⟨p, ?_, p1, p2, p3⟩)
          have : ¬ p < i := fun q => p4 i q hi' ai z
          omega
  · intro i hi ai
    have low : ∀ m, m ≤ n → ∀ (t e : Int32), ch_Pv S L t m e → ch_Pv (upd S n (nI s)) (upd L n 1) t m e := by
      intro m hm t e h
      rcases h with ⟨e1, h⟩ | ⟨k, e1, k1, k3, k4, k5⟩
      · refine Or.inl ⟨e1, fun j b => ?_⟩
        rw [eL j (by omega), eS j (by omega)]
        exact h j b
      · refine Or.inr ⟨k, e1, k1, by rw [eL k (by omega)]; exact k3, by rw [eS k (by omega)]; exact k4, fun j a b => ?_⟩
        rw [eL j (by omega), eS j (by omega)]
        exact k5 j a b
    by_cases ei : i = n
    · subst ei
      rw [ch_upd_s, ch_upd_s]
      exact low i (Nat.le_refl _) _ _ hl
    · have hi' : i < n := by omega
      rw [eL i hi'] at ai
      rw [eS i hi', ch_upd_n ei]
      exact low i (by omega) _ _ (K.2.2.2.1 i hi' ai)
  · intro i hi di
    have ei : i ≠ n := fun z => nL (z ▸ di)
    have hi' : i < n := by omega
    rw [eL i hi'] at di
    obtain ⟨t1, t2⟩ := K.2.2.2.2 i hi' di
    have e : ch_eaf af n (lo s) i = af i := by
      unfold ch_eaf
      rcases hl with ⟨el, hl⟩ | ⟨p, el, p1, p2, p3, p4⟩
      · rw [if_pos el, ch_upd_n ei]
      · rw [el, if_neg (ch_m1 (by omega)), nI_clamp (by omega), ch_upd_n (show i ≠ p from fun z => p2 (z ▸ di)), ch_upd_n ei]
    refine ⟨by omega, ?_⟩
    rw [e]
    rcases t2 with ⟨e1, h⟩ | ⟨k, e1, k1, k2, k3, k4, k5⟩
    · refine Or.inl ⟨e1, fun j h1 h2 h3 h4 => ?_⟩
      rcases Nat.lt_or_ge j n with z | z
      · rw [eL j z] at h3
        rw [eS j z, eS i hi'] at h4
        exact h j h1 z h3 h4
      · omega
    · refine Or.inr ⟨k, e1, k1, by omega, by rw [eS k k2, eS i hi']; exact k3, fun j h1 h2 => ?_, ?_⟩
      · rw [eL j (by omega), eS j (by omega), eS i hi']
        exact k4 j h1 h2
      · rw [eL k k2]; exact k5
theorem ch_LK_0 {S L bf af fo lo : Nat → Int32} {T : Nat → Nat} (h : ∀ s, s < 8 → fo s = -1 ∧ lo s = -1) : ch_LK S L bf af fo lo 0 T :=
  ⟨fun s hs => Or.inl ⟨(h s hs).1, fun j _ b => by omega⟩, fun s hs => Or.inl ⟨(h s hs).2, fun j b => by omega⟩,
   fun i hi => by omega, fun i hi => by omega, fun i hi => by omega⟩
end
section
def ch_ix (h : Nat) (c f : Int32) : Int32 := if h = 0 then c else f
def ch_iy (h : Nat) (c f s : Int32) : Int32 := if h = 0 then f else if h = 1 then c else s
def ch_iz (h : Nat) (c s : Int32) : Int32 := if h = 2 then c else s
def ch_fh (h : Nat) : Nat := if h = 0 then 1 else 0
def ch_sh (h : Nat) : Nat := if h = 2 then 1 else 2
theorem ch_fs {h : Nat} (hh : h < 3) : (h = 0 ∧ ch_fh h = 1 ∧ ch_sh h = 2) ∨ (h = 1 ∧ ch_fh h = 0 ∧ ch_sh h = 2) ∨ (h = 2 ∧ ch_fh h = 0 ∧ ch_sh h = 1) := by
  have : h = 0 ∨ h = 1 ∨ h = 2 := by omega
  rcases this with rfl | rfl | rfl
  · exact Or.inl ⟨rfl, rfl, rfl⟩
  · exact Or.inr (Or.inl ⟨rfl, rfl, rfl⟩)
  · exact Or.inr (Or.inr ⟨rfl, rfl, rfl⟩)
theorem ch_ti {h : Nat} (hh : h < 3) (c f s : Int32) :
    ch_t3 (ch_ix h c f) (ch_iy h c f s) (ch_iz h c s) h = c ∧ ch_t3 (ch_ix h c f) (ch_iy h c f s) (ch_iz h c s) (ch_fh h) = f ∧ ch_t3 (ch_ix h c f) (ch_iy h c f s) (ch_iz h c s) (ch_sh h) = s := by
  have : h = 0 ∨ h = 1 ∨ h = 2 := by omega
  rcases this with rfl | rfl | rfl
  · exact ⟨rfl, rfl, rfl⟩
  · exact ⟨rfl, rfl, rfl⟩
  · exact ⟨rfl, rfl, rfl⟩
theorem ch_all3 {Q : Nat → Prop} {h m : Nat} (hh : h < m) (h3 : m ≤ 3) : (∀ i, i < m → Q i) ↔ Q h ∧ (ch_fh h < m → Q (ch_fh h)) ∧ (ch_sh h < m → Q (ch_sh h)) := by
  have H := ch_fs (h := h) (by omega)
  constructor
  · exact fun z => ⟨z h hh, z _, z _⟩
  · rintro ⟨a, b, c⟩ i hi
    have : i = h ∨ i = ch_fh h ∨ i = ch_sh h := by omega
    rcases this with e | e | e
    · rw [e]; exact a
    · rw [e]; exact b (e ▸ hi)
    · rw [e]; exact c (e ▸ hi)
theorem ch_out3 {Q : Nat → Prop} {h m : Nat} (hh : h < m) (h3 : m ≤ 3) : (∀ i, m ≤ i → i < 3 → Q i) ↔ (m ≤ ch_fh h → Q (ch_fh h)) ∧ (m ≤ ch_sh h → Q (ch_sh h)) := by
  have H := ch_fs (h := h) (by omega)
  constructor
  · exact fun z => ⟨fun q => z _ q (by omega), fun q => z _ q (by omega)⟩
  · rintro ⟨b, c⟩ i hi i3
    have : i = ch_fh h ∨ i = ch_sh h := by omega
    rcases this with e | e
    · rw [e]; exact b (e ▸ hi)
    · rw [e]; exact c (e ▸ hi)
theorem ch_dis3 {t : Nat → Int32} {h m : Nat} (hh : h < m) (h3 : m ≤ 3) : (∀ i j, i < j → j < m → ¬ t i = t j) ↔
    (ch_fh h < m → ¬ t h = t (ch_fh h)) ∧ (ch_sh h < m → ¬ t h = t (ch_sh h)) ∧ (ch_sh h < m → ¬ t (ch_fh h) = t (ch_sh h)) := by
  have H := ch_fs (h := h) (by omega)
  constructor
  · intro z
    have z2 : ∀ i j, i ≠ j → i < m → j < m → ¬ t i = t j := by
      intro i j ne h1 h2 e
      rcases Nat.lt_or_ge i j with q | q
      · exact z i j q h2 e
      · exact z j i (by omega) h1 e.symm
    exact ⟨fun q => z2 _ _ (by omega) hh q, fun q => z2 _ _ (by omega) hh q, fun q => z2 _ _ (by omega) (by omega) q⟩
  · rintro ⟨a, b, c⟩ i j ij jm e
    have : (i = h ∧ j = ch_fh h) ∨ (j = h ∧ i = ch_fh h) ∨ (i = h ∧ j = ch_sh h) ∨ (j = h ∧ i = ch_sh h) ∨ (i = ch_fh h ∧ j = ch_sh h) := by omega
    rcases this with ⟨e1, e2⟩ | ⟨e1, e2⟩ | ⟨e1, e2⟩ | ⟨e1, e2⟩ | ⟨e1, e2⟩
    · subst e1; rw [e2] at e; exact a (by omega) e
    · subst e1; rw [e2] at e; exact a (by omega) e.symm
    · subst e1; rw [e2] at e; exact b (by omega) e
    · subst e1; rw [e2] at e; exact b (by omega) e.symm
    · rw [e1, e2] at e; exact c (by omega) e
section
variable {R S A B L G : Nat → Int32} {n lg nc c r h f s : Nat}
def ch_PX (R S A B L G : Nat → Int32) (n lg c r h f s : Nat) : Prop :=
  ch_Ap R S A B L G n lg r (ch_ix h (nI c) (ch_cd f)) (ch_iy h (nI c) (ch_cd f) (ch_cd s)) (ch_iz h (nI c) (ch_cd s))
/-- nothing that lies before (r, h, f, s) is applicable -/
def ch_NB (R S A B L G : Nat → Int32) (n lg nc c r h f s : Nat) : Prop := ∀ r' h' f' s', r' < nc → h' < ch_nh (ch_bl R r') → f' ≤ c → s' ≤ c →
  (r' < r ∨ (r' = r ∧ (h' < h ∨ (h' = h ∧ (f' < f ∨ (f' = f ∧ s' < s)))))) → ¬ ch_PX R S A B L G n lg c r' h' f' s'
theorem ch_NB_0 : ch_NB R S A B L G n lg nc c 0 0 0 0 := fun r' h' f' s' _ _ _ _ z => by omega
theorem ch_NB_ss {s2 : Nat} (N : ch_NB R S A B L G n lg nc c r h f s) (x : ∀ s', s ≤ s' → s' < s2 → s' ≤ c → ¬ ch_PX R S A B L G n lg c r h f s') :
    ch_NB R S A B L G n lg nc c r h f s2 := by
  intro r' h' f' s' a b d e lt
  by_cases z : r' = r ∧ h' = h ∧ f' = f ∧ s ≤ s'
  · obtain ⟨rfl, rfl, rfl, hs⟩ := z
    exact x s' hs (by omega) e
  · exact N r' h' f' s' a b d e (by omega)
theorem ch_NB_ff {f2 : Nat} (N : ch_NB R S A B L G n lg nc c r h f s) (x : ∀ f' s', f ≤ f' → f' < f2 → f' ≤ c → s' ≤ c → (f' = f → s ≤ s') → ¬ ch_PX R S A B L G n lg c r h f' s') :
    ch_NB R S A B L G n lg nc c r h f2 0 := by
  intro r' h' f' s' a b d e lt
  by_cases z : r' = r ∧ h' = h ∧ (f < f' ∨ f = f' ∧ s ≤ s')
  · obtain ⟨rfl, rfl, hs⟩ := z
    exact x f' s' (by omega) (by omega) d e (by omega)
  · exact N r' h' f' s' a b d e (by omega)
theorem ch_NB_h (N : ch_NB R S A B L G n lg nc c r h f s) (x : ∀ f' s', f ≤ f' → f' ≤ c → s' ≤ c → (f' = f → s ≤ s') → ¬ ch_PX R S A B L G n lg c r h f' s') :
    ch_NB R S A B L G n lg nc c r (h + 1) 0 0 := by
  intro r' h' f' s' a b d e lt
  by_cases z : r' = r ∧ h' = h ∧ (f < f' ∨ f = f' ∧ s ≤ s')
  · obtain ⟨rfl, rfl, hs⟩ := z
    exact x f' s' (by omega) d e (by omega)
  · exact N r' h' f' s' a b d e (by omega)
theorem ch_NB_r (N : ch_NB R S A B L G n lg nc c r h f s) (hh : ch_nh (ch_bl R r) ≤ h) : ch_NB R S A B L G n lg nc c (r + 1) 0 0 0 := by
  intro r' h' f' s' a b d e lt
  refine N r' h' f' s' a b d e ?_
  rcases Nat.lt_or_ge r' r with z | z
  · exact Or.inl z
  · have z : r' = r := by omega
    subst z
    exact Or.inr ⟨rfl, Or.inl (by omega)⟩
theorem ch_Al_cd {a : Nat} (hn : n < 2 ^ 30) (ha : a < 2 ^ 30) : ch_Al L n (ch_cd a) ↔ 1 ≤ a ∧ a ≤ n ∧ ¬ L (a - 1) = 0 := by
  constructor
  · rintro ⟨i, hi, e, q⟩
    have := (ch_cdN (by omega) (by omega)).mp e
    subst this
    exact ⟨by omega, by omega, q⟩
  · rintro ⟨h1, h2, q⟩
    exact ⟨a - 1, by omega, (ch_cdN (by omega) (by omega)).mpr (by omega), q⟩
theorem ch_Al_nI (hn : n < 2 ^ 30) (hc : c < 2 ^ 30) : ch_Al L n (nI c) ↔ c < n ∧ ¬ L c = 0 := by
  constructor
  · rintro ⟨i, hi, e, q⟩
    have := (nI_eq (by omega) (by omega)).mp e
    subst this
    exact ⟨hi, q⟩
  · rintro ⟨h1, q⟩
    exact ⟨c, h1, rfl, q⟩
theorem ch_cl_cd {a : Nat} (h1 : 1 ≤ a) (ha : a < 2 ^ 30) : (ch_cd a).toNatClampNeg = a - 1 := by
  have e : ch_cd a = nI (a - 1) := (ch_cdN (by omega) (by omega)).mpr (by omega)
  rw [e, nI_clamp (by omega)]
/-- ids in place with c at head h, taken apart -/
theorem ch_Id_iff {K : Nat → Int32} (hc : c < 2 ^ 30) (hn : n < 2 ^ 30) (hf : f < 2 ^ 30) (hs : s < 2 ^ 30) (hh : h < ch_nh K) (h3 : ch_nh K ≤ 3) :
    ch_Id K L n (ch_ix h (nI c) (ch_cd f)) (ch_iy h (nI c) (ch_cd f) (ch_cd s)) (ch_iz h (nI c) (ch_cd s)) ↔
    (c < n ∧ ¬ L c = 0) ∧
    (ch_fh h < ch_nh K → 1 ≤ f ∧ f ≤ n ∧ f ≠ c + 1 ∧ ¬ L (f - 1) = 0) ∧ (ch_nh K ≤ ch_fh h → f = 0) ∧
    (ch_sh h < ch_nh K → 1 ≤ s ∧ s ≤ n ∧ s ≠ c + 1 ∧ ¬ L (s - 1) = 0 ∧ f ≠ s) ∧ (ch_nh K ≤ ch_sh h → s = 0) := by
  obtain ⟨t1, t2, t3⟩ := ch_ti (h := h) (by omega) (nI c) (ch_cd f) (ch_cd s)
  have H := ch_fs (h := h) (by omega)
  have cne : ∀ a, a < 2 ^ 30 → (¬ nI c = ch_cd a ↔ a ≠ c + 1) := fun a ha =>
    not_congr ⟨fun z => (ch_cdN (by omega) (by omega)).mp z.symm, fun z => ((ch_cdN (by omega) (by omega)).mpr z).symm⟩
  have fne : ¬ ch_cd f = ch_cd s ↔ f ≠ s := not_congr ⟨ch_cdI (by omega) (by omega), fun z => by rw [z]⟩
  unfold ch_Id
  rw [ch_all3 (Q := fun i => ch_Al L n (ch_t3 (ch_ix h (nI c) (ch_cd f)) (ch_iy h (nI c) (ch_cd f) (ch_cd s)) (ch_iz h (nI c) (ch_cd s)) i)) hh h3]
  rw [ch_out3 (Q := fun i => ch_t3 (ch_ix h (nI c) (ch_cd f)) (ch_iy h (nI c) (ch_cd f) (ch_cd s)) (ch_iz h (nI c) (ch_cd s)) i = -1) hh h3]
  rw [ch_dis3 (t := ch_t3 (ch_ix h (nI c) (ch_cd f)) (ch_iy h (nI c) (ch_cd f) (ch_cd s)) (ch_iz h (nI c) (ch_cd s))) hh h3]
  rw [t1, t2, t3, ch_Al_nI hn hc, ch_Al_cd hn hf, ch_Al_cd hn hs, cne f hf, cne s hs, fne, ch_cdM (by omega), ch_cdM (by omega)]
  constructor
  · rintro ⟨⟨a1, a2, a3⟩, ⟨a4, a5⟩, a6, a7, a8⟩
    exact ⟨a1, fun q => ⟨(a2 q).1, (a2 q).2.1, a6 q, (a2 q).2.2⟩, a4, fun q => ⟨(a3 q).1, (a3 q).2.1, a7 q, (a3 q).2.2, a8 q⟩, a5⟩
  · rintro ⟨a1, a2, a3, a4, a5⟩
    exact ⟨⟨a1, fun q => ⟨(a2 q).1, (a2 q).2.1, (a2 q).2.2.2⟩, fun q => ⟨(a4 q).1, (a4 q).2.1, (a4 q).2.2.2.1⟩⟩, ⟨a3, a5⟩, fun q => (a2 q).2.2.1, fun q => (a4 q).2.2.1, fun q => (a4 q).2.2.2.2⟩
theorem ch_Mt_iff {K w : Nat → Int32} (hc : c < 2 ^ 30) (hf : f < 2 ^ 30) (hs : s < 2 ^ 30) (hh : h < ch_nh K) (h3 : ch_nh K ≤ 3) (hf1 : ch_fh h < ch_nh K → 1 ≤ f) (hs1 : ch_sh h < ch_nh K → 1 ≤ s) :
    ch_Mt K S A B (ch_ix h (nI c) (ch_cd f)) (ch_iy h (nI c) (ch_cd f) (ch_cd s)) (ch_iz h (nI c) (ch_cd s)) w ↔
    (ch_Hd K S A B h c w ∧ (ch_fh h < ch_nh K → ch_Hd K S A B (ch_fh h) (f - 1) w) ∧ (ch_sh h < ch_nh K → ch_Hd K S A B (ch_sh h) (s - 1) w)) := by
  obtain ⟨t1, t2, t3⟩ := ch_ti (h := h) (by omega) (nI c) (ch_cd f) (ch_cd s)
  unfold ch_Mt
  rw [ch_all3 (Q := fun i => ch_Hd K S A B i (ch_t3 (ch_ix h (nI c) (ch_cd f)) (ch_iy h (nI c) (ch_cd f) (ch_cd s)) (ch_iz h (nI c) (ch_cd s)) i).toNatClampNeg w) hh h3]
  rw [t1, t2, t3, nI_clamp (by omega)]
  refine and_congr Iff.rfl (and_congr ⟨fun z q => ?_, fun z q => ?_⟩ ⟨fun z q => ?_, fun z q => ?_⟩)
  · have := z q; rwa [ch_cl_cd (hf1 q) hf] at this
  · rw [ch_cl_cd (hf1 q) hf]; exact z q
  · have := z q; rwa [ch_cl_cd (hs1 q) hs] at this
  · rw [ch_cl_cd (hs1 q) hs]; exact z q
/-- the three ids as codes -/
theorem ch_codes (h3 : h < 3) (hc : c < 160) (hf : f ≤ 160) (hs : s ≤ 160) (h1 : h = 0 ∨ 1 ≤ f) : ∃ a b d, 1 ≤ a ∧ a ≤ 160 ∧ b ≤ 160 ∧ d ≤ 160 ∧
    ch_ix h (nI c) (ch_cd f) = ch_cd a ∧ ch_iy h (nI c) (ch_cd f) (ch_cd s) = ch_cd b ∧ ch_iz h (nI c) (ch_cd s) = ch_cd d := by
  rcases ch_fs h3 with ⟨rfl, _, _⟩ | ⟨rfl, _, _⟩ | ⟨rfl, _, _⟩
  · exact ⟨c + 1, f, s, by omega, by omega, hf, hs, (ch_cdS c).symm, rfl, rfl⟩
  · exact ⟨f, c + 1, s, by omega, hf, by omega, hs, rfl, (ch_cdS c).symm, rfl⟩
  · exact ⟨f, s, c + 1, by omega, hf, hs, by omega, rfl, rfl, (ch_cdS c).symm⟩
theorem ch_iv3 {iv : Nat → Int32} {x y z : Int32} (h3 : h < 3) (e1 : iv h = x) (e2 : iv (ch_fh h) = y) (e3 : iv (ch_sh h) = z) : iv 0 = ch_ix h x y ∧ iv 1 = ch_iy h x y z ∧ iv 2 = ch_iz h x z := by
  rcases ch_fs h3 with ⟨rfl, h1, h2⟩ | ⟨rfl, h1, h2⟩ | ⟨rfl, h1, h2⟩
  · rw [h1] at e2; rw [h2] at e3
    exact ⟨e1, e2, e3⟩
  · rw [h1] at e2; rw [h2] at e3
    exact ⟨e2, e1, e3⟩
  · rw [h1] at e2; rw [h2] at e3
    exact ⟨e2, e3, e1⟩
end
end
section
def ch_key (r a b d : Nat) : Nat := ((r * 256 + a) * 256 + b) * 256 + d
theorem ch_key_inj {r a b d r' a' b' d' : Nat} (h1 : a ≤ 160) (h2 : b ≤ 160) (h3 : d ≤ 160) (h4 : a' ≤ 160) (h5 : b' ≤ 160) (h6 : d' ≤ 160)
    (e : ch_key r a b d = ch_key r' a' b' d') : r = r' ∧ a = a' ∧ b = b' ∧ d = d' := by
  unfold ch_key at e
  omega
theorem ch_key_lt {r a b d : Nat} (h0 : r < 6) (h1 : a ≤ 160) (h2 : b ≤ 160) (h3 : d ≤ 160) : ch_key r a b d < 2 ^ 31 := by
  unfold ch_key
  omega
theorem ch_key_pos {r a b d : Nat} (h : 1 ≤ a) : 0 < ch_key r a b d := by
  unfold ch_key
  omega
def ch_st (x : Int32) : Nat := (x * (-1640531535)).toBitVec.toNat / 2 ^ 25
theorem ch_st_lt (x : Int32) : ch_st x < 128 := by
  unfold ch_st
  have := (x * (-1640531535)).toBitVec.isLt
  omega
theorem ch_st_e (x : Int32) : ((x * (-1640531535)).toUInt32 >>> ((25 : Int32).toUInt32 &&& Int32.toUInt32 31)).toInt32 = nI (ch_st x) := by
  apply Int32.toBitVec_inj.mp
  apply BitVec.eq_of_toNat_eq
  rw [pk_ushr _ _ 25 (by decide), pk_tn (by have := ch_st_lt x; omega)]
  rfl
def ch_kw (G : Nat → Int32) (k r a b d : Nat) : Prop := r < 6 ∧ 1 ≤ a ∧ a ≤ 160 ∧ b ≤ 160 ∧ d ≤ 160 ∧ G (4 * k) = nI r ∧ G (4 * k + 1) = ch_cd a ∧ G (4 * k + 2) = ch_cd b ∧ G (4 * k + 3) = ch_cd d
def ch_LR (G : Nat → Int32) (lg : Nat) : Prop := ∀ k, k < lg → ∃ r a b d, ch_kw G k r a b d
def ch_HI (R G hs : Nat → Int32) (lg : Nat) : Prop :=
  (∀ k r a b d, k < lg → ch_kw G k r a b d → ch_Pr (ch_bl R r) → ∃ j, j < 128 ∧ hs j = nI (ch_key r a b d)) ∧
  (∀ j, j < 128 → ¬ hs j = 0 → ∃ k r a b d, k < lg ∧ ch_kw G k r a b d ∧ hs j = nI (ch_key r a b d)) ∧
  (∀ j, j < 128 → ¬ hs j = 0 → ∀ i, i < (j + 128 - ch_st (hs j)) % 128 → ¬ hs ((ch_st (hs j) + i) % 128) = 0) ∧
  cn (fun j => ¬ hs j = 0) 128 ≤ lg
theorem ch_probe (hs : Nat → Int32) (x : Int32) (h : cn (fun j => ¬ hs j = 0) 128 < 128) : ∃ m, m < 128 ∧ (hs ((ch_st x + m) % 128) = x ∨ hs ((ch_st x + m) % 128) = 0) ∧
    ∀ i, i < m → ¬ hs ((ch_st x + i) % 128) = x ∧ ¬ hs ((ch_st x + i) % 128) = 0 := by
  obtain ⟨z, hz, ez⟩ := ch_cn_hole h
  have ez : hs z = 0 := Classical.byContradiction ez
  have hst := ch_st_lt x
  have e : (ch_st x + (z + 128 - ch_st x) % 128) % 128 = z := by omega
  obtain ⟨m, pm, lm⟩ := pk_least (fun m => hs ((ch_st x + m) % 128) = x ∨ hs ((ch_st x + m) % 128) = 0) ⟨(z + 128 - ch_st x) % 128, Or.inr (by rw [e]; exact ez)⟩
  refine ⟨m, ?_, pm, fun i hi => ⟨fun q => lm i hi (Or.inl q), fun q => lm i hi (Or.inr q)⟩⟩
  have : ¬ (z + 128 - ch_st x) % 128 < m := fun q => lm _ q (Or.inr (by rw [e]; exact ez))
  omega
theorem ch_find {R G hs : Nat → Int32} {lg m : Nat} {x : Int32} (H : ch_HI R G hs lg) (x0 : ¬ x = 0) (hm : m < 128) (h1 : hs ((ch_st x + m) % 128) = x ∨ hs ((ch_st x + m) % 128) = 0)
    (h2 : ∀ i, i < m → ¬ hs ((ch_st x + i) % 128) = x ∧ ¬ hs ((ch_st x + i) % 128) = 0) : hs ((ch_st x + m) % 128) = x ↔ ∃ j, j < 128 ∧ hs j = x := by
  have hst := ch_st_lt x
  constructor
  · exact fun z => ⟨_, by omega, z⟩
  · rintro ⟨j, hj, e⟩
    have ej : (ch_st x + (j + 128 - ch_st x) % 128) % 128 = j := by omega
    have le : ¬ (j + 128 - ch_st x) % 128 < m := fun q => (h2 _ q).1 (by rw [ej]; exact e)
    rcases Nat.lt_or_ge m ((j + 128 - ch_st x) % 128) with q | q
    · have p := H.2.2.1 j hj (by rw [e]; exact x0) m (by rw [e]; exact q)
      rw [e] at p
      exact h1.resolve_right p
    · have : m = (j + 128 - ch_st x) % 128 := by omega
      rw [this, ej]; exact e
theorem ch_nk {r a b d : Nat} (h0 : r < 6) (h1 : 1 ≤ a) (h2 : a ≤ 160) (h3 : b ≤ 160) (h4 : d ≤ 160) : ¬ nI (ch_key r a b d) = 0 :=
  nI_ne0 (ch_key_pos h1) (ch_key_lt h0 h2 h3 h4)
theorem ch_lgd {R G hs : Nat → Int32} {lg r a b d : Nat} (H : ch_HI R G hs lg) (h0 : r < 6) (h1 : 1 ≤ a) (h2 : a ≤ 160) (h3 : b ≤ 160) (h4 : d ≤ 160) (p : ch_Pr (ch_bl R r)) :
    (∃ j, j < 128 ∧ hs j = nI (ch_key r a b d)) ↔ ch_Lg G lg (nI r) (ch_cd a) (ch_cd b) (ch_cd d) := by
  constructor
  · rintro ⟨j, hj, e⟩
    obtain ⟨k, r', a', b', d', hk, w, e'⟩ := H.2.1 j hj (by rw [e]; exact ch_nk h0 h1 h2 h3 h4)
    obtain ⟨w0, w1, w2, w3, w4, w5, w6, w7, w8⟩ := w
    have ek := (nI_eq (ch_key_lt h0 h2 h3 h4) (ch_key_lt w0 w2 w3 w4)).mp (e.symm.trans e')
    obtain ⟨rfl, rfl, rfl, rfl⟩ := ch_key_inj h2 h3 h4 w2 w3 w4 ek
    exact ⟨k, hk, w5, w6, w7, w8⟩
  · rintro ⟨k, hk, e1, e2, e3, e4⟩
    exact H.1 k r a b d hk ⟨h0, h1, h2, h3, h4, e1, e2, e3, e4⟩ p
theorem ch_kw_cg {G G' : Nat → Int32} {lg k r a b d : Nat} (e : ∀ i, i < 4 * lg → G' i = G i) (hk : k < lg) : ch_kw G' k r a b d ↔ ch_kw G k r a b d := by
  unfold ch_kw
  rw [e (4 * k) (by omega), e (4 * k + 1) (by omega), e (4 * k + 2) (by omega), e (4 * k + 3) (by omega)]
theorem ch_kw_un {G : Nat → Int32} {k r a b d r' a' b' d' : Nat} (w : ch_kw G k r a b d) (w' : ch_kw G k r' a' b' d') : r' = r ∧ a' = a ∧ b' = b ∧ d' = d := by
  obtain ⟨w0, w1, w2, w3, w4, w5, w6, w7, w8⟩ := w
  obtain ⟨v0, v1, v2, v3, v4, v5, v6, v7, v8⟩ := w'
  exact ⟨(nI_eq (by omega) (by omega)).mp (v5.symm.trans w5), ch_cdI (by omega) (by omega) (v6.symm.trans w6), ch_cdI (by omega) (by omega) (v7.symm.trans w7), ch_cdI (by omega) (by omega) (v8.symm.trans w8)⟩
theorem ch_HI_app {R G G' hs : Nat → Int32} {lg r a b d : Nat} (H : ch_HI R G hs lg) (e : ∀ i, i < 4 * lg → G' i = G i) (w : ch_kw G' lg r a b d) (p : ¬ ch_Pr (ch_bl R r)) : ch_HI R G' hs (lg + 1) := by
  refine ⟨?_, ?_, H.2.2.1, Nat.le_succ_of_le H.2.2.2⟩
  · intro k r' a' b' d' hk w' p'
    rcases Nat.lt_or_ge k lg with z | z
    · exact H.1 k r' a' b' d' z ((ch_kw_cg e z).mp w') p'
    · have : k = lg := by omega
      subst this
      obtain ⟨rfl, _, _, _⟩ := ch_kw_un w w'
      exact absurd p' p
  · intro j hj nz
    obtain ⟨k, r', a', b', d', hk, w', e'⟩ := H.2.1 j hj nz
    exact ⟨k, r', a', b', d', by omega, (ch_kw_cg e hk).mpr w', e'⟩
theorem ch_HI_ins {R G G' hs : Nat → Int32} {lg r a b d m t : Nat} {x : Int32} (H : ch_HI R G hs lg) (e : ∀ i, i < 4 * lg → G' i = G i) (w : ch_kw G' lg r a b d)
    (hx : nI (ch_key r a b d) = x) (hm : m < 128) (ht : (ch_st x + m) % 128 = t) (h1 : hs t = x ∨ hs t = 0)
    (h2 : ∀ i, i < m → ¬ hs ((ch_st x + i) % 128) = x ∧ ¬ hs ((ch_st x + i) % 128) = 0) :
    ch_HI R G' (upd hs t x) (lg + 1) := by
  have nz0 : ¬ x = 0 := by rw [← hx]; exact ch_nk w.1 w.2.1 w.2.2.1 w.2.2.2.1 w.2.2.2.2.1
  have hst := ch_st_lt x
  have t128 : t < 128 := by omega
  have keep : ∀ j, ¬ hs j = 0 → ¬ upd hs t x j = 0 := by
    intro j hj
    by_cases q : j = t
    · rw [q, ch_upd_s]; exact nz0
    · rw [ch_upd_n q]; exact hj
  refine ⟨?_, ?_, ?_, ?_⟩
  · intro k r' a' b' d' hk w' p'
    rcases Nat.lt_or_ge k lg with z | z
    · obtain ⟨j, hj, ej⟩ := H.1 k r' a' b' d' z ((ch_kw_cg e z).mp w') p'
      by_cases q : j = t
      · refine ⟨t, t128, ?_⟩
        rw [ch_upd_s, ← ej, q]
        rcases h1 with h1 | h1
        · exact h1.symm
        · have w3 := (ch_kw_cg e z).mp w'
          exact absurd (ej.symm.trans (q ▸ h1)) (ch_nk w3.1 w3.2.1 w3.2.2.1 w3.2.2.2.1 w3.2.2.2.2.1)
      · exact ⟨j, hj, by rw [ch_upd_n q]; exact ej⟩
    · have : k = lg := by omega
      subst this
      obtain ⟨rfl, rfl, rfl, rfl⟩ := ch_kw_un w w'
      exact ⟨t, t128, by rw [ch_upd_s]; exact hx.symm⟩
  · intro j hj nz
    by_cases q : j = t
    · exact ⟨lg, r, a, b, d, by omega, w, by rw [q, ch_upd_s]; exact hx.symm⟩
    · rw [ch_upd_n q] at nz ⊢
      obtain ⟨k, r', a', b', d', hk, w', e'⟩ := H.2.1 j hj nz
      exact ⟨k, r', a', b', d', by omega, (ch_kw_cg e hk).mpr w', e'⟩
  · intro j hj nz i hi
    by_cases q : j = t
    · rw [q, ch_upd_s] at hi ⊢
      exact keep _ (h2 i (by omega)).2
    · rw [ch_upd_n q] at nz hi ⊢
      exact keep _ (H.2.2.1 j hj nz i hi)
  · have le : cn (fun j => ¬ upd hs t x j = 0) 128 ≤ cn (fun j => ¬ hs j = 0) 128 + 1 := by
      rcases Classical.em (hs t = 0) with q | q
      · rw [← cn_add (P := fun j => ¬ hs j = 0) (a := t) (fun z => z q) t128]
        refine cn_mono (fun j _ z => ?_)
        by_cases y : j = t
        · exact Or.inr y
        · rw [ch_upd_n y] at z; exact Or.inl z
      · refine Nat.le_succ_of_le (cn_mono (fun j _ z => ?_))
        by_cases y : j = t
        · rw [y]; exact q
        · rwa [ch_upd_n y] at z
    have := H.2.2.2
    omega
theorem ch_HI_0 {R G hs : Nat → Int32} (h : ∀ j, j < 128 → hs j = 0) : ch_HI R G hs 0 := by
  refine ⟨fun k _ _ _ _ hk => by omega, fun j hj nz => absurd (h j hj) nz, fun j hj nz => absurd (h j hj) nz, ?_⟩
  have : cn (fun j => ¬ hs j = 0) 128 ≤ cn (fun _ => False) 128 := cn_mono (fun j hj z => z (h j hj))
  have e : ∀ N, cn (fun _ => False) N = 0 := by
    intro N
    induction N with
    | zero => rfl
    | succ N ih => simp only [cn, ih, b01_f (fun z : False => z)]
  rw [e] at this
  exact this
end
section
noncomputable def ch_ca (L : Nat → Int32) (n : Nat) : Nat := cn (fun j => ¬ L j = 0) n
theorem ch_ca_enter {L : Nat → Int32} {n : Nat} : ch_ca (upd L n 1) (n + 1) = ch_ca L n + 1 := by
  unfold ch_ca
  show cn (fun j => ¬ upd L n 1 j = 0) n + b01 (¬ upd L n 1 n = 0) = _
  rw [b01_t (by rw [ch_upd_s]; decide), cn_eq (Q := fun j => ¬ L j = 0) (fun j hj => by rw [ch_upd_n (show j ≠ n by omega)])]
theorem ch_ca_kill {L : Nat → Int32} {n x : Nat} (hx : x < n) (ax : ¬ L x = 0) : ch_ca (upd L x 0) n + 1 = ch_ca L n := by
  unfold ch_ca
  rw [← ch_cn_del (P := fun j => ¬ L j = 0) hx ax, cn_eq (fun j _ => ch_d_iff)]
theorem ch_ca_le (L : Nat → Int32) (n : Nat) : ch_ca L n ≤ n := cn_le _ n
theorem ch_ca_pos {L : Nat → Int32} {n x : Nat} (hx : x < n) (ax : ¬ L x = 0) : 1 ≤ ch_ca L n := ch_cn_pos hx ax
/-- numbers; da and db: slack of the two bounds -/
def ch_NU (k sl ll nc o t n ag lg da db al : Nat) : Prop := (4 ≤ sl ∧ sl ≤ 16 ∧ 4 ≤ ll ∧ ll ≤ 48 ∧ nc ≤ 6 ∧ o ≤ 1 ∧ t ≤ k ∧ lg ≤ ll ∧ ag + db ≤ 8 + 3 * lg ∧ n + da ≤ al + 3 * lg ∧ al ≤ sl) ∧
  (o = 1 → nc < 6 ∧ t = 0) ∧ (t = 0 → n = 0 ∧ ag = 0 ∧ lg = 0)
def ch_RU (R P : Nat → Int32) (nc o : Nat) (ob : Int32) : Prop := (∀ r, r < nc → ch_W (ch_bl R r) ∧ 1 ≤ ch_nh (ch_bl R r) ∧ (¬ P r = 0 ↔ ch_Pr (ch_bl R r))) ∧
  (o = 1 → ch_W (ch_bl R nc) ∧ ∀ p, p < 6 → (ch_b ob p ↔ ch_D (ch_bl R nc) (ch_ns (ch_bl R nc)) p))
def ch_FA (S A B F : Nat → Int32) (n : Nat) : Prop := ∀ i, i < n → F (3 * i) = S i ∧ F (3 * i + 1) = A i ∧ F (3 * i + 2) = B i ∧ ∃ s, s < 8 ∧ S i = nI s
def ch_AG (gI gS gA gB Q : Nat → Int32) (ag n : Nat) : Prop := (∀ i, i < ag → Q (4 * i) = gI i ∧ Q (4 * i + 1) = gS i ∧ Q (4 * i + 2) = gA i ∧ Q (4 * i + 3) = gB i ∧ (∃ s, s < 8 ∧ gS i = nI s) ∧ (gI i = -2 ∨ ∃ a, a < n ∧ gI i = nI a)) ∧
  (∀ i j a b, i < j → j < ag → a < n → b < n → gI i = nI a → gI j = nI b → a < b)
def ch_LG (kR kI G : Nat → Int32) (lg : Nat) : Prop := (∀ k, k < lg → G (4 * k) = kR k ∧ G (4 * k + 1) = kI (3 * k) ∧ G (4 * k + 2) = kI (3 * k + 1) ∧ G (4 * k + 3) = kI (3 * k + 2)) ∧ ch_LR G lg
def ch_Cu (R S A B L G cR cH cF cS : Nat → Int32) (n lg nc : Nat) (T : Nat → Nat) (c : Nat) : Prop := ∃ r h f s, cR c = nI r ∧ cH c = nI h ∧ cF c = ch_cd f ∧ cS c = ch_cd s ∧
  r ≤ nc ∧ h ≤ 3 ∧ f ≤ c ∧ s ≤ c ∧ ch_NB R S A B L G n lg nc c r h f s ∧
  (1 ≤ f → S (f - 1) = ch_bl R r (4 + 4 * ch_fh h) ∧ (¬ L (f - 1) = 0 ∨ c < T (f - 1))) ∧ (1 ≤ s → S (s - 1) = ch_bl R r (4 + 4 * ch_sh h) ∧ (¬ L (s - 1) = 0 ∨ c < T (s - 1)))
def ch_CU (R S A B L G cR cH cF cS gI : Nat → Int32) (n lg nc ag : Nat) (T : Nat → Nat) : Prop := ∀ j c, j < ag → c < n → gI j = nI c → ¬ L c = 0 → ch_Cu R S A B L G cR cH cF cS n lg nc T c
def ch_on (x y z : Int32) (i : Nat) : Prop := x = nI i ∨ y = nI i ∨ z = nI i
def ch_TP (R S A B L G gI : Nat → Int32) (n lg nc ag : Nat) : Prop := ∀ r x y z, r < nc → ch_Ap R S A B L G n lg r x y z → ∃ j c, j < ag ∧ c < n ∧ gI j = nI c ∧ ch_on x y z c ∧ (∀ i, i < n → ch_on x y z i → i ≤ c)
def ch_In (k sl ll nc o t n ag lg da db : Nat) (ob : Int32) (aR aP aS aA aB aL bf af fo lo cR cH cF cS gI gS gA gB kR kI hs yF yG yQ : Nat → Int32) : Prop :=
  ch_NU k sl ll nc o t n ag lg da db (ch_ca aL n) ∧ ch_RU aR aP nc o ob ∧ ch_FA aS aA aB yF n ∧ ch_AG gI gS gA gB yQ ag n ∧ ch_LG kR kI yG lg ∧ ch_HI aR yG hs lg ∧
  (∃ T, ch_LK aS aL bf af fo lo n T ∧ ch_CU aR aS aA aB aL yG cR cH cF cS gI n lg nc ag T) ∧ ch_TP aR aS aA aB aL yG gI n lg nc ag
/-- applicability never comes back -/
theorem ch_Ap_mono {R S A B L G S' A' B' L' G' : Nat → Int32} {n lg n' lg' r : Nat} {x y z : Int32} (hn : n < 2 ^ 30)
    (h1 : ∀ h, h < ch_nh (ch_bl R r) → ch_Al L' n' (ch_t3 x y z h) → ch_Al L n (ch_t3 x y z h))
    (h2 : ∀ i, i < n → S' i = S i ∧ A' i = A i ∧ B' i = B i)
    (h3 : ch_Lg G lg (nI r) x y z → ch_Lg G' lg' (nI r) x y z) (p : ch_Ap R S' A' B' L' G' n' lg' r x y z) : ch_Ap R S A B L G n lg r x y z := by
  obtain ⟨⟨i1, i2, i3⟩, ⟨w, m, g⟩, q⟩ := p
  have al := fun h hh => h1 h hh (i1 h hh)
  refine ⟨⟨al, i2, i3⟩, ⟨w, fun h hh => ?_, g⟩, fun z l => q z (h3 l)⟩
  obtain ⟨i, hi, e, _⟩ := al h hh
  have m' := m h hh
  rw [e, nI_clamp (by omega)] at m' ⊢
  unfold ch_Hd at m' ⊢
  obtain ⟨e1, e2, e3⟩ := h2 i hi
  rw [e1, e2, e3] at m'
  exact m'
theorem ch_Ap_mL {R S A B L G L' : Nat → Int32} {n lg r : Nat} {x y z : Int32} (hn : n < 2 ^ 30) (h : ∀ i, i < n → ¬ L' i = 0 → ¬ L i = 0)
    (p : ch_Ap R S A B L' G n lg r x y z) : ch_Ap R S A B L G n lg r x y z :=
  ch_Ap_mono hn (fun _ _ ⟨i, hi, e, a⟩ => ⟨i, hi, e, h i hi a⟩) (fun _ _ => ⟨rfl, rfl, rfl⟩) id p
theorem ch_Ap_mG {R S A B L G G' : Nat → Int32} {n lg r : Nat} {x y z : Int32} (hn : n < 2 ^ 30) (e : ∀ i, i < 4 * lg → G' i = G i)
    (p : ch_Ap R S A B L G' n (lg + 1) r x y z) : ch_Ap R S A B L G n lg r x y z := by
  refine ch_Ap_mono hn (fun _ _ => id) (fun _ _ => ⟨rfl, rfl, rfl⟩) ?_ p
  rintro ⟨k, hk, e1, e2, e3, e4⟩
  exact ⟨k, by omega, by rw [e _ (by omega)]; exact e1, by rw [e _ (by omega)]; exact e2, by rw [e _ (by omega)]; exact e3, by rw [e _ (by omega)]; exact e4⟩
theorem ch_NB_mono {R S A B L G S' A' B' L' G' : Nat → Int32} {n lg n' lg' nc c r h f s : Nat} (N : ch_NB R S A B L G n lg nc c r h f s)
    (m : ∀ r' h' f' s', f' ≤ c → s' ≤ c → h' < ch_nh (ch_bl R r') → r' < nc → ch_PX R S' A' B' L' G' n' lg' c r' h' f' s' → ch_PX R S A B L G n lg c r' h' f' s') : ch_NB R S' A' B' L' G' n' lg' nc c r h f s :=
  fun r' h' f' s' a b d e lt p => N r' h' f' s' a b d e lt (m r' h' f' s' d e b a p)
/-- which head an id sits at -/
theorem ch_on_head {K L : Nat → Int32} {n c : Nat} {x y z : Int32} (i : ch_Id K L n x y z) (h3 : ch_nh K ≤ 3) (hc : c < 2 ^ 31) (q : ch_on x y z c) : ∃ h, h < ch_nh K ∧ ch_t3 x y z h = nI c := by
  have key : ∀ h, h < 3 → ch_t3 x y z h = nI c → h < ch_nh K := by
    intro h hh e
    rcases Nat.lt_or_ge h (ch_nh K) with w | w
    · exact w
    · exact absurd (e.symm.trans (i.2.1 h w hh)) (ch_m1 hc)
  rcases q with q | q | q
  · exact ⟨0, key 0 (by omega) q, q⟩
  · exact ⟨1, key 1 (by omega) q, q⟩
  · exact ⟨2, key 2 (by omega) q, q⟩
theorem ch_on_t {x y z : Int32} {h c : Nat} (e : ch_t3 x y z h = nI c) : ch_on x y z c := by
  unfold ch_t3 at e
  by_cases h0 : h = 0
  · rw [if_pos h0] at e; exact Or.inl e
  · rw [if_neg h0] at e
    by_cases h1 : h = 1
    · rw [if_pos h1] at e; exact Or.inr (Or.inl e)
    · rw [if_neg h1] at e; exact Or.inr (Or.inr e)
/-- with c at head h and nothing above c: one of X's own -/
theorem ch_Ap_PX {R S A B L G : Nat → Int32} {n lg c r h : Nat} {x y z : Int32} (hn : n < 2 ^ 30) (hc : c < n) (h3 : ch_nh (ch_bl R r) ≤ 3) (p : ch_Ap R S A B L G n lg r x y z)
    (hh : h < ch_nh (ch_bl R r)) (e : ch_t3 x y z h = nI c) (m : ∀ i, i < n → ch_on x y z i → i ≤ c) :
    ∃ f s, f ≤ c ∧ s ≤ c ∧ ch_PX R S A B L G n lg c r h f s ∧ x = ch_ix h (nI c) (ch_cd f) ∧ y = ch_iy h (nI c) (ch_cd f) (ch_cd s) ∧ z = ch_iz h (nI c) (ch_cd s) := by
  have code : ∀ h', h' < 3 → h' ≠ h → ∃ f, f ≤ c ∧ ch_t3 x y z h' = ch_cd f := by
    intro h' h'3 ne
    rcases Nat.lt_or_ge h' (ch_nh (ch_bl R r)) with w | w
    · obtain ⟨i, hi, ei, _⟩ := p.1.1 h' w
      have le := m i hi (ch_on_t ei)
      have nec : i ≠ c := by
        intro q
        subst q
        rcases Nat.lt_or_ge h h' with y | y
        · exact p.1.2.2 h h' y w (e.trans ei.symm)
        · exact p.1.2.2 h' h (by omega) hh (ei.trans e.symm)
      exact ⟨i + 1, by omega, by rw [ei, ch_cdS]⟩
    · exact ⟨0, Nat.zero_le _, by rw [p.1.2.1 h' w h'3, ch_cd0]⟩
  have H := ch_fs (h := h) (by omega)
  obtain ⟨f, hf, ef⟩ := code (ch_fh h) (by omega) (by omega)
  obtain ⟨s, hs, es⟩ := code (ch_sh h) (by omega) (by omega)
  have exyz : x = ch_ix h (nI c) (ch_cd f) ∧ y = ch_iy h (nI c) (ch_cd f) (ch_cd s) ∧ z = ch_iz h (nI c) (ch_cd s) := by
    rcases H with ⟨rfl, h1, h2⟩ | ⟨rfl, h1, h2⟩ | ⟨rfl, h1, h2⟩
    · rw [h1] at ef; rw [h2] at es
      exact ⟨e, ef, es⟩
    · rw [h1] at ef; rw [h2] at es
      exact ⟨ef, e, es⟩
    · rw [h1] at ef; rw [h2] at es
      exact ⟨ef, es, e⟩
  refine ⟨f, s, hf, hs, ?_, exyz⟩
  obtain ⟨e1, e2, e3⟩ := exyz
  unfold ch_PX
  rw [← e1, ← e2, ← e3]
  exact p
section
variable {k sl ll nc o t n ag lg da db : Nat} {ob : Int32} {aR aP aS aA aB aL bf af fo lo cR cH cF cS gI gS gA gB kR kI hs yF yG yQ : Nat → Int32}
/-- the top entry goes -/
theorem ch_In_pop {c : Nat} (I : ch_In k sl ll nc o t n ag lg 0 0 ob aR aP aS aA aB aL bf af fo lo cR cH cF cS gI gS gA gB kR kI hs yF yG yQ) (a1 : 1 ≤ ag) (hc : c < n) (e : gI (ag - 1) = nI c)
    (q : aL c = 0 ∨ ch_NB aR aS aA aB aL yG n lg nc c nc 0 0 0) : ch_In k sl ll nc o t n (ag - 1) lg 0 0 ob aR aP aS aA aB aL bf af fo lo cR cH cF cS gI gS gA gB kR kI hs yF yG yQ := by
  obtain ⟨⟨nu, n1, n2⟩, RU, FA, ⟨g1, g2⟩, LG, HI, ⟨T, LK, CU⟩, TP⟩ := I
  have ca := ch_ca_le aL n
  refine ⟨⟨by omega, n1, by omega⟩, RU, FA, ⟨fun i hi => g1 i (by omega), fun i j a b h1 h2 => g2 i j a b h1 (by omega)⟩, LG, HI, ⟨T, LK, fun j d hj => CU j d (by omega)⟩, ?_⟩
  intro r x y z hr p
  obtain ⟨j, d, hj, hd, ej, on, mx⟩ := TP r x y z hr p
  by_cases jt : j = ag - 1
  · exfalso
    have dc : d = c := (nI_eq (by omega) (by omega)).mp (by rw [← ej, jt]; exact e)
    subst dc
    obtain ⟨W, _⟩ := RU.1 r hr
    obtain ⟨h, hh, eh⟩ := ch_on_head p.1 W.1.2.1 (by omega) on
    rcases q with q | q
    · obtain ⟨i, hi, ei, al⟩ := p.1.1 h hh
      have : i = d := (nI_eq (by omega) (by omega)).mp (ei.symm.trans eh)
      exact al (this ▸ q)
    · obtain ⟨f, s, hf, hs, px, _⟩ := ch_Ap_PX (by omega) hc W.1.2.1 p hh eh mx
      exact q r h f s hr hh hf hs (Or.inl hr) px
  · exact ⟨j, d, by omega, hd, ej, on, mx⟩
/-- a cursor moves -/
theorem ch_In_cur {c : Nat} {T : Nat → Nat} {cR' cH' cF' cS' : Nat → Int32} (NU : ch_NU k sl ll nc o t n ag lg da db (ch_ca aL n)) (RU : ch_RU aR aP nc o ob) (FA : ch_FA aS aA aB yF n)
    (AG : ch_AG gI gS gA gB yQ ag n) (LG : ch_LG kR kI yG lg) (HI : ch_HI aR yG hs lg) (LK : ch_LK aS aL bf af fo lo n T)
    (CU : ch_CU aR aS aA aB aL yG cR cH cF cS gI n lg nc ag T) (TP : ch_TP aR aS aA aB aL yG gI n lg nc ag)
    (e : ∀ d, d ≠ c → cR' d = cR d ∧ cH' d = cH d ∧ cF' d = cF d ∧ cS' d = cS d) (q : ch_Cu aR aS aA aB aL yG cR' cH' cF' cS' n lg nc T c) : ch_In k sl ll nc o t n ag lg da db ob aR aP aS aA aB aL bf af fo lo cR' cH' cF' cS' gI gS gA gB kR kI hs yF yG yQ := by
  refine ⟨NU, RU, FA, AG, LG, HI, ⟨T, LK, ?_⟩, TP⟩
  intro j d hj hd ej al
  by_cases dc : d = c
  · rw [dc]; exact q
  · obtain ⟨e1, e2, e3, e4⟩ := e d dc
    have := CU j d hj hd ej al
    unfold ch_Cu at this ⊢
    rw [e1, e2, e3, e4]
    exact this
theorem ch_In_k {k' : Nat} (h : k ≤ k') (I : ch_In k sl ll nc o t n ag lg da db ob aR aP aS aA aB aL bf af fo lo cR cH cF cS gI gS gA gB kR kI hs yF yG yQ) : ch_In k' sl ll nc o t n ag lg da db ob aR aP aS aA aB aL bf af fo lo cR cH cF cS gI gS gA gB kR kI hs yF yG yQ := by
  obtain ⟨⟨nu, n1, n2⟩, r⟩ := I
  exact ⟨⟨by omega, n1, n2⟩, r⟩
/-- the waiting top enters -/
theorem ch_In_enter {s : Nat} (I : ch_In k sl ll nc o t n ag lg 0 0 ob aR aP aS aA aB aL bf af fo lo cR cH cF cS gI gS gA gB kR kI hs yF yG yQ) (a1 : 1 ≤ ag) (e : gI (ag - 1) = -2) (al : ch_ca aL n < sl) (hs8 : s < 8) (es : gS (ag - 1) = nI s)
    {F' : Nat → Int32} (f1 : ∀ i, i < 3 * n → F' i = yF i) (f2 : F' (3 * n) = gS (ag - 1)) (f3 : F' (3 * n + 1) = gA (ag - 1)) (f4 : F' (3 * n + 2) = gB (ag - 1)) :
    ch_In k sl ll nc o t (n + 1) ag lg 0 0 ob aR aP (upd aS n (nI s)) (upd aA n (gA (ag - 1))) (upd aB n (gB (ag - 1))) (upd aL n 1) (upd bf n (lo s)) (ch_eaf af n (lo s)) (ch_efo fo s n (lo s)) (upd lo s (nI n)) (upd cR n 0) (upd cH n 0) (upd cF n (-1)) (upd cS n (-1)) (upd gI (ag - 1) (nI n)) gS gA gB kR kI hs F' yG (upd yQ (4 * (ag - 1)) (nI n)) := by
  obtain ⟨⟨nu, n1, n2⟩, RU, FA, ⟨g1, g2⟩, LG, HI, ⟨T, LK, CU⟩, TP⟩ := I
  have ca := ch_ca_le aL n
  have n30 : n < 2 ^ 30 := by omega
  have cae := ch_ca_enter (L := aL) (n := n)
  have id1 : ∀ j d, j < ag → d < n + 1 → upd gI (ag - 1) (nI n) j = nI d → (j = ag - 1 ∧ d = n) ∨ (j < ag - 1 ∧ d < n ∧ gI j = nI d) := by
    intro j d hj hd ej
    by_cases jt : j = ag - 1
    · rw [jt, ch_upd_s] at ej
      exact Or.inl ⟨jt, ((nI_eq (by omega) (by omega)).mp ej).symm⟩
    · rw [ch_upd_n jt] at ej
      rcases (g1 j hj).2.2.2.2.2 with z | ⟨a, ha, ea⟩
      · exact absurd (ej.symm.trans z) (ch_m2 (by omega))
      · have : d = a := (nI_eq (by omega) (by omega)).mp (ej.symm.trans ea)
        exact Or.inr ⟨by omega, by omega, ej⟩
  have mono : ∀ r x y z, ¬ ch_on x y z n → ch_Ap aR (upd aS n (nI s)) (upd aA n (gA (ag - 1))) (upd aB n (gB (ag - 1))) (upd aL n 1) yG (n + 1) lg r x y z → ch_Ap aR aS aA aB aL yG n lg r x y z := by
    intro r x y z non p
    refine ch_Ap_mono n30 ?_ (fun i hi => ⟨ch_upd_n (by omega), ch_upd_n (by omega), ch_upd_n (by omega)⟩) id p
    rintro h hh ⟨i, hi, ei, ai⟩
    have : i ≠ n := fun q => non (q ▸ ch_on_t ei)
    rw [ch_upd_n this] at ai
    exact ⟨i, by omega, ei, ai⟩
  refine ⟨⟨by rw [cae]; omega, n1, by omega⟩, RU, ?_, ⟨?_, ?_⟩, LG, HI, ⟨T, ch_enter LK n30 hs8, ?_⟩, ?_⟩
  · intro i hi
    rcases Nat.lt_or_ge i n with z | z
    · rw [ch_upd_n (show i ≠ n by omega), ch_upd_n (show i ≠ n by omega), ch_upd_n (show i ≠ n by omega), f1 _ (by omega), f1 _ (by omega), f1 _ (by omega)]
      exact FA i z
    · have : i = n := by omega
      subst this
      rw [ch_upd_s, ch_upd_s, ch_upd_s]
      exact ⟨f2.trans es, f3, f4, s, hs8, rfl⟩
  · intro i hi
    obtain ⟨b1, b2, b3, b4, b5, b6⟩ := g1 i hi
    rw [ch_upd_n (show 4 * i + 1 ≠ 4 * (ag - 1) by omega), ch_upd_n (show 4 * i + 2 ≠ 4 * (ag - 1) by omega), ch_upd_n (show 4 * i + 3 ≠ 4 * (ag - 1) by omega)]
    by_cases it : i = ag - 1
    · rw [it, ch_upd_s, ch_upd_s]
      rw [it] at b2 b3 b4 b5
      exact ⟨rfl, b2, b3, b4, b5, Or.inr ⟨n, by omega, rfl⟩⟩
    · rw [ch_upd_n it, ch_upd_n (show 4 * i ≠ 4 * (ag - 1) by omega)]
      exact ⟨b1, b2, b3, b4, b5, b6.elim Or.inl (fun ⟨a, ha, ea⟩ => Or.inr ⟨a, by omega, ea⟩)⟩
  · intro i j a b ij hj ha hb ei ej
    rcases id1 i a (by omega) ha ei with ⟨i1, i2⟩ | ⟨i1, i2, i3⟩
    · omega
    · rcases id1 j b hj hb ej with ⟨j1, j2⟩ | ⟨j1, j2, j3⟩
      · omega
      · exact g2 i j a b ij hj i2 j2 i3 j3
  · intro j d hj hd ej ad
    rcases id1 j d hj hd ej with ⟨j1, j2⟩ | ⟨j1, j2, j3⟩
    · subst j2
      refine ⟨0, 0, 0, 0, by rw [ch_upd_s]; rfl, by rw [ch_upd_s]; rfl, by rw [ch_upd_s, ch_cd0], by rw [ch_upd_s, ch_cd0], Nat.zero_le _, Nat.zero_le _, Nat.zero_le _, Nat.zero_le _, ch_NB_0, fun z => by omega, fun z => by omega⟩
    · rw [ch_upd_n (show d ≠ n by omega)] at ad
      obtain ⟨r, h, f, s', c1, c2, c3, c4, c5, c6, c7, c8, c9, c10, c11⟩ := CU j d hj j2 j3 ad
      refine ⟨r, h, f, s', by rw [ch_upd_n (show d ≠ n by omega)]; exact c1, by rw [ch_upd_n (show d ≠ n by omega)]; exact c2, by rw [ch_upd_n (show d ≠ n by omega)]; exact c3, by rw [ch_upd_n (show d ≠ n by omega)]; exact c4, c5, c6, c7, c8, ?_, fun z => ?_, fun z => ?_⟩
      · refine ch_NB_mono c9 (fun r' h' f' s2 hf hs hh hr p => mono _ _ _ _ ?_ p)
        intro on
        obtain ⟨h0, hh0, e0⟩ := ch_on_head p.1 (RU.1 r' hr).1.1.2.1 (by omega) on
        obtain ⟨t1, t2, t3⟩ := ch_ti (h := h') (by have := (RU.1 r' hr).1.1.2.1; omega) (nI d) (ch_cd f') (ch_cd s2)
        have H := ch_fs (h := h') (by have := (RU.1 r' hr).1.1.2.1; omega)
        have h03 : h0 < 3 := by have := (RU.1 r' hr).1.1.2.1; omega
        have : h0 = h' ∨ h0 = ch_fh h' ∨ h0 = ch_sh h' := by omega
        rcases this with z | z | z
        · rw [z, t1] at e0
          have := (nI_eq (by omega) (by omega)).mp e0
          omega
        · rw [z, t2] at e0
          have := (ch_cdN (by omega) (by omega)).mp e0
          omega
        · rw [z, t3] at e0
          have := (ch_cdN (by omega) (by omega)).mp e0
          omega
      · rw [ch_upd_n (show f - 1 ≠ n by omega), ch_upd_n (show f - 1 ≠ n by omega)]
        exact c10 z
      · rw [ch_upd_n (show s' - 1 ≠ n by omega), ch_upd_n (show s' - 1 ≠ n by omega)]
        exact c11 z
  · intro r x y z hr p
    rcases Classical.em (ch_on x y z n) with on | on
    · exact ⟨ag - 1, n, by omega, by omega, ch_upd_s, on, fun i hi _ => by omega⟩
    · obtain ⟨j, d, hj, hd, ej, on', mx⟩ := TP r x y z hr (mono r x y z on p)
      have jt : j ≠ ag - 1 := fun q => ch_m2 (i := d) (by omega) (by rw [← ej, q]; exact e)
      refine ⟨j, d, hj, by omega, by rw [ch_upd_n jt]; exact ej, on', fun i hi oi => mx i ?_ oi⟩
      have : i ≠ n := fun q => on (q ▸ oi)
      omega
/-- a firing goes into the log -/
theorem ch_In_app {G' kR' kI' hs' : Nat → Int32} (I : ch_In k sl ll nc o t n ag lg 0 0 ob aR aP aS aA aB aL bf af fo lo cR cH cF cS gI gS gA gB kR kI hs yF yG yQ) (t1 : t ≠ 0) (hl : lg < ll) (e : ∀ i, i < 4 * lg → G' i = yG i)
    (l1 : ch_LG kR' kI' G' (lg + 1)) (h1 : ch_HI aR G' hs' (lg + 1)) : ch_In k sl ll nc o t n ag (lg + 1) 3 3 ob aR aP aS aA aB aL bf af fo lo cR cH cF cS gI gS gA gB kR' kI' hs' yF G' yQ := by
  obtain ⟨⟨nu, n1, n2⟩, RU, FA, AG, LG, HI, ⟨T, LK, CU⟩, TP⟩ := I
  have ca := ch_ca_le aL n
  have n30 : n < 2 ^ 30 := by omega
  refine ⟨⟨by omega, n1, by omega⟩, RU, FA, AG, l1, h1, ⟨T, LK, ?_⟩, ?_⟩
  · intro j d hj hd ej ad
    obtain ⟨r, h, f, s', c1, c2, c3, c4, c5, c6, c7, c8, c9, c10, c11⟩ := CU j d hj hd ej ad
    exact ⟨r, h, f, s', c1, c2, c3, c4, c5, c6, c7, c8, ch_NB_mono c9 (fun r' h' f' s2 hf hs hh hr p => ch_Ap_mG n30 e p), c10, c11⟩
  · intro r x y z hr p
    exact TP r x y z hr (ch_Ap_mG n30 e p)
/-- an id is taken out -/
theorem ch_In_kill {x s : Nat} (I : ch_In k sl ll nc o t n ag lg (da + 1) db ob aR aP aS aA aB aL bf af fo lo cR cH cF cS gI gS gA gB kR kI hs yF yG yQ) (hx : x < n) (ax : ¬ aL x = 0) (hs8 : s < 8) (es : aS x = nI s) :
    ch_In k sl ll nc o t n ag lg da db ob aR aP aS aA aB (upd aL x 0) (ch_kbf bf (bf x) (af x)) (ch_kaf af (bf x) (af x)) (ch_kfo fo s (bf x) (af x)) (ch_klo lo s (bf x) (af x)) cR cH cF cS gI gS gA gB kR kI hs yF yG yQ := by
  obtain ⟨⟨nu, n1, n2⟩, RU, FA, AG, LG, HI, ⟨T, LK, CU⟩, TP⟩ := I
  have ca := ch_ca_le aL n
  have n30 : n < 2 ^ 30 := by omega
  have cak := ch_ca_kill hx ax
  have sub : ∀ i, i < n → ¬ upd aL x 0 i = 0 → ¬ aL i = 0 := fun i _ z => (ch_d_iff.mp z).1
  have cur : ∀ d i, d < n → ¬ aL i = 0 ∨ d < T i → ¬ upd aL x 0 i = 0 ∨ d < (if i = x then n else T i) := by
    intro d i hd z
    by_cases ix : i = x
    · rw [if_pos ix]; exact Or.inr hd
    · rw [if_neg ix]; exact z.elim (fun z => Or.inl (ch_d_iff.mpr ⟨z, ix⟩)) Or.inr
  refine ⟨⟨by omega, n1, n2⟩, RU, FA, AG, LG, HI, ⟨_, ch_kill LK n30 hx ax hs8 es, ?_⟩, ?_⟩
  · intro j d hj hd ej ad
    obtain ⟨r, h, f, s', c1, c2, c3, c4, c5, c6, c7, c8, c9, c10, c11⟩ := CU j d hj hd ej (sub d hd ad)
    exact ⟨r, h, f, s', c1, c2, c3, c4, c5, c6, c7, c8, ch_NB_mono c9 (fun r' h' f' s2 hf hs hh hr p => ch_Ap_mL n30 sub p), fun z => ⟨(c10 z).1, cur d _ hd (c10 z).2⟩, fun z => ⟨(c11 z).1, cur d _ hd (c11 z).2⟩⟩
  · intro r x y z hr p
    exact TP r x y z hr (ch_Ap_mL n30 sub p)
/-- a new waiting entry -/
theorem ch_In_push {db' s : Nat} {a b : Int32} (I : ch_In k sl ll nc o t n ag lg da db ob aR aP aS aA aB aL bf af fo lo cR cH cF cS gI gS gA gB kR kI hs yF yG yQ) (hb : ag + 1 + db' ≤ 8 + 3 * lg) (t1 : t ≠ 0) (hs8 : s < 8) {Q' : Nat → Int32} (q1 : ∀ i, i < 4 * ag → Q' i = yQ i) (q2 : Q' (4 * ag) = -2)
    (q3 : Q' (4 * ag + 1) = nI s) (q4 : Q' (4 * ag + 2) = a) (q5 : Q' (4 * ag + 3) = b) :
    ch_In k sl ll nc o t n (ag + 1) lg da db' ob aR aP aS aA aB aL bf af fo lo cR cH cF cS (upd gI ag (-2)) (upd gS ag (nI s)) (upd gA ag a) (upd gB ag b) kR kI hs yF yG Q' := by
  obtain ⟨⟨nu, n1, n2⟩, RU, FA, ⟨g1, g2⟩, LG, HI, ⟨T, LK, CU⟩, TP⟩ := I
  have ca := ch_ca_le aL n
  have id1 : ∀ j d, j < ag + 1 → d < n → upd gI ag (-2) j = nI d → j < ag ∧ gI j = nI d := by
    intro j d hj hd ej
    by_cases jt : j = ag
    · rw [jt, ch_upd_s] at ej
      exact absurd ej.symm (ch_m2 (by omega))
    · rw [ch_upd_n jt] at ej
      exact ⟨by omega, ej⟩
  refine ⟨⟨by omega, n1, by omega⟩, RU, FA, ⟨?_, ?_⟩, LG, HI, ⟨T, LK, fun j d hj hd ej => CU j d (id1 j d hj hd ej).1 hd (id1 j d hj hd ej).2⟩, ?_⟩
  · intro i hi
    by_cases it : i = ag
    · subst it
      rw [ch_upd_s, ch_upd_s, ch_upd_s, ch_upd_s]
      exact ⟨q2, q3, q4, q5, ⟨s, hs8, rfl⟩, Or.inl rfl⟩
    · rw [ch_upd_n it, ch_upd_n it, ch_upd_n it, ch_upd_n it, q1 _ (by omega), q1 _ (by omega), q1 _ (by omega), q1 _ (by omega)]
      exact g1 i (by omega)
  · intro i j a b ij hj ha hb ei ej
    obtain ⟨i1, i2⟩ := id1 i a (by omega) ha ei
    obtain ⟨j1, j2⟩ := id1 j b hj hb ej
    exact g2 i j a b ij j1 ha hb i2 j2
  · intro r x y z hr p
    obtain ⟨j, d, hj, hd, ej, on, mx⟩ := TP r x y z hr p
    exact ⟨j, d, by omega, hd, by rw [ch_upd_n (show j ≠ ag by omega)]; exact ej, on, mx⟩
/-- all work cleared, perhaps other rules -/
theorem ch_In_idle {nc' o' : Nat} {ob' : Int32} {R' P' fo' lo' hs' aL' : Nat → Int32} (k1 : 4 ≤ sl ∧ sl ≤ 16 ∧ 4 ≤ ll ∧ ll ≤ 48) (k2 : nc' ≤ 6 ∧ o' ≤ 1 ∧ (o' = 1 → nc' < 6)) (RU : ch_RU R' P' nc' o' ob')
    (f1 : ∀ s, s < 8 → fo' s = -1 ∧ lo' s = -1) (h1 : ∀ j, j < 128 → hs' j = 0) :
    ch_In k sl ll nc' o' 0 0 0 0 0 0 ob' R' P' aS aA aB aL' bf af fo' lo' cR cH cF cS gI gS gA gB kR kI hs' yF yG yQ := by
  have ca := ch_ca_le aL' 0
  refine ⟨⟨by omega, fun z => ⟨k2.2.2 z, rfl⟩, fun _ => ⟨rfl, rfl, rfl⟩⟩, RU, fun i hi => by omega, ⟨fun i hi => by omega, fun i j a b _ hj => by omega⟩, ⟨fun k hk => by omega, fun k hk => by omega⟩, ch_HI_0 h1, ⟨fun _ => 0, ch_LK_0 f1, fun j d hj => by omega⟩, ?_⟩
  intro r x y z hr p
  obtain ⟨i, hi, _⟩ := p.1.1 0 (RU.1 r hr).2.1
  omega
/-- an idle state's facts -/
theorem ch_In_0 (I : ch_In k sl ll nc o 0 n ag lg 0 0 ob aR aP aS aA aB aL bf af fo lo cR cH cF cS gI gS gA gB kR kI hs yF yG yQ) : n = 0 ∧ ag = 0 ∧ lg = 0 := I.1.2.2 rfl
theorem ch_In_0f (I : ch_In k sl ll nc o 0 0 0 0 0 0 ob aR aP aS aA aB aL bf af fo lo cR cH cF cS gI gS gA gB kR kI hs yF yG yQ) : (∀ s, s < 8 → fo s = -1 ∧ lo s = -1) ∧ (∀ j, j < 128 → hs j = 0) := by
  obtain ⟨⟨nu, n1, n2⟩, RU, FA, ⟨g1, g2⟩, LG, HI, ⟨T, LK, CU⟩, TP⟩ := I
  constructor
  · intro s hs
    constructor
    · rcases LK.1 s hs with ⟨e, _⟩ | ⟨i, _, _, hi, _⟩
      · exact e
      · omega
    · rcases LK.2.1 s hs with ⟨e, _⟩ | ⟨i, _, hi, _⟩
      · exact e
      · omega
  · intro j hj
    rcases Classical.em (hs j = 0) with z | z
    · exact z
    · obtain ⟨k, _, _, _, _, hk, _⟩ := HI.2.1 j hj z
      omega
theorem ch_In_tell (I : ch_In k sl ll nc o t n ag lg 0 0 ob aR aP aS aA aB aL bf af fo lo cR cH cF cS gI gS gA gB kR kI hs yF yG yQ) (o0 : o = 0) : ch_In (k + 1) sl ll nc o (t + 1) n ag lg 0 0 ob aR aP aS aA aB aL bf af fo lo cR cH cF cS gI gS gA gB kR kI hs yF yG yQ := by
  obtain ⟨⟨nu, n1, n2⟩, r⟩ := I
  exact ⟨⟨by omega, fun z => by omega, fun z => by omega⟩, r⟩
end
end
section
section
variable {xsl xll xnc xro xob xn xal xag xtl xlg xbm : Int32} {aR aP aS aA aB aL bf af fo lo cR cH cF cS gI gS gA gB kR kI hs iv vs : Nat → Int32}
theorem cx_matchArg {p v : Int32} {Q : (Nat → Int32) → Prop} {K : Nat → Int32} (hp : ch_Pa p) (M : ch_M (ch_b xbm) Q vs) (hD : ∀ q, q < 6 → ch_b xbm q → ch_D K 0 q)
    (hpD : ∀ q, q < 6 → p = nI q → ch_D K 0 q) :
    ∃ r bm' vs', (r = 0 ∨ r = 1) ∧ (r = 1 → ch_M (ch_b bm') (fun w => Q w ∧ ch_Ag p v w) vs') ∧ (r = 0 → ∀ w, ¬ (Q w ∧ ch_Ag p v w)) ∧
      (∀ q, q < 6 → ch_b xbm q → ch_b bm' q ∧ vs' q = vs q) ∧ (∀ q, q < 6 → ch_b bm' q → ch_D K 0 q) ∧
      ∀ post : Int32 → SX → Prop, post r (xsl, xll, xnc, xro, xob, xn, xal, xag, xtl, xlg, bm', aR, aP, aS, aA, aB, aL, bf, af, fo, lo, cR, cH, cF, cS, gI, gS, gA, gB, kR, kI, hs, iv, vs') → wpX_matchArg post (xsl, xll, xnc, xro, xob, xn, xal, xag, xtl, xlg, xbm, aR, aP, aS, aA, aB, aL, bf, af, fo, lo, cR, cH, cF, cS, gI, gS, gA, gB, kR, kI, hs, iv, vs) p v := by
  rcases hp with ⟨q, hq, rfl⟩ | ⟨q, h1, h2, rfl⟩
  · have e : (nI q).toNatClampNeg = q := nI_clamp (by omega)
    rcases Classical.em (ch_b xbm q) with hb | hb
    · rcases Classical.em (vs q = v) with ev | ev
      · refine ⟨1, xbm, vs, Or.inr rfl, fun _ => ch_M_old M hq hb ev, fun z => absurd z ch_10, fun q _ h => ⟨h, rfl⟩, hD, fun post hp => ?_⟩
        unfold wpX_matchArg
        exact br_t (ch_n64 (by omega)) (nm_e (br_f hb ⟨vp_in_nI hq (by omega), br_t (by rw [e]; exact ev) hp⟩))
      · refine ⟨0, xbm, vs, Or.inl rfl, fun z => absurd z.symm ch_10, fun _ => ch_M_bad M hq hb ev, fun q _ h => ⟨h, rfl⟩, hD, fun post hp => ?_⟩
        unfold wpX_matchArg
        exact br_t (ch_n64 (by omega)) (nm_e (br_f hb ⟨vp_in_nI hq (by omega), br_f (by rw [e]; exact ev) hp⟩))
    · refine ⟨1, xbm ||| ((1 : Int32) <<< (nI q &&& 31)), upd vs q v, Or.inr rfl, fun _ => ch_M_new M hq hb (fun p hp => ch_b_or xbm (by omega) (by omega)) rfl, fun z => absurd z ch_10, fun q' h6 h => ⟨(ch_b_or xbm (by omega) (by omega)).mpr (Or.inl h), ch_upd_n (fun z => hb (z ▸ h))⟩, fun q' h6 h => ?_, fun post hp => ?_⟩
      · rcases (ch_b_or xbm (by omega) (by omega)).mp h with z | z
        · exact hD q' h6 z
        · exact hpD q' h6 (by rw [z])
      · unfold wpX_matchArg
        exact br_t (ch_n64 (by omega)) (nm_e (br_t (Classical.byContradiction hb) (nm_e ⟨vp_in_nI hq (by omega), nm_r (e' := upd vs q v) (by rw [e]) hp⟩)))
  · rcases Classical.em (v = nI q - 128) with ev | ev
    · refine ⟨1, xbm, vs, Or.inr rfl, fun _ => ch_M_cg M (fun w => ⟨fun z => ⟨z, (ch_Ag_c h1 h2).mpr ev⟩, fun z => z.1⟩), fun z => absurd z ch_10, fun q _ h => ⟨h, rfl⟩, hD, fun post hp => ?_⟩
      unfold wpX_matchArg
      exact br_f (ch_g64 h1 (by omega)) (br_t ev hp)
    · refine ⟨0, xbm, vs, Or.inl rfl, fun z => absurd z.symm ch_10, fun _ w z => ev ((ch_Ag_c h1 h2).mp z.2), fun q _ h => ⟨h, rfl⟩, hD, fun post hp => ?_⟩
      unfold wpX_matchArg
      exact br_f (ch_g64 h1 (by omega)) (br_f ev hp)
theorem cx_matchHead {r h i : Nat} {Q : (Nat → Int32) → Prop} (W : ch_W (ch_bl aR r)) (hr : r < 6) (hh : h < ch_nh (ch_bl aR r)) (hi : i < 160) (M : ch_M (ch_b xbm) Q vs)
    (hD : ∀ q, q < 6 → ch_b xbm q → ch_D (ch_bl aR r) 0 q) :
    ∃ q bm' vs', (q = 0 ∨ q = 1) ∧ (q = 1 → ch_M (ch_b bm') (fun w => Q w ∧ ch_Hd (ch_bl aR r) aS aA aB h i w) vs') ∧ (q = 0 → ∀ w, ¬ (Q w ∧ ch_Hd (ch_bl aR r) aS aA aB h i w)) ∧
      (∀ p, p < 6 → ch_b xbm p → ch_b bm' p ∧ vs' p = vs p) ∧ (∀ p, p < 6 → ch_b bm' p → ch_D (ch_bl aR r) 0 p) ∧
      ∀ post : Int32 → SX → Prop, post q (xsl, xll, xnc, xro, xob, xn, xal, xag, xtl, xlg, bm', aR, aP, aS, aA, aB, aL, bf, af, fo, lo, cR, cH, cF, cS, gI, gS, gA, gB, kR, kI, hs, iv, vs') → wpX_matchHead post (xsl, xll, xnc, xro, xob, xn, xal, xag, xtl, xlg, xbm, aR, aP, aS, aA, aB, aL, bf, af, fo, lo, cR, cH, cF, cS, gI, gS, gA, gB, kR, kI, hs, iv, vs) (nI r) (nI h) (nI i) := by
  have h3 : h < 3 := by have := W.1.2.1; omega
  obtain ⟨_, _, P1, P2⟩ := W.2.1 h hh
  have e0 : nI r * 40 + 3 + 4 * nI h = nI (40 * r + (3 + 4 * h)) := by
    rw [ch_t40, ch_a3, ch_4t, nI_add, Nat.add_assoc]
  have e1 : nI (40 * r + (3 + 4 * h)) + 1 = nI (40 * r + (4 + 4 * h)) := by rw [ch_a1]; exact congrArg nI (by omega)
  have e2 : nI (40 * r + (3 + 4 * h)) + 2 = nI (40 * r + (5 + 4 * h)) := by rw [ch_a2]; exact congrArg nI (by omega)
  have e3 : nI (40 * r + (3 + 4 * h)) + 3 = nI (40 * r + (6 + 4 * h)) := by rw [ch_a3]; exact congrArg nI (by omega)
  have k1 : aR (nI (40 * r + (4 + 4 * h))).toNatClampNeg = ch_bl aR r (4 + 4 * h) := by rw [nI_clamp (by omega)]; exact ch_blE (by omega)
  have k2 : aR (nI (40 * r + (5 + 4 * h))).toNatClampNeg = ch_bl aR r (5 + 4 * h) := by rw [nI_clamp (by omega)]; exact ch_blE (by omega)
  have k3 : aR (nI (40 * r + (6 + 4 * h))).toNatClampNeg = ch_bl aR r (6 + 4 * h) := by rw [nI_clamp (by omega)]; exact ch_blE (by omega)
  have ei : (nI i).toNatClampNeg = i := nI_clamp (by omega)
  have hi1 : vp_in (nI i) 160 := vp_in_nI hi (by omega)
  have i1 : vp_in (nI (40 * r + (4 + 4 * h))) 240 := vp_in_nI (by omega) (by omega)
  have i2 : vp_in (nI (40 * r + (5 + 4 * h))) 240 := vp_in_nI (by omega) (by omega)
  have i3 : vp_in (nI (40 * r + (6 + 4 * h))) 240 := vp_in_nI (by omega) (by omega)
  rcases Classical.em (aS i = ch_bl aR r (4 + 4 * h)) with cs | cs
  · obtain ⟨q1, b1, v1, q01, s1, n1, p1, d1, w1⟩ := cx_matchArg (v := aA i) P1 M hD (fun q hq e => ⟨hq, Or.inl ⟨h, hh, Or.inl e⟩⟩) (xsl := xsl) (xll := xll) (xnc := xnc) (xro := xro) (xob := xob) (xn := xn) (xal := xal) (xag := xag) (xtl := xtl) (xlg := xlg) (xbm := xbm) (aR := aR) (aP := aP) (aS := aS) (aA := aA) (aB := aB) (aL := aL) (bf := bf) (af := af) (fo := fo) (lo := lo) (cR := cR) (cH := cH) (cF := cF) (cS := cS) (gI := gI) (gS := gS) (gA := gA) (gB := gB) (kR := kR) (kI := kI) (hs := hs) (iv := iv) (vs := vs)
    rcases q01 with rfl | rfl
    · refine ⟨0, b1, v1, Or.inl rfl, fun z => absurd z.symm ch_10, fun _ w z => n1 rfl w ⟨z.1, z.2.2.1⟩, p1, d1, fun post hp => ?_⟩
      unfold wpX_matchHead
      refine nm_r e0 ?_
      rw [e1, e2, e3, k1, k2, ei]
      exact ⟨hi1, i1, br_t cs ⟨i2, hi1, w1 _ (br_t rfl hp)⟩⟩
    · obtain ⟨q2, b2, v2, q02, s2, n2, p2, d2, w2⟩ := cx_matchArg (v := aB i) P2 (s1 rfl) d1 (fun q hq e => ⟨hq, Or.inl ⟨h, hh, Or.inr e⟩⟩) (xsl := xsl) (xll := xll) (xnc := xnc) (xro := xro) (xob := xob) (xn := xn) (xal := xal) (xag := xag) (xtl := xtl) (xlg := xlg) (xbm := b1) (aR := aR) (aP := aP) (aS := aS) (aA := aA) (aB := aB) (aL := aL) (bf := bf) (af := af) (fo := fo) (lo := lo) (cR := cR) (cH := cH) (cF := cF) (cS := cS) (gI := gI) (gS := gS) (gA := gA) (gB := gB) (kR := kR) (kI := kI) (hs := hs) (iv := iv) (vs := v1)
      refine ⟨q2, b2, v2, q02, fun z => ch_M_cg (s2 z) (fun w => ⟨fun y => ⟨y.1.1, cs, y.1.2, y.2⟩, fun y => ⟨⟨y.1, y.2.2.1⟩, y.2.2.2⟩⟩), fun z w y => n2 z w ⟨⟨y.1, y.2.2.1⟩, y.2.2.2⟩,
        fun p hp hb => ⟨(p2 p hp (p1 p hp hb).1).1, ((p2 p hp (p1 p hp hb).1).2).trans (p1 p hp hb).2⟩, d2, fun post hp => ?_⟩
      unfold wpX_matchHead
      refine nm_r e0 ?_
      rw [e1, e2, e3, k1, k2, ei]
      refine ⟨hi1, i1, br_t cs ⟨i2, hi1, w1 _ (br_f ch_10 ⟨i3, hi1, ?_⟩)⟩⟩
      rw [k3]
      refine w2 _ ?_
      rcases q02 with rfl | rfl
      · exact br_t rfl hp
      · exact br_f ch_10 hp
  · refine ⟨0, xbm, vs, Or.inl rfl, fun z => absurd z.symm ch_10, fun _ w z => cs z.2.1, fun p _ h => ⟨h, rfl⟩, hD, fun post hp => ?_⟩
    unfold wpX_matchHead
    refine nm_r e0 ?_
    rw [e1, k1, ei]
    exact ⟨hi1, i1, br_f cs hp⟩
theorem cx_operand {p : Int32} (hp : ch_Pa p) (post : Int32 → Prop) (h : post (ch_ov p vs)) : wpX_operand post (xsl, xll, xnc, xro, xob, xn, xal, xag, xtl, xlg, xbm, aR, aP, aS, aA, aB, aL, bf, af, fo, lo, cR, cH, cF, cS, gI, gS, gA, gB, kR, kI, hs, iv, vs) p := by
  unfold wpX_operand
  rcases hp with ⟨q, hq, rfl⟩ | ⟨q, h1, h2, rfl⟩
  · rw [ch_ov_v hq] at h
    exact br_t (ch_n64 (by omega)) ⟨vp_in_nI hq (by omega), by rw [nI_clamp (by omega)]; exact h⟩
  · rw [ch_ov_c h1 h2] at h
    exact br_f (ch_g64 h1 (by omega)) h
theorem ch_Op_Pa {K : Nat → Int32} {i : Nat} {x : Int32} (h : ch_Op K i x) : ch_Pa x :=
  h.elim (fun ⟨p, e, d⟩ => Or.inl ⟨p, d.1, e⟩) Or.inr
theorem cx_stepHolds {r i : Nat} (W : ch_W (ch_bl aR r)) (hr : r < 6) (hi : i < ch_ns (ch_bl aR r)) :
    ∃ q, (q = 0 ∨ q = 1) ∧ (q = 1 ↔ ch_sOk (ch_bl aR r) i vs) ∧
      ∀ post : Int32 → SX → Prop, post q (xsl, xll, xnc, xro, xob, xn, xal, xag, xtl, xlg, xbm, aR, aP, aS, aA, aB, aL, bf, af, fo, lo, cR, cH, cF, cS, gI, gS, gA, gB, kR, kI, hs, iv, ch_sUp (ch_bl aR r) i vs) → wpX_stepHolds post (xsl, xll, xnc, xro, xob, xn, xal, xag, xtl, xlg, xbm, aR, aP, aS, aA, aB, aL, bf, af, fo, lo, cR, cH, cF, cS, gI, gS, gA, gB, kR, kI, hs, iv, vs) (nI (40 * r + (15 + 4 * i))) := by
  have h4 : i < 4 := by have := W.1.2.2.2.1; omega
  obtain ⟨⟨o, ho, eo, hv⟩, o1, o2⟩ := W.2.2.1 i hi
  have e1 : nI (40 * r + (15 + 4 * i)) + 1 = nI (40 * r + (16 + 4 * i)) := by rw [ch_a1]; exact congrArg nI (by omega)
  have e2 : nI (40 * r + (15 + 4 * i)) + 2 = nI (40 * r + (17 + 4 * i)) := by rw [ch_a2]; exact congrArg nI (by omega)
  have e3 : nI (40 * r + (15 + 4 * i)) + 3 = nI (40 * r + (18 + 4 * i)) := by rw [ch_a3]; exact congrArg nI (by omega)
  have k0 : aR (nI (40 * r + (15 + 4 * i))).toNatClampNeg = nI o := by rw [nI_clamp (by omega), ← eo]; exact ch_blE (by omega)
  have k1 : aR (nI (40 * r + (16 + 4 * i))).toNatClampNeg = ch_bl aR r (16 + 4 * i) := by rw [nI_clamp (by omega)]; exact ch_blE (by omega)
  have k2 : aR (nI (40 * r + (17 + 4 * i))).toNatClampNeg = ch_bl aR r (17 + 4 * i) := by rw [nI_clamp (by omega)]; exact ch_blE (by omega)
  have k3 : aR (nI (40 * r + (18 + 4 * i))).toNatClampNeg = ch_bl aR r (18 + 4 * i) := by rw [nI_clamp (by omega)]; exact ch_blE (by omega)
  have i0 : vp_in (nI (40 * r + (15 + 4 * i))) 240 := vp_in_nI (by omega) (by omega)
  have i1 : vp_in (nI (40 * r + (16 + 4 * i))) 240 := vp_in_nI (by omega) (by omega)
  have i2 : vp_in (nI (40 * r + (17 + 4 * i))) 240 := vp_in_nI (by omega) (by omega)
  have i3 : vp_in (nI (40 * r + (18 + 4 * i))) 240 := vp_in_nI (by omega) (by omega)
  have low : o < 5 → ch_sUp (ch_bl aR r) i vs = vs := fun z => by unfold ch_sUp; rw [eo, if_pos (show nI o < 5 from nI_lt (b := 5) z (by omega))]
  have high : 5 ≤ o → ∃ p, p < 6 ∧ ch_bl aR r (18 + 4 * i) = nI p ∧ ch_sUp (ch_bl aR r) i vs = upd vs p (ch_rs (nI o) (ch_sx (ch_bl aR r) i vs) (ch_sy (ch_bl aR r) i vs)) := by
    intro z
    obtain ⟨p, p6, ep, _⟩ := hv z
    refine ⟨p, p6, ep, ?_⟩
    unfold ch_sUp
    rw [eo, if_neg (show ¬ nI o < 5 from nI_nlt (b := 5) z (by omega)), ep, nI_clamp (by omega)]
  unfold ch_sOk
  rw [eo]
  have X1 : ∀ (post : Int32 → Prop), post (ch_sx (ch_bl aR r) i vs) → wpX_operand post (xsl, xll, xnc, xro, xob, xn, xal, xag, xtl, xlg, xbm, aR, aP, aS, aA, aB, aL, bf, af, fo, lo, cR, cH, cF, cS, gI, gS, gA, gB, kR, kI, hs, iv, vs) (ch_bl aR r (16 + 4 * i)) := fun post hp => cx_operand (ch_Op_Pa o1) post hp
  have X2 : ∀ (post : Int32 → Prop), post (ch_sy (ch_bl aR r) i vs) → wpX_operand post (xsl, xll, xnc, xro, xob, xn, xal, xag, xtl, xlg, xbm, aR, aP, aS, aA, aB, aL, bf, af, fo, lo, cR, cH, cF, cS, gI, gS, gA, gB, kR, kI, hs, iv, vs) (ch_bl aR r (17 + 4 * i)) := fun post hp => cx_operand (ch_Op_Pa o2) post hp
  have : o = 0 ∨ o = 1 ∨ o = 2 ∨ o = 3 ∨ o = 4 ∨ o = 5 ∨ o = 6 ∨ o = 7 := by omega
  rcases this with rfl | rfl | rfl | rfl | rfl | rfl | rfl | rfl
  · rw [low (by omega)]
    rcases Classical.em ((ch_sx (ch_bl aR r) i vs) = (ch_sy (ch_bl aR r) i vs)) with c | c
    · refine ⟨1, Or.inr rfl, ⟨fun _ => ⟨(fun _ => c), (fun z => absurd z (by decide)), (fun z => absurd z (by decide)), (fun z => absurd z (by decide)), (fun z => absurd z (by decide))⟩, fun _ => rfl⟩, fun post hp => ?_⟩
      unfold wpX_stepHolds
      dsimp only
      rw [e1, e2, e3, k0, k1, k2, k3]
      refine ⟨i1, X1 _ ⟨i2, X2 _ ⟨i3, nm_e ⟨i0, nm_e ?_⟩⟩⟩⟩
      exact br_f (by decide) (br_f (by decide) (br_t rfl (br_t c hp)))
    · refine ⟨0, Or.inl rfl, ⟨fun z => absurd z.symm ch_10, fun z => absurd (z.1 rfl) (c)⟩, fun post hp => ?_⟩
      unfold wpX_stepHolds
      dsimp only
      rw [e1, e2, e3, k0, k1, k2, k3]
      refine ⟨i1, X1 _ ⟨i2, X2 _ ⟨i3, nm_e ⟨i0, nm_e ?_⟩⟩⟩⟩
      exact br_f (by decide) (br_f (by decide) (br_t rfl (br_f c hp)))
  · rw [low (by omega)]
    rcases Classical.em ((ch_sx (ch_bl aR r) i vs) = (ch_sy (ch_bl aR r) i vs)) with c | c
    · refine ⟨0, Or.inl rfl, ⟨fun z => absurd z.symm ch_10, fun z => absurd (z.2.1 rfl) (fun z => z c)⟩, fun post hp => ?_⟩
      unfold wpX_stepHolds
      dsimp only
      rw [e1, e2, e3, k0, k1, k2, k3]
      refine ⟨i1, X1 _ ⟨i2, X2 _ ⟨i3, nm_e ⟨i0, nm_e ?_⟩⟩⟩⟩
      exact br_f (by decide) (br_f (by decide) (br_f (by decide) (br_t rfl (br_t c hp))))
    · refine ⟨1, Or.inr rfl, ⟨fun _ => ⟨(fun z => absurd z (by decide)), (fun _ => c), (fun z => absurd z (by decide)), (fun z => absurd z (by decide)), (fun z => absurd z (by decide))⟩, fun _ => rfl⟩, fun post hp => ?_⟩
      unfold wpX_stepHolds
      dsimp only
      rw [e1, e2, e3, k0, k1, k2, k3]
      refine ⟨i1, X1 _ ⟨i2, X2 _ ⟨i3, nm_e ⟨i0, nm_e ?_⟩⟩⟩⟩
      exact br_f (by decide) (br_f (by decide) (br_f (by decide) (br_t rfl (br_f c hp))))
  · rw [low (by omega)]
    rcases Classical.em ((ch_sy (ch_bl aR r) i vs) ≤ (ch_sx (ch_bl aR r) i vs)) with c | c
    · refine ⟨0, Or.inl rfl, ⟨fun z => absurd z.symm ch_10, fun z => absurd (z.2.2.1 rfl) (fun z => z c)⟩, fun post hp => ?_⟩
      unfold wpX_stepHolds
      dsimp only
      rw [e1, e2, e3, k0, k1, k2, k3]
      refine ⟨i1, X1 _ ⟨i2, X2 _ ⟨i3, nm_e ⟨i0, nm_e ?_⟩⟩⟩⟩
      exact br_f (by decide) (br_f (by decide) (br_f (by decide) (br_f (by decide) (br_t rfl (br_t c hp)))))
    · refine ⟨1, Or.inr rfl, ⟨fun _ => ⟨(fun z => absurd z (by decide)), (fun z => absurd z (by decide)), (fun _ => c), (fun z => absurd z (by decide)), (fun z => absurd z (by decide))⟩, fun _ => rfl⟩, fun post hp => ?_⟩
      unfold wpX_stepHolds
      dsimp only
      rw [e1, e2, e3, k0, k1, k2, k3]
      refine ⟨i1, X1 _ ⟨i2, X2 _ ⟨i3, nm_e ⟨i0, nm_e ?_⟩⟩⟩⟩
      exact br_f (by decide) (br_f (by decide) (br_f (by decide) (br_f (by decide) (br_t rfl (br_f c hp)))))
  · rw [low (by omega)]
    rcases Classical.em ((ch_sy (ch_bl aR r) i vs) < (ch_sx (ch_bl aR r) i vs)) with c | c
    · refine ⟨0, Or.inl rfl, ⟨fun z => absurd z.symm ch_10, fun z => absurd (z.2.2.2.1 rfl) (fun z => Int32.not_lt.mpr z c)⟩, fun post hp => ?_⟩
      unfold wpX_stepHolds
      dsimp only
      rw [e1, e2, e3, k0, k1, k2, k3]
      refine ⟨i1, X1 _ ⟨i2, X2 _ ⟨i3, nm_e ⟨i0, nm_e ?_⟩⟩⟩⟩
      exact br_f (by decide) (br_f (by decide) (br_f (by decide) (br_f (by decide) (br_f (by decide) (br_t rfl (br_t c hp))))))
    · refine ⟨1, Or.inr rfl, ⟨fun _ => ⟨(fun z => absurd z (by decide)), (fun z => absurd z (by decide)), (fun z => absurd z (by decide)), (fun _ => Int32.not_lt.mp c), (fun z => absurd z (by decide))⟩, fun _ => rfl⟩, fun post hp => ?_⟩
      unfold wpX_stepHolds
      dsimp only
      rw [e1, e2, e3, k0, k1, k2, k3]
      refine ⟨i1, X1 _ ⟨i2, X2 _ ⟨i3, nm_e ⟨i0, nm_e ?_⟩⟩⟩⟩
      exact br_f (by decide) (br_f (by decide) (br_f (by decide) (br_f (by decide) (br_f (by decide) (br_t rfl (br_f c hp))))))
  · rw [low (by omega)]
    rcases Classical.em ((ch_sx (ch_bl aR r) i vs) = 0) with c | c
    · refine ⟨0, Or.inl rfl, ⟨fun z => absurd z.symm ch_10, fun z => absurd (z.2.2.2.2 rfl) (fun z => z.1 c)⟩, fun post hp => ?_⟩
      unfold wpX_stepHolds
      dsimp only
      rw [e1, e2, e3, k0, k1, k2, k3]
      refine ⟨i1, X1 _ ⟨i2, X2 _ ⟨i3, nm_e ⟨i0, nm_e ?_⟩⟩⟩⟩
      exact br_f (by decide) (br_f (by decide) (br_f (by decide) (br_f (by decide) (br_f (by decide) (br_f (by decide) (br_t rfl (br_t c hp)))))))
    · rcases Classical.em ((ch_sy (ch_bl aR r) i vs) - (ch_sy (ch_bl aR r) i vs) / (ch_sx (ch_bl aR r) i vs) * (ch_sx (ch_bl aR r) i vs) = 0) with c2 | c2
      · refine ⟨1, Or.inr rfl, ⟨fun _ => ⟨(fun z => absurd z (by decide)), (fun z => absurd z (by decide)), (fun z => absurd z (by decide)), (fun z => absurd z (by decide)), (fun _ => ⟨c, c2⟩)⟩, fun _ => rfl⟩, fun post hp => ?_⟩
        unfold wpX_stepHolds
        dsimp only
        rw [e1, e2, e3, k0, k1, k2, k3]
        refine ⟨i1, X1 _ ⟨i2, X2 _ ⟨i3, nm_e ⟨i0, nm_e ?_⟩⟩⟩⟩
        exact br_f (by decide) (br_f (by decide) (br_f (by decide) (br_f (by decide) (br_f (by decide) (br_f (by decide) (br_t rfl (br_f c ⟨c, br_t c2 hp⟩)))))))
      · refine ⟨0, Or.inl rfl, ⟨fun z => absurd z.symm ch_10, fun z => absurd (z.2.2.2.2 rfl) (fun z => c2 z.2)⟩, fun post hp => ?_⟩
        unfold wpX_stepHolds
        dsimp only
        rw [e1, e2, e3, k0, k1, k2, k3]
        refine ⟨i1, X1 _ ⟨i2, X2 _ ⟨i3, nm_e ⟨i0, nm_e ?_⟩⟩⟩⟩
        exact br_f (by decide) (br_f (by decide) (br_f (by decide) (br_f (by decide) (br_f (by decide) (br_f (by decide) (br_t rfl (br_f c ⟨c, br_f c2 hp⟩)))))))
  · obtain ⟨p, p6, ep, up⟩ := high (by omega)
    have up : ch_sUp (ch_bl aR r) i vs = upd vs p ((ch_sx (ch_bl aR r) i vs) + (ch_sy (ch_bl aR r) i vs)) := up
    rw [up]
    refine ⟨1, Or.inr rfl, ⟨fun _ => ⟨(fun z => absurd z (by decide)), (fun z => absurd z (by decide)), (fun z => absurd z (by decide)), (fun z => absurd z (by decide)), (fun z => absurd z (by decide))⟩, fun _ => rfl⟩, fun post hp => ?_⟩
    unfold wpX_stepHolds
    dsimp only
    rw [e1, e2, e3, k0, k1, k2, k3, ep]
    refine ⟨i1, X1 _ ⟨i2, X2 _ ⟨i3, nm_e ⟨i0, nm_e ?_⟩⟩⟩⟩
    refine br_f (by decide) (br_f (by decide) (br_f (by decide) (br_f (by decide) (br_f (by decide) (br_f (by decide) (br_f (by decide) (br_t rfl (⟨vp_in_nI p6 (by omega), nm_r (e' := upd vs p ((ch_sx (ch_bl aR r) i vs) + (ch_sy (ch_bl aR r) i vs))) ?_ hp⟩))))))))
    rw [nI_clamp (by omega)]
  · obtain ⟨p, p6, ep, up⟩ := high (by omega)
    have up : ch_sUp (ch_bl aR r) i vs = upd vs p ((ch_sx (ch_bl aR r) i vs) - (ch_sy (ch_bl aR r) i vs)) := up
    rw [up]
    refine ⟨1, Or.inr rfl, ⟨fun _ => ⟨(fun z => absurd z (by decide)), (fun z => absurd z (by decide)), (fun z => absurd z (by decide)), (fun z => absurd z (by decide)), (fun z => absurd z (by decide))⟩, fun _ => rfl⟩, fun post hp => ?_⟩
    unfold wpX_stepHolds
    dsimp only
    rw [e1, e2, e3, k0, k1, k2, k3, ep]
    refine ⟨i1, X1 _ ⟨i2, X2 _ ⟨i3, nm_e ⟨i0, nm_e ?_⟩⟩⟩⟩
    refine br_f (by decide) (br_f (by decide) (br_f (by decide) (br_f (by decide) (br_f (by decide) (br_f (by decide) (br_f (by decide) (br_f (by decide) (br_t rfl (⟨vp_in_nI p6 (by omega), nm_r (e' := upd vs p ((ch_sx (ch_bl aR r) i vs) - (ch_sy (ch_bl aR r) i vs))) ?_ hp⟩)))))))))
    rw [nI_clamp (by omega)]
  · obtain ⟨p, p6, ep, up⟩ := high (by omega)
    have up : ch_sUp (ch_bl aR r) i vs = upd vs p ((ch_sx (ch_bl aR r) i vs) * (ch_sy (ch_bl aR r) i vs)) := up
    rw [up]
    refine ⟨1, Or.inr rfl, ⟨fun _ => ⟨(fun z => absurd z (by decide)), (fun z => absurd z (by decide)), (fun z => absurd z (by decide)), (fun z => absurd z (by decide)), (fun z => absurd z (by decide))⟩, fun _ => rfl⟩, fun post hp => ?_⟩
    unfold wpX_stepHolds
    dsimp only
    rw [e1, e2, e3, k0, k1, k2, k3, ep]
    refine ⟨i1, X1 _ ⟨i2, X2 _ ⟨i3, nm_e ⟨i0, nm_e ?_⟩⟩⟩⟩
    refine br_f (by decide) (br_t (by decide) (⟨vp_in_nI p6 (by omega), nm_r (e' := upd vs p ((ch_sx (ch_bl aR r) i vs) * (ch_sy (ch_bl aR r) i vs))) ?_ hp⟩))
    rw [nI_clamp (by omega)]
/-- the slot of a key -/
theorem cx_slotOf_lp {x : Int32} {m : Nat} (hm : m < 128) (h1 : hs ((ch_st x + m) % 128) = x ∨ hs ((ch_st x + m) % 128) = 0)
    (h2 : ∀ i, i < m → ¬ hs ((ch_st x + i) % 128) = x ∧ ¬ hs ((ch_st x + i) % 128) = 0) (post : Int32 → Prop) (hp : post (nI ((ch_st x + m) % 128))) :
    ∀ d i, i + d = m → wX_slotOf_10 post x xsl xll xnc xro xob xn xal xag xtl xlg xbm aR aP aS aA aB aL bf af fo lo cR cH cF cS gI gS gA gB kR kI hs iv vs (d + 1) (nI ((ch_st x + i) % 128)) (nI i) := by
  intro d
  induction d with
  | zero =>
    intro i hi
    have : i = m := by omega
    subst this
    have hin : vp_in (nI ((ch_st x + i) % 128)) 128 := vp_in_nI (by omega) (by omega)
    have e : (nI ((ch_st x + i) % 128)).toNatClampNeg = (ch_st x + i) % 128 := nI_clamp (by omega)
    unfold wX_slotOf_10
    refine br_f (nI_ge (b := 128) hm (by omega)) ⟨hin, ?_⟩
    rw [e]
    rcases Classical.em (hs ((ch_st x + i) % 128) = x) with z | z
    · exact br_t z hp
    · exact br_f z ⟨hin, br_t (h1.resolve_left z) hp⟩
  | succ d ih =>
    intro i hi
    have hin : vp_in (nI ((ch_st x + i) % 128)) 128 := vp_in_nI (by omega) (by omega)
    have e : (nI ((ch_st x + i) % 128)).toNatClampNeg = (ch_st x + i) % 128 := nI_clamp (by omega)
    obtain ⟨z1, z2⟩ := h2 i (by omega)
    have e7 : (nI ((ch_st x + i) % 128) + 1) &&& 127 = nI ((ch_st x + (i + 1)) % 128) := by
      rw [ch_a1, pk_andN (by omega) 7 (by decide)]
      exact congrArg nI (by omega)
    unfold wX_slotOf_10
    refine br_f (nI_ge (b := 128) (by omega) (by omega)) ⟨hin, ?_⟩
    rw [e]
    exact br_f z1 ⟨hin, br_f z2 (nm_r e7 (nm_r (ch_a1 i) (ih (i + 1) (by omega))))⟩
theorem cx_slotOf {x : Int32} {m : Nat} (hm : m < 128) (h1 : hs ((ch_st x + m) % 128) = x ∨ hs ((ch_st x + m) % 128) = 0)
    (h2 : ∀ i, i < m → ¬ hs ((ch_st x + i) % 128) = x ∧ ¬ hs ((ch_st x + i) % 128) = 0) (post : Int32 → Prop) (hp : post (nI ((ch_st x + m) % 128))) : wpX_slotOf post (xsl, xll, xnc, xro, xob, xn, xal, xag, xtl, xlg, xbm, aR, aP, aS, aA, aB, aL, bf, af, fo, lo, cR, cH, cF, cS, gI, gS, gA, gB, kR, kI, hs, iv, vs) x := by
  unfold wpX_slotOf
  refine nm_r (ch_st_e x) ⟨m + 1, ?_⟩
  have := cx_slotOf_lp hm h1 h2 post hp m 0 (by omega) (xsl := xsl) (xll := xll) (xnc := xnc) (xro := xro) (xob := xob) (xn := xn) (xal := xal) (xag := xag) (xtl := xtl) (xlg := xlg) (xbm := xbm) (aR := aR) (aP := aP) (aS := aS) (aA := aA) (aB := aB) (aL := aL) (bf := bf) (af := af) (fo := fo) (lo := lo) (cR := cR) (cH := cH) (cF := cF) (cS := cS) (gI := gI) (gS := gS) (gA := gA) (gB := gB) (kR := kR) (kI := kI) (hs := hs) (iv := iv) (vs := vs)
  rwa [show (ch_st x + 0) % 128 = ch_st x by have := ch_st_lt x; omega] at this
theorem ch_ky (u : Int32) (a : Nat) : u + ch_cd a + 1 = u + nI a := by
  unfold ch_cd
  rw [Int32.add_assoc, Int32.sub_add_cancel]
theorem ch_256 (a : Nat) : nI a * 256 = nI (a * 256) := pk_mul a 256
theorem cx_keyOf {r a b d : Nat} (ea : iv 0 = ch_cd a) (eb : iv 1 = ch_cd b) (ed : iv 2 = ch_cd d) (post : Int32 → Prop) (hp : post (nI (ch_key r a b d))) : wpX_keyOf post (xsl, xll, xnc, xro, xob, xn, xal, xag, xtl, xlg, xbm, aR, aP, aS, aA, aB, aL, bf, af, fo, lo, cR, cH, cF, cS, gI, gS, gA, gB, kR, kI, hs, iv, vs) (nI r) := by
  unfold wpX_keyOf
  refine nm_r (e' := nI (r * 256 + a)) (by rw [ea, ch_ky, ch_256, nI_add]) (nm_r (e' := nI ((r * 256 + a) * 256 + b)) (by rw [eb, ch_ky, ch_256, nI_add]) ?_)
  rw [ed, ch_ky, ch_256, nI_add]
  exact hp
theorem cx_logged {r a b d lg : Nat} {R' G : Nat → Int32} (ea : iv 0 = ch_cd a) (eb : iv 1 = ch_cd b) (ed : iv 2 = ch_cd d) (H : ch_HI R' G hs lg) (hl : lg < 128)
    (h0 : r < 6) (h1 : 1 ≤ a) (h2 : a ≤ 160) (h3 : b ≤ 160) (h4 : d ≤ 160) (p : ch_Pr (ch_bl R' r)) :
    ∃ q, (q = 0 ∨ q = 1) ∧ (q = 1 ↔ ch_Lg G lg (nI r) (ch_cd a) (ch_cd b) (ch_cd d)) ∧ ∀ post : Int32 → Prop, post q → wpX_logged post (xsl, xll, xnc, xro, xob, xn, xal, xag, xtl, xlg, xbm, aR, aP, aS, aA, aB, aL, bf, af, fo, lo, cR, cH, cF, cS, gI, gS, gA, gB, kR, kI, hs, iv, vs) (nI r) := by
  obtain ⟨m, hm, m1, m2⟩ := ch_probe hs (nI (ch_key r a b d)) (Nat.lt_of_le_of_lt H.2.2.2 hl)
  have iff := (ch_find H (ch_nk h0 h1 h2 h3 h4) hm m1 m2).trans (ch_lgd H h0 h1 h2 h3 h4 p)
  have hin : vp_in (nI ((ch_st (nI (ch_key r a b d)) + m) % 128)) 128 := vp_in_nI (by omega) (by omega)
  have e : (nI ((ch_st (nI (ch_key r a b d)) + m) % 128)).toNatClampNeg = (ch_st (nI (ch_key r a b d)) + m) % 128 := nI_clamp (by omega)
  rcases Classical.em (hs ((ch_st (nI (ch_key r a b d)) + m) % 128) = nI (ch_key r a b d)) with z | z
  · refine ⟨1, Or.inr rfl, ⟨fun _ => iff.mp z, fun _ => rfl⟩, fun post hp => ?_⟩
    unfold wpX_logged
    refine cx_keyOf ea eb ed _ (cx_slotOf hm m1 m2 _ ⟨hin, ?_⟩)
    rw [e]
    exact br_t z hp
  · refine ⟨0, Or.inl rfl, ⟨fun y => absurd y.symm ch_10, fun y => absurd (iff.mpr y) z⟩, fun post hp => ?_⟩
    unfold wpX_logged
    refine cx_keyOf ea eb ed _ (cx_slotOf hm m1 m2 _ ⟨hin, ?_⟩)
    rw [e]
    exact br_f z hp
theorem cx_holds_lp {r : Nat} {LGD : Prop} {v0 : Nat → Int32} (W : ch_W (ch_bl aR r)) (hr : r < 6)
    (HL : ¬ aP r = 0 → ∀ vs : Nat → Int32, ∃ q, (q = 0 ∨ q = 1) ∧ (q = 1 ↔ LGD) ∧ ∀ post : Int32 → Prop, post q → wpX_logged post (xsl, xll, xnc, xro, xob, xn, xal, xag, xtl, xlg, xbm, aR, aP, aS, aA, aB, aL, bf, af, fo, lo, cR, cH, cF, cS, gI, gS, gA, gB, kR, kI, hs, iv, vs) (nI r)) :
    ∀ d i, i + d = ch_ns (ch_bl aR r) → (∀ j, j < i → ch_sOk (ch_bl aR r) j (ch_sV (ch_bl aR r) j v0)) →
    ∃ q j, (q = 0 ∨ q = 1) ∧ j ≤ ch_ns (ch_bl aR r) ∧ (q = 1 ↔ ch_Gd (ch_bl aR r) v0 ∧ (¬ aP r = 0 → ¬ LGD)) ∧ (q = 1 → j = ch_ns (ch_bl aR r)) ∧
      ∀ post : Int32 → SX → Prop, post q (xsl, xll, xnc, xro, xob, xn, xal, xag, xtl, xlg, xbm, aR, aP, aS, aA, aB, aL, bf, af, fo, lo, cR, cH, cF, cS, gI, gS, gA, gB, kR, kI, hs, iv, ch_sV (ch_bl aR r) j v0) → wX_holds_17 post (nI r) (nI (40 * r)) (nI (ch_ns (ch_bl aR r))) (d + 1) (nI i) xsl xll xnc xro xob xn xal xag xtl xlg xbm aR aP aS aA aB aL bf af fo lo cR cH cF cS gI gS gA gB kR kI hs iv (ch_sV (ch_bl aR r) i v0) := by
  have h4 := W.1.2.2.2.1
  intro d
  induction d with
  | zero =>
    intro i hi ok
    have e : i = ch_ns (ch_bl aR r) := by omega
    subst e
    have er : (nI r).toNatClampNeg = r := nI_clamp (by omega)
    have hin : vp_in (nI r) 6 := vp_in_nI hr (by omega)
    rcases Classical.em (aP r = 0) with z | z
    · refine ⟨1, ch_ns (ch_bl aR r), Or.inr rfl, Nat.le_refl _, ⟨fun _ => ⟨ok, fun y => absurd z y⟩, fun _ => rfl⟩, fun _ => rfl, fun post hp => ?_⟩
      unfold wX_holds_17
      refine br_t (Int32.le_refl _) ⟨hin, ?_⟩
      rw [er]
      exact br_t z hp
    · obtain ⟨q, q01, qi, w⟩ := HL z (ch_sV (ch_bl aR r) (ch_ns (ch_bl aR r)) v0)
      rcases q01 with rfl | rfl
      · refine ⟨1, ch_ns (ch_bl aR r), Or.inr rfl, Nat.le_refl _, ⟨fun _ => ⟨ok, fun _ y => absurd (qi.mpr y).symm ch_10⟩, fun _ => rfl⟩, fun _ => rfl, fun post hp => ?_⟩
        unfold wX_holds_17
        refine br_t (Int32.le_refl _) ⟨hin, ?_⟩
        rw [er]
        exact br_f z (w _ (br_t rfl hp))
      · refine ⟨0, ch_ns (ch_bl aR r), Or.inl rfl, Nat.le_refl _, ⟨fun y => absurd y.symm ch_10, fun y => absurd (qi.mp rfl) (y.2 z)⟩, fun _ => rfl, fun post hp => ?_⟩
        unfold wX_holds_17
        refine br_t (Int32.le_refl _) ⟨hin, ?_⟩
        rw [er]
        exact br_f z (w _ (br_f ch_10 hp))
  | succ d ih =>
    intro i hi ok
    obtain ⟨q, q01, qi, w⟩ := cx_stepHolds W hr (show i < ch_ns (ch_bl aR r) by omega) (xsl := xsl) (xll := xll) (xnc := xnc) (xro := xro) (xob := xob) (xn := xn) (xal := xal) (xag := xag) (xtl := xtl) (xlg := xlg) (xbm := xbm) (aR := aR) (aP := aP) (aS := aS) (aA := aA) (aB := aB) (aL := aL) (bf := bf) (af := af) (fo := fo) (lo := lo) (cR := cR) (cH := cH) (cF := cF) (cS := cS) (gI := gI) (gS := gS) (gA := gA) (gB := gB) (kR := kR) (kI := kI) (hs := hs) (iv := iv) (vs := ch_sV (ch_bl aR r) i v0)
    have e : nI (40 * r) + 15 + 4 * nI i = nI (40 * r + (15 + 4 * i)) := by rw [ch_a15, ch_4t, nI_add, Nat.add_assoc]
    have nle : ¬ nI (ch_ns (ch_bl aR r)) ≤ nI i := nI_ge (by omega) (by omega)
    rcases q01 with rfl | rfl
    · refine ⟨0, i + 1, Or.inl rfl, by omega, ⟨fun y => absurd y.symm ch_10, fun y => absurd (qi.mpr (y.1 i (by omega))) (fun z => ch_10 z.symm)⟩, fun y => absurd y.symm ch_10, fun post hp => ?_⟩
      unfold wX_holds_17
      refine br_f nle ?_
      rw [e]
      exact w _ (br_t rfl hp)
    · obtain ⟨q2, j, a1, a2, a3, a4, a5⟩ := ih (i + 1) (by omega) (fun j hj => by
        rcases Nat.lt_or_ge j i with z | z
        · exact ok j z
        · rw [show j = i by omega]; exact qi.mp rfl)
      refine ⟨q2, j, a1, a2, a3, a4, fun post hp => ?_⟩
      unfold wX_holds_17
      refine br_f nle ?_
      rw [e]
      exact w _ (br_f ch_10 (nm_r (ch_a1 i) (a5 post hp)))
/-- the steps and the log, for matched heads -/
theorem cx_holds {r : Nat} {LGD : Prop} (W : ch_W (ch_bl aR r)) (hr : r < 6)
    (HL : ¬ aP r = 0 → ∀ vs : Nat → Int32, ∃ q, (q = 0 ∨ q = 1) ∧ (q = 1 ↔ LGD) ∧ ∀ post : Int32 → Prop, post q → wpX_logged post (xsl, xll, xnc, xro, xob, xn, xal, xag, xtl, xlg, xbm, aR, aP, aS, aA, aB, aL, bf, af, fo, lo, cR, cH, cF, cS, gI, gS, gA, gB, kR, kI, hs, iv, vs) (nI r)) :
    ∃ q vs', (q = 0 ∨ q = 1) ∧ (q = 1 ↔ ch_Gd (ch_bl aR r) vs ∧ (¬ aP r = 0 → ¬ LGD)) ∧ (q = 1 → vs' = ch_Fn (ch_bl aR r) vs) ∧ (∀ p, ch_D (ch_bl aR r) 0 p → vs' p = vs p) ∧
      ∀ post : Int32 → SX → Prop, post q (xsl, xll, xnc, xro, xob, xn, xal, xag, xtl, xlg, xbm, aR, aP, aS, aA, aB, aL, bf, af, fo, lo, cR, cH, cF, cS, gI, gS, gA, gB, kR, kI, hs, iv, vs') → wpX_holds post (xsl, xll, xnc, xro, xob, xn, xal, xag, xtl, xlg, xbm, aR, aP, aS, aA, aB, aL, bf, af, fo, lo, cR, cH, cF, cS, gI, gS, gA, gB, kR, kI, hs, iv, vs) (nI r) := by
  obtain ⟨q, j, a1, a2, a3, a4, a5⟩ := cx_holds_lp (v0 := vs) W hr HL (ch_ns (ch_bl aR r)) 0 (by omega) (fun j hj => by omega)
  refine ⟨q, ch_sV (ch_bl aR r) j vs, a1, a3, fun z => by rw [a4 z]; rfl, fun p d => ch_sV_keep W vs j a2 p d, fun post hp => ?_⟩
  have e1 : nI (40 * r) + 1 = nI (40 * r + 1) := ch_a1 _
  have k1 : aR (nI (40 * r + 1)).toNatClampNeg = nI (ch_ns (ch_bl aR r)) := by rw [nI_clamp (by omega), ← W.1.2.2.1]; exact ch_blE (by omega)
  unfold wpX_holds
  refine nm_r (ch_t40 r) ?_
  rw [e1, k1]
  exact ⟨vp_in_nI (by omega) (by omega), nm_e ⟨_, a5 post hp⟩⟩
end
end
section
/-- what the search leans on -/
def ch_SC (aR aP aS aL bf af fo lo hs yG : Nat → Int32) (n lg nc : Nat) (T : Nat → Nat) : Prop :=
  n ≤ 160 ∧ lg < 128 ∧ nc ≤ 6 ∧ ch_LK aS aL bf af fo lo n T ∧ ch_HI aR yG hs lg ∧ (∀ r, r < nc → ch_W (ch_bl aR r) ∧ 1 ≤ ch_nh (ch_bl aR r) ∧ (¬ aP r = 0 ↔ ch_Pr (ch_bl aR r)))
/-- found: the cursor of c stands at (r, h, f, s), and the ids and values are in hand -/
def ch_Fd (aR aS aA aB aL yG cF cS iv vs : Nat → Int32) (n lg nc : Nat) (T : Nat → Nat) (c r h f s : Nat) : Prop :=
  f ≤ c ∧ s ≤ c ∧ cF c = ch_cd f ∧ cS c = ch_cd s ∧ (1 ≤ f → aS (f - 1) = ch_bl aR r (4 + 4 * ch_fh h) ∧ (¬ aL (f - 1) = 0 ∨ c < T (f - 1))) ∧
  (1 ≤ s → aS (s - 1) = ch_bl aR r (4 + 4 * ch_sh h) ∧ (¬ aL (s - 1) = 0 ∨ c < T (s - 1))) ∧ ch_NB aR aS aA aB aL yG n lg nc c r h f s ∧ ch_PX aR aS aA aB aL yG n lg c r h f s ∧
  iv 0 = ch_ix h (nI c) (ch_cd f) ∧ iv 1 = ch_iy h (nI c) (ch_cd f) (ch_cd s) ∧ iv 2 = ch_iz h (nI c) (ch_cd s) ∧
  ∃ w, ch_Mt (ch_bl aR r) aS aA aB (ch_ix h (nI c) (ch_cd f)) (ch_iy h (nI c) (ch_cd f) (ch_cd s)) (ch_iz h (nI c) (ch_cd s)) w ∧ vs = ch_Fn (ch_bl aR r) w
section
variable {xsl xll xnc xro xob xn xal xag xtl xlg xbm : Int32} {aR aP aS aA aB aL bf af fo lo cR cH cF cS gI gS gA gB kR kI hs iv vs : Nat → Int32}
variable {yG : Nat → Int32} {n lg nc c r h : Nat} {T : Nat → Nat}
/-- the last test of a matched choice -/
theorem cx_test {f s : Nat} {b0 : Nat → Prop} {Q : (Nat → Int32) → Prop} (C : ch_SC aR aP aS aL bf af fo lo hs yG n lg nc T) (hr : r < nc) (h3 : h < 3) (hc : c < 160) (hf : f ≤ 160) (hs1 : s ≤ 160)
    (hf1 : h = 0 ∨ 1 ≤ f) (e0 : iv 0 = ch_ix h (nI c) (ch_cd f)) (e1 : iv 1 = ch_iy h (nI c) (ch_cd f) (ch_cd s)) (e2 : iv 2 = ch_iz h (nI c) (ch_cd s))
    (M : ch_M b0 Q vs) (QM : ∀ w, Q w ↔ ch_Mt (ch_bl aR r) aS aA aB (ch_ix h (nI c) (ch_cd f)) (ch_iy h (nI c) (ch_cd f) (ch_cd s)) (ch_iz h (nI c) (ch_cd s)) w) :
    ∃ q vs', (q = 0 ∨ q = 1) ∧ (ch_Id (ch_bl aR r) aL n (ch_ix h (nI c) (ch_cd f)) (ch_iy h (nI c) (ch_cd f) (ch_cd s)) (ch_iz h (nI c) (ch_cd s)) → (q = 1 ↔ ch_PX aR aS aA aB aL yG n lg c r h f s)) ∧
      (q = 1 → ∃ w, ch_Mt (ch_bl aR r) aS aA aB (ch_ix h (nI c) (ch_cd f)) (ch_iy h (nI c) (ch_cd f) (ch_cd s)) (ch_iz h (nI c) (ch_cd s)) w ∧ vs' = ch_Fn (ch_bl aR r) w) ∧
      (∀ p, ch_D (ch_bl aR r) 0 p → vs' p = vs p) ∧ ∀ post : Int32 → SX → Prop, post q (xsl, xll, xnc, xro, xob, xn, xal, xag, xtl, xlg, xbm, aR, aP, aS, aA, aB, aL, bf, af, fo, lo, cR, cH, cF, cS, gI, gS, gA, gB, kR, kI, hs, iv, vs') → wpX_holds post (xsl, xll, xnc, xro, xob, xn, xal, xag, xtl, xlg, xbm, aR, aP, aS, aA, aB, aL, bf, af, fo, lo, cR, cH, cF, cS, gI, gS, gA, gB, kR, kI, hs, iv, vs) (nI r) := by
  obtain ⟨c1, c2, c3, c4, c5, c6⟩ := C
  obtain ⟨W, n1, pr⟩ := c6 r hr
  obtain ⟨a, b, d, a1, a2, a3, a4, x1, x2, x3⟩ := ch_codes h3 hc hf hs1 hf1
  obtain ⟨q, vs', q01, qi, q1, kp, w⟩ := cx_holds (LGD := ch_Lg yG lg (nI r) (ch_cd a) (ch_cd b) (ch_cd d)) W (by omega)
    (fun np vs => cx_logged (e0.trans x1) (e1.trans x2) (e2.trans x3) c5 c2 (by omega) a1 a2 a3 a4 (pr.mp np) (xsl := xsl) (xll := xll) (xnc := xnc) (xro := xro) (xob := xob) (xn := xn) (xal := xal) (xag := xag) (xtl := xtl) (xlg := xlg) (xbm := xbm) (aR := aR) (aP := aP) (aS := aS) (aA := aA) (aB := aB) (aL := aL) (bf := bf) (af := af) (fo := fo) (lo := lo) (cR := cR) (cH := cH) (cF := cF) (cS := cS) (gI := gI) (gS := gS) (gA := gA) (gB := gB) (kR := kR) (kI := kI) (hs := hs) (iv := iv) (vs := vs)) (xsl := xsl) (xll := xll) (xnc := xnc) (xro := xro) (xob := xob) (xn := xn) (xal := xal) (xag := xag) (xtl := xtl) (xlg := xlg) (xbm := xbm) (aR := aR) (aP := aP) (aS := aS) (aA := aA) (aB := aB) (aL := aL) (bf := bf) (af := af) (fo := fo) (lo := lo) (cR := cR) (cH := cH) (cF := cF) (cS := cS) (gI := gI) (gS := gS) (gA := gA) (gB := gB) (kR := kR) (kI := kI) (hs := hs) (iv := iv) (vs := vs)
  have mv := (QM vs).mp (ch_M_self M)
  refine ⟨q, vs', q01, fun I => ?_, fun z => ⟨vs, mv, q1 z⟩, kp, w⟩
  rw [qi]
  unfold ch_PX ch_Ap
  rw [x1, x2, x3] at mv I ⊢
  constructor
  · rintro ⟨g, l⟩
    exact ⟨I, ⟨vs, mv, g⟩, fun z => l (pr.mpr z)⟩
  · rintro ⟨_, ⟨w, mw, g⟩, l⟩
    exact ⟨ch_Gd_ag W (ch_Mt_ag W mw mv) g, fun z => l (pr.mp z)⟩
/-- X's walk through the ids at the second of the other heads -/
theorem cx_second_lp {i1 : Nat} {bm0 : Int32} (C : ch_SC aR aP aS aL bf af fo lo hs yG n lg nc T) (hr : r < nc) (n3 : ch_nh (ch_bl aR r) = 3) (hh : h < 3) (hc : c < n) (ac : ¬ aL c = 0)
    (h1 : i1 < c) (a1 : ¬ aL i1 = 0) (ef : cF c = nI i1) (ef2 : aS i1 = ch_bl aR r (4 + 4 * ch_fh h)) (hD : ∀ p, p < 6 → ch_b bm0 p → ch_D (ch_bl aR r) 0 p) :
    ∀ d l y e cS bm vs iv, c - l ≤ d → y ≤ l → l ≤ c → ch_Ch aS aL n T c (ch_bl aR r (4 + 4 * ch_sh h)) l e → ch_NB aR aS aA aB aL yG n lg nc c r h (i1 + 1) (l + 1) →
    ch_M (ch_b bm0) (fun w => ch_Hd (ch_bl aR r) aS aA aB h c w ∧ ch_Hd (ch_bl aR r) aS aA aB (ch_fh h) i1 w) vs → iv h = nI c → iv (ch_fh h) = nI i1 →
    ∃ q cS' bm' vs' iv', (q = 0 ∨ q = 1) ∧ (∀ j, j ≠ c → cS' j = cS j) ∧
      (q = 1 → ∃ s, ch_Fd aR aS aA aB aL yG cF cS' iv' vs' n lg nc T c r h (i1 + 1) s) ∧
      (q = 0 → ch_NB aR aS aA aB aL yG n lg nc c r h (i1 + 2) 0 ∧ (∀ p, p < 6 → ch_b bm0 p → vs' p = vs p) ∧ iv' h = nI c) ∧
      ∀ post : Int32 → SX → Prop, post q (xsl, xll, xnc, xro, xob, xn, xal, xag, xtl, xlg, bm', aR, aP, aS, aA, aB, aL, bf, af, fo, lo, cR, cH, cF, cS', gI, gS, gA, gB, kR, kI, hs, iv', vs') → wX_seekSecond_58 post (nI c) (nI r) (nI (ch_sh h)) bm0 (d + 1) e (nI y) xsl xll xnc xro xob xn xal xag xtl xlg bm aR aP aS aA aB aL bf af fo lo cR cH cF cS gI gS gA gB kR kI hs iv vs := by
  have W := (C.2.2.2.2.2 r hr).1
  have n160 := C.1
  have nc6 := C.2.2.1
  have H := ch_fs hh
  have nof : ∀ s, s ≤ c → ch_PX aR aS aA aB aL yG n lg c r h (i1 + 1) s → 1 ≤ s ∧ ¬ aL (s - 1) = 0 ∧ aS (s - 1) = ch_bl aR r (4 + 4 * ch_sh h) ∧ s ≠ i1 + 1 := by
    intro s hs p
    have q := (ch_Id_iff (by omega) (by omega) (by omega) (by omega) (by omega) (by omega)).mp p.1
    obtain ⟨_, _, _, q4, _⟩ := q
    obtain ⟨b1, b2, b3, b4, b5⟩ := q4 (by omega)
    obtain ⟨w, mw, _⟩ := p.2.1
    have mw := (ch_Mt_iff (by omega) (by omega) (by omega) (by omega) (by omega) (fun _ => by omega) (fun _ => b1)).mp mw
    exact ⟨b1, b4, (mw.2.2 (by omega)).1, fun z => b5 z.symm⟩
  intro d
  induction d with
  | zero =>
    intro l y e cS bm vs iv hd hy hl ch nb M v1 v2
    have lc : l = c := by omega
    refine ⟨0, cS, bm, vs, iv, Or.inl rfl, fun _ _ => rfl, fun z => absurd z.symm ch_10, fun _ => ⟨?_, fun _ _ _ => rfl, v1⟩, fun post hp => ?_⟩
    · refine ch_NB_ff nb (fun f' s' f1 f2 f3 s1 s2 p => ?_)
      have : f' = i1 + 1 := by omega
      have := s2 this
      omega
    · unfold wX_seekSecond_58
      refine br_f (nI_ge (b := 160) (by omega) (by omega)) ?_
      rcases ch with ⟨e1, _⟩ | ⟨i, e1, i1, i2, _⟩
      · exact br_t e1 hp
      · subst e1
        exact br_f (ch_m1 (by omega)) (br_t (nI_le (by omega) (by omega)) hp)
  | succ d ih =>
    intro l y e cS bm vs iv hd hy hl ch nb M v1 v2
    have y160 : ¬ (160 : Int32) ≤ nI y := nI_ge (b := 160) (by omega) (by omega)
    rcases ch with ⟨e1, ch⟩ | ⟨i, e1, li, i_n, si, ch, cT⟩
    · refine ⟨0, cS, bm, vs, iv, Or.inl rfl, fun _ _ => rfl, fun z => absurd z.symm ch_10, fun _ => ⟨?_, fun _ _ _ => rfl, v1⟩, fun post hp => ?_⟩
      · refine ch_NB_ff nb (fun f' s' f1 f2 f3 s1 s2 p => ?_)
        have ff : f' = i1 + 1 := by omega
        have ss := s2 ff
        subst ff
        obtain ⟨b1, b2, b3, b4⟩ := nof s' s1 p
        exact ch (s' - 1) (by omega) (by omega) b2 b3
      · unfold wX_seekSecond_58
        exact br_f y160 (br_t e1 hp)
    · subst e1
      rcases Nat.lt_or_ge i c with ic | ic
      · have ei : (nI i).toNatClampNeg = i := nI_clamp (by omega)
        have ec : (nI c).toNatClampNeg = c := nI_clamp (by omega)
        have hin : vp_in (nI i) 160 := vp_in_nI (by omega) (by omega)
        have cin : vp_in (nI c) 160 := vp_in_nI (by omega) (by omega)
        have nb1 : ch_NB aR aS aA aB aL yG n lg nc c r h (i1 + 1) (i + 1) := by
          refine ch_NB_ss nb (fun s' s1 s2 s3 p => ?_)
          obtain ⟨b1, b2, b3, b4⟩ := nof s' s3 p
          exact ch (s' - 1) (by omega) (by omega) b2 b3
        have ch1 : ch_Ch aS aL n T c (ch_bl aR r (4 + 4 * ch_sh h)) (i + 1) (af i) := by
          have := ch_Ch_s C.2.2.2.1 (by omega) ic (cT ic)
          rwa [si] at this
        have next : ∀ bm1 vs1 iv1, ¬ ch_PX aR aS aA aB aL yG n lg c r h (i1 + 1) (i + 1) → (∀ p, p < 6 → ch_b bm0 p → vs1 p = vs p) → iv1 h = nI c → iv1 (ch_fh h) = nI i1 →
            ∃ q cS' bm' vs' iv', (q = 0 ∨ q = 1) ∧ (∀ j, j ≠ c → cS' j = cS j) ∧
              (q = 1 → ∃ s, ch_Fd aR aS aA aB aL yG cF cS' iv' vs' n lg nc T c r h (i1 + 1) s) ∧
              (q = 0 → ch_NB aR aS aA aB aL yG n lg nc c r h (i1 + 2) 0 ∧ (∀ p, p < 6 → ch_b bm0 p → vs' p = vs p) ∧ iv' h = nI c) ∧
              ∀ post : Int32 → SX → Prop, post q (xsl, xll, xnc, xro, xob, xn, xal, xag, xtl, xlg, bm', aR, aP, aS, aA, aB, aL, bf, af, fo, lo, cR, cH, cF, cS', gI, gS, gA, gB, kR, kI, hs, iv', vs') → wX_seekSecond_58 post (nI c) (nI r) (nI (ch_sh h)) bm0 (d + 1) (af i) (nI (y + 1)) xsl xll xnc xro xob xn xal xag xtl xlg bm1 aR aP aS aA aB aL bf af fo lo cR cH cF (upd cS c (nI i)) gI gS gA gB kR kI hs iv1 vs1 := by
          intro bm1 vs1 iv1 np ag1 w1 w2
          obtain ⟨q, cS', bm', vs', iv', q1, q2, q3, q4, q5⟩ := ih (i + 1) (y + 1) (af i) (upd cS c (nI i)) bm1 vs1 iv1 (by omega) (by omega) (by omega) ch1
            (ch_NB_ss nb1 (fun s' s1 s2 s3 p => np (by rw [show i + 1 = s' by omega]; exact p))) (ch_M_v M ag1) w1 w2
          exact ⟨q, cS', bm', vs', iv', q1, fun j hj => by rw [q2 j hj, ch_upd_n hj], q3, fun z => ⟨(q4 z).1, fun p p6 hb => ((q4 z).2.1 p p6 hb).trans (ag1 p p6 hb), (q4 z).2.2⟩, q5⟩
        rcases Classical.em (aL i = 0) with ai | ai
        · obtain ⟨q, cS', bm', vs', iv', q1, q2, q3, q4, q5⟩ := next bm0 vs iv (fun p => (nof _ (by omega) p).2.1 ai) (fun _ _ _ => rfl) v1 v2
          refine ⟨q, cS', bm', vs', iv', q1, q2, q3, q4, fun post hp => ?_⟩
          unfold wX_seekSecond_58
          rw [ei, ec]
          exact br_f y160 (br_f (ch_m1 (by omega)) (br_f (nI_ge ic (by omega)) ⟨cin, nm_e ⟨hin, br_t ai ⟨hin, nm_e (nm_r (ch_a1 y) (q5 post hp))⟩⟩⟩))
        · rcases Classical.em (i = i1) with ii | ii
          · obtain ⟨q, cS', bm', vs', iv', q1, q2, q3, q4, q5⟩ := next bm0 vs iv (fun p => (nof _ (by omega) p).2.2.2 (by omega)) (fun _ _ _ => rfl) v1 v2
            refine ⟨q, cS', bm', vs', iv', q1, q2, q3, q4, fun post hp => ?_⟩
            unfold wX_seekSecond_58
            rw [ei, ec]
            exact br_f y160 (br_f (ch_m1 (by omega)) (br_f (nI_ge ic (by omega)) ⟨cin, nm_e ⟨hin, br_f ai ⟨cin, br_t (by rw [ef, ii]) ⟨hin, nm_e (nm_r (ch_a1 y) (q5 post hp))⟩⟩⟩⟩))
          · have ne : ¬ nI i = cF c := by rw [ef, nI_eq (by omega) (by omega)]; exact ii
            have ID : ch_Id (ch_bl aR r) aL n (ch_ix h (nI c) (ch_cd (i1 + 1))) (ch_iy h (nI c) (ch_cd (i1 + 1)) (ch_cd (i + 1))) (ch_iz h (nI c) (ch_cd (i + 1))) :=
              (ch_Id_iff (by omega) (by omega) (by omega) (by omega) (by omega) (by omega)).mpr ⟨⟨hc, ac⟩, fun _ => ⟨by omega, by omega, by omega, a1⟩, fun z => by omega, fun _ => ⟨by omega, by omega, by omega, ai, by omega⟩, fun z => by omega⟩
            have MT : ∀ w, (ch_Mt (ch_bl aR r) aS aA aB (ch_ix h (nI c) (ch_cd (i1 + 1))) (ch_iy h (nI c) (ch_cd (i1 + 1)) (ch_cd (i + 1))) (ch_iz h (nI c) (ch_cd (i + 1))) w ↔
                (ch_Hd (ch_bl aR r) aS aA aB h c w ∧ ch_Hd (ch_bl aR r) aS aA aB (ch_fh h) i1 w) ∧ ch_Hd (ch_bl aR r) aS aA aB (ch_sh h) i w) := by
              intro w
              rw [ch_Mt_iff (by omega) (by omega) (by omega) (by omega) (by omega) (fun _ => by omega) (fun _ => by omega)]
              exact ⟨fun z => ⟨⟨z.1, z.2.1 (by omega)⟩, z.2.2 (by omega)⟩, fun z => ⟨z.1.1, fun _ => z.1.2, fun _ => z.2⟩⟩
            obtain ⟨m, b1, v1', m01, m1, m0, mk, md, mw⟩ := cx_matchHead (h := ch_sh h) (i := i) W (by omega) (by omega) (by omega) M hD (xsl := xsl) (xll := xll) (xnc := xnc) (xro := xro) (xob := xob) (xn := xn) (xal := xal) (xag := xag) (xtl := xtl) (xlg := xlg) (xbm := bm0) (aR := aR) (aP := aP) (aS := aS) (aA := aA) (aB := aB) (aL := aL) (bf := bf) (af := af) (fo := fo) (lo := lo) (cR := cR) (cH := cH) (cF := cF) (cS := upd cS c (nI i)) (gI := gI) (gS := gS) (gA := gA) (gB := gB) (kR := kR) (kI := kI) (hs := hs) (iv := iv) (vs := vs)
            rcases m01 with rfl | rfl
            · obtain ⟨q, cS', bm', vs', iv', q1, q2, q3, q4, q5⟩ := next b1 v1' iv (fun p => by
                obtain ⟨w, mw, _⟩ := p.2.1
                exact m0 rfl w ((MT w).mp mw)) (fun p p6 hb => (mk p p6 hb).2) v1 v2
              refine ⟨q, cS', bm', vs', iv', q1, q2, q3, q4, fun post hp => ?_⟩
              unfold wX_seekSecond_58
              rw [ei, ec]
              exact br_f y160 (br_f (ch_m1 (by omega)) (br_f (nI_ge ic (by omega)) ⟨cin, nm_e ⟨hin, br_f ai ⟨cin, br_f ne (mw _ (br_t rfl ⟨hin, nm_e (nm_r (ch_a1 y) (q5 post hp))⟩))⟩⟩⟩))
            · have sh3 : ch_sh h < 3 := by omega
              have es : (nI (ch_sh h)).toNatClampNeg = ch_sh h := nI_clamp (by omega)
              obtain ⟨z0, z1, z2⟩ := ch_iv3 (iv := upd iv (ch_sh h) (nI i)) hh (x := nI c) (y := ch_cd (i1 + 1)) (z := ch_cd (i + 1)) (by rw [ch_upd_n (by omega)]; exact v1) (by rw [ch_upd_n (by omega), ch_cdS]; exact v2) (by rw [ch_upd_s, ch_cdS])
              obtain ⟨t, vs2, t01, ti, t1, tk, tw⟩ := cx_test (f := i1 + 1) (s := i + 1) C hr hh (by omega) (by omega) (by omega) (Or.inr (by omega)) z0 z1 z2 (m1 rfl) (fun w => (MT w).symm) (xsl := xsl) (xll := xll) (xnc := xnc) (xro := xro) (xob := xob) (xn := xn) (xal := xal) (xag := xag) (xtl := xtl) (xlg := xlg) (xbm := b1) (aR := aR) (aP := aP) (aS := aS) (aA := aA) (aB := aB) (aL := aL) (bf := bf) (af := af) (fo := fo) (lo := lo) (cR := cR) (cH := cH) (cF := cF) (cS := upd cS c (nI i)) (gI := gI) (gS := gS) (gA := gA) (gB := gB) (kR := kR) (kI := kI) (hs := hs) (iv := upd iv (ch_sh h) (nI i)) (vs := v1')
              have ti := ti ID
              rcases t01 with rfl | rfl
              · obtain ⟨q, cS', bm', vs', iv', q1, q2, q3, q4, q5⟩ := next b1 vs2 (upd iv (ch_sh h) (nI i)) (fun p => ch_10 (ti.mpr p).symm) (fun p p6 hb => (tk p (hD p p6 hb)).trans (mk p p6 hb).2)
                  (by rw [ch_upd_n (by omega)]; exact v1) (by rw [ch_upd_n (by omega)]; exact v2)
                refine ⟨q, cS', bm', vs', iv', q1, q2, q3, q4, fun post hp => ?_⟩
                unfold wX_seekSecond_58
                rw [ei, ec, es]
                exact br_f y160 (br_f (ch_m1 (by omega)) (br_f (nI_ge ic (by omega)) ⟨cin, nm_e ⟨hin, br_f ai ⟨cin, br_f ne (mw _ (br_f ch_10 ⟨vp_in_nI sh3 (by omega), nm_e (tw _ (br_t rfl ⟨hin, nm_e (nm_r (ch_a1 y) (q5 post hp))⟩))⟩))⟩⟩⟩))
              · refine ⟨1, upd cS c (nI i), b1, vs2, upd iv (ch_sh h) (nI i), Or.inr rfl, fun j hj => ch_upd_n hj, fun _ => ⟨i + 1, by omega, by omega, by rw [ef, ch_cdS], by rw [ch_upd_s, ch_cdS], fun _ => ⟨ef2, Or.inl a1⟩, fun _ => ⟨si, Or.inl ai⟩, nb1, ti.mp rfl, z0, z1, z2, t1 rfl⟩, fun z => absurd z ch_10, fun post hp => ?_⟩
                unfold wX_seekSecond_58
                rw [ei, ec, es]
                exact br_f y160 (br_f (ch_m1 (by omega)) (br_f (nI_ge ic (by omega)) ⟨cin, nm_e ⟨hin, br_f ai ⟨cin, br_f ne (mw _ (br_f ch_10 ⟨vp_in_nI sh3 (by omega), nm_e (tw _ (br_f ch_10 hp))⟩))⟩⟩⟩))
      · refine ⟨0, cS, bm, vs, iv, Or.inl rfl, fun _ _ => rfl, fun z => absurd z.symm ch_10, fun _ => ⟨?_, fun _ _ _ => rfl, v1⟩, fun post hp => ?_⟩
        · refine ch_NB_ff nb (fun f' s' f1 f2 f3 s1 s2 p => ?_)
          have ff : f' = i1 + 1 := by omega
          have ss := s2 ff
          subst ff
          obtain ⟨b1, b2, b3, b4⟩ := nof s' s1 p
          exact ch (s' - 1) (by omega) (by omega) b2 b3
        · unfold wX_seekSecond_58
          exact br_f y160 (br_f (ch_m1 (by omega)) (br_t (nI_le ic (by omega)) hp))
end
end
section
section
variable {xsl xll xnc xro xob xn xal xag xtl xlg xbm : Int32} {aR aP aS aA aB aL bf af fo lo cR cH cF cS gI gS gA gB kR kI hs iv vs : Nat → Int32}
variable {yG : Nat → Int32} {n lg nc c r h : Nat} {T : Nat → Nat}
theorem ch_sym {K : Nat → Int32} (W : ch_W K) {g : Nat} (hg : g < ch_nh K) : ∃ s, s < 8 ∧ K (4 + 4 * g) = nI s := (W.2.1 g hg).2.1
theorem ch_ix4 {r g : Nat} : nI r * 40 + 4 + 4 * nI g = nI (40 * r + (4 + 4 * g)) := by
  rw [ch_t40, ch_a4, ch_4t, nI_add, Nat.add_assoc]
theorem cx_seekSecond {i1 s0 : Nat} (C : ch_SC aR aP aS aL bf af fo lo hs yG n lg nc T) (hr : r < nc) (n3 : ch_nh (ch_bl aR r) = 3) (hh : h < 3) (hc : c < n) (ac : ¬ aL c = 0)
    (h1 : i1 < c) (a1 : ¬ aL i1 = 0) (ef : cF c = nI i1) (ef2 : aS i1 = ch_bl aR r (4 + 4 * ch_fh h)) (hD : ∀ p, p < 6 → ch_b xbm p → ch_D (ch_bl aR r) 0 p)
    (es : cS c = ch_cd s0) (hs0 : s0 ≤ c) (cs : 1 ≤ s0 → aS (s0 - 1) = ch_bl aR r (4 + 4 * ch_sh h) ∧ (¬ aL (s0 - 1) = 0 ∨ c < T (s0 - 1)))
    (nb : ch_NB aR aS aA aB aL yG n lg nc c r h (i1 + 1) s0)
    (M : ch_M (ch_b xbm) (fun w => ch_Hd (ch_bl aR r) aS aA aB h c w ∧ ch_Hd (ch_bl aR r) aS aA aB (ch_fh h) i1 w) vs) (v1 : iv h = nI c) (v2 : iv (ch_fh h) = nI i1) :
    ∃ q cS' bm' vs' iv', (q = 0 ∨ q = 1) ∧ (∀ j, j ≠ c → cS' j = cS j) ∧
      (q = 1 → ∃ s, ch_Fd aR aS aA aB aL yG cF cS' iv' vs' n lg nc T c r h (i1 + 1) s) ∧
      (q = 0 → ch_NB aR aS aA aB aL yG n lg nc c r h (i1 + 2) 0 ∧ (∀ p, p < 6 → ch_b xbm p → vs' p = vs p) ∧ iv' h = nI c) ∧
      ∀ post : Int32 → SX → Prop, post q (xsl, xll, xnc, xro, xob, xn, xal, xag, xtl, xlg, bm', aR, aP, aS, aA, aB, aL, bf, af, fo, lo, cR, cH, cF, cS', gI, gS, gA, gB, kR, kI, hs, iv', vs') → wpX_seekSecond post (xsl, xll, xnc, xro, xob, xn, xal, xag, xtl, xlg, xbm, aR, aP, aS, aA, aB, aL, bf, af, fo, lo, cR, cH, cF, cS, gI, gS, gA, gB, kR, kI, hs, iv, vs) (nI c) (nI r) (nI h) := by
  have W := (C.2.2.2.2.2 r hr).1
  have n160 := C.1
  have nc6 := C.2.2.1
  have H := ch_fs hh
  have ec : (nI c).toNatClampNeg = c := nI_clamp (by omega)
  have cin : vp_in (nI c) 160 := vp_in_nI (by omega) (by omega)
  have ent : ∀ post : Int32 → SX → Prop, wX_seekSecond_10 post (nI c) (nI r) (nI (ch_sh h)) xsl xll xnc xro xob xn xal xag xtl xlg xbm aR aP aS aA aB aL bf af fo lo cR cH cF cS gI gS gA gB kR kI hs iv vs → wpX_seekSecond post (xsl, xll, xnc, xro, xob, xn, xal, xag, xtl, xlg, xbm, aR, aP, aS, aA, aB, aL, bf, af, fo, lo, cR, cH, cF, cS, gI, gS, gA, gB, kR, kI, hs, iv, vs) (nI c) (nI r) (nI h) := by
    intro post k
    unfold wpX_seekSecond
    rcases H with ⟨h0, _, h2⟩ | ⟨h0, _, h2⟩ | ⟨h0, _, h2⟩
    · rw [h2] at k
      subst h0
      exact br_f (by decide) k
    · rw [h2] at k
      subst h0
      exact br_f (by decide) k
    · rw [h2] at k
      subst h0
      exact br_t (by decide) k
  rcases Nat.eq_zero_or_pos s0 with z | z
  · subst z
    obtain ⟨s, s8, e4⟩ := ch_sym W (g := ch_sh h) (by omega)
    have nb1 : ch_NB aR aS aA aB aL yG n lg nc c r h (i1 + 1) (0 + 1) := by
      refine ch_NB_ss nb (fun s' s1 s2 s3 p => ?_)
      have q := (ch_Id_iff (by omega) (by omega) (by omega) (by omega) (by omega) (by omega)).mp p.1
      have := (q.2.2.2.1 (by omega)).1
      omega
    have ch0 := ch_Ch_0 (c := c) C.2.2.2.1 (by omega) s8
    rw [← e4] at ch0
    obtain ⟨q, cS', bm', vs', iv', q1, q2, q3, q4, q5⟩ := cx_second_lp C hr n3 hh hc ac h1 a1 ef ef2 hD c 0 0 (fo s) cS xbm vs iv (by omega) (by omega) (by omega) ch0 nb1 M v1 v2 (xsl := xsl) (xll := xll) (xnc := xnc) (xro := xro) (xob := xob) (xn := xn) (xal := xal) (xag := xag) (xtl := xtl) (xlg := xlg) (aR := aR) (aP := aP) (aS := aS) (aA := aA) (aB := aB) (aL := aL) (bf := bf) (af := af) (fo := fo) (lo := lo) (cR := cR) (cH := cH) (cF := cF) (gI := gI) (gS := gS) (gA := gA) (gB := gB) (kR := kR) (kI := kI) (hs := hs)
    refine ⟨q, cS', bm', vs', iv', q1, q2, q3, q4, fun post hp => ent post ?_⟩
    have k4 : aR (nI (40 * r + (4 + 4 * ch_sh h))).toNatClampNeg = nI s := by rw [nI_clamp (by omega), ← e4]; exact ch_blE (by omega)
    unfold wX_seekSecond_10
    rw [ec, ch_ix4, k4, show (nI s).toNatClampNeg = s from nI_clamp (by omega)]
    exact ⟨cin, nm_r (es.trans ch_cd0) (br_t rfl ⟨vp_in_nI (by omega) (by omega), vp_in_nI s8 (by omega), nm_e ⟨_, q5 post hp⟩⟩)⟩
  · obtain ⟨i, rfl⟩ : ∃ i, s0 = i + 1 := ⟨s0 - 1, by omega⟩
    obtain ⟨cs1, cs2⟩ := cs z
    rw [ch_cdS] at es
    have ch0 : ch_Ch aS aL n T c (ch_bl aR r (4 + 4 * ch_sh h)) i (nI i) := Or.inr ⟨i, rfl, Nat.le_refl _, by omega, cs1, fun j _ _ => by omega, fun _ => cs2⟩
    obtain ⟨q, cS', bm', vs', iv', q1, q2, q3, q4, q5⟩ := cx_second_lp C hr n3 hh hc ac h1 a1 ef ef2 hD c i 0 (nI i) cS xbm vs iv (by omega) (by omega) (by omega) ch0 nb M v1 v2 (xsl := xsl) (xll := xll) (xnc := xnc) (xro := xro) (xob := xob) (xn := xn) (xal := xal) (xag := xag) (xtl := xtl) (xlg := xlg) (aR := aR) (aP := aP) (aS := aS) (aA := aA) (aB := aB) (aL := aL) (bf := bf) (af := af) (fo := fo) (lo := lo) (cR := cR) (cH := cH) (cF := cF) (gI := gI) (gS := gS) (gA := gA) (gB := gB) (kR := kR) (kI := kI) (hs := hs)
    refine ⟨q, cS', bm', vs', iv', q1, q2, q3, q4, fun post hp => ent post ?_⟩
    unfold wX_seekSecond_10
    rw [ec]
    exact ⟨cin, nm_r es (br_f (ch_m1 (by omega)) ⟨_, q5 post hp⟩)⟩
theorem cx_completes {i1 s0 : Nat} (C : ch_SC aR aP aS aL bf af fo lo hs yG n lg nc T) (hr : r < nc) (n2 : 2 ≤ ch_nh (ch_bl aR r)) (hh : h < ch_nh (ch_bl aR r)) (hc : c < n) (ac : ¬ aL c = 0)
    (h1 : i1 < c) (a1 : ¬ aL i1 = 0) (ef : cF c = nI i1) (ef2 : aS i1 = ch_bl aR r (4 + 4 * ch_fh h)) (hD : ∀ p, p < 6 → ch_b xbm p → ch_D (ch_bl aR r) 0 p)
    (es : cS c = ch_cd s0) (hs0 : s0 ≤ c) (cs : 1 ≤ s0 → aS (s0 - 1) = ch_bl aR r (4 + 4 * ch_sh h) ∧ (¬ aL (s0 - 1) = 0 ∨ c < T (s0 - 1)))
    (nb : ch_NB aR aS aA aB aL yG n lg nc c r h (i1 + 1) s0)
    (M : ch_M (ch_b xbm) (fun w => ch_Hd (ch_bl aR r) aS aA aB h c w ∧ ch_Hd (ch_bl aR r) aS aA aB (ch_fh h) i1 w) vs) (v1 : iv h = nI c) (v2 : iv (ch_fh h) = nI i1)
    (v3 : ch_nh (ch_bl aR r) = 2 → iv 2 = -1) :
    ∃ q cS' bm' vs' iv', (q = 0 ∨ q = 1) ∧ (∀ j, j ≠ c → cS' j = cS j) ∧
      (q = 1 → ∃ s, ch_Fd aR aS aA aB aL yG cF cS' iv' vs' n lg nc T c r h (i1 + 1) s) ∧
      (q = 0 → ch_NB aR aS aA aB aL yG n lg nc c r h (i1 + 2) 0 ∧ (∀ p, p < 6 → ch_b xbm p → vs' p = vs p) ∧ iv' h = nI c ∧ (ch_nh (ch_bl aR r) = 2 → iv' 2 = -1)) ∧
      ∀ post : Int32 → SX → Prop, post q (xsl, xll, xnc, xro, xob, xn, xal, xag, xtl, xlg, bm', aR, aP, aS, aA, aB, aL, bf, af, fo, lo, cR, cH, cF, cS', gI, gS, gA, gB, kR, kI, hs, iv', vs') → wpX_completes post (xsl, xll, xnc, xro, xob, xn, xal, xag, xtl, xlg, xbm, aR, aP, aS, aA, aB, aL, bf, af, fo, lo, cR, cH, cF, cS, gI, gS, gA, gB, kR, kI, hs, iv, vs) (nI c) (nI r) (nI h) := by
  have W := (C.2.2.2.2.2 r hr).1
  have nh3 := W.1.2.1
  have n160 := C.1
  have nc6 := C.2.2.1
  have H := ch_fs (h := h) (by omega)
  have k0 : aR (nI (40 * r)).toNatClampNeg = nI (ch_nh (ch_bl aR r)) := by rw [nI_clamp (by omega), ← W.1.1]; exact ch_blE (j := 0) (by omega)
  have in0 : vp_in (nI (40 * r)) 240 := vp_in_nI (by omega) (by omega)
  rcases Nat.lt_or_ge (ch_nh (ch_bl aR r)) 3 with e3 | e3
  · have e2 : ch_nh (ch_bl aR r) = 2 := by omega
    have sh2 : ch_sh h = 2 := by omega
    have ID : ch_Id (ch_bl aR r) aL n (ch_ix h (nI c) (ch_cd (i1 + 1))) (ch_iy h (nI c) (ch_cd (i1 + 1)) (ch_cd 0)) (ch_iz h (nI c) (ch_cd 0)) :=
      (ch_Id_iff (by omega) (by omega) (by omega) (by omega) (by omega) (by omega)).mpr ⟨⟨hc, ac⟩, fun _ => ⟨by omega, by omega, by omega, a1⟩, fun z => by omega, fun z => by omega, fun z => rfl⟩
    have MT : ∀ w, (ch_Hd (ch_bl aR r) aS aA aB h c w ∧ ch_Hd (ch_bl aR r) aS aA aB (ch_fh h) i1 w) ↔ ch_Mt (ch_bl aR r) aS aA aB (ch_ix h (nI c) (ch_cd (i1 + 1))) (ch_iy h (nI c) (ch_cd (i1 + 1)) (ch_cd 0)) (ch_iz h (nI c) (ch_cd 0)) w := by
      intro w
      rw [ch_Mt_iff (by omega) (by omega) (by omega) (by omega) (by omega) (fun _ => by omega) (fun _ => by omega)]
      exact ⟨fun z => ⟨z.1, fun _ => z.2, fun _ => by omega⟩, fun z => ⟨z.1, z.2.1 (by omega)⟩⟩
    obtain ⟨z0, z1, z2⟩ := ch_iv3 (iv := iv) (h := h) (by omega) (x := nI c) (y := ch_cd (i1 + 1)) (z := ch_cd 0) v1 (by rw [ch_cdS]; exact v2) (by rw [sh2, ch_cd0]; exact v3 e2)
    obtain ⟨t, vs2, t01, ti, t1, tk, tw⟩ := cx_test (f := i1 + 1) (s := 0) C hr (by omega) (by omega) (by omega) (by omega) (Or.inr (by omega)) z0 z1 z2 M MT (xsl := xsl) (xll := xll) (xnc := xnc) (xro := xro) (xob := xob) (xn := xn) (xal := xal) (xag := xag) (xtl := xtl) (xlg := xlg) (xbm := xbm) (aR := aR) (aP := aP) (aS := aS) (aA := aA) (aB := aB) (aL := aL) (bf := bf) (af := af) (fo := fo) (lo := lo) (cR := cR) (cH := cH) (cF := cF) (cS := cS) (gI := gI) (gS := gS) (gA := gA) (gB := gB) (kR := kR) (kI := kI) (hs := hs) (iv := iv) (vs := vs)
    have ti := ti ID
    refine ⟨t, cS, xbm, vs2, iv, t01, fun _ _ => rfl, fun e => ?_, fun e => ⟨?_, fun p p6 hb => tk p (hD p p6 hb), v1, v3⟩, fun post hp => ?_⟩
    · have px := ti.mp e
      have s00 : s0 = 0 := by
        rcases Nat.eq_zero_or_pos s0 with z | z
        · exact z
        · exact absurd px (nb r h (i1 + 1) 0 hr hh (by omega) (by omega) (Or.inr ⟨rfl, Or.inr ⟨rfl, Or.inr ⟨rfl, z⟩⟩⟩))
      subst s00
      exact ⟨0, by omega, by omega, by rw [ef, ch_cdS], es, fun _ => ⟨ef2, Or.inl a1⟩, fun z => by omega, nb, px, z0, z1, z2, t1 e⟩
    · refine ch_NB_ff nb (fun f' s' f1 f2 f3 s1 s2 p => ?_)
      have ff : f' = i1 + 1 := by omega
      subst ff
      have q := (ch_Id_iff (by omega) (by omega) (by omega) (by omega) (by omega) (by omega)).mp p.1
      have s00 : s' = 0 := q.2.2.2.2 (by omega)
      subst s00
      exact ch_10 ((ti.mpr p).symm.trans e)
    · unfold wpX_completes
      dsimp only
      rw [ch_t40, k0]
      exact ⟨in0, br_t (by rw [e2]; rfl) (tw _ ⟨ch_bo t01, hp⟩)⟩
  · have e3 : ch_nh (ch_bl aR r) = 3 := by omega
    obtain ⟨q, cS', bm', vs', iv', q1, q2, q3, q4, q5⟩ := cx_seekSecond C hr e3 (by omega) hc ac h1 a1 ef ef2 hD es hs0 cs nb M v1 v2 (xsl := xsl) (xll := xll) (xnc := xnc) (xro := xro) (xob := xob) (xn := xn) (xal := xal) (xag := xag) (xtl := xtl) (xlg := xlg) (xbm := xbm) (aR := aR) (aP := aP) (aS := aS) (aA := aA) (aB := aB) (aL := aL) (bf := bf) (af := af) (fo := fo) (lo := lo) (cR := cR) (cH := cH) (cF := cF) (cS := cS) (gI := gI) (gS := gS) (gA := gA) (gB := gB) (kR := kR) (kI := kI) (hs := hs) (iv := iv) (vs := vs)
    refine ⟨q, cS', bm', vs', iv', q1, q2, q3, fun z => ⟨(q4 z).1, (q4 z).2.1, (q4 z).2.2, fun y => by omega⟩, fun post hp => ?_⟩
    unfold wpX_completes
    dsimp only
    rw [ch_t40, k0]
    exact ⟨in0, br_f (by rw [e3]; decide) (q5 _ ⟨ch_bo q1, hp⟩)⟩
/-- one id at the first of the other heads -/
theorem cx_first_body {i s0 : Nat} {bm0 : Int32} (C : ch_SC aR aP aS aL bf af fo lo hs yG n lg nc T) (hr : r < nc) (n2 : 2 ≤ ch_nh (ch_bl aR r)) (hh : h < ch_nh (ch_bl aR r)) (hc : c < n) (ac : ¬ aL c = 0)
    (hi : i < c) (si : aS i = ch_bl aR r (4 + 4 * ch_fh h)) (ef : cF c = nI i) (hD : ∀ p, p < 6 → ch_b bm0 p → ch_D (ch_bl aR r) 0 p)
    (es : cS c = ch_cd s0) (hs0 : s0 ≤ c) (cs : 1 ≤ s0 → aS (s0 - 1) = ch_bl aR r (4 + 4 * ch_sh h) ∧ (¬ aL (s0 - 1) = 0 ∨ c < T (s0 - 1)))
    (nb : ch_NB aR aS aA aB aL yG n lg nc c r h (i + 1) s0)
    (M : ch_M (ch_b bm0) (fun w => ch_Hd (ch_bl aR r) aS aA aB h c w) vs) (v1 : iv h = nI c) (v3 : ch_nh (ch_bl aR r) = 2 → iv 2 = -1) :
    ∃ (q : Int32) (cS' : Nat → Int32) (bm' : Int32) (vs' iv' : Nat → Int32), (q = 0 ∨ q = 1) ∧ (∀ j, j ≠ c → cS' j = cS j) ∧
      (q = 1 → ∃ s, ch_Fd aR aS aA aB aL yG cF cS' iv' vs' n lg nc T c r h (i + 1) s) ∧
      (q = 0 → ch_NB aR aS aA aB aL yG n lg nc c r h (i + 2) 0 ∧ (∀ p, p < 6 → ch_b bm0 p → vs' p = vs p) ∧ iv' h = nI c ∧ (ch_nh (ch_bl aR r) = 2 → iv' 2 = -1)) ∧
      ∀ (post : Int32 → SX → Prop) (J : Int32 → Int32 → Int32 → Int32 → Int32 → Int32 → Int32 → Int32 → Int32 → Int32 → Int32 → Int32 → Int32 → (Nat → Int32) → (Nat → Int32) → (Nat → Int32) → (Nat → Int32) → (Nat → Int32) → (Nat → Int32) → (Nat → Int32) → (Nat → Int32) → (Nat → Int32) → (Nat → Int32) → (Nat → Int32) → (Nat → Int32) → (Nat → Int32) → (Nat → Int32) → (Nat → Int32) → (Nat → Int32) → (Nat → Int32) → (Nat → Int32) → (Nat → Int32) → (Nat → Int32) → (Nat → Int32) → (Nat → Int32) → (Nat → Int32) → Prop) (x7 : Int32), (q = 1 → post 1 (xsl, xll, xnc, xro, xob, xn, xal, xag, xtl, xlg, bm', aR, aP, aS, aA, aB, aL, bf, af, fo, lo, cR, cH, cF, cS', gI, gS, gA, gB, kR, kI, hs, iv', vs')) → (q = 0 → J (af i) (x7 + 1) xsl xll xnc xro xob xn xal xag xtl xlg bm' aR aP aS aA aB aL bf af fo lo cR cH cF cS' gI gS gA gB kR kI hs iv' vs') →
        wX_seekFirst_103 post J (nI c) (nI r) (nI h) (nI (ch_fh h)) bm0 (nI i) x7 xsl xll xnc xro xob xn xal xag xtl xlg xbm aR aP aS aA aB aL bf af fo lo cR cH cF cS gI gS gA gB kR kI hs iv vs := by
  have W := (C.2.2.2.2.2 r hr).1
  have nh3 := W.1.2.1
  have n160 := C.1
  have nc6 := C.2.2.1
  have H := ch_fs (h := h) (by omega)
  have ei : (nI i).toNatClampNeg = i := nI_clamp (by omega)
  have hin : vp_in (nI i) 160 := vp_in_nI (by omega) (by omega)
  have nof : ∀ s, s ≤ c → ch_PX aR aS aA aB aL yG n lg c r h (i + 1) s → ¬ aL i = 0 ∧ ∃ w, ch_Hd (ch_bl aR r) aS aA aB h c w ∧ ch_Hd (ch_bl aR r) aS aA aB (ch_fh h) i w := by
    intro s hs p
    have q := (ch_Id_iff (by omega) (by omega) (by omega) (by omega) (by omega) (by omega)).mp p.1
    obtain ⟨_, q2, _, q4, _⟩ := q
    obtain ⟨w, mw, _⟩ := p.2.1
    have mw := (ch_Mt_iff (by omega) (by omega) (by omega) (by omega) (by omega) (fun _ => by omega) (fun z => (q4 z).1)).mp mw
    exact ⟨(q2 (by omega)).2.2.2, w, mw.1, mw.2.1 (by omega)⟩
  have skip : (∀ s, s ≤ c → ¬ ch_PX aR aS aA aB aL yG n lg c r h (i + 1) s) → ch_NB aR aS aA aB aL yG n lg nc c r h (i + 2) 0 := by
    intro z
    refine ch_NB_ff nb (fun f' s' f1 f2 f3 s1 s2 p => ?_)
    have ff : f' = i + 1 := by omega
    subst ff
    exact z s' s1 p
  rcases Classical.em (aL i = 0) with ai | ai
  · refine ⟨0, cS, bm0, vs, iv, Or.inl rfl, fun _ _ => rfl, fun z => absurd z.symm ch_10, fun _ => ⟨skip (fun s hs p => (nof s hs p).1 ai), fun _ _ _ => rfl, v1, v3⟩, fun post J x7 _ hJ => ?_⟩
    unfold wX_seekFirst_103
    rw [ei]
    exact ⟨hin, br_t ai ⟨hin, nm_e (nm_e (hJ rfl))⟩⟩
  · obtain ⟨m, b1, w1, m01, m1, m0, mk, md, mw⟩ := cx_matchHead (h := ch_fh h) (i := i) W (by omega) (by omega) (by omega) M hD (xsl := xsl) (xll := xll) (xnc := xnc) (xro := xro) (xob := xob) (xn := xn) (xal := xal) (xag := xag) (xtl := xtl) (xlg := xlg) (xbm := bm0) (aR := aR) (aP := aP) (aS := aS) (aA := aA) (aB := aB) (aL := aL) (bf := bf) (af := af) (fo := fo) (lo := lo) (cR := cR) (cH := cH) (cF := cF) (cS := cS) (gI := gI) (gS := gS) (gA := gA) (gB := gB) (kR := kR) (kI := kI) (hs := hs) (iv := iv) (vs := vs)
    rcases m01 with rfl | rfl
    · refine ⟨0, cS, b1, w1, iv, Or.inl rfl, fun _ _ => rfl, fun z => absurd z.symm ch_10, fun _ => ⟨skip (fun s hs p => ?_), fun p p6 hb => (mk p p6 hb).2, v1, v3⟩, fun post J x7 _ hJ => ?_⟩
      · obtain ⟨_, w, y1, y2⟩ := nof s hs p
        exact m0 rfl w ⟨y1, y2⟩
      · unfold wX_seekFirst_103
        rw [ei]
        exact ⟨hin, br_f ai (mw _ (br_t rfl ⟨hin, nm_e (nm_e (hJ rfl))⟩))⟩
    · have fh3 : ch_fh h < 3 := by omega
      have ef3 : (nI (ch_fh h)).toNatClampNeg = ch_fh h := nI_clamp (by omega)
      obtain ⟨q, cS', bm', vs', iv', q1, q2, q3, q4, q5⟩ := cx_completes C hr n2 hh hc ac hi ai ef si md es hs0 cs nb (m1 rfl) (by rw [ch_upd_n (by omega)]; exact v1) ch_upd_s (fun z => by rw [ch_upd_n (by omega)]; exact v3 z) (xsl := xsl) (xll := xll) (xnc := xnc) (xro := xro) (xob := xob) (xn := xn) (xal := xal) (xag := xag) (xtl := xtl) (xlg := xlg) (xbm := b1) (aR := aR) (aP := aP) (aS := aS) (aA := aA) (aB := aB) (aL := aL) (bf := bf) (af := af) (fo := fo) (lo := lo) (cR := cR) (cH := cH) (cF := cF) (cS := cS) (gI := gI) (gS := gS) (gA := gA) (gB := gB) (kR := kR) (kI := kI) (hs := hs) (iv := upd iv (ch_fh h) (nI i)) (vs := w1)
      refine ⟨q, cS', bm', vs', iv', q1, q2, q3, fun z => ⟨(q4 z).1, fun p p6 hb => ((q4 z).2.1 p p6 (mk p p6 hb).1).trans (mk p p6 hb).2, (q4 z).2.2⟩, fun post J x7 hp hJ => ?_⟩
      unfold wX_seekFirst_103
      rw [ei, ef3]
      refine ⟨hin, br_f ai (mw _ (br_f ch_10 ⟨vp_in_nI fh3 (by omega), nm_e (q5 _ ?_)⟩))⟩
      rcases q1 with rfl | rfl
      · exact br_t rfl ⟨hin, nm_e (nm_e (hJ rfl))⟩
      · exact br_f ch_10 (hp rfl)
/-- X's walk through the ids at the first of the other heads, from a new one on -/
theorem cx_first_lp {bm0 : Int32} (C : ch_SC aR aP aS aL bf af fo lo hs yG n lg nc T) (hr : r < nc) (n2 : 2 ≤ ch_nh (ch_bl aR r)) (hh : h < ch_nh (ch_bl aR r)) (hc : c < n) (ac : ¬ aL c = 0)
    (hD : ∀ p, p < 6 → ch_b bm0 p → ch_D (ch_bl aR r) 0 p) :
    ∀ d l y e f0 cF cS bm vs iv, c - l ≤ d → y ≤ l → l ≤ c → ch_Ch aS aL n T c (ch_bl aR r (4 + 4 * ch_fh h)) l e → cF c = ch_cd f0 → f0 ≤ l → ch_NB aR aS aA aB aL yG n lg nc c r h (l + 1) 0 →
    ch_M (ch_b bm0) (fun w => ch_Hd (ch_bl aR r) aS aA aB h c w) vs → iv h = nI c → (ch_nh (ch_bl aR r) = 2 → iv 2 = -1) →
    ∃ q cF' cS' bm' vs' iv', (q = 0 ∨ q = 1) ∧ (∀ j, j ≠ c → cF' j = cF j ∧ cS' j = cS j) ∧
      (q = 1 → ∃ f s, ch_Fd aR aS aA aB aL yG cF' cS' iv' vs' n lg nc T c r h f s) ∧
      (q = 0 → ch_NB aR aS aA aB aL yG n lg nc c r (h + 1) 0 0) ∧
      ∀ post : Int32 → SX → Prop, post q (xsl, xll, xnc, xro, xob, xn, xal, xag, xtl, xlg, bm', aR, aP, aS, aA, aB, aL, bf, af, fo, lo, cR, cH, cF', cS', gI, gS, gA, gB, kR, kI, hs, iv', vs') → wX_seekFirst_57 post (nI c) (nI r) (nI h) (nI (ch_fh h)) bm0 (d + 1) e (nI y) xsl xll xnc xro xob xn xal xag xtl xlg bm aR aP aS aA aB aL bf af fo lo cR cH cF cS gI gS gA gB kR kI hs iv vs := by
  have W := (C.2.2.2.2.2 r hr).1
  have nh3 := W.1.2.1
  have n160 := C.1
  have nc6 := C.2.2.1
  have H := ch_fs (h := h) (by omega)
  have nof : ∀ f s, f ≤ c → s ≤ c → ch_PX aR aS aA aB aL yG n lg c r h f s → 1 ≤ f ∧ ¬ aL (f - 1) = 0 ∧ aS (f - 1) = ch_bl aR r (4 + 4 * ch_fh h) := by
    intro f s hf hs p
    have q := (ch_Id_iff (by omega) (by omega) (by omega) (by omega) (by omega) (by omega)).mp p.1
    obtain ⟨_, q2, _, q4, _⟩ := q
    obtain ⟨w, mw, _⟩ := p.2.1
    have mw := (ch_Mt_iff (by omega) (by omega) (by omega) (by omega) (by omega) (fun z => (q2 z).1) (fun z => (q4 z).1)).mp mw
    exact ⟨(q2 (by omega)).1, (q2 (by omega)).2.2.2, (mw.2.1 (by omega)).1⟩
  have ec : (nI c).toNatClampNeg = c := nI_clamp (by omega)
  have cin : vp_in (nI c) 160 := vp_in_nI (by omega) (by omega)
  intro d
  induction d with
  | zero =>
    intro l y e f0 cF cS bm vs iv hd hy hl ch ef hf0 nb M v1 v3
    refine ⟨0, cF, cS, bm, vs, iv, Or.inl rfl, fun _ _ => ⟨rfl, rfl⟩, fun z => absurd z.symm ch_10, fun _ => ch_NB_h nb (fun f' s' f1 f2 s1 s2 p => by omega), fun post hp => ?_⟩
    unfold wX_seekFirst_57
    refine br_f (nI_ge (b := 160) (by omega) (by omega)) ?_
    rcases ch with ⟨e1, _⟩ | ⟨i, e1, i1, i2, _⟩
    · exact br_t e1 hp
    · subst e1
      exact br_f (ch_m1 (by omega)) (br_t (nI_le (by omega) (by omega)) hp)
  | succ d ih =>
    intro l y e f0 cF cS bm vs iv hd hy hl ch ef hf0 nb M v1 v3
    have y160 : ¬ (160 : Int32) ≤ nI y := nI_ge (b := 160) (by omega) (by omega)
    rcases ch with ⟨e1, ch⟩ | ⟨i, e1, li, i_n, si, ch, cT⟩
    · refine ⟨0, cF, cS, bm, vs, iv, Or.inl rfl, fun _ _ => ⟨rfl, rfl⟩, fun z => absurd z.symm ch_10, fun _ => ch_NB_h nb (fun f' s' f1 f2 s1 s2 p => ?_), fun post hp => ?_⟩
      · obtain ⟨b1, b2, b3⟩ := nof f' s' f2 s1 p
        exact ch (f' - 1) (by omega) (by omega) b2 b3
      · unfold wX_seekFirst_57
        exact br_f y160 (br_t e1 hp)
    · subst e1
      rcases Nat.lt_or_ge i c with ic | ic
      · have ne : ¬ nI i = cF c := by
          rw [ef]
          intro z
          have := (ch_cdN (by omega) (by omega)).mp z.symm
          omega
        have nb1 : ch_NB aR aS aA aB aL yG n lg nc c r h (i + 1) 0 := by
          refine ch_NB_ff nb (fun f' s' f1 f2 f3 s1 s2 p => ?_)
          obtain ⟨b1, b2, b3⟩ := nof f' s' f3 s1 p
          exact ch (f' - 1) (by omega) (by omega) b2 b3
        have ch1 : ch_Ch aS aL n T c (ch_bl aR r (4 + 4 * ch_fh h)) (i + 1) (af i) := by
          have := ch_Ch_s C.2.2.2.1 (by omega) ic (cT ic)
          rwa [si] at this
        obtain ⟨q, cS', bm', vs', iv', q1, q2, q3, q4, q5⟩ := cx_first_body (s0 := 0) C hr n2 hh hc ac ic si ch_upd_s hD (by rw [ch_upd_s, ch_cd0]) (by omega) (fun z => by omega) nb1 M v1 v3 (xsl := xsl) (xll := xll) (xnc := xnc) (xro := xro) (xob := xob) (xn := xn) (xal := xal) (xag := xag) (xtl := xtl) (xlg := xlg) (xbm := bm) (aR := aR) (aP := aP) (aS := aS) (aA := aA) (aB := aB) (aL := aL) (bf := bf) (af := af) (fo := fo) (lo := lo) (cR := cR) (cH := cH) (cF := upd cF c (nI i)) (cS := upd cS c (-1)) (gI := gI) (gS := gS) (gA := gA) (gB := gB) (kR := kR) (kI := kI) (hs := hs) (iv := iv) (vs := vs)
        rcases q1 with rfl | rfl
        · obtain ⟨g1, g2, g3, g4⟩ := q4 rfl
          obtain ⟨q', cF2, cS2, bm2, vs2, iv2, r1, r2, r3, r4, r5⟩ := ih (i + 1) (y + 1) (af i) (i + 1) (upd cF c (nI i)) cS' bm' vs' iv' (by omega) (by omega) (by omega) ch1 (by rw [ch_upd_s, ch_cdS]) (Nat.le_refl _) g1 (ch_M_v M g2) g3 g4
          refine ⟨q', cF2, cS2, bm2, vs2, iv2, r1, fun j hj => ⟨by rw [(r2 j hj).1, ch_upd_n hj], by rw [(r2 j hj).2, q2 j hj, ch_upd_n hj]⟩, r3, r4, fun post hp => ?_⟩
          unfold wX_seekFirst_57
          rw [ec]
          refine br_f y160 (br_f (ch_m1 (by omega)) (br_f (nI_ge ic (by omega)) ⟨cin, br_f ne ⟨cin, nm_e ⟨cin, nm_e (q5 post _ _ (fun z => absurd z.symm ch_10) (fun _ => ?_))⟩⟩⟩))
          rw [ch_a1]
          exact r5 post hp
        · obtain ⟨s, fd⟩ := q3 rfl
          refine ⟨1, upd cF c (nI i), cS', bm', vs', iv', Or.inr rfl, fun j hj => ⟨ch_upd_n hj, by rw [q2 j hj, ch_upd_n hj]⟩, fun _ => ⟨i + 1, s, fd⟩, fun z => absurd z ch_10, fun post hp => ?_⟩
          unfold wX_seekFirst_57
          rw [ec]
          exact br_f y160 (br_f (ch_m1 (by omega)) (br_f (nI_ge ic (by omega)) ⟨cin, br_f ne ⟨cin, nm_e ⟨cin, nm_e (q5 post _ _ (fun _ => hp) (fun z => absurd z ch_10))⟩⟩⟩))
      · refine ⟨0, cF, cS, bm, vs, iv, Or.inl rfl, fun _ _ => ⟨rfl, rfl⟩, fun z => absurd z.symm ch_10, fun _ => ch_NB_h nb (fun f' s' f1 f2 s1 s2 p => ?_), fun post hp => ?_⟩
        · obtain ⟨b1, b2, b3⟩ := nof f' s' f2 s1 p
          exact ch (f' - 1) (by omega) (by omega) b2 b3
        · unfold wX_seekFirst_57
          exact br_f y160 (br_f (ch_m1 (by omega)) (br_t (nI_le ic (by omega)) hp))
end
end
section
def ch_m1f (iv : Nat → Int32) : Nat → (Nat → Int32)
  | 0 => iv
  | i + 1 => upd (ch_m1f iv i) i (-1)
theorem ch_m1f_3 {iv : Nat → Int32} {j : Nat} (hj : j < 3) : ch_m1f iv 3 j = -1 := by
  have : j = 0 ∨ j = 1 ∨ j = 2 := by omega
  rcases this with rfl | rfl | rfl <;> rfl
section
variable {xsl xll xnc xro xob xn xal xag xtl xlg xbm : Int32} {aR aP aS aA aB aL bf af fo lo cR cH cF cS gI gS gA gB kR kI hs iv vs : Nat → Int32}
variable {yG : Nat → Int32} {n lg nc c r h : Nat} {T : Nat → Nat}
theorem cx_seekFirst {f0 s0 : Nat} (C : ch_SC aR aP aS aL bf af fo lo hs yG n lg nc T) (hr : r < nc) (n2 : 2 ≤ ch_nh (ch_bl aR r)) (hh : h < ch_nh (ch_bl aR r)) (hc : c < n) (ac : ¬ aL c = 0)
    (hD : ∀ p, p < 6 → ch_b xbm p → ch_D (ch_bl aR r) 0 p) (ef : cF c = ch_cd f0) (hf0 : f0 ≤ c) (cf : 1 ≤ f0 → aS (f0 - 1) = ch_bl aR r (4 + 4 * ch_fh h) ∧ (¬ aL (f0 - 1) = 0 ∨ c < T (f0 - 1)))
    (es : cS c = ch_cd s0) (hs0 : s0 ≤ c) (cs : 1 ≤ s0 → aS (s0 - 1) = ch_bl aR r (4 + 4 * ch_sh h) ∧ (¬ aL (s0 - 1) = 0 ∨ c < T (s0 - 1)))
    (nb : ch_NB aR aS aA aB aL yG n lg nc c r h f0 s0)
    (M : ch_M (ch_b xbm) (fun w => ch_Hd (ch_bl aR r) aS aA aB h c w) vs) (v1 : iv h = nI c) (v3 : ch_nh (ch_bl aR r) = 2 → iv 2 = -1) :
    ∃ q cF' cS' bm' vs' iv', (q = 0 ∨ q = 1) ∧ (∀ j, j ≠ c → cF' j = cF j ∧ cS' j = cS j) ∧
      (q = 1 → ∃ f s, ch_Fd aR aS aA aB aL yG cF' cS' iv' vs' n lg nc T c r h f s) ∧
      (q = 0 → ch_NB aR aS aA aB aL yG n lg nc c r (h + 1) 0 0) ∧
      ∀ post : Int32 → SX → Prop, post q (xsl, xll, xnc, xro, xob, xn, xal, xag, xtl, xlg, bm', aR, aP, aS, aA, aB, aL, bf, af, fo, lo, cR, cH, cF', cS', gI, gS, gA, gB, kR, kI, hs, iv', vs') → wpX_seekFirst post (xsl, xll, xnc, xro, xob, xn, xal, xag, xtl, xlg, xbm, aR, aP, aS, aA, aB, aL, bf, af, fo, lo, cR, cH, cF, cS, gI, gS, gA, gB, kR, kI, hs, iv, vs) (nI c) (nI r) (nI h) := by
  have W := (C.2.2.2.2.2 r hr).1
  have nh3 := W.1.2.1
  have n160 := C.1
  have nc6 := C.2.2.1
  have H := ch_fs (h := h) (by omega)
  have ec : (nI c).toNatClampNeg = c := nI_clamp (by omega)
  have cin : vp_in (nI c) 160 := vp_in_nI (by omega) (by omega)
  have ent : ∀ post : Int32 → SX → Prop, wX_seekFirst_9 post (nI c) (nI r) (nI h) (nI (ch_fh h)) xsl xll xnc xro xob xn xal xag xtl xlg xbm aR aP aS aA aB aL bf af fo lo cR cH cF cS gI gS gA gB kR kI hs iv vs → wpX_seekFirst post (xsl, xll, xnc, xro, xob, xn, xal, xag, xtl, xlg, xbm, aR, aP, aS, aA, aB, aL, bf, af, fo, lo, cR, cH, cF, cS, gI, gS, gA, gB, kR, kI, hs, iv, vs) (nI c) (nI r) (nI h) := by
    intro post k
    unfold wpX_seekFirst
    rcases H with ⟨h0, h2, _⟩ | ⟨h0, h2, _⟩ | ⟨h0, h2, _⟩
    · rw [h2] at k
      subst h0
      exact br_t (by decide) k
    · rw [h2] at k
      subst h0
      exact br_f (by decide) k
    · rw [h2] at k
      subst h0
      exact br_f (by decide) k
  rcases Nat.eq_zero_or_pos f0 with z | z
  · subst z
    obtain ⟨s, s8, e4⟩ := ch_sym W (g := ch_fh h) (by omega)
    have nb1 : ch_NB aR aS aA aB aL yG n lg nc c r h (0 + 1) 0 := by
      refine ch_NB_ff nb (fun f' s' f1 f2 f3 s1 s2 p => ?_)
      have q := (ch_Id_iff (by omega) (by omega) (by omega) (by omega) (by omega) (by omega)).mp p.1
      have := (q.2.1 (by omega)).1
      omega
    have ch0 := ch_Ch_0 (c := c) C.2.2.2.1 (by omega) s8
    rw [← e4] at ch0
    obtain ⟨q, cF', cS', bm', vs', iv', q1, q2, q3, q4, q5⟩ := cx_first_lp C hr n2 hh hc ac hD c 0 0 (fo s) 0 cF cS xbm vs iv (by omega) (by omega) (by omega) ch0 ef (by omega) nb1 M v1 v3 (xsl := xsl) (xll := xll) (xnc := xnc) (xro := xro) (xob := xob) (xn := xn) (xal := xal) (xag := xag) (xtl := xtl) (xlg := xlg) (aR := aR) (aP := aP) (aS := aS) (aA := aA) (aB := aB) (aL := aL) (bf := bf) (af := af) (fo := fo) (lo := lo) (cR := cR) (cH := cH) (gI := gI) (gS := gS) (gA := gA) (gB := gB) (kR := kR) (kI := kI) (hs := hs)
    refine ⟨q, cF', cS', bm', vs', iv', q1, q2, q3, q4, fun post hp => ent post ?_⟩
    have k4 : aR (nI (40 * r + (4 + 4 * ch_fh h))).toNatClampNeg = nI s := by rw [nI_clamp (by omega), ← e4]; exact ch_blE (by omega)
    unfold wX_seekFirst_9
    rw [ec, ch_ix4, k4, show (nI s).toNatClampNeg = s from nI_clamp (by omega)]
    exact ⟨cin, nm_r (ef.trans ch_cd0) (br_t rfl ⟨vp_in_nI (by omega) (by omega), vp_in_nI s8 (by omega), nm_e ⟨_, q5 post hp⟩⟩)⟩
  · obtain ⟨i, rfl⟩ : ∃ i, f0 = i + 1 := ⟨f0 - 1, by omega⟩
    obtain ⟨cf1, cf2⟩ := cf z
    rw [ch_cdS] at ef
    have y160 : ¬ (160 : Int32) ≤ nI 0 := by decide
    obtain ⟨q, cS', bm', vs', iv', q1, q2, q3, q4, q5⟩ := cx_first_body C hr n2 hh hc ac (i := i) (by omega) cf1 ef hD es hs0 cs nb M v1 v3 (xsl := xsl) (xll := xll) (xnc := xnc) (xro := xro) (xob := xob) (xn := xn) (xal := xal) (xag := xag) (xtl := xtl) (xlg := xlg) (xbm := xbm) (aR := aR) (aP := aP) (aS := aS) (aA := aA) (aB := aB) (aL := aL) (bf := bf) (af := af) (fo := fo) (lo := lo) (cR := cR) (cH := cH) (cF := cF) (cS := cS) (gI := gI) (gS := gS) (gA := gA) (gB := gB) (kR := kR) (kI := kI) (hs := hs) (iv := iv) (vs := vs)
    have go : ∀ post : Int32 → SX → Prop, wX_seekFirst_103 post (wX_seekFirst_57 post (nI c) (nI r) (nI h) (nI (ch_fh h)) xbm (c + 1)) (nI c) (nI r) (nI h) (nI (ch_fh h)) xbm (nI i) (nI 0) xsl xll xnc xro xob xn xal xag xtl xlg xbm aR aP aS aA aB aL bf af fo lo cR cH cF cS gI gS gA gB kR kI hs iv vs → wpX_seekFirst post (xsl, xll, xnc, xro, xob, xn, xal, xag, xtl, xlg, xbm, aR, aP, aS, aA, aB, aL, bf, af, fo, lo, cR, cH, cF, cS, gI, gS, gA, gB, kR, kI, hs, iv, vs) (nI c) (nI r) (nI h) := by
      intro post k
      refine ent post ?_
      unfold wX_seekFirst_9
      rw [ec]
      refine ⟨cin, nm_r ef (br_f (ch_m1 (by omega)) ⟨c + 2, ?_⟩)⟩
      unfold wX_seekFirst_57
      rw [ec]
      exact br_f y160 (br_f (ch_m1 (by omega)) (br_f (nI_ge (by omega) (by omega)) ⟨cin, br_t ef.symm k⟩))
    rcases q1 with rfl | rfl
    · obtain ⟨g1, g2, g3, g4⟩ := q4 rfl
      have ch1 := ch_Ch_s C.2.2.2.1 (by omega) (show i < c by omega) cf2
      have cf1' : aS i = ch_bl aR r (4 + 4 * ch_fh h) := cf1
      rw [cf1'] at ch1
      obtain ⟨q', cF2, cS2, bm2, vs2, iv2, r1, r2, r3, r4, r5⟩ := cx_first_lp C hr n2 hh hc ac hD c (i + 1) (0 + 1) (af i) (i + 1) cF cS' bm' vs' iv' (by omega) (by omega) (by omega) ch1 (by rw [ch_cdS]; exact ef) (Nat.le_refl _) g1 (ch_M_v M g2) g3 g4 (xsl := xsl) (xll := xll) (xnc := xnc) (xro := xro) (xob := xob) (xn := xn) (xal := xal) (xag := xag) (xtl := xtl) (xlg := xlg) (aR := aR) (aP := aP) (aS := aS) (aA := aA) (aB := aB) (aL := aL) (bf := bf) (af := af) (fo := fo) (lo := lo) (cR := cR) (cH := cH) (gI := gI) (gS := gS) (gA := gA) (gB := gB) (kR := kR) (kI := kI) (hs := hs)
      refine ⟨q', cF2, cS2, bm2, vs2, iv2, r1, fun j hj => ⟨(r2 j hj).1, by rw [(r2 j hj).2, q2 j hj]⟩, r3, r4, fun post hp => go post (q5 post _ _ (fun z => absurd z.symm ch_10) (fun _ => ?_))⟩
      rw [ch_a1]
      exact r5 post hp
    · obtain ⟨s, fd⟩ := q3 rfl
      exact ⟨1, cF, cS', bm', vs', iv', Or.inr rfl, fun j hj => ⟨rfl, q2 j hj⟩, fun _ => ⟨i + 1, s, fd⟩, fun z => absurd z ch_10, fun post hp => go post (q5 post _ _ (fun _ => hp) (fun z => absurd z ch_10))⟩
theorem cx_part_lp (post : Int32 → SX → Prop) {x1 x2 x3 : Int32} {m : Nat} (k : wX_seekPartners_20 post x1 x2 x3 xsl xll xnc xro xob xn xal xag xtl xlg xbm (m + 1) (nI 3) aR aP aS aA aB aL bf af fo lo cR cH cF cS gI gS gA gB kR kI hs (ch_m1f iv 3) vs) :
    ∀ d i, i + d = 3 → wX_seekPartners_20 post x1 x2 x3 xsl xll xnc xro xob xn xal xag xtl xlg xbm (m + 1 + d) (nI i) aR aP aS aA aB aL bf af fo lo cR cH cF cS gI gS gA gB kR kI hs (ch_m1f iv i) vs := by
  intro d
  induction d with
  | zero =>
    intro i hi
    rw [show i = 3 by omega]
    exact k
  | succ d ih =>
    intro i hi
    have e : (nI i).toNatClampNeg = i := nI_clamp (by omega)
    rw [show m + 1 + (d + 1) = (m + 1 + d) + 1 by omega]
    unfold wX_seekPartners_20
    rw [e]
    exact br_f (nI_ge (b := 3) (by omega) (by omega)) ⟨vp_in_nI (by omega) (by omega), nm_e (nm_r (ch_a1 i) (ih (i + 1) (by omega)))⟩
/-- the search for partners of c at head h of rule r -/
theorem cx_partners {f0 s0 : Nat} (C : ch_SC aR aP aS aL bf af fo lo hs yG n lg nc T) (hr : r < nc) (hh : h < ch_nh (ch_bl aR r)) (hc : c < n) (ac : ¬ aL c = 0)
    (ef : cF c = ch_cd f0) (hf0 : f0 ≤ c) (cf : 1 ≤ f0 → aS (f0 - 1) = ch_bl aR r (4 + 4 * ch_fh h) ∧ (¬ aL (f0 - 1) = 0 ∨ c < T (f0 - 1)))
    (es : cS c = ch_cd s0) (hs0 : s0 ≤ c) (cs : 1 ≤ s0 → aS (s0 - 1) = ch_bl aR r (4 + 4 * ch_sh h) ∧ (¬ aL (s0 - 1) = 0 ∨ c < T (s0 - 1)))
    (nb : ch_NB aR aS aA aB aL yG n lg nc c r h f0 s0) :
    ∃ q cF' cS' bm' vs' iv', (q = 0 ∨ q = 1) ∧ (∀ j, j ≠ c → cF' j = cF j ∧ cS' j = cS j) ∧
      (q = 1 → ∃ f s, ch_Fd aR aS aA aB aL yG cF' cS' iv' vs' n lg nc T c r h f s) ∧
      (q = 0 → ch_NB aR aS aA aB aL yG n lg nc c r (h + 1) 0 0) ∧
      ∀ post : Int32 → SX → Prop, post q (xsl, xll, xnc, xro, xob, xn, xal, xag, xtl, xlg, bm', aR, aP, aS, aA, aB, aL, bf, af, fo, lo, cR, cH, cF', cS', gI, gS, gA, gB, kR, kI, hs, iv', vs') → wpX_seekPartners post (xsl, xll, xnc, xro, xob, xn, xal, xag, xtl, xlg, xbm, aR, aP, aS, aA, aB, aL, bf, af, fo, lo, cR, cH, cF, cS, gI, gS, gA, gB, kR, kI, hs, iv, vs) (nI c) (nI r) (nI h) := by
  have W := (C.2.2.2.2.2 r hr).1
  have nh3 := W.1.2.1
  have n160 := C.1
  have nc6 := C.2.2.1
  have H := ch_fs (h := h) (by omega)
  have k0 : aR (nI (40 * r)).toNatClampNeg = nI (ch_nh (ch_bl aR r)) := by rw [nI_clamp (by omega), ← W.1.1]; exact ch_blE (j := 0) (by omega)
  have in0 : vp_in (nI (40 * r)) 240 := vp_in_nI (by omega) (by omega)
  have eh : (nI h).toNatClampNeg = h := nI_clamp (by omega)
  obtain ⟨m, b1, w1, m01, m1, m0, mk, md, mw⟩ := cx_matchHead (h := h) (i := c) (Q := fun _ => True) W (by omega) hh (by omega) (ch_M_0 (fun p hp => ch_b0 (by omega)) vs) (fun q hq z => absurd z (ch_b0 (by omega))) (xsl := xsl) (xll := xll) (xnc := xnc) (xro := xro) (xob := xob) (xn := xn) (xal := xal) (xag := xag) (xtl := xtl) (xlg := xlg) (xbm := 0) (aR := aR) (aP := aP) (aS := aS) (aA := aA) (aB := aB) (aL := aL) (bf := bf) (af := af) (fo := fo) (lo := lo) (cR := cR) (cH := cH) (cF := cF) (cS := cS) (gI := gI) (gS := gS) (gA := gA) (gB := gB) (kR := kR) (kI := kI) (hs := hs) (iv := iv) (vs := vs)
  rcases m01 with rfl | rfl
  · refine ⟨0, cF, cS, b1, w1, iv, Or.inl rfl, fun _ _ => ⟨rfl, rfl⟩, fun z => absurd z.symm ch_10, fun _ => ch_NB_h nb (fun f' s' f1 f2 s1 s2 p => ?_), fun post hp => ?_⟩
    · have q := (ch_Id_iff (by omega) (by omega) (by omega) (by omega) (by omega) (by omega)).mp p.1
      obtain ⟨_, q2, _, q4, _⟩ := q
      obtain ⟨w, mw, _⟩ := p.2.1
      have mw := (ch_Mt_iff (by omega) (by omega) (by omega) (by omega) (by omega) (fun z => (q2 z).1) (fun z => (q4 z).1)).mp mw
      exact m0 rfl w ⟨trivial, mw.1⟩
    · unfold wpX_seekPartners
      exact mw _ (br_t rfl hp)
  · have M1 : ch_M (ch_b b1) (fun w => ch_Hd (ch_bl aR r) aS aA aB h c w) w1 := ch_M_cg (m1 rfl) (fun w => ⟨fun z => z.2, fun z => ⟨trivial, z⟩⟩)
    have go : ∀ post : Int32 → SX → Prop, (∀ m : Nat, wX_seekPartners_20 post (nI c) (nI r) (nI h) xsl xll xnc xro xob xn xal xag xtl xlg b1 (m + 1) (nI 3) aR aP aS aA aB aL bf af fo lo cR cH cF cS gI gS gA gB kR kI hs (ch_m1f iv 3) w1) → wpX_seekPartners post (xsl, xll, xnc, xro, xob, xn, xal, xag, xtl, xlg, xbm, aR, aP, aS, aA, aB, aL, bf, af, fo, lo, cR, cH, cF, cS, gI, gS, gA, gB, kR, kI, hs, iv, vs) (nI c) (nI r) (nI h) := by
      intro post k
      unfold wpX_seekPartners
      exact mw _ (br_f ch_10 ⟨0 + 1 + 3, cx_part_lp post (k 0) 3 0 rfl⟩)
    have u1 : upd (ch_m1f iv 3) h (nI c) h = nI c := ch_upd_s
    have u2 : ∀ j, j < 3 → j ≠ h → upd (ch_m1f iv 3) h (nI c) j = -1 := fun j hj ne => by rw [ch_upd_n ne]; exact ch_m1f_3 hj
    rcases Nat.lt_or_ge (ch_nh (ch_bl aR r)) 2 with e1 | e1
    · have e1 : ch_nh (ch_bl aR r) = 1 := by omega
      have h0 : h = 0 := by omega
      have ID : ch_Id (ch_bl aR r) aL n (ch_ix h (nI c) (ch_cd 0)) (ch_iy h (nI c) (ch_cd 0) (ch_cd 0)) (ch_iz h (nI c) (ch_cd 0)) :=
        (ch_Id_iff (by omega) (by omega) (by omega) (by omega) (by omega) (by omega)).mpr ⟨⟨hc, ac⟩, fun z => by omega, fun z => rfl, fun z => by omega, fun z => rfl⟩
      have MT : ∀ w, ch_Hd (ch_bl aR r) aS aA aB h c w ↔ ch_Mt (ch_bl aR r) aS aA aB (ch_ix h (nI c) (ch_cd 0)) (ch_iy h (nI c) (ch_cd 0) (ch_cd 0)) (ch_iz h (nI c) (ch_cd 0)) w := by
        intro w
        rw [ch_Mt_iff (by omega) (by omega) (by omega) (by omega) (by omega) (fun _ => by omega) (fun _ => by omega)]
        exact ⟨fun z => ⟨z, fun _ => by omega, fun _ => by omega⟩, fun z => z.1⟩
      obtain ⟨z0, z1, z2⟩ := ch_iv3 (iv := upd (ch_m1f iv 3) h (nI c)) (h := h) (by omega) (x := nI c) (y := ch_cd 0) (z := ch_cd 0) u1 (by rw [ch_cd0]; exact u2 _ (by omega) (by omega)) (by rw [ch_cd0]; exact u2 _ (by omega) (by omega))
      obtain ⟨t, vs2, t01, ti, t1, tk, tw⟩ := cx_test (f := 0) (s := 0) C hr (by omega) (by omega) (by omega) (by omega) (Or.inl h0) z0 z1 z2 M1 MT (xsl := xsl) (xll := xll) (xnc := xnc) (xro := xro) (xob := xob) (xn := xn) (xal := xal) (xag := xag) (xtl := xtl) (xlg := xlg) (xbm := b1) (aR := aR) (aP := aP) (aS := aS) (aA := aA) (aB := aB) (aL := aL) (bf := bf) (af := af) (fo := fo) (lo := lo) (cR := cR) (cH := cH) (cF := cF) (cS := cS) (gI := gI) (gS := gS) (gA := gA) (gB := gB) (kR := kR) (kI := kI) (hs := hs) (iv := upd (ch_m1f iv 3) h (nI c)) (vs := w1)
      have ti := ti ID
      refine ⟨t, cF, cS, b1, vs2, upd (ch_m1f iv 3) h (nI c), t01, fun _ _ => ⟨rfl, rfl⟩, fun e => ?_, fun e => ?_, fun post hp => go post (fun m => ?_)⟩
      · have px := ti.mp e
        have s00 : f0 = 0 ∧ s0 = 0 := by
          rcases Classical.em (f0 = 0 ∧ s0 = 0) with z | z
          · exact z
          · exact absurd px (nb r h 0 0 hr hh (by omega) (by omega) (Or.inr ⟨rfl, Or.inr ⟨rfl, by omega⟩⟩))
        obtain ⟨rfl, rfl⟩ := s00
        exact ⟨0, 0, by omega, by omega, ef, es, fun z => by omega, fun z => by omega, nb, px, z0, z1, z2, t1 e⟩
      · refine ch_NB_h nb (fun f' s' f1 f2 s1 s2 p => ?_)
        have q := (ch_Id_iff (by omega) (by omega) (by omega) (by omega) (by omega) (by omega)).mp p.1
        have f00 : f' = 0 := q.2.2.1 (by omega)
        have s00 : s' = 0 := q.2.2.2.2 (by omega)
        subst f00 s00
        exact ch_10 ((ti.mpr p).symm.trans e)
      · unfold wX_seekPartners_20
        rw [eh, ch_t40, k0]
        exact br_t (by decide) ⟨vp_in_nI (by omega) (by omega), nm_e ⟨in0, br_t (by rw [e1]; rfl) (tw _ ⟨ch_bo t01, hp⟩)⟩⟩
    · obtain ⟨q, cF', cS', bm', vs', iv', q1, q2, q3, q4, q5⟩ := cx_seekFirst C hr e1 hh hc ac md ef hf0 cf es hs0 cs nb M1 u1 (fun z => u2 2 (by omega) (by omega)) (xsl := xsl) (xll := xll) (xnc := xnc) (xro := xro) (xob := xob) (xn := xn) (xal := xal) (xag := xag) (xtl := xtl) (xlg := xlg) (xbm := b1) (aR := aR) (aP := aP) (aS := aS) (aA := aA) (aB := aB) (aL := aL) (bf := bf) (af := af) (fo := fo) (lo := lo) (cR := cR) (cH := cH) (cF := cF) (cS := cS) (gI := gI) (gS := gS) (gA := gA) (gB := gB) (kR := kR) (kI := kI) (hs := hs) (iv := upd (ch_m1f iv 3) h (nI c)) (vs := w1)
      refine ⟨q, cF', cS', bm', vs', iv', q1, q2, q3, q4, fun post hp => go post (fun m => ?_)⟩
      unfold wX_seekPartners_20
      rw [eh, ch_t40, k0]
      exact br_t (by decide) ⟨vp_in_nI (by omega) (by omega), nm_e ⟨in0, br_f (fun z => by have := (nI_eq (b := 1) (by omega) (by omega)).mp z; omega) (q5 _ ⟨ch_bo q1, hp⟩)⟩⟩
theorem cx_moveCursor {a b : Int32} (hc : c < 160) (post : SX → Prop) (hp : post (xsl, xll, xnc, xro, xob, xn, xal, xag, xtl, xlg, xbm, aR, aP, aS, aA, aB, aL, bf, af, fo, lo, upd cR c a, upd cH c b, upd cF c (-1), upd cS c (-1), gI, gS, gA, gB, kR, kI, hs, iv, vs)) : wpX_moveCursor post (xsl, xll, xnc, xro, xob, xn, xal, xag, xtl, xlg, xbm, aR, aP, aS, aA, aB, aL, bf, af, fo, lo, cR, cH, cF, cS, gI, gS, gA, gB, kR, kI, hs, iv, vs) (nI c) a b := by
  have ec : (nI c).toNatClampNeg = c := nI_clamp (by omega)
  have cin : vp_in (nI c) 160 := vp_in_nI (by omega) (by omega)
  unfold wpX_moveCursor
  dsimp only
  rw [ec]
  exact ⟨cin, nm_e ⟨cin, nm_e ⟨cin, nm_e ⟨cin, nm_e hp⟩⟩⟩⟩
/-- the heads of one rule -/
theorem cx_seek_h (C : ch_SC aR aP aS aL bf af fo lo hs yG n lg nc T) (hr : r < nc) (hc : c < n) (ac : ¬ aL c = 0) :
    ∀ d h f0 s0 cR cH cF cS bm vs iv, ch_nh (ch_bl aR r) - h ≤ d → h ≤ 3 → cR c = nI r → cH c = nI h → cF c = ch_cd f0 → f0 ≤ c → (1 ≤ f0 → aS (f0 - 1) = ch_bl aR r (4 + 4 * ch_fh h) ∧ (¬ aL (f0 - 1) = 0 ∨ c < T (f0 - 1))) →
    cS c = ch_cd s0 → s0 ≤ c → (1 ≤ s0 → aS (s0 - 1) = ch_bl aR r (4 + 4 * ch_sh h) ∧ (¬ aL (s0 - 1) = 0 ∨ c < T (s0 - 1))) → ch_NB aR aS aA aB aL yG n lg nc c r h f0 s0 →
    ∃ (q : Int32) (cR' cH' cF' cS' : Nat → Int32) (bm' : Int32) (vs' iv' : Nat → Int32), (q = 0 ∨ q = 1) ∧ (∀ j, j ≠ c → cR' j = cR j ∧ cH' j = cH j ∧ cF' j = cF j ∧ cS' j = cS j) ∧
      (q = 1 → ∃ h f s, h < ch_nh (ch_bl aR r) ∧ cR' c = nI r ∧ cH' c = nI h ∧ ch_Fd aR aS aA aB aL yG cF' cS' iv' vs' n lg nc T c r h f s) ∧
      (q = 0 → ch_NB aR aS aA aB aL yG n lg nc c (r + 1) 0 0 0 ∧ cR' c = nI (r + 1) ∧ cH' c = 0 ∧ cF' c = -1 ∧ cS' c = -1) ∧
      ∀ (post : Int32 → SX → Prop) (J : Int32 → Int32 → Int32 → Int32 → Int32 → Int32 → Int32 → Int32 → Int32 → Int32 → Int32 → Int32 → (Nat → Int32) → (Nat → Int32) → (Nat → Int32) → (Nat → Int32) → (Nat → Int32) → (Nat → Int32) → (Nat → Int32) → (Nat → Int32) → (Nat → Int32) → (Nat → Int32) → (Nat → Int32) → (Nat → Int32) → (Nat → Int32) → (Nat → Int32) → (Nat → Int32) → (Nat → Int32) → (Nat → Int32) → (Nat → Int32) → (Nat → Int32) → (Nat → Int32) → (Nat → Int32) → (Nat → Int32) → (Nat → Int32) → Prop), (q = 1 → post 1 (xsl, xll, xnc, xro, xob, xn, xal, xag, xtl, xlg, bm', aR, aP, aS, aA, aB, aL, bf, af, fo, lo, cR', cH', cF', cS', gI, gS, gA, gB, kR, kI, hs, iv', vs')) → (q = 0 → J (nI (r + 1)) xsl xll xnc xro xob xn xal xag xtl xlg bm' aR aP aS aA aB aL bf af fo lo cR' cH' cF' cS' gI gS gA gB kR kI hs iv' vs') →
        wX_seek_33 post J (nI c) (nI r) (nI (ch_nh (ch_bl aR r))) (d + 1) (nI h) xsl xll xnc xro xob xn xal xag xtl xlg bm aR aP aS aA aB aL bf af fo lo cR cH cF cS gI gS gA gB kR kI hs iv vs := by
  have W := (C.2.2.2.2.2 r hr).1
  have nh3 := W.1.2.1
  have n160 := C.1
  have nc6 := C.2.2.1
  have fin : ∀ d h cR cH cF cS bm vs iv, ch_nh (ch_bl aR r) ≤ h → h ≤ 3 → ∀ f0 s0, ch_NB aR aS aA aB aL yG n lg nc c r h f0 s0 →
      ∃ (q : Int32) (cR' cH' cF' cS' : Nat → Int32) (bm' : Int32) (vs' iv' : Nat → Int32), (q = 0 ∨ q = 1) ∧ (∀ j, j ≠ c → cR' j = cR j ∧ cH' j = cH j ∧ cF' j = cF j ∧ cS' j = cS j) ∧
      (q = 1 → ∃ h f s, h < ch_nh (ch_bl aR r) ∧ cR' c = nI r ∧ cH' c = nI h ∧ ch_Fd aR aS aA aB aL yG cF' cS' iv' vs' n lg nc T c r h f s) ∧
      (q = 0 → ch_NB aR aS aA aB aL yG n lg nc c (r + 1) 0 0 0 ∧ cR' c = nI (r + 1) ∧ cH' c = 0 ∧ cF' c = -1 ∧ cS' c = -1) ∧
      ∀ (post : Int32 → SX → Prop) (J : Int32 → Int32 → Int32 → Int32 → Int32 → Int32 → Int32 → Int32 → Int32 → Int32 → Int32 → Int32 → (Nat → Int32) → (Nat → Int32) → (Nat → Int32) → (Nat → Int32) → (Nat → Int32) → (Nat → Int32) → (Nat → Int32) → (Nat → Int32) → (Nat → Int32) → (Nat → Int32) → (Nat → Int32) → (Nat → Int32) → (Nat → Int32) → (Nat → Int32) → (Nat → Int32) → (Nat → Int32) → (Nat → Int32) → (Nat → Int32) → (Nat → Int32) → (Nat → Int32) → (Nat → Int32) → (Nat → Int32) → (Nat → Int32) → Prop), (q = 1 → post 1 (xsl, xll, xnc, xro, xob, xn, xal, xag, xtl, xlg, bm', aR, aP, aS, aA, aB, aL, bf, af, fo, lo, cR', cH', cF', cS', gI, gS, gA, gB, kR, kI, hs, iv', vs')) → (q = 0 → J (nI (r + 1)) xsl xll xnc xro xob xn xal xag xtl xlg bm' aR aP aS aA aB aL bf af fo lo cR' cH' cF' cS' gI gS gA gB kR kI hs iv' vs') →
        wX_seek_33 post J (nI c) (nI r) (nI (ch_nh (ch_bl aR r))) (d + 1) (nI h) xsl xll xnc xro xob xn xal xag xtl xlg bm aR aP aS aA aB aL bf af fo lo cR cH cF cS gI gS gA gB kR kI hs iv vs := by
    intro d h cR cH cF cS bm vs iv hh h3 f0 s0 nb
    refine ⟨0, upd cR c (nI (r + 1)), upd cH c 0, upd cF c (-1), upd cS c (-1), bm, vs, iv, Or.inl rfl, fun j hj => ⟨ch_upd_n hj, ch_upd_n hj, ch_upd_n hj, ch_upd_n hj⟩, fun z => absurd z.symm ch_10, fun _ => ⟨ch_NB_r nb hh, ch_upd_s, ch_upd_s, ch_upd_s, ch_upd_s⟩, fun post J hp hJ => ?_⟩
    unfold wX_seek_33
    rw [ch_a1]
    exact br_t (nI_le hh (by omega)) (cx_moveCursor (by omega) _ (nm_e (hJ rfl)))
  intro d
  induction d with
  | zero =>
    intro h f0 s0 cR cH cF cS bm vs iv hd h3 e1 e2 e3 e4 e5 e6 e7 e8 nb
    exact fin 0 h cR cH cF cS bm vs iv (by omega) h3 f0 s0 nb
  | succ d ih =>
    intro h f0 s0 cR cH cF cS bm vs iv hd h3 e1 e2 e3 e4 e5 e6 e7 e8 nb
    rcases Nat.lt_or_ge h (ch_nh (ch_bl aR r)) with hh | hh
    · obtain ⟨q, cF', cS', bm', vs', iv', q1, q2, q3, q4, q5⟩ := cx_partners C hr hh hc ac e3 e4 e5 e6 e7 e8 nb (xsl := xsl) (xll := xll) (xnc := xnc) (xro := xro) (xob := xob) (xn := xn) (xal := xal) (xag := xag) (xtl := xtl) (xlg := xlg) (xbm := bm) (aR := aR) (aP := aP) (aS := aS) (aA := aA) (aB := aB) (aL := aL) (bf := bf) (af := af) (fo := fo) (lo := lo) (cR := cR) (cH := cH) (cF := cF) (cS := cS) (gI := gI) (gS := gS) (gA := gA) (gB := gB) (kR := kR) (kI := kI) (hs := hs) (iv := iv) (vs := vs)
      have nle : ¬ nI (ch_nh (ch_bl aR r)) ≤ nI h := nI_ge hh (by omega)
      rcases q1 with rfl | rfl
      · obtain ⟨q', cR2, cH2, cF2, cS2, bm2, vs2, iv2, r1, r2, r3, r4, r5⟩ := ih (h + 1) 0 0 (upd cR c (nI r)) (upd cH c (nI (h + 1))) (upd cF' c (-1)) (upd cS' c (-1)) bm' vs' iv' (by omega) (by omega) ch_upd_s ch_upd_s (by rw [ch_upd_s, ch_cd0]) (by omega) (fun z => by omega) (by rw [ch_upd_s, ch_cd0]) (by omega) (fun z => by omega) (q4 rfl)
        refine ⟨q', cR2, cH2, cF2, cS2, bm2, vs2, iv2, r1, fun j hj => ?_, r3, r4, fun post J hp hJ => ?_⟩
        · obtain ⟨g1, g2, g3, g4⟩ := r2 j hj
          rw [g1, g2, g3, g4, ch_upd_n hj, ch_upd_n hj, ch_upd_n hj, ch_upd_n hj, (q2 j hj).1, (q2 j hj).2]
          exact ⟨rfl, rfl, rfl, rfl⟩
        · unfold wX_seek_33
          rw [ch_a1 h]
          exact br_f nle (q5 _ (br_t rfl (cx_moveCursor (by omega) _ (nm_e (r5 post J hp hJ)))))
      · obtain ⟨f, s, fd⟩ := q3 rfl
        refine ⟨1, cR, cH, cF', cS', bm', vs', iv', Or.inr rfl, fun j hj => ⟨rfl, rfl, (q2 j hj).1, (q2 j hj).2⟩, fun _ => ⟨h, f, s, hh, e1, e2, fd⟩, fun z => absurd z ch_10, fun post J hp hJ => ?_⟩
        unfold wX_seek_33
        exact br_f nle (q5 _ (br_f ch_10 (hp rfl)))
    · exact fin (d + 1) h cR cH cF cS bm vs iv hh h3 f0 s0 nb
end
end
section
section
variable {xsl xll xnc xro xob xn xal xag xtl xlg xbm : Int32} {aR aP aS aA aB aL bf af fo lo cR cH cF cS gI gS gA gB kR kI hs iv vs : Nat → Int32}
variable {yG : Nat → Int32} {n lg nc c : Nat} {T : Nat → Nat}
theorem cx_seek_r (C : ch_SC aR aP aS aL bf af fo lo hs yG n lg nc T) (hc : c < n) (ac : ¬ aL c = 0) :
    ∀ d r h f0 s0 cR cH cF cS bm vs iv, nc - r ≤ d → r ≤ nc → h ≤ 3 → cR c = nI r → cH c = nI h → cF c = ch_cd f0 → f0 ≤ c → (1 ≤ f0 → aS (f0 - 1) = ch_bl aR r (4 + 4 * ch_fh h) ∧ (¬ aL (f0 - 1) = 0 ∨ c < T (f0 - 1))) →
    cS c = ch_cd s0 → s0 ≤ c → (1 ≤ s0 → aS (s0 - 1) = ch_bl aR r (4 + 4 * ch_sh h) ∧ (¬ aL (s0 - 1) = 0 ∨ c < T (s0 - 1))) → ch_NB aR aS aA aB aL yG n lg nc c r h f0 s0 →
    ∃ (q : Int32) (cR' cH' cF' cS' : Nat → Int32) (bm' : Int32) (vs' iv' : Nat → Int32), (q = 0 ∨ q = 1) ∧ (∀ j, j ≠ c → cR' j = cR j ∧ cH' j = cH j ∧ cF' j = cF j ∧ cS' j = cS j) ∧
      ch_Cu aR aS aA aB aL yG cR' cH' cF' cS' n lg nc T c ∧
      (q = 1 → ∃ r h f s, r < nc ∧ h < ch_nh (ch_bl aR r) ∧ cR' c = nI r ∧ ch_Fd aR aS aA aB aL yG cF' cS' iv' vs' n lg nc T c r h f s) ∧
      (q = 0 → ch_NB aR aS aA aB aL yG n lg nc c nc 0 0 0) ∧
      ∀ (post : Int32 → SX → Prop), post q (xsl, xll, nI nc, xro, xob, xn, xal, xag, xtl, xlg, bm', aR, aP, aS, aA, aB, aL, bf, af, fo, lo, cR', cH', cF', cS', gI, gS, gA, gB, kR, kI, hs, iv', vs') →
        wX_seek_7 post (nI c) (d + 1) (nI r) xsl xll (nI nc) xro xob xn xal xag xtl xlg bm aR aP aS aA aB aL bf af fo lo cR cH cF cS gI gS gA gB kR kI hs iv vs := by
  have n160 := C.1
  have nc6 := C.2.2.1
  have ec : (nI c).toNatClampNeg = c := nI_clamp (by omega)
  have cin : vp_in (nI c) 160 := vp_in_nI (by omega) (by omega)
  have fin : ∀ d h cR cH cF cS bm vs iv f0 s0, h ≤ 3 → cR c = nI nc → cH c = nI h → cF c = ch_cd f0 → f0 ≤ c → (1 ≤ f0 → aS (f0 - 1) = ch_bl aR nc (4 + 4 * ch_fh h) ∧ (¬ aL (f0 - 1) = 0 ∨ c < T (f0 - 1))) →
      cS c = ch_cd s0 → s0 ≤ c → (1 ≤ s0 → aS (s0 - 1) = ch_bl aR nc (4 + 4 * ch_sh h) ∧ (¬ aL (s0 - 1) = 0 ∨ c < T (s0 - 1))) → ch_NB aR aS aA aB aL yG n lg nc c nc h f0 s0 →
      ∃ (q : Int32) (cR' cH' cF' cS' : Nat → Int32) (bm' : Int32) (vs' iv' : Nat → Int32), (q = 0 ∨ q = 1) ∧ (∀ j, j ≠ c → cR' j = cR j ∧ cH' j = cH j ∧ cF' j = cF j ∧ cS' j = cS j) ∧
      ch_Cu aR aS aA aB aL yG cR' cH' cF' cS' n lg nc T c ∧
      (q = 1 → ∃ r h f s, r < nc ∧ h < ch_nh (ch_bl aR r) ∧ cR' c = nI r ∧ ch_Fd aR aS aA aB aL yG cF' cS' iv' vs' n lg nc T c r h f s) ∧
      (q = 0 → ch_NB aR aS aA aB aL yG n lg nc c nc 0 0 0) ∧
      ∀ (post : Int32 → SX → Prop), post q (xsl, xll, nI nc, xro, xob, xn, xal, xag, xtl, xlg, bm', aR, aP, aS, aA, aB, aL, bf, af, fo, lo, cR', cH', cF', cS', gI, gS, gA, gB, kR, kI, hs, iv', vs') →
        wX_seek_7 post (nI c) (d + 1) (nI nc) xsl xll (nI nc) xro xob xn xal xag xtl xlg bm aR aP aS aA aB aL bf af fo lo cR cH cF cS gI gS gA gB kR kI hs iv vs := by
    intro d h cR cH cF cS bm vs iv f0 s0 h3 e1 e2 e3 e4 e5 e6 e7 e8 nb
    refine ⟨0, cR, cH, cF, cS, bm, vs, iv, Or.inl rfl, fun _ _ => ⟨rfl, rfl, rfl, rfl⟩, ⟨nc, h, f0, s0, e1, e2, e3, e6, Nat.le_refl _, h3, e4, e7, nb, e5, e8⟩, fun z => absurd z.symm ch_10, fun _ r' h' f' s' a b d e lt => nb r' h' f' s' a b d e (Or.inl a), fun post hp => ?_⟩
    unfold wX_seek_7
    exact br_t (Int32.le_refl _) hp
  intro d
  induction d with
  | zero =>
    intro r h f0 s0 cR cH cF cS bm vs iv hd hr h3 e1 e2 e3 e4 e5 e6 e7 e8 nb
    have : r = nc := by omega
    subst this
    exact fin 0 h cR cH cF cS bm vs iv f0 s0 h3 e1 e2 e3 e4 e5 e6 e7 e8 nb
  | succ d ih =>
    intro r h f0 s0 cR cH cF cS bm vs iv hd hr h3 e1 e2 e3 e4 e5 e6 e7 e8 nb
    rcases Nat.lt_or_ge r nc with rn | rn
    · have W := (C.2.2.2.2.2 r rn).1
      have nh3 := W.1.2.1
      have k0 : aR (nI (40 * r)).toNatClampNeg = nI (ch_nh (ch_bl aR r)) := by rw [nI_clamp (by omega), ← W.1.1]; exact ch_blE (j := 0) (by omega)
      have in0 : vp_in (nI (40 * r)) 240 := vp_in_nI (by omega) (by omega)
      obtain ⟨q, cR', cH', cF', cS', bm', vs', iv', q1, q2, q3, q4, q5⟩ := cx_seek_h C rn hc ac 3 h f0 s0 cR cH cF cS bm vs iv (by omega) h3 e1 e2 e3 e4 e5 e6 e7 e8 nb (xsl := xsl) (xll := xll) (xnc := nI nc) (xro := xro) (xob := xob) (xn := xn) (xal := xal) (xag := xag) (xtl := xtl) (xlg := xlg) (aR := aR) (aP := aP) (aS := aS) (aA := aA) (aB := aB) (aL := aL) (bf := bf) (af := af) (fo := fo) (lo := lo) (gI := gI) (gS := gS) (gA := gA) (gB := gB) (kR := kR) (kI := kI) (hs := hs)
      have nle : ¬ nI nc ≤ nI r := nI_ge rn (by omega)
      rcases q1 with rfl | rfl
      · obtain ⟨g1, g2, g3, g4, g5⟩ := q4 rfl
        obtain ⟨q', cR2, cH2, cF2, cS2, bm2, vs2, iv2, r1, r2, r3, r4, r5, r6⟩ := ih (r + 1) 0 0 0 cR' cH' cF' cS' bm' vs' iv' (by omega) (by omega) (by omega) g2 g3 (by rw [g4, ch_cd0]) (by omega) (fun z => by omega) (by rw [g5, ch_cd0]) (by omega) (fun z => by omega) g1
        refine ⟨q', cR2, cH2, cF2, cS2, bm2, vs2, iv2, r1, fun j hj => ?_, r3, r4, r5, fun post hp => ?_⟩
        · obtain ⟨a1, a2, a3, a4⟩ := r2 j hj
          rw [a1, a2, a3, a4]
          exact q2 j hj
        · unfold wX_seek_7
          rw [ch_t40, k0, ec]
          exact br_f nle ⟨in0, nm_e ⟨cin, nm_r e2 ⟨_, q5 post _ (fun z => absurd z.symm ch_10) (fun _ => r6 post hp)⟩⟩⟩
      · obtain ⟨h', f, s, hh, cr, chh, fd⟩ := q3 rfl
        refine ⟨1, cR', cH', cF', cS', bm', vs', iv', Or.inr rfl, q2, ?_, fun _ => ⟨r, h', f, s, rn, hh, cr, fd⟩, fun z => absurd z ch_10, fun post hp => ?_⟩
        · obtain ⟨x1, x2, x3, x4, x5, x6, x7, x8⟩ := fd
          exact ⟨r, h', f, s, cr, chh, x3, x4, by omega, by omega, x1, x2, x7, x5, x6⟩
        · unfold wX_seek_7
          rw [ch_t40, k0, ec]
          exact br_f nle ⟨in0, nm_e ⟨cin, nm_r e2 ⟨_, q5 post _ (fun _ => hp) (fun z => absurd z ch_10)⟩⟩⟩
    · have : r = nc := by omega
      subst this
      exact fin (d + 1) h cR cH cF cS bm vs iv f0 s0 h3 e1 e2 e3 e4 e5 e6 e7 e8 nb
/-- X's search: the first applicable choice at or after the cursor -/
theorem cx_seek (C : ch_SC aR aP aS aL bf af fo lo hs yG n lg nc T) (hc : c < n) (ac : ¬ aL c = 0) (cu : ch_Cu aR aS aA aB aL yG cR cH cF cS n lg nc T c) :
    ∃ (q : Int32) (cR' cH' cF' cS' : Nat → Int32) (bm' : Int32) (vs' iv' : Nat → Int32), (q = 0 ∨ q = 1) ∧ (∀ j, j ≠ c → cR' j = cR j ∧ cH' j = cH j ∧ cF' j = cF j ∧ cS' j = cS j) ∧
      ch_Cu aR aS aA aB aL yG cR' cH' cF' cS' n lg nc T c ∧
      (q = 1 → ∃ r h f s, r < nc ∧ h < ch_nh (ch_bl aR r) ∧ cR' c = nI r ∧ ch_Fd aR aS aA aB aL yG cF' cS' iv' vs' n lg nc T c r h f s) ∧
      (q = 0 → ch_NB aR aS aA aB aL yG n lg nc c nc 0 0 0) ∧
      ∀ (post : Int32 → SX → Prop), post q (xsl, xll, nI nc, xro, xob, xn, xal, xag, xtl, xlg, bm', aR, aP, aS, aA, aB, aL, bf, af, fo, lo, cR', cH', cF', cS', gI, gS, gA, gB, kR, kI, hs, iv', vs') → wpX_seek post (xsl, xll, nI nc, xro, xob, xn, xal, xag, xtl, xlg, xbm, aR, aP, aS, aA, aB, aL, bf, af, fo, lo, cR, cH, cF, cS, gI, gS, gA, gB, kR, kI, hs, iv, vs) (nI c) := by
  have n160 := C.1
  obtain ⟨r, h, f, s, c1, c2, c3, c4, c5, c6, c7, c8, c9, c10, c11⟩ := cu
  obtain ⟨q, cR', cH', cF', cS', bm', vs', iv', q1, q2, q3, q4, q5, q6⟩ := cx_seek_r C hc ac nc r h f s cR cH cF cS xbm vs iv (by omega) c5 c6 c1 c2 c3 c7 c10 c4 c8 c11 c9 (xsl := xsl) (xll := xll) (xro := xro) (xob := xob) (xn := xn) (xal := xal) (xag := xag) (xtl := xtl) (xlg := xlg) (aR := aR) (aP := aP) (aS := aS) (aA := aA) (aB := aB) (aL := aL) (bf := bf) (af := af) (fo := fo) (lo := lo) (gI := gI) (gS := gS) (gA := gA) (gB := gB) (kR := kR) (kI := kI) (hs := hs)
  refine ⟨q, cR', cH', cF', cS', bm', vs', iv', q1, q2, q3, q4, q5, fun post hp => ?_⟩
  unfold wpX_seek
  dsimp only
  rw [show (nI c).toNatClampNeg = c from nI_clamp (by omega)]
  exact ⟨vp_in_nI (by omega) (by omega), nm_r c1 ⟨_, q6 post hp⟩⟩
end
end
section
/-- what the reference's searching leans on -/
def ch_YC (yR yF aS aA aB : Nat → Int32) (n nc : Nat) : Prop := n ≤ 160 ∧ nc ≤ 6 ∧ (∀ i, i < n → yF (3 * i) = aS i ∧ yF (3 * i + 1) = aA i ∧ yF (3 * i + 2) = aB i) ∧ (∀ r, r < nc → ch_W (ch_bl yR r) ∧ 1 ≤ ch_nh (ch_bl yR r))
section
variable {ysl yll ync yop ytl yn ylg yag : Int32} {yR yF yL yG yQ yp yv yk : Nat → Int32}
variable {aS aA aB : Nat → Int32} {n lg nc r : Nat}
theorem cy_alive {x : Int32} (hn : n ≤ 160) : ∃ q, (q = 0 ∨ q = 1) ∧ (q = 1 ↔ ch_Al yL n x) ∧ ∀ post : Int32 → Prop, post q → wpY_alive post (ysl, yll, ync, yop, ytl, nI n, ylg, yag, yR, yF, yL, yG, yQ, yp, yv, yk) x := by
  rcases Classical.em (x < 0) with h0 | h0
  · refine ⟨0, Or.inl rfl, ⟨fun z => absurd z.symm ch_10, ?_⟩, fun post hp => ?_⟩
    · rintro ⟨i, hi, rfl, _⟩
      exact absurd h0 (nI_pos (by omega))
    · unfold wpY_alive
      exact br_t h0 hp
  · obtain ⟨j, hj, rfl⟩ := nI_of h0
    rcases Nat.lt_or_ge j n with h | h
    · have ej : (nI j).toNatClampNeg = j := nI_clamp hj
      rcases Classical.em (yL j = 0) with z | z
      · refine ⟨0, Or.inl rfl, ⟨fun z => absurd z.symm ch_10, ?_⟩, fun post hp => ?_⟩
        · rintro ⟨i, hi, e, a⟩
          have := (nI_eq (by omega) (by omega)).mp e
          subst this
          exact absurd z a
        · unfold wpY_alive
          dsimp only
          rw [ej]
          exact br_f h0 (br_f (nI_ge h (by omega)) ⟨vp_in_nI (by omega) (by omega), br_t z hp⟩)
      · refine ⟨1, Or.inr rfl, ⟨fun _ => ⟨j, h, rfl, z⟩, fun _ => rfl⟩, fun post hp => ?_⟩
        unfold wpY_alive
        dsimp only
        rw [ej]
        exact br_f h0 (br_f (nI_ge h (by omega)) ⟨vp_in_nI (by omega) (by omega), br_f z hp⟩)
    · refine ⟨0, Or.inl rfl, ⟨fun z => absurd z.symm ch_10, ?_⟩, fun post hp => ?_⟩
      · rintro ⟨i, hi, e, a⟩
        have := (nI_eq (by omega) (by omega)).mp e
        omega
      · unfold wpY_alive
        exact br_f h0 (br_t (nI_le h hj) hp)
theorem cy_valueOf {p : Int32} (hp : ch_Pa p) (post : Int32 → Prop) (h : post (ch_ov p yv)) : wpY_valueOf post (ysl, yll, ync, yop, ytl, yn, ylg, yag, yR, yF, yL, yG, yQ, yp, yv, yk) p := by
  unfold wpY_valueOf
  rcases hp with ⟨q, hq, rfl⟩ | ⟨q, h1, h2, rfl⟩
  · rw [ch_ov_v hq] at h
    exact br_t (ch_n64 (by omega)) ⟨vp_in_nI hq (by omega), by rw [nI_clamp (by omega)]; exact h⟩
  · rw [ch_ov_c h1 h2] at h
    exact br_f (ch_g64 h1 (by omega)) h
theorem cy_agrees {p v : Int32} {Q : (Nat → Int32) → Prop} (hp : ch_Pa p) (M : ch_M (fun q => ¬ yk q = 0) Q yv) :
    ∃ (q : Int32) (yv' yk' : Nat → Int32), (q = 0 ∨ q = 1) ∧ (q = 1 → ch_M (fun q => ¬ yk' q = 0) (fun w => Q w ∧ ch_Ag p v w) yv') ∧ (q = 0 → ∀ w, ¬ (Q w ∧ ch_Ag p v w)) ∧
      ∀ post : Int32 → SY → Prop, post q (ysl, yll, ync, yop, ytl, yn, ylg, yag, yR, yF, yL, yG, yQ, yp, yv', yk') → wpY_agrees post (ysl, yll, ync, yop, ytl, yn, ylg, yag, yR, yF, yL, yG, yQ, yp, yv, yk) p v := by
  have hp' := hp
  rcases hp with ⟨q, hq, rfl⟩ | ⟨q, h1, h2, rfl⟩
  · have e : (nI q).toNatClampNeg = q := nI_clamp (by omega)
    have n64 : ¬ (64 : Int32) ≤ nI q := nI_ge (b := 64) (by omega) (by omega)
    have qin : vp_in (nI q) 6 := vp_in_nI hq (by omega)
    rcases Classical.em (yk q = 0) with hb | hb
    · refine ⟨1, upd yv q v, upd yk q 1, Or.inr rfl, fun _ => ch_M_new M hq (fun z => z hb) (fun p hp => ?_) rfl, fun z => absurd z ch_10, fun post hp => ?_⟩
      · by_cases z : p = q
        · rw [z, ch_upd_s]; exact ⟨fun _ => Or.inr rfl, fun _ => by decide⟩
        · rw [ch_upd_n z]; exact ⟨Or.inl, fun y => y.resolve_right z⟩
      · unfold wpY_agrees
        dsimp only
        rw [e, ch_nar1]
        refine br_f n64 ⟨qin, br_t hb ⟨qin, nm_e ⟨qin, nm_e ?_⟩⟩⟩
        unfold wY_agrees_29
        exact cy_valueOf hp' _ (br_t (by rw [ch_ov_v hq, ch_upd_s]) hp)
    · rcases Classical.em (yv q = v) with ev | ev
      · refine ⟨1, yv, yk, Or.inr rfl, fun _ => ch_M_old M hq hb ev, fun z => absurd z ch_10, fun post hp => ?_⟩
        unfold wpY_agrees
        dsimp only
        rw [e]
        refine br_f n64 ⟨qin, br_f hb ?_⟩
        unfold wY_agrees_29
        exact cy_valueOf hp' _ (br_t (by rw [ch_ov_v hq]; exact ev) hp)
      · refine ⟨0, yv, yk, Or.inl rfl, fun z => absurd z.symm ch_10, fun _ => ch_M_bad M hq hb ev, fun post hp => ?_⟩
        unfold wpY_agrees
        dsimp only
        rw [e]
        refine br_f n64 ⟨qin, br_f hb ?_⟩
        unfold wY_agrees_29
        exact cy_valueOf hp' _ (br_f (by rw [ch_ov_v hq]; exact ev) hp)
  · have g64 : (64 : Int32) ≤ nI q := nI_le (a := 64) h1 (by omega)
    rcases Classical.em (v = nI q - 128) with ev | ev
    · refine ⟨1, yv, yk, Or.inr rfl, fun _ => ch_M_cg M (fun w => ⟨fun z => ⟨z, (ch_Ag_c h1 h2).mpr ev⟩, fun z => z.1⟩), fun z => absurd z ch_10, fun post hp => ?_⟩
      unfold wpY_agrees
      refine br_t g64 ?_
      unfold wY_agrees_29
      exact cy_valueOf hp' _ (br_t (by rw [ch_ov_c h1 h2]; exact ev.symm) hp)
    · refine ⟨0, yv, yk, Or.inl rfl, fun z => absurd z.symm ch_10, fun _ w z => ev ((ch_Ag_c h1 h2).mp z.2), fun post hp => ?_⟩
      unfold wpY_agrees
      refine br_t g64 ?_
      unfold wY_agrees_29
      exact cy_valueOf hp' _ (br_f (by rw [ch_ov_c h1 h2]; exact fun z => ev z.symm) hp)
theorem cy_head {i d : Nat} {Q : (Nat → Int32) → Prop} (C : ch_YC yR yF aS aA aB n nc) (hr : r < nc) (hi : i < ch_nh (ch_bl yR r)) (hd : d < n) (M : ch_M (fun q => ¬ yk q = 0) Q yv) :
    ∃ (q : Int32) (yv' yk' : Nat → Int32), (q = 0 ∨ q = 1) ∧ (q = 1 → ch_M (fun q => ¬ yk' q = 0) (fun w => Q w ∧ ch_Hd (ch_bl yR r) aS aA aB i d w) yv') ∧ (q = 0 → ∀ w, ¬ (Q w ∧ ch_Hd (ch_bl yR r) aS aA aB i d w)) ∧
      ∀ (post : Int32 → SY → Prop) (J : Int32 → Int32 → Int32 → Int32 → Int32 → Int32 → Int32 → Int32 → Int32 → Int32 → (Nat → Int32) → (Nat → Int32) → (Nat → Int32) → (Nat → Int32) → (Nat → Int32) → (Nat → Int32) → (Nat → Int32) → (Nat → Int32) → Prop) (x1 x2 x3 x4 x5 x6 x7 : Int32), (q = 0 → post 0 (ysl, yll, ync, yop, ytl, yn, ylg, yag, yR, yF, yL, yG, yQ, yp, yv', yk')) → (q = 1 → J x6 (x7 + 1) ysl yll ync yop ytl yn ylg yag yR yF yL yG yQ yp yv' yk') →
        wY_applicable_173 post J x1 x2 x3 x4 x5 x6 x7 (nI d) (nI (40 * r + (3 + 4 * i))) ysl yll ync yop ytl yn ylg yag yR yF yL yG yQ yp yv yk := by
  obtain ⟨c1, c2, c3, c4⟩ := C
  have W := (c4 r hr).1
  have nh3 := W.1.2.1
  obtain ⟨_, _, P1, P2⟩ := W.2.1 i hi
  obtain ⟨f1, f2, f3⟩ := c3 d hd
  have e1 : nI (40 * r + (3 + 4 * i)) + 1 = nI (40 * r + (4 + 4 * i)) := by rw [ch_a1]; exact congrArg nI (by omega)
  have e2 : nI (40 * r + (3 + 4 * i)) + 2 = nI (40 * r + (5 + 4 * i)) := by rw [ch_a2]; exact congrArg nI (by omega)
  have e3 : nI (40 * r + (3 + 4 * i)) + 3 = nI (40 * r + (6 + 4 * i)) := by rw [ch_a3]; exact congrArg nI (by omega)
  have k1 : yR (nI (40 * r + (4 + 4 * i))).toNatClampNeg = ch_bl yR r (4 + 4 * i) := by rw [nI_clamp (by omega)]; exact ch_blE (by omega)
  have k2 : yR (nI (40 * r + (5 + 4 * i))).toNatClampNeg = ch_bl yR r (5 + 4 * i) := by rw [nI_clamp (by omega)]; exact ch_blE (by omega)
  have k3 : yR (nI (40 * r + (6 + 4 * i))).toNatClampNeg = ch_bl yR r (6 + 4 * i) := by rw [nI_clamp (by omega)]; exact ch_blE (by omega)
  have i1 : vp_in (nI (40 * r + (4 + 4 * i))) 240 := vp_in_nI (by omega) (by omega)
  have i2 : vp_in (nI (40 * r + (5 + 4 * i))) 240 := vp_in_nI (by omega) (by omega)
  have i3 : vp_in (nI (40 * r + (6 + 4 * i))) 240 := vp_in_nI (by omega) (by omega)
  have g0 : yF (nI (3 * d)).toNatClampNeg = aS d := by rw [nI_clamp (by omega)]; exact f1
  have g1 : yF (nI (3 * d + 1)).toNatClampNeg = aA d := by rw [nI_clamp (by omega)]; exact f2
  have g2 : yF (nI (3 * d + 2)).toNatClampNeg = aB d := by rw [nI_clamp (by omega)]; exact f3
  have j0 : vp_in (nI (3 * d)) 480 := vp_in_nI (by omega) (by omega)
  have j1 : vp_in (nI (3 * d + 1)) 480 := vp_in_nI (by omega) (by omega)
  have j2 : vp_in (nI (3 * d + 2)) 480 := vp_in_nI (by omega) (by omega)
  rcases Classical.em (aS d = ch_bl yR r (4 + 4 * i)) with cs | cs
  · obtain ⟨q1, v1, n1, q01, s1, z1, w1⟩ := cy_agrees (v := aA d) P1 M (ysl := ysl) (yll := yll) (ync := ync) (yop := yop) (ytl := ytl) (yn := yn) (ylg := ylg) (yag := yag) (yR := yR) (yF := yF) (yL := yL) (yG := yG) (yQ := yQ) (yp := yp) (yv := yv) (yk := yk)
    rcases q01 with rfl | rfl
    · refine ⟨0, v1, n1, Or.inl rfl, fun z => absurd z.symm ch_10, fun _ w z => z1 rfl w ⟨z.1, z.2.2.1⟩, fun post J x1 x2 x3 x4 x5 x6 x7 hp hJ => ?_⟩
      unfold wY_applicable_173
      rw [e1, e2, e3, ch_3t, ch_a1, ch_a2, k1, k2, g0, g1]
      exact ⟨i1, j0, br_t cs.symm ⟨i2, j1, w1 _ (br_t rfl (hp rfl))⟩⟩
    · obtain ⟨q2, v2, n2, q02, s2, z2, w2⟩ := cy_agrees (v := aB d) P2 (s1 rfl) (ysl := ysl) (yll := yll) (ync := ync) (yop := yop) (ytl := ytl) (yn := yn) (ylg := ylg) (yag := yag) (yR := yR) (yF := yF) (yL := yL) (yG := yG) (yQ := yQ) (yp := yp) (yv := v1) (yk := n1)
      refine ⟨q2, v2, n2, q02, fun z => ch_M_cg (s2 z) (fun w => ⟨fun y => ⟨y.1.1, cs, y.1.2, y.2⟩, fun y => ⟨⟨y.1, y.2.2.1⟩, y.2.2.2⟩⟩), fun z w y => z2 z w ⟨⟨y.1, y.2.2.1⟩, y.2.2.2⟩, fun post J x1 x2 x3 x4 x5 x6 x7 hp hJ => ?_⟩
      unfold wY_applicable_173
      rw [e1, e2, e3, ch_3t, ch_a1, ch_a2, k1, k2, g0, g1]
      refine ⟨i1, j0, br_t cs.symm ⟨i2, j1, w1 _ (br_f ch_10 ⟨i3, j2, ?_⟩)⟩⟩
      rw [k3, g2]
      refine w2 _ ?_
      rcases q02 with rfl | rfl
      · exact br_t rfl (hp rfl)
      · exact br_f ch_10 (nm_e (hJ rfl))
  · refine ⟨0, yv, yk, Or.inl rfl, fun z => absurd z.symm ch_10, fun _ w z => cs z.2.1, fun post J x1 x2 x3 x4 x5 x6 x7 hp hJ => ?_⟩
    unfold wY_applicable_173
    rw [e1, ch_3t, k1, g0]
    exact ⟨i1, j0, br_f (fun z => cs z.symm) (hp rfl)⟩
/-- the log against one choice -/
def ch_sm (G : Nat → Int32) (r x y z : Int32) (k : Nat) : Prop := G (4 * k) = r ∧ G (4 * k + 1) = x ∧ G (4 * k + 2) = y ∧ G (4 * k + 3) = z
theorem cy_log_step {post : Int32 → SY → Prop} {x1 x2 x3 x4 x6 : Int32} {k d : Nat} (hl : lg ≤ 48) (hk : k < lg) (a : ch_sm yG x1 x2 x3 x4 k → ¬ x6 = 0 → post 0 (ysl, yll, ync, yop, ytl, yn, nI lg, yag, yR, yF, yL, yG, yQ, yp, yv, yk))
    (b : ¬ (ch_sm yG x1 x2 x3 x4 k ∧ ¬ x6 = 0) → wY_applicable_465 post x1 x2 x3 x4 x6 ysl yll ync yop ytl yn (nI lg) yag yR yF yL yG yQ yp yv yk d (nI (k + 1))) :
    wY_applicable_465 post x1 x2 x3 x4 x6 ysl yll ync yop ytl yn (nI lg) yag yR yF yL yG yQ yp yv yk (d + 1) (nI k) := by
  have g0 : (nI (4 * k)).toNatClampNeg = 4 * k := nI_clamp (by omega)
  have g1 : (nI (4 * k + 1)).toNatClampNeg = 4 * k + 1 := nI_clamp (by omega)
  have g2 : (nI (4 * k + 2)).toNatClampNeg = 4 * k + 2 := nI_clamp (by omega)
  have g3 : (nI (4 * k + 3)).toNatClampNeg = 4 * k + 3 := nI_clamp (by omega)
  have j0 : vp_in (nI (4 * k)) 192 := vp_in_nI (by omega) (by omega)
  have j1 : vp_in (nI (4 * k + 1)) 192 := vp_in_nI (by omega) (by omega)
  have j2 : vp_in (nI (4 * k + 2)) 192 := vp_in_nI (by omega) (by omega)
  have j3 : vp_in (nI (4 * k + 3)) 192 := vp_in_nI (by omega) (by omega)
  have no : ¬ ch_sm yG x1 x2 x3 x4 k → wY_applicable_537 post (wY_applicable_465 post x1 x2 x3 x4 x6 ysl yll ync yop ytl yn (nI lg) yag yR yF yL yG yQ yp yv yk d) x1 x2 x3 x4 x6 (nI k) ysl yll ync yop ytl yn (nI lg) yag yR yF yL yG yQ yp yv yk := by
    intro ns
    have B := b (fun z => ns z.1)
    unfold wY_applicable_537 wY_applicable_538
    rcases Classical.em (x6 = 0) with z | z
    · exact br_t z (nm_r (ch_a1 k) B)
    · exact br_f z (br_t rfl (nm_r (ch_a1 k) B))
  unfold wY_applicable_465
  rw [ch_4t, ch_a1, ch_a2, ch_a3, g0, g1, g2, g3]
  refine br_f (nI_ge hk (by omega)) ⟨j0, ?_⟩
  rcases Classical.em (yG (4 * k) = x1) with y1 | y1
  · refine br_t y1 ⟨j1, ?_⟩
    rcases Classical.em (yG (4 * k + 1) = x2) with y2 | y2
    · refine br_t y2 ⟨j2, ?_⟩
      rcases Classical.em (yG (4 * k + 2) = x3) with y3 | y3
      · refine br_t y3 ⟨j3, ?_⟩
        rcases Classical.em (yG (4 * k + 3) = x4) with y4 | y4
        · refine br_t y4 ?_
          unfold wY_applicable_538
          rcases Classical.em (x6 = 0) with z | z
          · exact br_t z (nm_r (ch_a1 k) (b (fun q => q.2 z)))
          · exact br_f z (br_f ch_10 (a ⟨y1, y2, y3, y4⟩ z))
        · exact br_f y4 (no (fun z => y4 z.2.2.2))
      · exact br_f y3 (no (fun z => y3 z.2.2.1))
    · exact br_f y2 (no (fun z => y2 z.2.1))
  · exact br_f y1 (no (fun z => y1 z.1))
theorem cy_log {post : Int32 → SY → Prop} {x1 x2 x3 x4 x6 : Int32} (hl : lg ≤ 48) (a : ¬ x6 = 0 → ch_Lg yG lg x1 x2 x3 x4 → post 0 (ysl, yll, ync, yop, ytl, yn, nI lg, yag, yR, yF, yL, yG, yQ, yp, yv, yk))
    (b : ¬ (¬ x6 = 0 ∧ ch_Lg yG lg x1 x2 x3 x4) → post 1 (ysl, yll, ync, yop, ytl, yn, nI lg, yag, yR, yF, yL, yG, yQ, yp, yv, yk)) :
    ∀ d k, k + d = lg → (∀ j, j < k → ¬ (ch_sm yG x1 x2 x3 x4 j ∧ ¬ x6 = 0)) → wY_applicable_465 post x1 x2 x3 x4 x6 ysl yll ync yop ytl yn (nI lg) yag yR yF yL yG yQ yp yv yk (d + 1) (nI k) := by
  intro d
  induction d with
  | zero =>
    intro k hk h
    have : k = lg := by omega
    subst this
    unfold wY_applicable_465
    exact br_t (Int32.le_refl _) (b (fun ⟨z, j, hj, s⟩ => h j hj ⟨s, z⟩))
  | succ d ih =>
    intro k hk h
    refine cy_log_step hl (by omega) (fun s z => a z ⟨k, by omega, s⟩) (fun q => ih (k + 1) (by omega) (fun j hj => ?_))
    rcases Nat.lt_or_ge j k with z | z
    · exact h j z
    · rw [show j = k by omega]; exact q
end
end
section
section
variable {ysl yll ync yop ytl yn ylg yag : Int32} {yR yF yL yG yQ yp yv yk : Nat → Int32}
variable {aS aA aB : Nat → Int32} {n lg nc r : Nat}
theorem cy_step {i : Nat} (W : ch_W (ch_bl yR r)) (hr : r < 6) (hi : i < ch_ns (ch_bl yR r)) :
    ∃ q : Int32, (q = 0 ∨ q = 1) ∧ (q = 1 ↔ ch_sOk (ch_bl yR r) i yv) ∧
      ∀ (post : Int32 → SY → Prop) (J : Int32 → (Nat → Int32) → (Nat → Int32) → (Nat → Int32) → (Nat → Int32) → (Nat → Int32) → (Nat → Int32) → (Nat → Int32) → (Nat → Int32) → Prop) (x1 x2 x3 x4 x5 x6 x7 : Int32), (q = 0 → post 0 (ysl, yll, ync, yop, ytl, yn, ylg, yag, yR, yF, yL, yG, yQ, yp, yv, yk)) → (q = 1 → J (x7 + 1) yR yF yL yG yQ yp (ch_sUp (ch_bl yR r) i yv) yk) →
        ((ch_bl yR r (15 + 4 * i) = 0 → ((ch_sx (ch_bl yR r) i yv = ch_sy (ch_bl yR r) i yv → wY_applicable_340 post J x1 x2 x3 x4 x5 x6 x7 (nI (40 * r + (15 + 4 * i))) (ch_bl yR r (15 + 4 * i)) (ch_sx (ch_bl yR r) i yv) (ch_sy (ch_bl yR r) i yv) ysl yll ync yop ytl yn ylg yag yR yF yL yG yQ yp yv yk) ∧ (¬ ch_sx (ch_bl yR r) i yv = ch_sy (ch_bl yR r) i yv → post 0 (ysl, yll, ync, yop, ytl, yn, ylg, yag, yR, yF, yL, yG, yQ, yp, yv, yk)))) ∧
        (¬ ch_bl yR r (15 + 4 * i) = 0 → wY_applicable_340 post J x1 x2 x3 x4 x5 x6 x7 (nI (40 * r + (15 + 4 * i))) (ch_bl yR r (15 + 4 * i)) (ch_sx (ch_bl yR r) i yv) (ch_sy (ch_bl yR r) i yv) ysl yll ync yop ytl yn ylg yag yR yF yL yG yQ yp yv yk)) := by
  have h4 : i < 4 := by have := W.1.2.2.2.1; omega
  obtain ⟨⟨o, ho, eo, hv⟩, o1, o2⟩ := W.2.2.1 i hi
  have e3 : nI (40 * r + (15 + 4 * i)) + 3 = nI (40 * r + (18 + 4 * i)) := by rw [ch_a3]; exact congrArg nI (by omega)
  have k3 : yR (nI (40 * r + (18 + 4 * i))).toNatClampNeg = ch_bl yR r (18 + 4 * i) := by rw [nI_clamp (by omega)]; exact ch_blE (by omega)
  have i3 : vp_in (nI (40 * r + (18 + 4 * i))) 240 := vp_in_nI (by omega) (by omega)
  have low : o < 5 → ch_sUp (ch_bl yR r) i yv = yv := fun z => by unfold ch_sUp; rw [eo, if_pos (show nI o < 5 from nI_lt (b := 5) z (by omega))]
  have high : 5 ≤ o → ∃ p, p < 6 ∧ ch_bl yR r (18 + 4 * i) = nI p ∧ ch_sUp (ch_bl yR r) i yv = upd yv p (ch_rs (nI o) (ch_sx (ch_bl yR r) i yv) (ch_sy (ch_bl yR r) i yv)) := by
    intro z
    obtain ⟨p, p6, ep, _⟩ := hv z
    refine ⟨p, p6, ep, ?_⟩
    unfold ch_sUp
    rw [eo, if_neg (show ¬ nI o < 5 from nI_nlt (b := 5) z (by omega)), ep, nI_clamp (by omega)]
  unfold ch_sOk
  rw [eo]
  have : o = 0 ∨ o = 1 ∨ o = 2 ∨ o = 3 ∨ o = 4 ∨ o = 5 ∨ o = 6 ∨ o = 7 := by omega
  rcases this with rfl | rfl | rfl | rfl | rfl | rfl | rfl | rfl
  · rw [low (by omega)]
    rcases Classical.em ((ch_sx (ch_bl yR r) i yv) = (ch_sy (ch_bl yR r) i yv)) with c | c
    · refine ⟨1, Or.inr rfl, ⟨fun _ => ⟨(fun _ => c), (fun z => absurd z (by decide)), (fun z => absurd z (by decide)), (fun z => absurd z (by decide)), (fun z => absurd z (by decide))⟩, fun _ => rfl⟩, fun post J x1 x2 x3 x4 x5 x6 x7 hp hJ => ?_⟩
      unfold wY_applicable_340 wY_applicable_353 wY_applicable_366 wY_applicable_381 wY_applicable_402
      exact br_t rfl (br_t c (br_f (by decide) (br_f (by decide) (br_f (by decide) (br_f (by decide) (br_t (by decide) (nm_e (hJ rfl))))))))
    · refine ⟨0, Or.inl rfl, ⟨fun z => absurd z.symm ch_10, fun z => absurd (z.1 rfl) (c)⟩, fun post J x1 x2 x3 x4 x5 x6 x7 hp hJ => ?_⟩
      unfold wY_applicable_340 wY_applicable_353 wY_applicable_366 wY_applicable_381 wY_applicable_402
      exact br_t rfl (br_f c (hp rfl))
  · rw [low (by omega)]
    rcases Classical.em ((ch_sx (ch_bl yR r) i yv) = (ch_sy (ch_bl yR r) i yv)) with c | c
    · refine ⟨0, Or.inl rfl, ⟨fun z => absurd z.symm ch_10, fun z => absurd (z.2.1 rfl) (fun z => z c)⟩, fun post J x1 x2 x3 x4 x5 x6 x7 hp hJ => ?_⟩
      unfold wY_applicable_340 wY_applicable_353 wY_applicable_366 wY_applicable_381 wY_applicable_402
      exact br_f (by decide) (br_t rfl (br_t c (hp rfl)))
    · refine ⟨1, Or.inr rfl, ⟨fun _ => ⟨(fun z => absurd z (by decide)), (fun _ => c), (fun z => absurd z (by decide)), (fun z => absurd z (by decide)), (fun z => absurd z (by decide))⟩, fun _ => rfl⟩, fun post J x1 x2 x3 x4 x5 x6 x7 hp hJ => ?_⟩
      unfold wY_applicable_340 wY_applicable_353 wY_applicable_366 wY_applicable_381 wY_applicable_402
      exact br_f (by decide) (br_t rfl (br_f c (br_f (by decide) (br_f (by decide) (br_f (by decide) (br_t (by decide) (nm_e (hJ rfl))))))))
  · rw [low (by omega)]
    rcases Classical.em ((ch_sy (ch_bl yR r) i yv) ≤ (ch_sx (ch_bl yR r) i yv)) with c | c
    · refine ⟨0, Or.inl rfl, ⟨fun z => absurd z.symm ch_10, fun z => absurd (z.2.2.1 rfl) (fun z => z c)⟩, fun post J x1 x2 x3 x4 x5 x6 x7 hp hJ => ?_⟩
      unfold wY_applicable_340 wY_applicable_353 wY_applicable_366 wY_applicable_381 wY_applicable_402
      exact br_f (by decide) (br_f (by decide) (br_t rfl (br_t c (hp rfl))))
    · refine ⟨1, Or.inr rfl, ⟨fun _ => ⟨(fun z => absurd z (by decide)), (fun z => absurd z (by decide)), (fun _ => c), (fun z => absurd z (by decide)), (fun z => absurd z (by decide))⟩, fun _ => rfl⟩, fun post J x1 x2 x3 x4 x5 x6 x7 hp hJ => ?_⟩
      unfold wY_applicable_340 wY_applicable_353 wY_applicable_366 wY_applicable_381 wY_applicable_402
      exact br_f (by decide) (br_f (by decide) (br_t rfl (br_f c (br_f (by decide) (br_f (by decide) (br_t (by decide) (nm_e (hJ rfl))))))))
  · rw [low (by omega)]
    rcases Classical.em ((ch_sx (ch_bl yR r) i yv) ≤ (ch_sy (ch_bl yR r) i yv)) with c | c
    · refine ⟨1, Or.inr rfl, ⟨fun _ => ⟨(fun z => absurd z (by decide)), (fun z => absurd z (by decide)), (fun z => absurd z (by decide)), (fun _ => c), (fun z => absurd z (by decide))⟩, fun _ => rfl⟩, fun post J x1 x2 x3 x4 x5 x6 x7 hp hJ => ?_⟩
      unfold wY_applicable_340 wY_applicable_353 wY_applicable_366 wY_applicable_381 wY_applicable_402
      exact br_f (by decide) (br_f (by decide) (br_f (by decide) (br_t rfl (br_t c (br_f (by decide) (br_t (by decide) (nm_e (hJ rfl))))))))
    · refine ⟨0, Or.inl rfl, ⟨fun z => absurd z.symm ch_10, fun z => absurd (z.2.2.2.1 rfl) (c)⟩, fun post J x1 x2 x3 x4 x5 x6 x7 hp hJ => ?_⟩
      unfold wY_applicable_340 wY_applicable_353 wY_applicable_366 wY_applicable_381 wY_applicable_402
      exact br_f (by decide) (br_f (by decide) (br_f (by decide) (br_t rfl (br_f c (hp rfl)))))
  · rw [low (by omega)]
    rcases Classical.em ((ch_sx (ch_bl yR r) i yv) = 0) with c | c
    · refine ⟨0, Or.inl rfl, ⟨fun z => absurd z.symm ch_10, fun z => absurd (z.2.2.2.2 rfl) (fun z => z.1 c)⟩, fun post J x1 x2 x3 x4 x5 x6 x7 hp hJ => ?_⟩
      unfold wY_applicable_340 wY_applicable_353 wY_applicable_366 wY_applicable_381 wY_applicable_402
      exact br_f (by decide) (br_f (by decide) (br_f (by decide) (br_f (by decide) (br_t rfl (br_t c (hp rfl))))))
    · rcases Classical.em ((ch_sy (ch_bl yR r) i yv) - (ch_sy (ch_bl yR r) i yv) / (ch_sx (ch_bl yR r) i yv) * (ch_sx (ch_bl yR r) i yv) = 0) with c2 | c2
      · refine ⟨1, Or.inr rfl, ⟨fun _ => ⟨(fun z => absurd z (by decide)), (fun z => absurd z (by decide)), (fun z => absurd z (by decide)), (fun z => absurd z (by decide)), (fun _ => ⟨c, c2⟩)⟩, fun _ => rfl⟩, fun post J x1 x2 x3 x4 x5 x6 x7 hp hJ => ?_⟩
        unfold wY_applicable_340 wY_applicable_353 wY_applicable_366 wY_applicable_381 wY_applicable_402
        exact br_f (by decide) (br_f (by decide) (br_f (by decide) (br_f (by decide) (br_t rfl (br_f c ⟨c, br_t c2 (br_t (by decide) (nm_e (hJ rfl)))⟩)))))
      · refine ⟨0, Or.inl rfl, ⟨fun z => absurd z.symm ch_10, fun z => absurd (z.2.2.2.2 rfl) (fun z => c2 z.2)⟩, fun post J x1 x2 x3 x4 x5 x6 x7 hp hJ => ?_⟩
        unfold wY_applicable_340 wY_applicable_353 wY_applicable_366 wY_applicable_381 wY_applicable_402
        exact br_f (by decide) (br_f (by decide) (br_f (by decide) (br_f (by decide) (br_t rfl (br_f c ⟨c, br_f c2 (hp rfl)⟩)))))
  · obtain ⟨p, p6, ep, up⟩ := high (by omega)
    have up : ch_sUp (ch_bl yR r) i yv = upd yv p ((ch_sx (ch_bl yR r) i yv) + (ch_sy (ch_bl yR r) i yv)) := up
    have pin : vp_in (ch_bl yR r (18 + 4 * i)) 6 := by rw [ep]; exact vp_in_nI p6 (by omega)
    rw [up]
    refine ⟨1, Or.inr rfl, ⟨fun _ => ⟨(fun z => absurd z (by decide)), (fun z => absurd z (by decide)), (fun z => absurd z (by decide)), (fun z => absurd z (by decide)), (fun z => absurd z (by decide))⟩, fun _ => rfl⟩, fun post J x1 x2 x3 x4 x5 x6 x7 hp hJ => ?_⟩
    unfold wY_applicable_340 wY_applicable_353 wY_applicable_366 wY_applicable_381 wY_applicable_402
    rw [e3, k3]
    exact br_f (by decide) (br_f (by decide) (br_f (by decide) (br_f (by decide) (br_f (by decide) (br_f (by decide) ⟨i3, br_t rfl ⟨pin, nm_r (e' := upd yv p ((ch_sx (ch_bl yR r) i yv) + (ch_sy (ch_bl yR r) i yv))) (by rw [ep, nI_clamp (by omega)]) (nm_e (hJ rfl))⟩⟩)))))
  · obtain ⟨p, p6, ep, up⟩ := high (by omega)
    have up : ch_sUp (ch_bl yR r) i yv = upd yv p ((ch_sx (ch_bl yR r) i yv) - (ch_sy (ch_bl yR r) i yv)) := up
    have pin : vp_in (ch_bl yR r (18 + 4 * i)) 6 := by rw [ep]; exact vp_in_nI p6 (by omega)
    rw [up]
    refine ⟨1, Or.inr rfl, ⟨fun _ => ⟨(fun z => absurd z (by decide)), (fun z => absurd z (by decide)), (fun z => absurd z (by decide)), (fun z => absurd z (by decide)), (fun z => absurd z (by decide))⟩, fun _ => rfl⟩, fun post J x1 x2 x3 x4 x5 x6 x7 hp hJ => ?_⟩
    unfold wY_applicable_340 wY_applicable_353 wY_applicable_366 wY_applicable_381 wY_applicable_402
    rw [e3, k3]
    exact br_f (by decide) (br_f (by decide) (br_f (by decide) (br_f (by decide) (br_f (by decide) (br_f (by decide) ⟨i3, br_f (by decide) (br_t rfl ⟨pin, nm_r (e' := upd yv p ((ch_sx (ch_bl yR r) i yv) - (ch_sy (ch_bl yR r) i yv))) (by rw [ep, nI_clamp (by omega)]) (nm_e (hJ rfl))⟩)⟩)))))
  · obtain ⟨p, p6, ep, up⟩ := high (by omega)
    have up : ch_sUp (ch_bl yR r) i yv = upd yv p ((ch_sx (ch_bl yR r) i yv) * (ch_sy (ch_bl yR r) i yv)) := up
    have pin : vp_in (ch_bl yR r (18 + 4 * i)) 6 := by rw [ep]; exact vp_in_nI p6 (by omega)
    rw [up]
    refine ⟨1, Or.inr rfl, ⟨fun _ => ⟨(fun z => absurd z (by decide)), (fun z => absurd z (by decide)), (fun z => absurd z (by decide)), (fun z => absurd z (by decide)), (fun z => absurd z (by decide))⟩, fun _ => rfl⟩, fun post J x1 x2 x3 x4 x5 x6 x7 hp hJ => ?_⟩
    unfold wY_applicable_340 wY_applicable_353 wY_applicable_366 wY_applicable_381 wY_applicable_402
    rw [e3, k3]
    exact br_f (by decide) (br_f (by decide) (br_f (by decide) (br_f (by decide) (br_f (by decide) (br_f (by decide) ⟨i3, br_f (by decide) (br_f (by decide) ⟨pin, nm_r (e' := upd yv p ((ch_sx (ch_bl yR r) i yv) * (ch_sy (ch_bl yR r) i yv))) (by rw [ep, nI_clamp (by omega)]) (nm_e (hJ rfl))⟩)⟩)))))
/-- the steps, then the log -/
theorem cy_steps_lp {x y z x6 : Int32} {v0 : Nat → Int32} (W : ch_W (ch_bl yR r)) (hr : r < 6) (hl : lg ≤ 48) :
    ∀ d i, i + d = ch_ns (ch_bl yR r) → (∀ j, j < i → ch_sOk (ch_bl yR r) j (ch_sV (ch_bl yR r) j v0)) →
    ∃ (q : Int32) (j : Nat), (q = 0 ∨ q = 1) ∧ (q = 1 ↔ ch_Gd (ch_bl yR r) v0 ∧ (¬ x6 = 0 → ¬ ch_Lg yG lg (nI r) x y z)) ∧ (q = 1 → j = ch_ns (ch_bl yR r)) ∧
      ∀ post : Int32 → SY → Prop, post q (ysl, yll, ync, yop, ytl, yn, nI lg, yag, yR, yF, yL, yG, yQ, yp, ch_sV (ch_bl yR r) j v0, yk) → wY_applicable_263 post (nI r) x y z (nI (40 * r)) x6 ysl yll ync yop ytl yn (nI lg) yag (d + 1) (nI i) yR yF yL yG yQ yp (ch_sV (ch_bl yR r) i v0) yk := by
  have h4 := W.1.2.2.2.1
  have e1 : nI (40 * r) + 1 = nI (40 * r + 1) := ch_a1 _
  have k1 : yR (nI (40 * r + 1)).toNatClampNeg = nI (ch_ns (ch_bl yR r)) := by rw [nI_clamp (by omega), ← W.1.2.2.1]; exact ch_blE (by omega)
  have i1 : vp_in (nI (40 * r + 1)) 240 := vp_in_nI (by omega) (by omega)
  intro d
  induction d with
  | zero =>
    intro i hi ok
    have e : i = ch_ns (ch_bl yR r) := by omega
    subst e
    rcases Classical.em (¬ x6 = 0 ∧ ch_Lg yG lg (nI r) x y z) with c | c
    · refine ⟨0, ch_ns (ch_bl yR r), Or.inl rfl, ⟨fun z => absurd z.symm ch_10, fun z => absurd c.2 (z.2 c.1)⟩, fun _ => rfl, fun post hp => ?_⟩
      unfold wY_applicable_263
      rw [e1, k1]
      exact ⟨i1, br_t (Int32.le_refl _) ⟨_, cy_log hl (fun _ _ => hp) (fun z => absurd c z) lg 0 (by omega) (fun j hj => by omega)⟩⟩
    · refine ⟨1, ch_ns (ch_bl yR r), Or.inr rfl, ⟨fun _ => ⟨ok, fun z l => c ⟨z, l⟩⟩, fun _ => rfl⟩, fun _ => rfl, fun post hp => ?_⟩
      unfold wY_applicable_263
      rw [e1, k1]
      exact ⟨i1, br_t (Int32.le_refl _) ⟨_, cy_log hl (fun z l => absurd ⟨z, l⟩ c) (fun _ => hp) lg 0 (by omega) (fun j hj => by omega)⟩⟩
  | succ d ih =>
    intro i hi ok
    obtain ⟨_, o1, o2⟩ := W.2.2.1 i (by omega)
    obtain ⟨q, q01, qi, w⟩ := cy_step W hr (show i < ch_ns (ch_bl yR r) by omega) (ysl := ysl) (yll := yll) (ync := ync) (yop := yop) (ytl := ytl) (yn := yn) (ylg := nI lg) (yag := yag) (yR := yR) (yF := yF) (yL := yL) (yG := yG) (yQ := yQ) (yp := yp) (yv := ch_sV (ch_bl yR r) i v0) (yk := yk)
    have e : nI (40 * r) + 15 + 4 * nI i = nI (40 * r + (15 + 4 * i)) := by rw [ch_a15, ch_4t, nI_add, Nat.add_assoc]
    have nle : ¬ nI (ch_ns (ch_bl yR r)) ≤ nI i := nI_ge (by omega) (by omega)
    have a1 : nI (40 * r + (15 + 4 * i)) + 1 = nI (40 * r + (16 + 4 * i)) := by rw [ch_a1]; exact congrArg nI (by omega)
    have a2 : nI (40 * r + (15 + 4 * i)) + 2 = nI (40 * r + (17 + 4 * i)) := by rw [ch_a2]; exact congrArg nI (by omega)
    have b0 : yR (nI (40 * r + (15 + 4 * i))).toNatClampNeg = ch_bl yR r (15 + 4 * i) := by rw [nI_clamp (by omega)]; exact ch_blE (by omega)
    have b1 : yR (nI (40 * r + (16 + 4 * i))).toNatClampNeg = ch_bl yR r (16 + 4 * i) := by rw [nI_clamp (by omega)]; exact ch_blE (by omega)
    have b2 : yR (nI (40 * r + (17 + 4 * i))).toNatClampNeg = ch_bl yR r (17 + 4 * i) := by rw [nI_clamp (by omega)]; exact ch_blE (by omega)
    have m0 : vp_in (nI (40 * r + (15 + 4 * i))) 240 := vp_in_nI (by omega) (by omega)
    have m1 : vp_in (nI (40 * r + (16 + 4 * i))) 240 := vp_in_nI (by omega) (by omega)
    have m2 : vp_in (nI (40 * r + (17 + 4 * i))) 240 := vp_in_nI (by omega) (by omega)
    have X1 : ∀ (post : Int32 → Prop), post (ch_sx (ch_bl yR r) i (ch_sV (ch_bl yR r) i v0)) → wpY_valueOf post (ysl, yll, ync, yop, ytl, yn, nI lg, yag, yR, yF, yL, yG, yQ, yp, ch_sV (ch_bl yR r) i v0, yk) (ch_bl yR r (16 + 4 * i)) := fun post hp => cy_valueOf (ch_Op_Pa o1) post hp
    have X2 : ∀ (post : Int32 → Prop), post (ch_sy (ch_bl yR r) i (ch_sV (ch_bl yR r) i v0)) → wpY_valueOf post (ysl, yll, ync, yop, ytl, yn, nI lg, yag, yR, yF, yL, yG, yQ, yp, ch_sV (ch_bl yR r) i v0, yk) (ch_bl yR r (17 + 4 * i)) := fun post hp => cy_valueOf (ch_Op_Pa o2) post hp
    rcases q01 with rfl | rfl
    · refine ⟨0, i, Or.inl rfl, ⟨fun y => absurd y.symm ch_10, fun y => absurd (qi.mpr (y.1 i (by omega))) (fun z => ch_10 z.symm)⟩, fun y => absurd y.symm ch_10, fun post hp => ?_⟩
      unfold wY_applicable_263
      rw [e1, k1]
      refine ⟨i1, br_f nle (nm_r e ?_)⟩
      rw [a1, a2, b0, b1, b2]
      exact ⟨m0, nm_e ⟨m1, X1 _ ⟨m2, X2 _ (w post _ _ _ _ _ _ _ _ (fun _ => hp) (fun z => absurd z.symm ch_10))⟩⟩⟩
    · obtain ⟨q2, j, a1', a3, a4, a5⟩ := ih (i + 1) (by omega) (fun j hj => by
        rcases Nat.lt_or_ge j i with z | z
        · exact ok j z
        · rw [show j = i by omega]; exact qi.mp rfl)
      refine ⟨q2, j, a1', a3, a4, fun post hp => ?_⟩
      unfold wY_applicable_263
      rw [e1, k1]
      refine ⟨i1, br_f nle (nm_r e ?_)⟩
      rw [a1, a2, b0, b1, b2]
      refine ⟨m0, nm_e ⟨m1, X1 _ ⟨m2, X2 _ (w post _ _ _ _ _ _ _ _ (fun z => absurd z ch_10) (fun _ => ?_))⟩⟩⟩
      rw [ch_a1]
      exact a5 post hp
theorem cy_dist {post : Int32 → SY → Prop} {J : Int32 → Int32 → Int32 → Int32 → Int32 → Int32 → Int32 → Int32 → Int32 → Int32 → (Nat → Int32) → (Nat → Int32) → (Nat → Int32) → (Nat → Int32) → (Nat → Int32) → (Nat → Int32) → (Nat → Int32) → (Nat → Int32) → Prop} {x1 x2 x3 x4 x5 x6 x8 : Int32} {i g : Nat} (hi : i < 3) (hg : g < 240) (a : (∃ j, j < i ∧ yp j = x8) → post 0 (ysl, yll, ync, yop, ytl, yn, ylg, yag, yR, yF, yL, yG, yQ, yp, yv, yk))
    (b : (∀ j, j < i → ¬ yp j = x8) → wY_applicable_173 post J x1 x2 x3 x4 x5 (if yR g = 1 then 0 else x6) (nI i) x8 (nI g) ysl yll ync yop ytl yn ylg yag yR yF yL yG yQ yp yv yk) :
    ∀ d j, j + d = i → (∀ j', j' < j → ¬ yp j' = x8) → wY_applicable_132 post J x1 x2 x3 x4 x5 x6 (nI i) x8 (nI g) ysl yll ync yop ytl yn ylg yag yR yF yL yG yQ yp yv yk (d + 1) (nI j) := by
  intro d
  induction d with
  | zero =>
    intro j hj h
    have : j = i := by omega
    subst this
    have B := b h
    unfold wY_applicable_132
    rw [show (nI g).toNatClampNeg = g from nI_clamp (by omega)]
    refine br_t (Int32.le_refl _) ⟨vp_in_nI hg (by omega), ?_⟩
    rcases Classical.em (yR g = 1) with z | z
    · rw [if_pos z] at B
      exact br_t z B
    · rw [if_neg z] at B
      exact br_f z B
  | succ d ih =>
    intro j hj h
    unfold wY_applicable_132
    rw [show (nI j).toNatClampNeg = j from nI_clamp (by omega)]
    refine br_f (nI_ge (by omega) (by omega)) ⟨vp_in_nI (by omega) (by omega), ?_⟩
    rcases Classical.em (yp j = x8) with z | z
    · exact br_t z (a ⟨j, by omega, z⟩)
    · refine br_f z (nm_r (ch_a1 j) (ih (j + 1) (by omega) (fun j' h' => ?_)))
      rcases Nat.lt_or_ge j' j with y | y
      · exact h j' y
      · rw [show j' = j by omega]; exact z
/-- the heads one by one -/
theorem cy_heads {x y z : Int32} (C : ch_YC yR yF aS aA aB n nc) (hr : r < nc) (hl : lg ≤ 48) (p0 : yp 0 = x) (p1 : yp 1 = y) (p2 : yp 2 = z) :
    ∀ d i x6 yv yk, i + d = 3 → (∀ h, h < i → h < ch_nh (ch_bl yR r) → ch_Al yL n (ch_t3 x y z h)) → (∀ h, h < i → ch_nh (ch_bl yR r) ≤ h → ch_t3 x y z h = -1) →
    (∀ h h', h < h' → h' < i → h' < ch_nh (ch_bl yR r) → ¬ ch_t3 x y z h = ch_t3 x y z h') →
    ch_M (fun q => ¬ yk q = 0) (fun w => ∀ h, h < i → h < ch_nh (ch_bl yR r) → ch_Hd (ch_bl yR r) aS aA aB h (ch_t3 x y z h).toNatClampNeg w) yv →
    (¬ x6 = 0 ↔ ∀ h, h < i → h < ch_nh (ch_bl yR r) → ¬ ch_bl yR r (3 + 4 * h) = 1) →
    ∃ (q : Int32) (yv' yk' : Nat → Int32), (q = 0 ∨ q = 1) ∧ (q = 1 ↔ ch_Ap yR aS aA aB yL yG n lg r x y z) ∧ (q = 1 → ∃ w, ch_Mt (ch_bl yR r) aS aA aB x y z w ∧ yv' = ch_Fn (ch_bl yR r) w) ∧
      ∀ post : Int32 → SY → Prop, post q (ysl, yll, ync, yop, ytl, nI n, nI lg, yag, yR, yF, yL, yG, yQ, yp, yv', yk') → wY_applicable_72 post (nI r) x y z (nI (40 * r)) (d + 1) x6 (nI i) ysl yll ync yop ytl (nI n) (nI lg) yag yR yF yL yG yQ yp yv yk := by
  have W := (C.2.2.2 r hr).1
  have nh3 := W.1.2.1
  have n160 := C.1
  have nc6 := C.2.1
  have k0 : yR (nI (40 * r)).toNatClampNeg = nI (ch_nh (ch_bl yR r)) := by rw [nI_clamp (by omega), ← W.1.1]; exact ch_blE (j := 0) (by omega)
  have in0 : vp_in (nI (40 * r)) 240 := vp_in_nI (by omega) (by omega)
  have pt : ∀ i, i < 3 → yp i = ch_t3 x y z i := by
    intro i hi
    have : i = 0 ∨ i = 1 ∨ i = 2 := by omega
    rcases this with rfl | rfl | rfl
    · exact p0
    · exact p1
    · exact p2
  intro d
  induction d with
  | zero =>
    intro i x6 yv yk hi A1 A2 A3 M fl
    have e : i = 3 := by omega
    subst e
    have mv := ch_M_self M
    have MV : ch_Mt (ch_bl yR r) aS aA aB x y z yv := fun h hh => mv h (by omega) hh
    obtain ⟨q, j, q1, q2, q3, q4⟩ := cy_steps_lp (x := x) (y := y) (z := z) (x6 := x6) (v0 := yv) W (by omega) hl (ch_ns (ch_bl yR r)) 0 (by omega) (fun j hj => by omega) (ysl := ysl) (yll := yll) (ync := ync) (yop := yop) (ytl := ytl) (yn := nI n) (yag := yag) (yR := yR) (yF := yF) (yL := yL) (yG := yG) (yQ := yQ) (yp := yp) (yk := yk)
    refine ⟨q, ch_sV (ch_bl yR r) j yv, yk, q1, ?_, fun e => ⟨yv, MV, by rw [q3 e]; rfl⟩, fun post hp => ?_⟩
    · rw [q2]
      constructor
      · rintro ⟨g, l⟩
        exact ⟨⟨fun h hh => A1 h (by omega) hh, fun h h1 h2 => A2 h h2 h1, fun h h' h1 h2 => A3 h h' h1 (by omega) h2⟩, ⟨yv, MV, g⟩, fun p => l (fl.mpr (fun h _ hh => p h hh))⟩
      · rintro ⟨_, ⟨w, mw, g⟩, l⟩
        exact ⟨ch_Gd_ag W (ch_Mt_ag W mw MV) g, fun z => l (fun h hh => fl.mp z h (by omega) hh)⟩
    · unfold wY_applicable_72
      exact br_t (by decide) ⟨_, q4 post hp⟩
  | succ d ih =>
    intro i x6 yv yk hi A1 A2 A3 M fl
    have i3 : i < 3 := by omega
    have ei : (nI i).toNatClampNeg = i := nI_clamp (by omega)
    have e9 : nI (40 * r) + 3 + 4 * nI i = nI (40 * r + (3 + 4 * i)) := by rw [ch_a3, ch_4t, nI_add, Nat.add_assoc]
    have c3 : ¬ (3 : Int32) ≤ nI i := nI_ge (b := 3) i3 (by omega)
    have iin : vp_in (nI i) 3 := vp_in_nI i3 (by omega)
    rcases Nat.lt_or_ge i (ch_nh (ch_bl yR r)) with hh | hh
    · have lt : nI i < nI (ch_nh (ch_bl yR r)) := nI_lt hh (by omega)
      obtain ⟨qa, qa1, qa2, qa3⟩ := cy_alive (x := ch_t3 x y z i) n160 (ysl := ysl) (yll := yll) (ync := ync) (yop := yop) (ytl := ytl) (ylg := nI lg) (yag := yag) (yR := yR) (yF := yF) (yL := yL) (yG := yG) (yQ := yQ) (yp := yp) (yv := yv) (yk := yk)
      rcases qa1 with rfl | rfl
      · refine ⟨0, yv, yk, Or.inl rfl, ⟨fun z => absurd z.symm ch_10, fun p => absurd (qa2.mpr (p.1.1 i hh)) (fun z => ch_10 z.symm)⟩, fun z => absurd z.symm ch_10, fun post hp => ?_⟩
        unfold wY_applicable_72
        rw [ei, k0]
        exact br_f c3 ⟨iin, nm_r (pt i i3) (nm_r e9 ⟨in0, br_t lt (qa3 _ (br_t rfl hp))⟩)⟩
      · obtain ⟨id, hid, eid, aid⟩ := qa2.mp rfl
        rcases Classical.em (∃ j, j < i ∧ yp j = ch_t3 x y z i) with ds | ds
        · refine ⟨0, yv, yk, Or.inl rfl, ⟨fun z => absurd z.symm ch_10, fun p => ?_⟩, fun z => absurd z.symm ch_10, fun post hp => ?_⟩
          · obtain ⟨j, hj, ej⟩ := ds
            exact absurd ((pt j (by omega)).symm.trans ej) (p.1.2.2 j i hj hh)
          · unfold wY_applicable_72
            rw [ei, k0]
            exact br_f c3 ⟨iin, nm_r (pt i i3) (nm_r e9 ⟨in0, br_t lt (qa3 _ (br_f ch_10 ⟨_, cy_dist i3 (by omega) (fun _ => hp) (fun z => absurd ds (fun ⟨j, hj, ej⟩ => z j hj ej)) i 0 (by omega) (fun j hj => by omega)⟩))⟩)⟩
        · obtain ⟨q, v1, k1, q1, q2, q3, q4⟩ := cy_head C hr hh hid M (ysl := ysl) (yll := yll) (ync := ync) (yop := yop) (ytl := ytl) (yn := nI n) (ylg := nI lg) (yag := yag) (yR := yR) (yF := yF) (yL := yL) (yG := yG) (yQ := yQ) (yp := yp) (yv := yv) (yk := yk)
          have kg : yR (40 * r + (3 + 4 * i)) = ch_bl yR r (3 + 4 * i) := ch_blE (by omega)
          rcases q1 with rfl | rfl
          · refine ⟨0, v1, k1, Or.inl rfl, ⟨fun z => absurd z.symm ch_10, fun p => ?_⟩, fun z => absurd z.symm ch_10, fun post hp => ?_⟩
            · obtain ⟨w, mw, _⟩ := p.2.1
              have m1 := mw i hh
              rw [eid, nI_clamp (by omega)] at m1
              exact absurd ⟨fun h _ hh => mw h hh, m1⟩ (q3 rfl w)
            · unfold wY_applicable_72
              rw [ei, k0]
              refine br_f c3 ⟨iin, nm_r ((pt i i3).trans eid) (nm_r e9 ⟨in0, br_t lt ?_⟩)⟩
              rw [eid] at qa3 ds
              exact qa3 _ (br_f ch_10 ⟨_, cy_dist i3 (by omega) (fun z => absurd z ds) (fun _ => q4 post _ _ _ _ _ _ _ _ (fun _ => hp) (fun z => absurd z.symm ch_10)) i 0 (by omega) (fun j hj => by omega)⟩)
          · obtain ⟨q', v2, k2, r1, r2, r3, r4⟩ := ih (i + 1) (if yR (40 * r + (3 + 4 * i)) = 1 then 0 else x6) v1 k1 (by omega)
              (fun h h1 h2 => by
                rcases Nat.lt_or_ge h i with q | q
                · exact A1 h q h2
                · rw [show h = i by omega]; exact ⟨id, hid, eid, aid⟩)
              (fun h h1 h2 => A2 h (by omega) h2)
              (fun h h' h1 h2 h3 => by
                rcases Nat.lt_or_ge h' i with q | q
                · exact A3 h h' h1 q h3
                · rw [show h' = i by omega]
                  intro e
                  exact ds ⟨h, by omega, (pt h (by omega)).trans e⟩)
              (ch_M_cg (q2 rfl) (fun w => ⟨fun ⟨a, b⟩ h h1 h2 => by
                rcases Nat.lt_or_ge h i with q | q
                · exact a h q h2
                · rw [show h = i by omega, eid, nI_clamp (by omega)]; exact b, fun a => ⟨fun h h1 h2 => a h (by omega) h2, by
                  have := a i (by omega) hh
                  rwa [eid, nI_clamp (by omega)] at this⟩⟩))
              (by
                rw [kg]
                rcases Classical.em (ch_bl yR r (3 + 4 * i) = 1) with c | c
                · rw [if_pos c]
                  exact ⟨fun z => absurd rfl z, fun z => absurd c (z i (by omega) hh)⟩
                · rw [if_neg c, fl]
                  exact ⟨fun a h h1 h2 => by
                    rcases Nat.lt_or_ge h i with q | q
                    · exact a h q h2
                    · rw [show h = i by omega]; exact c, fun a h h1 h2 => a h (by omega) h2⟩)
            refine ⟨q', v2, k2, r1, r2, r3, fun post hp => ?_⟩
            unfold wY_applicable_72
            rw [ei, k0]
            refine br_f c3 ⟨iin, nm_r ((pt i i3).trans eid) (nm_r e9 ⟨in0, br_t lt ?_⟩)⟩
            rw [eid] at qa3 ds
            refine qa3 _ (br_f ch_10 ⟨_, cy_dist i3 (by omega) (fun z => absurd z ds) (fun _ => q4 post _ _ _ _ _ _ _ _ (fun z => absurd z ch_10) (fun _ => ?_)) i 0 (by omega) (fun j hj => by omega)⟩)
            rw [ch_a1]
            exact r4 post hp
    · have nlt : ¬ nI i < nI (ch_nh (ch_bl yR r)) := nI_nlt hh (by omega)
      rcases Classical.em (ch_t3 x y z i = -1) with c | c
      · obtain ⟨q', v2, k2, r1, r2, r3, r4⟩ := ih (i + 1) x6 yv yk (by omega)
          (fun h h1 h2 => A1 h (by omega) h2)
          (fun h h1 h2 => by
            rcases Nat.lt_or_ge h i with q | q
            · exact A2 h q h2
            · rw [show h = i by omega]; exact c)
          (fun h h' h1 h2 h3 => A3 h h' h1 (by omega) h3)
          (ch_M_cg M (fun w => ⟨fun a h h1 h2 => a h (by omega) h2, fun a h h1 h2 => a h (by omega) h2⟩))
          (fl.trans ⟨fun a h h1 h2 => a h (by omega) h2, fun a h h1 h2 => a h (by omega) h2⟩)
        refine ⟨q', v2, k2, r1, r2, r3, fun post hp => ?_⟩
        unfold wY_applicable_72
        rw [ei, k0]
        exact br_f c3 ⟨iin, nm_r (pt i i3) (nm_r e9 ⟨in0, br_f nlt (br_t c (nm_r (ch_a1 i) (r4 post hp)))⟩)⟩
      · refine ⟨0, yv, yk, Or.inl rfl, ⟨fun z => absurd z.symm ch_10, fun p => absurd (p.1.2.1 i hh i3) c⟩, fun z => absurd z.symm ch_10, fun post hp => ?_⟩
        unfold wY_applicable_72
        rw [ei, k0]
        exact br_f c3 ⟨iin, nm_r (pt i i3) (nm_r e9 ⟨in0, br_f nlt (br_f c hp)⟩)⟩
end
end
section
def ch_kz (yk : Nat → Int32) : Nat → (Nat → Int32)
  | 0 => yk
  | i + 1 => upd (ch_kz yk i) i 0
theorem ch_kz_lt {yk : Nat → Int32} : ∀ {i j : Nat}, j < i → ch_kz yk i j = 0
  | 0, j, h => by omega
  | i + 1, j, h => by
    show upd (ch_kz yk i) i 0 j = 0
    by_cases e : j = i
    · rw [e, ch_upd_s]
    · rw [ch_upd_n e]; exact ch_kz_lt (by omega)
/-- c at head h of an applicable choice, ids by their codes -/
def ch_P5 (yR aS aA aB yL yG : Nat → Int32) (n lg c r h a b d : Nat) : Prop := ch_t3 (ch_cd a) (ch_cd b) (ch_cd d) h = nI c ∧ ch_Ap yR aS aA aB yL yG n lg r (ch_cd a) (ch_cd b) (ch_cd d)
def ch_Rs (yR aS aA aB yp yv : Nat → Int32) (r a b d : Nat) : Prop := yp 0 = ch_cd a ∧ yp 1 = ch_cd b ∧ yp 2 = ch_cd d ∧ ∃ w, ch_Mt (ch_bl yR r) aS aA aB (ch_cd a) (ch_cd b) (ch_cd d) w ∧ yv = ch_Fn (ch_bl yR r) w
theorem ch_Ap_w {R S A B L G : Nat → Int32} {n lg r g : Nat} {x y z : Int32} (p : ch_Ap R S A B L G n lg r x y z) (hg : g < 3) : ch_Al L n (ch_t3 x y z g) ∨ ch_t3 x y z g = -1 := by
  rcases Nat.lt_or_ge g (ch_nh (ch_bl R r)) with h | h
  · exact Or.inl (p.1.1 g h)
  · exact Or.inr (p.1.2.1 g h hg)
section
variable {ysl yll ync yop ytl yn ylg yag : Int32} {yR yF yL yG yQ yp yv yk : Nat → Int32}
variable {aS aA aB : Nat → Int32} {n lg nc c r h : Nat}
theorem cy_kn_lp {post : Int32 → SY → Prop} {x1 x2 x3 x4 : Int32} {m : Nat} (k : wY_applicable_39 post x1 x2 x3 x4 ysl yll ync yop ytl yn ylg yag (m + 1) (nI 6) yR yF yL yG yQ yp yv (ch_kz yk 6)) :
    ∀ d i, i + d = 6 → wY_applicable_39 post x1 x2 x3 x4 ysl yll ync yop ytl yn ylg yag (m + 1 + d) (nI i) yR yF yL yG yQ yp yv (ch_kz yk i) := by
  intro d
  induction d with
  | zero =>
    intro i hi
    rw [show i = 6 by omega]
    exact k
  | succ d ih =>
    intro i hi
    rw [show m + 1 + (d + 1) = (m + 1 + d) + 1 by omega]
    unfold wY_applicable_39
    rw [show (nI i).toNatClampNeg = i from nI_clamp (by omega), ch_nar0]
    exact br_f (nI_ge (b := 6) (by omega) (by omega)) ⟨vp_in_nI (by omega) (by omega), nm_e (nm_r (ch_a1 i) (ih (i + 1) (by omega)))⟩
theorem cy_app {x y z : Int32} (C : ch_YC yR yF aS aA aB n nc) (hr : r < nc) (hl : lg ≤ 48) :
    ∃ (q : Int32) (yp' yv' yk' : Nat → Int32), (q = 0 ∨ q = 1) ∧ (q = 1 ↔ ch_Ap yR aS aA aB yL yG n lg r x y z) ∧
      (q = 1 → yp' 0 = x ∧ yp' 1 = y ∧ yp' 2 = z ∧ ∃ w, ch_Mt (ch_bl yR r) aS aA aB x y z w ∧ yv' = ch_Fn (ch_bl yR r) w) ∧
      ∀ post : Int32 → SY → Prop, post q (ysl, yll, nI nc, yop, ytl, nI n, nI lg, yag, yR, yF, yL, yG, yQ, yp', yv', yk') → wpY_applicable post (ysl, yll, nI nc, yop, ytl, nI n, nI lg, yag, yR, yF, yL, yG, yQ, yp, yv, yk) (nI r) x y z := by
  have nc6 := C.2.1
  obtain ⟨q, yv', yk', q1, q2, q3, q4⟩ := cy_heads (yp := upd (upd (upd yp 0 x) 1 y) 2 z) C hr hl rfl rfl rfl 3 0 1 yv (ch_kz yk 6) (by omega) (fun h h1 => by omega) (fun h h1 => by omega) (fun h h' _ h1 => by omega)
    (ch_M_cg (ch_M_0 (fun p hp z => z (ch_kz_lt (by omega))) yv) (fun w => ⟨fun _ h h1 => by omega, fun _ => trivial⟩)) ⟨fun _ h h1 => by omega, fun _ => ch_10⟩ (ysl := ysl) (yll := yll) (ync := nI nc) (yop := yop) (ytl := ytl) (yag := yag) (yR := yR) (yF := yF) (yL := yL) (yG := yG) (yQ := yQ)
  refine ⟨q, upd (upd (upd yp 0 x) 1 y) 2 z, yv', yk', q1, q2, fun e => ⟨rfl, rfl, rfl, q3 e⟩, fun post hp => ?_⟩
  unfold wpY_applicable
  refine br_f (nI_pos (by omega)) (br_t (nI_lt hr (by omega)) (nm_e (nm_e (nm_e ⟨0 + 1 + 6, cy_kn_lp ?_ 6 0 rfl⟩))))
  unfold wY_applicable_39
  exact br_t (by decide) (nm_r (ch_40t r) ⟨_, q4 post hp⟩)
theorem cy_wanted {a g : Nat} (hn : n ≤ 160) (hg : g < 3) (hh : h < 3) (ha : a ≤ n) :
    ∃ q : Int32, (q = 0 ∨ q = 1) ∧ (q = 1 ↔ (g = h → ch_cd a = nI c) ∧ (g ≠ h → ch_cd a = -1 ∨ ch_Al yL n (ch_cd a))) ∧ ∀ post : Int32 → Prop, post q → wpY_wanted post (ysl, yll, ync, yop, ytl, nI n, ylg, yag, yR, yF, yL, yG, yQ, yp, yv, yk) (ch_cd a) (nI g) (nI h) (nI c) := by
  rcases Classical.em (g = h) with e | e
  · subst e
    rcases Classical.em (ch_cd a = nI c) with z | z
    · refine ⟨1, Or.inr rfl, ⟨fun _ => ⟨fun _ => z, fun q => absurd rfl q⟩, fun _ => rfl⟩, fun post hp => ?_⟩
      unfold wpY_wanted
      exact br_t rfl (br_t z hp)
    · refine ⟨0, Or.inl rfl, ⟨fun q => absurd q.symm ch_10, fun q => absurd (q.1 rfl) z⟩, fun post hp => ?_⟩
      unfold wpY_wanted
      exact br_t rfl (br_f z hp)
  · have ne : ¬ nI g = nI h := fun z => e ((nI_eq (by omega) (by omega)).mp z)
    rcases Classical.em (ch_cd a = -1) with z | z
    · refine ⟨1, Or.inr rfl, ⟨fun _ => ⟨fun q => absurd q e, fun _ => Or.inl z⟩, fun _ => rfl⟩, fun post hp => ?_⟩
      unfold wpY_wanted
      exact br_f ne (br_t z hp)
    · obtain ⟨q, q1, q2, q3⟩ := cy_alive (x := ch_cd a) hn (ysl := ysl) (yll := yll) (ync := ync) (yop := yop) (ytl := ytl) (ylg := ylg) (yag := yag) (yR := yR) (yF := yF) (yL := yL) (yG := yG) (yQ := yQ) (yp := yp) (yv := yv) (yk := yk)
      refine ⟨q, q1, ⟨fun y => ⟨fun w => absurd w e, fun _ => Or.inr (q2.mp y)⟩, fun y => q2.mpr ((y.2 e).resolve_left z)⟩, fun post hp => ?_⟩
      unfold wpY_wanted
      refine br_f ne (br_f z (q3 _ ?_))
      rcases q1 with rfl | rfl
      · exact br_t rfl hp
      · exact br_f ch_10 hp
/-- a coordinate that isn't wanted is in no applicable choice -/
theorem ch_unw {g a b d : Nat} (hg : g < 3) (p : ch_P5 yR aS aA aB yL yG n lg c r h a b d) : (g = h → ch_t3 (ch_cd a) (ch_cd b) (ch_cd d) g = nI c) ∧ (g ≠ h → ch_t3 (ch_cd a) (ch_cd b) (ch_cd d) g = -1 ∨ ch_Al yL n (ch_t3 (ch_cd a) (ch_cd b) (ch_cd d) g)) :=
  ⟨fun e => by rw [e]; exact p.1, fun _ => (ch_Ap_w p.2 hg).symm⟩
theorem cy_z_lp {a b : Nat} (C : ch_YC yR yF aS aA aB n nc) (hr : r < nc) (hl : lg ≤ 48) (hh : h < 3) (w0 : h = 0 → ch_cd a = nI c) (w1 : h = 1 → ch_cd b = nI c) :
    ∀ m d yp yv yk, d + m = n + 1 →
    (∃ (d' : Nat) (yp' yv' yk' : Nat → Int32), d ≤ d' ∧ d' ≤ n ∧ ch_P5 yR aS aA aB yL yG n lg c r h a b d' ∧ (∀ e, d ≤ e → e < d' → ¬ ch_P5 yR aS aA aB yL yG n lg c r h a b e) ∧ ch_Rs yR aS aA aB yp' yv' r a b d' ∧
      ∀ (post : Int32 → SY → Prop) (J2 J12 J28 J52 : Int32 → Int32 → Int32 → Int32 → Int32 → Int32 → Int32 → Int32 → Int32 → (Nat → Int32) → (Nat → Int32) → (Nat → Int32) → (Nat → Int32) → (Nat → Int32) → (Nat → Int32) → (Nat → Int32) → (Nat → Int32) → Prop), post (nI r) (ysl, yll, nI nc, yop, ytl, nI n, nI lg, yag, yR, yF, yL, yG, yQ, yp', yv', yk') → wY_search_76 post J2 J12 J28 J52 (nI c) (nI r) (nI h) (ch_cd a) (ch_cd b) (m + 1) (ch_cd d) ysl yll (nI nc) yop ytl (nI n) (nI lg) yag yR yF yL yG yQ yp yv yk) ∨
    (∃ (yp' yv' yk' : Nat → Int32), (∀ e, d ≤ e → e ≤ n → ¬ ch_P5 yR aS aA aB yL yG n lg c r h a b e) ∧
      ∀ (post : Int32 → SY → Prop) (J2 J12 J28 J52 : Int32 → Int32 → Int32 → Int32 → Int32 → Int32 → Int32 → Int32 → Int32 → (Nat → Int32) → (Nat → Int32) → (Nat → Int32) → (Nat → Int32) → (Nat → Int32) → (Nat → Int32) → (Nat → Int32) → (Nat → Int32) → Prop), J52 (ch_cd (b + 1)) ysl yll (nI nc) yop ytl (nI n) (nI lg) yag yR yF yL yG yQ yp' yv' yk' → wY_search_76 post J2 J12 J28 J52 (nI c) (nI r) (nI h) (ch_cd a) (ch_cd b) (m + 1) (ch_cd d) ysl yll (nI nc) yop ytl (nI n) (nI lg) yag yR yF yL yG yQ yp yv yk) := by
  have n160 := C.1
  intro m
  induction m with
  | zero =>
    intro d yp yv yk hd
    refine Or.inr ⟨yp, yv, yk, fun e h1 h2 => by omega, fun post J2 J12 J28 J52 hJ => ?_⟩
    unfold wY_search_76
    exact br_t ((ch_cdle (by omega) (by omega)).mpr (by omega)) (nm_r (ch_cdA b) hJ)
  | succ m ih =>
    intro d yp yv yk hd
    have nle : ¬ nI n ≤ ch_cd d := fun z => by have := (ch_cdle (by omega) (by omega)).mp z; omega
    obtain ⟨q, q1, q2, q3⟩ := cy_wanted (c := c) (g := 2) (a := d) n160 (by omega) hh (by omega) (ysl := ysl) (yll := yll) (ync := nI nc) (yop := yop) (ytl := ytl) (ylg := nI lg) (yag := yag) (yR := yR) (yF := yF) (yL := yL) (yG := yG) (yQ := yQ) (yp := yp) (yv := yv) (yk := yk)
    have glue : ∀ (yp1 yv1 yk1 : Nat → Int32), ¬ ch_P5 yR aS aA aB yL yG n lg c r h a b d → (∀ (post : Int32 → SY → Prop) (J2 J12 J28 J52 : Int32 → Int32 → Int32 → Int32 → Int32 → Int32 → Int32 → Int32 → Int32 → (Nat → Int32) → (Nat → Int32) → (Nat → Int32) → (Nat → Int32) → (Nat → Int32) → (Nat → Int32) → (Nat → Int32) → (Nat → Int32) → Prop), wY_search_76 post J2 J12 J28 J52 (nI c) (nI r) (nI h) (ch_cd a) (ch_cd b) (m + 1) (ch_cd (d + 1)) ysl yll (nI nc) yop ytl (nI n) (nI lg) yag yR yF yL yG yQ yp1 yv1 yk1 → wY_search_76 post J2 J12 J28 J52 (nI c) (nI r) (nI h) (ch_cd a) (ch_cd b) (m + 1 + 1) (ch_cd d) ysl yll (nI nc) yop ytl (nI n) (nI lg) yag yR yF yL yG yQ yp yv yk) →
        (∃ (d' : Nat) (yp' yv' yk' : Nat → Int32), d ≤ d' ∧ d' ≤ n ∧ ch_P5 yR aS aA aB yL yG n lg c r h a b d' ∧ (∀ e, d ≤ e → e < d' → ¬ ch_P5 yR aS aA aB yL yG n lg c r h a b e) ∧ ch_Rs yR aS aA aB yp' yv' r a b d' ∧
          ∀ (post : Int32 → SY → Prop) (J2 J12 J28 J52 : Int32 → Int32 → Int32 → Int32 → Int32 → Int32 → Int32 → Int32 → Int32 → (Nat → Int32) → (Nat → Int32) → (Nat → Int32) → (Nat → Int32) → (Nat → Int32) → (Nat → Int32) → (Nat → Int32) → (Nat → Int32) → Prop), post (nI r) (ysl, yll, nI nc, yop, ytl, nI n, nI lg, yag, yR, yF, yL, yG, yQ, yp', yv', yk') → wY_search_76 post J2 J12 J28 J52 (nI c) (nI r) (nI h) (ch_cd a) (ch_cd b) (m + 1 + 1) (ch_cd d) ysl yll (nI nc) yop ytl (nI n) (nI lg) yag yR yF yL yG yQ yp yv yk) ∨
        (∃ (yp' yv' yk' : Nat → Int32), (∀ e, d ≤ e → e ≤ n → ¬ ch_P5 yR aS aA aB yL yG n lg c r h a b e) ∧
          ∀ (post : Int32 → SY → Prop) (J2 J12 J28 J52 : Int32 → Int32 → Int32 → Int32 → Int32 → Int32 → Int32 → Int32 → Int32 → (Nat → Int32) → (Nat → Int32) → (Nat → Int32) → (Nat → Int32) → (Nat → Int32) → (Nat → Int32) → (Nat → Int32) → (Nat → Int32) → Prop), J52 (ch_cd (b + 1)) ysl yll (nI nc) yop ytl (nI n) (nI lg) yag yR yF yL yG yQ yp' yv' yk' → wY_search_76 post J2 J12 J28 J52 (nI c) (nI r) (nI h) (ch_cd a) (ch_cd b) (m + 1 + 1) (ch_cd d) ysl yll (nI nc) yop ytl (nI n) (nI lg) yag yR yF yL yG yQ yp yv yk) := by
      intro yp1 yv1 yk1 np st
      have ext : ∀ e, d ≤ e → (d + 1 ≤ e → ¬ ch_P5 yR aS aA aB yL yG n lg c r h a b e) → ¬ ch_P5 yR aS aA aB yL yG n lg c r h a b e := by
        intro e h1 h2
        rcases Nat.lt_or_ge d e with y | y
        · exact h2 y
        · rw [show e = d by omega]; exact np
      rcases ih (d + 1) yp1 yv1 yk1 (by omega) with ⟨d', yp', yv', yk', b1, b2, b3, b4, b5, b6⟩ | ⟨yp', yv', yk', b1, b2⟩
      · exact Or.inl ⟨d', yp', yv', yk', by omega, b2, b3, fun e h1 h2 => ext e h1 (fun h3 => b4 e h3 h2), b5, fun post J2 J12 J28 J52 hp => st post J2 J12 J28 J52 (b6 post J2 J12 J28 J52 hp)⟩
      · exact Or.inr ⟨yp', yv', yk', fun e h1 h2 => ext e h1 (fun h3 => b1 e h3 h2), fun post J2 J12 J28 J52 hp => st post J2 J12 J28 J52 (b2 post J2 J12 J28 J52 hp)⟩
    rcases q1 with rfl | rfl
    · refine glue yp yv yk (fun p => ch_10 (q2.mpr (ch_unw (g := 2) (by omega) p)).symm) (fun post J2 J12 J28 J52 k => ?_)
      unfold wY_search_76
      exact br_f nle (q3 _ (br_t rfl (nm_r (ch_cdA d) k)))
    · obtain ⟨t, yp1, yv1, yk1, t1, t2, t3, t4⟩ := cy_app (x := ch_cd a) (y := ch_cd b) (z := ch_cd d) C hr hl (ysl := ysl) (yll := yll) (yop := yop) (ytl := ytl) (yag := yag) (yR := yR) (yF := yF) (yL := yL) (yG := yG) (yQ := yQ) (yp := yp) (yv := yv) (yk := yk)
      rcases t1 with rfl | rfl
      · refine glue yp1 yv1 yk1 (fun p => ch_10 (t2.mpr p.2).symm) (fun post J2 J12 J28 J52 k => ?_)
        unfold wY_search_76
        exact br_f nle (q3 _ (br_f ch_10 (t4 _ (br_t rfl (nm_r (ch_cdA d) k)))))
      · refine Or.inl ⟨d, yp1, yv1, yk1, Nat.le_refl _, by omega, ⟨?_, t2.mp rfl⟩, fun e h1 h2 => by omega, t3 rfl, fun post J2 J12 J28 J52 hp => ?_⟩
        · have H : h = 0 ∨ h = 1 ∨ h = 2 := by omega
          rcases H with e | e | e
          · rw [e]; exact w0 e
          · rw [e]; exact w1 e
          · rw [e]; exact (q2.mp rfl).1 e.symm
        · unfold wY_search_76
          exact br_f nle (q3 _ (br_f ch_10 (t4 _ (br_f ch_10 hp))))
theorem cy_y_lp {a : Nat} (C : ch_YC yR yF aS aA aB n nc) (hr : r < nc) (hl : lg ≤ 48) (hh : h < 3) (w0 : h = 0 → ch_cd a = nI c) :
    ∀ m b yp yv yk, b + m = n + 1 →
    (∃ (b' d' : Nat) (yp' yv' yk' : Nat → Int32), b ≤ b' ∧ b' ≤ n ∧ d' ≤ n ∧ ch_P5 yR aS aA aB yL yG n lg c r h a b' d' ∧ (∀ b'' e, b ≤ b'' → e ≤ n → (b'' < b' ∨ (b'' = b' ∧ e < d')) → ¬ ch_P5 yR aS aA aB yL yG n lg c r h a b'' e) ∧ ch_Rs yR aS aA aB yp' yv' r a b' d' ∧
      ∀ (post : Int32 → SY → Prop) (J2 J12 J28 : Int32 → Int32 → Int32 → Int32 → Int32 → Int32 → Int32 → Int32 → Int32 → (Nat → Int32) → (Nat → Int32) → (Nat → Int32) → (Nat → Int32) → (Nat → Int32) → (Nat → Int32) → (Nat → Int32) → (Nat → Int32) → Prop), post (nI r) (ysl, yll, nI nc, yop, ytl, nI n, nI lg, yag, yR, yF, yL, yG, yQ, yp', yv', yk') → wY_search_52 post J2 J12 J28 (nI c) (nI r) (nI h) (ch_cd a) (m + 1) (ch_cd b) ysl yll (nI nc) yop ytl (nI n) (nI lg) yag yR yF yL yG yQ yp yv yk) ∨
    (∃ (yp' yv' yk' : Nat → Int32), (∀ b'' e, b ≤ b'' → b'' ≤ n → e ≤ n → ¬ ch_P5 yR aS aA aB yL yG n lg c r h a b'' e) ∧
      ∀ (post : Int32 → SY → Prop) (J2 J12 J28 : Int32 → Int32 → Int32 → Int32 → Int32 → Int32 → Int32 → Int32 → Int32 → (Nat → Int32) → (Nat → Int32) → (Nat → Int32) → (Nat → Int32) → (Nat → Int32) → (Nat → Int32) → (Nat → Int32) → (Nat → Int32) → Prop), J28 (ch_cd (a + 1)) ysl yll (nI nc) yop ytl (nI n) (nI lg) yag yR yF yL yG yQ yp' yv' yk' → wY_search_52 post J2 J12 J28 (nI c) (nI r) (nI h) (ch_cd a) (m + 1) (ch_cd b) ysl yll (nI nc) yop ytl (nI n) (nI lg) yag yR yF yL yG yQ yp yv yk) := by
  have n160 := C.1
  intro m
  induction m with
  | zero =>
    intro b yp yv yk hd
    refine Or.inr ⟨yp, yv, yk, fun b'' e h1 h2 => by omega, fun post J2 J12 J28 hJ => ?_⟩
    unfold wY_search_52
    exact br_t ((ch_cdle (by omega) (by omega)).mpr (by omega)) (nm_r (ch_cdA a) hJ)
  | succ m ih =>
    intro b yp yv yk hd
    have nle : ¬ nI n ≤ ch_cd b := fun z => by have := (ch_cdle (by omega) (by omega)).mp z; omega
    obtain ⟨q, q1, q2, q3⟩ := cy_wanted (c := c) (g := 1) (a := b) n160 (by omega) hh (by omega) (ysl := ysl) (yll := yll) (ync := nI nc) (yop := yop) (ytl := ytl) (ylg := nI lg) (yag := yag) (yR := yR) (yF := yF) (yL := yL) (yG := yG) (yQ := yQ) (yp := yp) (yv := yv) (yk := yk)
    have glue : ∀ (yp1 yv1 yk1 : Nat → Int32), (∀ e, e ≤ n → ¬ ch_P5 yR aS aA aB yL yG n lg c r h a b e) → (∀ (post : Int32 → SY → Prop) (J2 J12 J28 : Int32 → Int32 → Int32 → Int32 → Int32 → Int32 → Int32 → Int32 → Int32 → (Nat → Int32) → (Nat → Int32) → (Nat → Int32) → (Nat → Int32) → (Nat → Int32) → (Nat → Int32) → (Nat → Int32) → (Nat → Int32) → Prop), wY_search_52 post J2 J12 J28 (nI c) (nI r) (nI h) (ch_cd a) (m + 1) (ch_cd (b + 1)) ysl yll (nI nc) yop ytl (nI n) (nI lg) yag yR yF yL yG yQ yp1 yv1 yk1 → wY_search_52 post J2 J12 J28 (nI c) (nI r) (nI h) (ch_cd a) (m + 1 + 1) (ch_cd b) ysl yll (nI nc) yop ytl (nI n) (nI lg) yag yR yF yL yG yQ yp yv yk) →
        (∃ (b' d' : Nat) (yp' yv' yk' : Nat → Int32), b ≤ b' ∧ b' ≤ n ∧ d' ≤ n ∧ ch_P5 yR aS aA aB yL yG n lg c r h a b' d' ∧ (∀ b'' e, b ≤ b'' → e ≤ n → (b'' < b' ∨ (b'' = b' ∧ e < d')) → ¬ ch_P5 yR aS aA aB yL yG n lg c r h a b'' e) ∧ ch_Rs yR aS aA aB yp' yv' r a b' d' ∧
          ∀ (post : Int32 → SY → Prop) (J2 J12 J28 : Int32 → Int32 → Int32 → Int32 → Int32 → Int32 → Int32 → Int32 → Int32 → (Nat → Int32) → (Nat → Int32) → (Nat → Int32) → (Nat → Int32) → (Nat → Int32) → (Nat → Int32) → (Nat → Int32) → (Nat → Int32) → Prop), post (nI r) (ysl, yll, nI nc, yop, ytl, nI n, nI lg, yag, yR, yF, yL, yG, yQ, yp', yv', yk') → wY_search_52 post J2 J12 J28 (nI c) (nI r) (nI h) (ch_cd a) (m + 1 + 1) (ch_cd b) ysl yll (nI nc) yop ytl (nI n) (nI lg) yag yR yF yL yG yQ yp yv yk) ∨
        (∃ (yp' yv' yk' : Nat → Int32), (∀ b'' e, b ≤ b'' → b'' ≤ n → e ≤ n → ¬ ch_P5 yR aS aA aB yL yG n lg c r h a b'' e) ∧
          ∀ (post : Int32 → SY → Prop) (J2 J12 J28 : Int32 → Int32 → Int32 → Int32 → Int32 → Int32 → Int32 → Int32 → Int32 → (Nat → Int32) → (Nat → Int32) → (Nat → Int32) → (Nat → Int32) → (Nat → Int32) → (Nat → Int32) → (Nat → Int32) → (Nat → Int32) → Prop), J28 (ch_cd (a + 1)) ysl yll (nI nc) yop ytl (nI n) (nI lg) yag yR yF yL yG yQ yp' yv' yk' → wY_search_52 post J2 J12 J28 (nI c) (nI r) (nI h) (ch_cd a) (m + 1 + 1) (ch_cd b) ysl yll (nI nc) yop ytl (nI n) (nI lg) yag yR yF yL yG yQ yp yv yk) := by
      intro yp1 yv1 yk1 np st
      have ext : ∀ b'' e, b ≤ b'' → e ≤ n → (b + 1 ≤ b'' → ¬ ch_P5 yR aS aA aB yL yG n lg c r h a b'' e) → ¬ ch_P5 yR aS aA aB yL yG n lg c r h a b'' e := by
        intro b'' e h1 he h2
        rcases Nat.lt_or_ge b b'' with y | y
        · exact h2 y
        · rw [show b'' = b by omega]; exact np e he
      rcases ih (b + 1) yp1 yv1 yk1 (by omega) with ⟨b', d', yp', yv', yk', b1, b2, b7, b3, b4, b5, b6⟩ | ⟨yp', yv', yk', b1, b2⟩
      · exact Or.inl ⟨b', d', yp', yv', yk', by omega, b2, b7, b3, fun b'' e h1 h2 h4 => ext b'' e h1 h2 (fun h3 => b4 b'' e h3 h2 h4), b5, fun post J2 J12 J28 hp => st post J2 J12 J28 (b6 post J2 J12 J28 hp)⟩
      · exact Or.inr ⟨yp', yv', yk', fun b'' e h1 h2 h4 => ext b'' e h1 h4 (fun h3 => b1 b'' e h3 h2 h4), fun post J2 J12 J28 hp => st post J2 J12 J28 (b2 post J2 J12 J28 hp)⟩
    rcases q1 with rfl | rfl
    · refine glue yp yv yk (fun e _ p => ch_10 (q2.mpr (ch_unw (g := 1) (by omega) p)).symm) (fun post J2 J12 J28 k => ?_)
      unfold wY_search_52
      exact br_f nle (q3 _ (br_t rfl (nm_r (ch_cdA b) k)))
    · rcases cy_z_lp (a := a) (b := b) (c := c) C hr hl hh w0 (fun e => (q2.mp rfl).1 e.symm) (n + 1) 0 yp yv yk (by omega) (ysl := ysl) (yll := yll) (yop := yop) (ytl := ytl) (yag := yag) (yR := yR) (yF := yF) (yL := yL) (yG := yG) (yQ := yQ) with ⟨d', yp', yv', yk', b1, b2, b3, b4, b5, b6⟩ | ⟨yp', yv', yk', b1, b2⟩
      · refine Or.inl ⟨b, d', yp', yv', yk', Nat.le_refl _, by omega, b2, b3, fun b'' e h1 h2 h3 => ?_, b5, fun post J2 J12 J28 hp => ?_⟩
        · have : b'' = b := by omega
          subst this
          exact b4 e (by omega) (by omega)
        · unfold wY_search_52
          exact br_f nle (q3 _ (br_f ch_10 ⟨_, by have := b6 post J2 J12 J28 (wY_search_52 post J2 J12 J28 (nI c) (nI r) (nI h) (ch_cd a) (m + 1)) hp; rw [ch_cd0] at this; exact this⟩))
      · refine glue yp' yv' yk' (fun e h1 => b1 e (by omega) h1) (fun post J2 J12 J28 k => ?_)
        unfold wY_search_52
        exact br_f nle (q3 _ (br_f ch_10 ⟨_, by have := b2 post J2 J12 J28 (wY_search_52 post J2 J12 J28 (nI c) (nI r) (nI h) (ch_cd a) (m + 1)) k; rw [ch_cd0] at this; exact this⟩))
end
end
section
/-- (r', h', a', b', d') lies before (r, h, a, b, d) -/
def ch_lx (r' h' a' b' d' r h a b d : Nat) : Prop := r' < r ∨ (r' = r ∧ (h' < h ∨ (h' = h ∧ (a' < a ∨ (a' = a ∧ (b' < b ∨ (b' = b ∧ d' < d)))))))
section
variable {ysl yll ync yop ytl yn ylg yag : Int32} {yR yF yL yG yQ yp yv yk : Nat → Int32}
variable {aS aA aB : Nat → Int32} {n lg nc c r h : Nat}
theorem cy_x_lp (C : ch_YC yR yF aS aA aB n nc) (hr : r < nc) (hl : lg ≤ 48) (hh : h < 3) :
    ∀ m a yp yv yk, a + m = n + 1 →
    (∃ (a' b' d' : Nat) (yp' yv' yk' : Nat → Int32), a ≤ a' ∧ a' ≤ n ∧ b' ≤ n ∧ d' ≤ n ∧ ch_P5 yR aS aA aB yL yG n lg c r h a' b' d' ∧ (∀ a'' b'' e, a ≤ a'' → b'' ≤ n → e ≤ n → (a'' < a' ∨ (a'' = a' ∧ (b'' < b' ∨ (b'' = b' ∧ e < d')))) → ¬ ch_P5 yR aS aA aB yL yG n lg c r h a'' b'' e) ∧ ch_Rs yR aS aA aB yp' yv' r a' b' d' ∧
      ∀ (post : Int32 → SY → Prop) (J2 J12 : Int32 → Int32 → Int32 → Int32 → Int32 → Int32 → Int32 → Int32 → Int32 → (Nat → Int32) → (Nat → Int32) → (Nat → Int32) → (Nat → Int32) → (Nat → Int32) → (Nat → Int32) → (Nat → Int32) → (Nat → Int32) → Prop), post (nI r) (ysl, yll, nI nc, yop, ytl, nI n, nI lg, yag, yR, yF, yL, yG, yQ, yp', yv', yk') → wY_search_28 post J2 J12 (nI c) (nI r) (nI h) (m + 1) (ch_cd a) ysl yll (nI nc) yop ytl (nI n) (nI lg) yag yR yF yL yG yQ yp yv yk) ∨
    (∃ (yp' yv' yk' : Nat → Int32), (∀ a'' b'' e, a ≤ a'' → a'' ≤ n → b'' ≤ n → e ≤ n → ¬ ch_P5 yR aS aA aB yL yG n lg c r h a'' b'' e) ∧
      ∀ (post : Int32 → SY → Prop) (J2 J12 : Int32 → Int32 → Int32 → Int32 → Int32 → Int32 → Int32 → Int32 → Int32 → (Nat → Int32) → (Nat → Int32) → (Nat → Int32) → (Nat → Int32) → (Nat → Int32) → (Nat → Int32) → (Nat → Int32) → (Nat → Int32) → Prop), J12 (nI (h + 1)) ysl yll (nI nc) yop ytl (nI n) (nI lg) yag yR yF yL yG yQ yp' yv' yk' → wY_search_28 post J2 J12 (nI c) (nI r) (nI h) (m + 1) (ch_cd a) ysl yll (nI nc) yop ytl (nI n) (nI lg) yag yR yF yL yG yQ yp yv yk) := by
  have n160 := C.1
  intro m
  induction m with
  | zero =>
    intro a yp yv yk hd
    refine Or.inr ⟨yp, yv, yk, fun a'' b'' e h1 h2 => by omega, fun post J2 J12 hJ => ?_⟩
    unfold wY_search_28
    exact br_t ((ch_cdle (by omega) (by omega)).mpr (by omega)) (nm_r (ch_a1 h) hJ)
  | succ m ih =>
    intro a yp yv yk hd
    have nle : ¬ nI n ≤ ch_cd a := fun z => by have := (ch_cdle (by omega) (by omega)).mp z; omega
    obtain ⟨q, q1, q2, q3⟩ := cy_wanted (c := c) (g := 0) (a := a) n160 (by omega) hh (by omega) (ysl := ysl) (yll := yll) (ync := nI nc) (yop := yop) (ytl := ytl) (ylg := nI lg) (yag := yag) (yR := yR) (yF := yF) (yL := yL) (yG := yG) (yQ := yQ) (yp := yp) (yv := yv) (yk := yk)
    have glue : ∀ (yp1 yv1 yk1 : Nat → Int32), (∀ b'' e, b'' ≤ n → e ≤ n → ¬ ch_P5 yR aS aA aB yL yG n lg c r h a b'' e) → (∀ (post : Int32 → SY → Prop) (J2 J12 : Int32 → Int32 → Int32 → Int32 → Int32 → Int32 → Int32 → Int32 → Int32 → (Nat → Int32) → (Nat → Int32) → (Nat → Int32) → (Nat → Int32) → (Nat → Int32) → (Nat → Int32) → (Nat → Int32) → (Nat → Int32) → Prop), wY_search_28 post J2 J12 (nI c) (nI r) (nI h) (m + 1) (ch_cd (a + 1)) ysl yll (nI nc) yop ytl (nI n) (nI lg) yag yR yF yL yG yQ yp1 yv1 yk1 → wY_search_28 post J2 J12 (nI c) (nI r) (nI h) (m + 1 + 1) (ch_cd a) ysl yll (nI nc) yop ytl (nI n) (nI lg) yag yR yF yL yG yQ yp yv yk) →
        (∃ (a' b' d' : Nat) (yp' yv' yk' : Nat → Int32), a ≤ a' ∧ a' ≤ n ∧ b' ≤ n ∧ d' ≤ n ∧ ch_P5 yR aS aA aB yL yG n lg c r h a' b' d' ∧ (∀ a'' b'' e, a ≤ a'' → b'' ≤ n → e ≤ n → (a'' < a' ∨ (a'' = a' ∧ (b'' < b' ∨ (b'' = b' ∧ e < d')))) → ¬ ch_P5 yR aS aA aB yL yG n lg c r h a'' b'' e) ∧ ch_Rs yR aS aA aB yp' yv' r a' b' d' ∧
          ∀ (post : Int32 → SY → Prop) (J2 J12 : Int32 → Int32 → Int32 → Int32 → Int32 → Int32 → Int32 → Int32 → Int32 → (Nat → Int32) → (Nat → Int32) → (Nat → Int32) → (Nat → Int32) → (Nat → Int32) → (Nat → Int32) → (Nat → Int32) → (Nat → Int32) → Prop), post (nI r) (ysl, yll, nI nc, yop, ytl, nI n, nI lg, yag, yR, yF, yL, yG, yQ, yp', yv', yk') → wY_search_28 post J2 J12 (nI c) (nI r) (nI h) (m + 1 + 1) (ch_cd a) ysl yll (nI nc) yop ytl (nI n) (nI lg) yag yR yF yL yG yQ yp yv yk) ∨
        (∃ (yp' yv' yk' : Nat → Int32), (∀ a'' b'' e, a ≤ a'' → a'' ≤ n → b'' ≤ n → e ≤ n → ¬ ch_P5 yR aS aA aB yL yG n lg c r h a'' b'' e) ∧
          ∀ (post : Int32 → SY → Prop) (J2 J12 : Int32 → Int32 → Int32 → Int32 → Int32 → Int32 → Int32 → Int32 → Int32 → (Nat → Int32) → (Nat → Int32) → (Nat → Int32) → (Nat → Int32) → (Nat → Int32) → (Nat → Int32) → (Nat → Int32) → (Nat → Int32) → Prop), J12 (nI (h + 1)) ysl yll (nI nc) yop ytl (nI n) (nI lg) yag yR yF yL yG yQ yp' yv' yk' → wY_search_28 post J2 J12 (nI c) (nI r) (nI h) (m + 1 + 1) (ch_cd a) ysl yll (nI nc) yop ytl (nI n) (nI lg) yag yR yF yL yG yQ yp yv yk) := by
      intro yp1 yv1 yk1 np st
      have ext : ∀ a'' b'' e, a ≤ a'' → b'' ≤ n → e ≤ n → (a + 1 ≤ a'' → ¬ ch_P5 yR aS aA aB yL yG n lg c r h a'' b'' e) → ¬ ch_P5 yR aS aA aB yL yG n lg c r h a'' b'' e := by
        intro a'' b'' e h1 hb he h2
        rcases Nat.lt_or_ge a a'' with y | y
        · exact h2 y
        · rw [show a'' = a by omega]; exact np b'' e hb he
      rcases ih (a + 1) yp1 yv1 yk1 (by omega) with ⟨a', b', d', yp', yv', yk', b1, b2, b7, b8, b3, b4, b5, b6⟩ | ⟨yp', yv', yk', b1, b2⟩
      · exact Or.inl ⟨a', b', d', yp', yv', yk', by omega, b2, b7, b8, b3, fun a'' b'' e h1 h2 h5 h4 => ext a'' b'' e h1 h2 h5 (fun h3 => b4 a'' b'' e h3 h2 h5 h4), b5, fun post J2 J12 hp => st post J2 J12 (b6 post J2 J12 hp)⟩
      · exact Or.inr ⟨yp', yv', yk', fun a'' b'' e h1 h2 h4 h5 => ext a'' b'' e h1 h4 h5 (fun h3 => b1 a'' b'' e h3 h2 h4 h5), fun post J2 J12 hp => st post J2 J12 (b2 post J2 J12 hp)⟩
    rcases q1 with rfl | rfl
    · refine glue yp yv yk (fun b'' e _ _ p => ch_10 (q2.mpr (ch_unw (g := 0) (by omega) p)).symm) (fun post J2 J12 k => ?_)
      unfold wY_search_28
      exact br_f nle (q3 _ (br_t rfl (nm_r (ch_cdA a) k)))
    · rcases cy_y_lp (a := a) (c := c) C hr hl hh (fun e => (q2.mp rfl).1 e.symm) (n + 1) 0 yp yv yk (by omega) (ysl := ysl) (yll := yll) (yop := yop) (ytl := ytl) (yag := yag) (yR := yR) (yF := yF) (yL := yL) (yG := yG) (yQ := yQ) with ⟨b', d', yp', yv', yk', b1, b2, b7, b3, b4, b5, b6⟩ | ⟨yp', yv', yk', b1, b2⟩
      · refine Or.inl ⟨a, b', d', yp', yv', yk', Nat.le_refl _, by omega, b2, b7, b3, fun a'' b'' e h1 h2 h4 h3 => ?_, b5, fun post J2 J12 hp => ?_⟩
        · have : a'' = a := by omega
          subst this
          exact b4 b'' e (by omega) (by omega) (by omega)
        · unfold wY_search_28
          exact br_f nle (q3 _ (br_f ch_10 ⟨_, by have := b6 post J2 J12 (wY_search_28 post J2 J12 (nI c) (nI r) (nI h) (m + 1)) hp; rw [ch_cd0] at this; exact this⟩))
      · refine glue yp' yv' yk' (fun b'' e h1 h2 => b1 b'' e (by omega) h1 h2) (fun post J2 J12 k => ?_)
        unfold wY_search_28
        exact br_f nle (q3 _ (br_f ch_10 ⟨_, by have := b2 post J2 J12 (wY_search_28 post J2 J12 (nI c) (nI r) (nI h) (m + 1)) k; rw [ch_cd0] at this; exact this⟩))
theorem cy_h_lp (C : ch_YC yR yF aS aA aB n nc) (hr : r < nc) (hl : lg ≤ 48) :
    ∀ m h yp yv yk, h + m = ch_nh (ch_bl yR r) →
    (∃ (h' a' b' d' : Nat) (yp' yv' yk' : Nat → Int32), h ≤ h' ∧ h' < ch_nh (ch_bl yR r) ∧ a' ≤ n ∧ b' ≤ n ∧ d' ≤ n ∧ ch_P5 yR aS aA aB yL yG n lg c r h' a' b' d' ∧ (∀ h'' a'' b'' e, h ≤ h'' → a'' ≤ n → b'' ≤ n → e ≤ n → (h'' < h' ∨ (h'' = h' ∧ (a'' < a' ∨ (a'' = a' ∧ (b'' < b' ∨ (b'' = b' ∧ e < d')))))) → ¬ ch_P5 yR aS aA aB yL yG n lg c r h'' a'' b'' e) ∧ ch_Rs yR aS aA aB yp' yv' r a' b' d' ∧
      ∀ (post : Int32 → SY → Prop) (J2 : Int32 → Int32 → Int32 → Int32 → Int32 → Int32 → Int32 → Int32 → Int32 → (Nat → Int32) → (Nat → Int32) → (Nat → Int32) → (Nat → Int32) → (Nat → Int32) → (Nat → Int32) → (Nat → Int32) → (Nat → Int32) → Prop), post (nI r) (ysl, yll, nI nc, yop, ytl, nI n, nI lg, yag, yR, yF, yL, yG, yQ, yp', yv', yk') → wY_search_12 post J2 (nI c) (nI r) (m + 1) (nI h) ysl yll (nI nc) yop ytl (nI n) (nI lg) yag yR yF yL yG yQ yp yv yk) ∨
    (∃ (yp' yv' yk' : Nat → Int32), (∀ h'' a'' b'' e, h ≤ h'' → h'' < ch_nh (ch_bl yR r) → a'' ≤ n → b'' ≤ n → e ≤ n → ¬ ch_P5 yR aS aA aB yL yG n lg c r h'' a'' b'' e) ∧
      ∀ (post : Int32 → SY → Prop) (J2 : Int32 → Int32 → Int32 → Int32 → Int32 → Int32 → Int32 → Int32 → Int32 → (Nat → Int32) → (Nat → Int32) → (Nat → Int32) → (Nat → Int32) → (Nat → Int32) → (Nat → Int32) → (Nat → Int32) → (Nat → Int32) → Prop), J2 (nI (r + 1)) ysl yll (nI nc) yop ytl (nI n) (nI lg) yag yR yF yL yG yQ yp' yv' yk' → wY_search_12 post J2 (nI c) (nI r) (m + 1) (nI h) ysl yll (nI nc) yop ytl (nI n) (nI lg) yag yR yF yL yG yQ yp yv yk) := by
  have n160 := C.1
  have nc6 := C.2.1
  have W := (C.2.2.2 r hr).1
  have nh3 := W.1.2.1
  have k0 : yR (nI (40 * r)).toNatClampNeg = nI (ch_nh (ch_bl yR r)) := by rw [nI_clamp (by omega), ← W.1.1]; exact ch_blE (j := 0) (by omega)
  have in0 : vp_in (nI (40 * r)) 240 := vp_in_nI (by omega) (by omega)
  intro m
  induction m with
  | zero =>
    intro h yp yv yk hd
    refine Or.inr ⟨yp, yv, yk, fun h'' a'' b'' e h1 h2 => by omega, fun post J2 hJ => ?_⟩
    unfold wY_search_12
    rw [ch_40t, k0]
    exact ⟨in0, br_t (nI_le (by omega) (by omega)) (nm_r (ch_a1 r) hJ)⟩
  | succ m ih =>
    intro h yp yv yk hd
    have nle : ¬ nI (ch_nh (ch_bl yR r)) ≤ nI h := nI_ge (by omega) (by omega)
    rcases cy_x_lp (h := h) (c := c) C hr hl (by omega) (n + 1) 0 yp yv yk (by omega) (ysl := ysl) (yll := yll) (yop := yop) (ytl := ytl) (yag := yag) (yR := yR) (yF := yF) (yL := yL) (yG := yG) (yQ := yQ) with ⟨a', b', d', yp', yv', yk', b1, b2, b7, b8, b3, b4, b5, b6⟩ | ⟨yp1, yv1, yk1, b1, b2⟩
    · refine Or.inl ⟨h, a', b', d', yp', yv', yk', Nat.le_refl _, by omega, b2, b7, b8, b3, fun h'' a'' b'' e h1 h2 h4 h5 h3 => ?_, b5, fun post J2 hp => ?_⟩
      · have : h'' = h := by omega
        subst this
        exact b4 a'' b'' e (by omega) h4 h5 (by omega)
      · unfold wY_search_12
        rw [ch_40t, k0]
        exact ⟨in0, br_f nle ⟨_, by have := b6 post J2 (wY_search_12 post J2 (nI c) (nI r) (m + 1)) hp; rw [ch_cd0] at this; exact this⟩⟩
    · have st : ∀ (post : Int32 → SY → Prop) (J2 : Int32 → Int32 → Int32 → Int32 → Int32 → Int32 → Int32 → Int32 → Int32 → (Nat → Int32) → (Nat → Int32) → (Nat → Int32) → (Nat → Int32) → (Nat → Int32) → (Nat → Int32) → (Nat → Int32) → (Nat → Int32) → Prop), wY_search_12 post J2 (nI c) (nI r) (m + 1) (nI (h + 1)) ysl yll (nI nc) yop ytl (nI n) (nI lg) yag yR yF yL yG yQ yp1 yv1 yk1 → wY_search_12 post J2 (nI c) (nI r) (m + 1 + 1) (nI h) ysl yll (nI nc) yop ytl (nI n) (nI lg) yag yR yF yL yG yQ yp yv yk := by
        intro post J2 k
        unfold wY_search_12
        rw [ch_40t, k0]
        exact ⟨in0, br_f nle ⟨_, by have := b2 post J2 (wY_search_12 post J2 (nI c) (nI r) (m + 1)) k; rw [ch_cd0] at this; exact this⟩⟩
      have ext : ∀ h'' a'' b'' e, h ≤ h'' → a'' ≤ n → b'' ≤ n → e ≤ n → (h + 1 ≤ h'' → ¬ ch_P5 yR aS aA aB yL yG n lg c r h'' a'' b'' e) → ¬ ch_P5 yR aS aA aB yL yG n lg c r h'' a'' b'' e := by
        intro h'' a'' b'' e h1 ha hb he h2
        rcases Nat.lt_or_ge h h'' with y | y
        · exact h2 y
        · rw [show h'' = h by omega]; exact b1 a'' b'' e (by omega) ha hb he
      rcases ih (h + 1) yp1 yv1 yk1 (by omega) with ⟨h', a', b', d', yp', yv', yk', g1, g2, g7, g8, g9, g3, g4, g5, g6⟩ | ⟨yp', yv', yk', g1, g2⟩
      · exact Or.inl ⟨h', a', b', d', yp', yv', yk', by omega, g2, g7, g8, g9, g3, fun h'' a'' b'' e h1 h2 h5 h6 h4 => ext h'' a'' b'' e h1 h2 h5 h6 (fun h3 => g4 h'' a'' b'' e h3 h2 h5 h6 h4), g5, fun post J2 hp => st post J2 (g6 post J2 hp)⟩
      · exact Or.inr ⟨yp', yv', yk', fun h'' a'' b'' e h1 h2 h4 h5 h6 => ext h'' a'' b'' e h1 h4 h5 h6 (fun h3 => g1 h'' a'' b'' e h3 h2 h4 h5 h6), fun post J2 hp => st post J2 (g2 post J2 hp)⟩
theorem cy_r_lp (C : ch_YC yR yF aS aA aB n nc) (hl : lg ≤ 48) :
    ∀ m r yp yv yk, r + m = nc →
    (∃ (r' h' a' b' d' : Nat) (yp' yv' yk' : Nat → Int32), r ≤ r' ∧ r' < nc ∧ h' < ch_nh (ch_bl yR r') ∧ a' ≤ n ∧ b' ≤ n ∧ d' ≤ n ∧ ch_P5 yR aS aA aB yL yG n lg c r' h' a' b' d' ∧ (∀ r'' h'' a'' b'' e, r ≤ r'' → h'' < ch_nh (ch_bl yR r'') → a'' ≤ n → b'' ≤ n → e ≤ n → ch_lx r'' h'' a'' b'' e r' h' a' b' d' → ¬ ch_P5 yR aS aA aB yL yG n lg c r'' h'' a'' b'' e) ∧ ch_Rs yR aS aA aB yp' yv' r' a' b' d' ∧
      ∀ (post : Int32 → SY → Prop), post (nI r') (ysl, yll, nI nc, yop, ytl, nI n, nI lg, yag, yR, yF, yL, yG, yQ, yp', yv', yk') → wY_search_2 post (nI c) (m + 1) (nI r) ysl yll (nI nc) yop ytl (nI n) (nI lg) yag yR yF yL yG yQ yp yv yk) ∨
    (∃ (yp' yv' yk' : Nat → Int32), (∀ r'' h'' a'' b'' e, r ≤ r'' → r'' < nc → h'' < ch_nh (ch_bl yR r'') → a'' ≤ n → b'' ≤ n → e ≤ n → ¬ ch_P5 yR aS aA aB yL yG n lg c r'' h'' a'' b'' e) ∧
      ∀ (post : Int32 → SY → Prop), post (-1) (ysl, yll, nI nc, yop, ytl, nI n, nI lg, yag, yR, yF, yL, yG, yQ, yp', yv', yk') → wY_search_2 post (nI c) (m + 1) (nI r) ysl yll (nI nc) yop ytl (nI n) (nI lg) yag yR yF yL yG yQ yp yv yk) := by
  have nc6 := C.2.1
  intro m
  induction m with
  | zero =>
    intro r yp yv yk hd
    refine Or.inr ⟨yp, yv, yk, fun r'' h'' a'' b'' e h1 h2 => by omega, fun post hJ => ?_⟩
    unfold wY_search_2
    exact br_t (nI_le (by omega) (by omega)) hJ
  | succ m ih =>
    intro r yp yv yk hd
    have nle : ¬ nI nc ≤ nI r := nI_ge (by omega) (by omega)
    rcases cy_h_lp (r := r) (c := c) C (by omega) hl (ch_nh (ch_bl yR r)) 0 yp yv yk (by omega) (ysl := ysl) (yll := yll) (yop := yop) (ytl := ytl) (yag := yag) (yR := yR) (yF := yF) (yL := yL) (yG := yG) (yQ := yQ) with ⟨h', a', b', d', yp', yv', yk', b1, b2, b7, b8, b9, b3, b4, b5, b6⟩ | ⟨yp1, yv1, yk1, b1, b2⟩
    · refine Or.inl ⟨r, h', a', b', d', yp', yv', yk', Nat.le_refl _, by omega, b2, b7, b8, b9, b3, fun r'' h'' a'' b'' e h1 h2 h4 h5 h6 h3 => ?_, b5, fun post hp => ?_⟩
      · unfold ch_lx at h3
        have : r'' = r := by omega
        subst this
        exact b4 h'' a'' b'' e (by omega) h4 h5 h6 (by omega)
      · unfold wY_search_2
        exact br_f nle ⟨_, b6 post (wY_search_2 post (nI c) (m + 1)) hp⟩
    · have st : ∀ (post : Int32 → SY → Prop), wY_search_2 post (nI c) (m + 1) (nI (r + 1)) ysl yll (nI nc) yop ytl (nI n) (nI lg) yag yR yF yL yG yQ yp1 yv1 yk1 → wY_search_2 post (nI c) (m + 1 + 1) (nI r) ysl yll (nI nc) yop ytl (nI n) (nI lg) yag yR yF yL yG yQ yp yv yk := by
        intro post k
        unfold wY_search_2
        exact br_f nle ⟨_, b2 post (wY_search_2 post (nI c) (m + 1)) k⟩
      have ext : ∀ r'' h'' a'' b'' e, r ≤ r'' → h'' < ch_nh (ch_bl yR r'') → a'' ≤ n → b'' ≤ n → e ≤ n → (r + 1 ≤ r'' → ¬ ch_P5 yR aS aA aB yL yG n lg c r'' h'' a'' b'' e) → ¬ ch_P5 yR aS aA aB yL yG n lg c r'' h'' a'' b'' e := by
        intro r'' h'' a'' b'' e h1 hh ha hb he h2
        rcases Nat.lt_or_ge r r'' with y | y
        · exact h2 y
        · have : r'' = r := by omega
          subst this
          exact b1 h'' a'' b'' e (by omega) hh ha hb he
      rcases ih (r + 1) yp1 yv1 yk1 (by omega) with ⟨r', h', a', b', d', yp', yv', yk', g1, g2, g10, g7, g8, g9, g3, g4, g5, g6⟩ | ⟨yp', yv', yk', g1, g2⟩
      · exact Or.inl ⟨r', h', a', b', d', yp', yv', yk', by omega, g2, g10, g7, g8, g9, g3, fun r'' h'' a'' b'' e h1 h2 h5 h6 h7 h4 => ext r'' h'' a'' b'' e h1 h2 h5 h6 h7 (fun h3 => g4 r'' h'' a'' b'' e h3 h2 h5 h6 h7 h4), g5, fun post hp => st post (g6 post hp)⟩
      · exact Or.inr ⟨yp', yv', yk', fun r'' h'' a'' b'' e h1 h2 h4 h5 h6 h7 => ext r'' h'' a'' b'' e h1 h4 h5 h6 h7 (fun h3 => g1 r'' h'' a'' b'' e h3 h2 h4 h5 h6 h7), fun post hp => st post (g2 post hp)⟩
/-- the reference's search: the first of all -/
theorem cy_search (C : ch_YC yR yF aS aA aB n nc) (hl : lg ≤ 48) :
    (∃ (r h a b d : Nat) (yp' yv' yk' : Nat → Int32), r < nc ∧ h < ch_nh (ch_bl yR r) ∧ a ≤ n ∧ b ≤ n ∧ d ≤ n ∧ ch_P5 yR aS aA aB yL yG n lg c r h a b d ∧ (∀ r' h' a' b' d', h' < ch_nh (ch_bl yR r') → a' ≤ n → b' ≤ n → d' ≤ n → ch_lx r' h' a' b' d' r h a b d → ¬ ch_P5 yR aS aA aB yL yG n lg c r' h' a' b' d') ∧ ch_Rs yR aS aA aB yp' yv' r a b d ∧
      ∀ (post : Int32 → SY → Prop), post (nI r) (ysl, yll, nI nc, yop, ytl, nI n, nI lg, yag, yR, yF, yL, yG, yQ, yp', yv', yk') → wpY_search post (ysl, yll, nI nc, yop, ytl, nI n, nI lg, yag, yR, yF, yL, yG, yQ, yp, yv, yk) (nI c)) ∨
    (∃ (yp' yv' yk' : Nat → Int32), (∀ r h a b d, r < nc → h < ch_nh (ch_bl yR r) → a ≤ n → b ≤ n → d ≤ n → ¬ ch_P5 yR aS aA aB yL yG n lg c r h a b d) ∧
      ∀ (post : Int32 → SY → Prop), post (-1) (ysl, yll, nI nc, yop, ytl, nI n, nI lg, yag, yR, yF, yL, yG, yQ, yp', yv', yk') → wpY_search post (ysl, yll, nI nc, yop, ytl, nI n, nI lg, yag, yR, yF, yL, yG, yQ, yp, yv, yk) (nI c)) := by
  rcases cy_r_lp (c := c) C hl nc 0 yp yv yk (by omega) (ysl := ysl) (yll := yll) (yop := yop) (ytl := ytl) (yag := yag) (yR := yR) (yF := yF) (yL := yL) (yG := yG) (yQ := yQ) with ⟨r', h', a', b', d', yp', yv', yk', g1, g2, g10, g7, g8, g9, g3, g4, g5, g6⟩ | ⟨yp', yv', yk', g1, g2⟩
  · refine Or.inl ⟨r', h', a', b', d', yp', yv', yk', g2, g10, g7, g8, g9, g3, fun r'' h'' a'' b'' e h2 h4 h5 h6 lx => g4 r'' h'' a'' b'' e (by omega) h2 h4 h5 h6 lx, g5, fun post hp => ?_⟩
    unfold wpY_search
    exact ⟨_, g6 post hp⟩
  · refine Or.inr ⟨yp', yv', yk', fun r'' h'' a'' b'' e h1 h2 h4 h5 h6 => g1 r'' h'' a'' b'' e (by omega) h1 h2 h4 h5 h6, fun post hp => ?_⟩
    unfold wpY_search
    exact ⟨_, g2 post hp⟩
end
end
section
def ch_ka (h c f : Nat) : Nat := if h = 0 then c + 1 else f
def ch_kb (h c f s : Nat) : Nat := if h = 0 then f else if h = 1 then c + 1 else s
def ch_kc (h c s : Nat) : Nat := if h = 2 then c + 1 else s
theorem ch_kcd {h : Nat} (hh : h < 3) (c f s : Nat) : ch_cd (ch_ka h c f) = ch_ix h (nI c) (ch_cd f) ∧ ch_cd (ch_kb h c f s) = ch_iy h (nI c) (ch_cd f) (ch_cd s) ∧ ch_cd (ch_kc h c s) = ch_iz h (nI c) (ch_cd s) := by
  rcases ch_fs hh with ⟨rfl, _, _⟩ | ⟨rfl, _, _⟩ | ⟨rfl, _, _⟩
  · exact ⟨ch_cdS c, rfl, rfl⟩
  · exact ⟨rfl, ch_cdS c, rfl⟩
  · exact ⟨rfl, rfl, ch_cdS c⟩
theorem ch_kle {h : Nat} (hh : h < 3) {c f s n : Nat} (hc : c < n) (hf : f ≤ c) (hs : s ≤ c) : ch_ka h c f ≤ n ∧ ch_kb h c f s ≤ n ∧ ch_kc h c s ≤ n := by
  rcases ch_fs hh with ⟨rfl, _, _⟩ | ⟨rfl, _, _⟩ | ⟨rfl, _, _⟩
  · exact ⟨hc, show f ≤ n by omega, show s ≤ n by omega⟩
  · exact ⟨show f ≤ n by omega, hc, show s ≤ n by omega⟩
  · exact ⟨show f ≤ n by omega, show s ≤ n by omega, hc⟩
theorem ch_lx_of {r h f s r2 h2 f2 s2 c : Nat} (hh : h < 3) (lt : r < r2 ∨ (r = r2 ∧ (h < h2 ∨ (h = h2 ∧ (f < f2 ∨ (f = f2 ∧ s < s2)))))) :
    ch_lx r h (ch_ka h c f) (ch_kb h c f s) (ch_kc h c s) r2 h2 (ch_ka h2 c f2) (ch_kb h2 c f2 s2) (ch_kc h2 c s2) := by
  rcases lt with lt | ⟨rfl, lt⟩
  · exact Or.inl lt
  · refine Or.inr ⟨rfl, ?_⟩
    rcases lt with lt | ⟨rfl, lt⟩
    · exact Or.inl lt
    · refine Or.inr ⟨rfl, ?_⟩
      rcases ch_fs hh with ⟨rfl, _, _⟩ | ⟨rfl, _, _⟩ | ⟨rfl, _, _⟩
      · show c + 1 < c + 1 ∨ (c + 1 = c + 1 ∧ (f < f2 ∨ (f = f2 ∧ s < s2)))
        omega
      · show f < f2 ∨ (f = f2 ∧ (c + 1 < c + 1 ∨ (c + 1 = c + 1 ∧ s < s2)))
        omega
      · show f < f2 ∨ (f = f2 ∧ (s < s2 ∨ (s = s2 ∧ c + 1 < c + 1)))
        omega
section
variable {R S A B L G gI gS gA gB Q : Nat → Int32} {n lg nc ag c : Nat}
/-- the top entry's id is the greatest that counts -/
theorem ch_top (TP : ch_TP R S A B L G gI n lg nc ag) (AG : ch_AG gI gS gA gB Q ag n) (hn : n < 2 ^ 30) (hc : c < n) (e : gI (ag - 1) = nI c) {r : Nat} {x y z : Int32} (hr : r < nc)
    (p : ch_Ap R S A B L G n lg r x y z) : ∀ i, i < n → ch_on x y z i → i ≤ c := by
  intro i hi oi
  obtain ⟨j, d, hj, hd, ej, on, mx⟩ := TP r x y z hr p
  have := mx i hi oi
  by_cases jt : j = ag - 1
  · have dc : d = c := (nI_eq (by omega) (by omega)).mp (by rw [← ej, jt]; exact e)
    omega
  · have := AG.2 j (ag - 1) d c (by omega) (by omega) hd hc ej e
    omega
theorem ch_PX_P5 {r h f s : Nat} (hh : h < 3) (p : ch_PX R S A B L G n lg c r h f s) : ch_P5 R S A B L G n lg c r h (ch_ka h c f) (ch_kb h c f s) (ch_kc h c s) := by
  obtain ⟨e1, e2, e3⟩ := ch_kcd hh c f s
  unfold ch_P5
  rw [e1, e2, e3]
  exact ⟨(ch_ti hh _ _ _).1, p⟩
theorem ch_P5_PX {r h a b d : Nat} (hn : n < 2 ^ 30) (hc : c < n) (h3 : ch_nh (ch_bl R r) ≤ 3) (hh : h < ch_nh (ch_bl R r)) (ha : a ≤ n) (hb : b ≤ n) (hd : d ≤ n) (p : ch_P5 R S A B L G n lg c r h a b d)
    (m : ∀ i, i < n → ch_on (ch_cd a) (ch_cd b) (ch_cd d) i → i ≤ c) : ∃ f s, f ≤ c ∧ s ≤ c ∧ ch_PX R S A B L G n lg c r h f s ∧ a = ch_ka h c f ∧ b = ch_kb h c f s ∧ d = ch_kc h c s := by
  obtain ⟨f, s, hf, hs, px, e1, e2, e3⟩ := ch_Ap_PX hn hc h3 p.2 hh p.1 m
  obtain ⟨k1, k2, k3⟩ := ch_kcd (h := h) (by omega) c f s
  obtain ⟨l1, l2, l3⟩ := ch_kle (h := h) (by omega) hc hf hs
  exact ⟨f, s, hf, hs, px, ch_cdI (by omega) (by omega) (e1.trans k1.symm), ch_cdI (by omega) (by omega) (e2.trans k2.symm), ch_cdI (by omega) (by omega) (e3.trans k3.symm)⟩
/-- both searches stop at the same choice -/
theorem ch_meet {r h f s r2 h2 a b d : Nat} (hn : n < 2 ^ 30) (hc : c < n) (h3 : ∀ r, r < nc → ch_nh (ch_bl R r) ≤ 3)
    (top : ∀ (r : Nat) (x y z : Int32), r < nc → ch_Ap R S A B L G n lg r x y z → ∀ i, i < n → ch_on x y z i → i ≤ c)
    (hr : r < nc) (hh : h < ch_nh (ch_bl R r)) (hf : f ≤ c) (hs : s ≤ c) (nb : ch_NB R S A B L G n lg nc c r h f s) (px : ch_PX R S A B L G n lg c r h f s)
    (hr2 : r2 < nc) (hh2 : h2 < ch_nh (ch_bl R r2)) (ha : a ≤ n) (hb : b ≤ n) (hd : d ≤ n) (p5 : ch_P5 R S A B L G n lg c r2 h2 a b d)
    (ls : ∀ r' h' a' b' d', h' < ch_nh (ch_bl R r') → a' ≤ n → b' ≤ n → d' ≤ n → ch_lx r' h' a' b' d' r2 h2 a b d → ¬ ch_P5 R S A B L G n lg c r' h' a' b' d') :
    r2 = r ∧ ch_cd a = ch_ix h (nI c) (ch_cd f) ∧ ch_cd b = ch_iy h (nI c) (ch_cd f) (ch_cd s) ∧ ch_cd d = ch_iz h (nI c) (ch_cd s) := by
  have t1 := h3 r hr
  have t2 := h3 r2 hr2
  obtain ⟨f2, s2, hf2, hs2, px2, rfl, rfl, rfl⟩ := ch_P5_PX hn hc t2 hh2 ha hb hd p5 (top r2 _ _ _ hr2 p5.2)
  have n1 : ¬ (r2 < r ∨ (r2 = r ∧ (h2 < h ∨ (h2 = h ∧ (f2 < f ∨ (f2 = f ∧ s2 < s)))))) := fun lt => nb r2 h2 f2 s2 hr2 hh2 hf2 hs2 lt px2
  obtain ⟨l1, l2, l3⟩ := ch_kle (h := h) (by omega) hc hf hs
  have n2 : ¬ (r < r2 ∨ (r = r2 ∧ (h < h2 ∨ (h = h2 ∧ (f < f2 ∨ (f = f2 ∧ s < s2)))))) := fun lt => ls r h _ _ _ hh l1 l2 l3 (ch_lx_of (by omega) lt) (ch_PX_P5 (by omega) px)
  have e : r2 = r ∧ h2 = h ∧ f2 = f ∧ s2 = s := by omega
  obtain ⟨rfl, rfl, rfl, rfl⟩ := e
  exact ⟨rfl, ch_kcd (by omega) c f2 s2⟩
/-- equal values for what a rule reads -/
theorem ch_ov_eq {K w w' : Nat → Int32} {x y z v : Int32} (W : ch_W K) (a : ch_Mt K S A B x y z w) (b : ch_Mt K S A B x y z w') (o : ch_Op K (ch_ns K) v) : ch_ov v (ch_Fn K w) = ch_ov v (ch_Fn K w') :=
  ch_ov_ag o (ch_sV_ag W (ch_Mt_ag W a b) (ch_ns K) (Nat.le_refl _))
end
end
section
def ch_li (kI iv : Nat → Int32) (lg : Nat) : Nat → (Nat → Int32)
  | 0 => kI
  | i + 1 => upd (ch_li kI iv lg i) (3 * lg + i) (iv i)
theorem ch_li_lt {kI iv : Nat → Int32} {lg j : Nat} (hj : j < 3 * lg) : ∀ i, ch_li kI iv lg i j = kI j
  | 0 => rfl
  | i + 1 => by
    show upd (ch_li kI iv lg i) (3 * lg + i) (iv i) j = kI j
    rw [ch_upd_n (by omega)]
    exact ch_li_lt hj i
theorem ch_li_at {kI iv : Nat → Int32} {lg : Nat} : ch_li kI iv lg 3 (3 * lg) = iv 0 ∧ ch_li kI iv lg 3 (3 * lg + 1) = iv 1 ∧ ch_li kI iv lg 3 (3 * lg + 2) = iv 2 := by
  refine ⟨?_, ?_, ?_⟩
  · show upd (upd (upd kI (3 * lg + 0) (iv 0)) (3 * lg + 1) (iv 1)) (3 * lg + 2) (iv 2) (3 * lg) = iv 0
    rw [ch_upd_n (by omega), ch_upd_n (by omega)]
    exact ch_upd_s
  · show upd (upd (upd kI (3 * lg + 0) (iv 0)) (3 * lg + 1) (iv 1)) (3 * lg + 2) (iv 2) (3 * lg + 1) = iv 1
    rw [ch_upd_n (by omega), ch_upd_s]
  · show upd (upd (upd kI (3 * lg + 0) (iv 0)) (3 * lg + 1) (iv 1)) (3 * lg + 2) (iv 2) (3 * lg + 2) = iv 2
    rw [ch_upd_s]
section
variable {xsl xll xnc xro xob xn xal xag xtl xlg xbm : Int32} {aR aP aS aA aB aL bf af fo lo cR cH cF cS gI gS gA gB kR kI hs iv vs : Nat → Int32}
variable {n lg ag : Nat}
theorem cx_kill {x s : Nat} (hx : x < 160) (s8 : s < 8) (es : aS x = nI s) (hb : bf x = -1 ∨ ∃ p, p < 160 ∧ bf x = nI p) (ha : af x = -1 ∨ ∃ p, p < 160 ∧ af x = nI p) (post : SX → Prop)
    (hp : post (xsl, xll, xnc, xro, xob, xn, xal - 1, xag, xtl, xlg, xbm, aR, aP, aS, aA, aB, upd aL x 0, ch_kbf bf (bf x) (af x), ch_kaf af (bf x) (af x), ch_kfo fo s (bf x) (af x), ch_klo lo s (bf x) (af x), cR, cH, cF, cS, gI, gS, gA, gB, kR, kI, hs, iv, vs)) : wpX_kill post (xsl, xll, xnc, xro, xob, xn, xal, xag, xtl, xlg, xbm, aR, aP, aS, aA, aB, aL, bf, af, fo, lo, cR, cH, cF, cS, gI, gS, gA, gB, kR, kI, hs, iv, vs) (nI x) := by
  have ex : (nI x).toNatClampNeg = x := nI_clamp (by omega)
  have xin : vp_in (nI x) 160 := vp_in_nI hx (by omega)
  have es2 : (nI s).toNatClampNeg = s := nI_clamp (by omega)
  have sin : vp_in (nI s) 8 := vp_in_nI s8 (by omega)
  unfold ch_kbf ch_kaf ch_kfo ch_klo at hp
  unfold wpX_kill
  dsimp only
  rw [ex]
  refine ⟨xin, nm_r es ⟨xin, nm_e ⟨xin, nm_e ?_⟩⟩⟩
  rw [es2]
  rcases hb with b1 | ⟨p, p1, b1⟩
  · rw [if_pos b1, if_pos b1] at hp
    refine br_t b1 ⟨sin, nm_e ?_⟩
    unfold wX_kill_46 wX_kill_70
    rw [ex, es2, ch_nar0]
    rcases ha with a1 | ⟨q, q1, a1⟩
    · rw [if_pos a1, if_pos a1] at hp
      exact br_t a1 ⟨sin, nm_e ⟨xin, nm_e (nm_e hp)⟩⟩
    · have nq : ¬ af x = -1 := by rw [a1]; exact ch_m1 (by omega)
      rw [if_neg nq, if_neg nq] at hp
      exact br_f nq ⟨by rw [a1]; exact vp_in_nI q1 (by omega), nm_e ⟨xin, nm_e (nm_e hp)⟩⟩
  · have np : ¬ bf x = -1 := by rw [b1]; exact ch_m1 (by omega)
    rw [if_neg np, if_neg np] at hp
    refine br_f np ⟨by rw [b1]; exact vp_in_nI p1 (by omega), nm_e ?_⟩
    unfold wX_kill_46 wX_kill_70
    rw [ex, es2, ch_nar0]
    rcases ha with a1 | ⟨q, q1, a1⟩
    · rw [if_pos a1, if_pos a1] at hp
      exact br_t a1 ⟨sin, nm_e ⟨xin, nm_e (nm_e hp)⟩⟩
    · have nq : ¬ af x = -1 := by rw [a1]; exact ch_m1 (by omega)
      rw [if_neg nq, if_neg nq] at hp
      exact br_f nq ⟨by rw [a1]; exact vp_in_nI q1 (by omega), nm_e ⟨xin, nm_e (nm_e hp)⟩⟩
theorem cx_link {x s : Nat} (hx : x < 160) (s8 : s < 8) (es : aS x = nI s) (hl : lo s = -1 ∨ ∃ p, p < 160 ∧ lo s = nI p) (post : SX → Prop)
    (hp : post (xsl, xll, xnc, xro, xob, xn, xal, xag, xtl, xlg, xbm, aR, aP, aS, aA, aB, aL, upd bf x (lo s), ch_eaf af x (lo s), ch_efo fo s x (lo s), upd lo s (nI x), cR, cH, cF, cS, gI, gS, gA, gB, kR, kI, hs, iv, vs)) : wpX_link post (xsl, xll, xnc, xro, xob, xn, xal, xag, xtl, xlg, xbm, aR, aP, aS, aA, aB, aL, bf, af, fo, lo, cR, cH, cF, cS, gI, gS, gA, gB, kR, kI, hs, iv, vs) (nI x) := by
  have ex : (nI x).toNatClampNeg = x := nI_clamp (by omega)
  have xin : vp_in (nI x) 160 := vp_in_nI hx (by omega)
  have es2 : (nI s).toNatClampNeg = s := nI_clamp (by omega)
  have sin : vp_in (nI s) 8 := vp_in_nI s8 (by omega)
  unfold ch_eaf ch_efo at hp
  unfold wpX_link
  dsimp only
  rw [ex]
  refine ⟨xin, nm_r es ?_⟩
  rw [es2]
  refine ⟨sin, nm_e ⟨xin, nm_e ⟨xin, nm_e ?_⟩⟩⟩
  rcases hl with l1 | ⟨p, p1, l1⟩
  · rw [if_pos l1, if_pos l1] at hp
    exact br_t l1 ⟨sin, nm_e ⟨sin, nm_e hp⟩⟩
  · have np : ¬ lo s = -1 := by rw [l1]; exact ch_m1 (by omega)
    rw [if_neg np, if_neg np] at hp
    exact br_f np ⟨by rw [l1]; exact vp_in_nI p1 (by omega), nm_e ⟨sin, nm_e hp⟩⟩
theorem cx_enter {s : Nat} (hn : n < 160) (a1 : 1 ≤ ag) (hag : ag ≤ 152) (s8 : s < 8) (es : gS (ag - 1) = nI s) (hl : lo s = -1 ∨ ∃ p, p < 160 ∧ lo s = nI p) (post : SX → Prop)
    (hp : post (xsl, xll, xnc, xro, xob, nI (n + 1), xal + 1, nI ag, xtl, xlg, xbm, aR, aP, upd aS n (nI s), upd aA n (gA (ag - 1)), upd aB n (gB (ag - 1)), upd aL n 1, upd bf n (lo s), ch_eaf af n (lo s), ch_efo fo s n (lo s), upd lo s (nI n), upd cR n 0, upd cH n 0, upd cF n (-1), upd cS n (-1), upd gI (ag - 1) (nI n), gS, gA, gB, kR, kI, hs, iv, vs)) :
    wpX_enterTop post (xsl, xll, xnc, xro, xob, nI n, xal, nI ag, xtl, xlg, xbm, aR, aP, aS, aA, aB, aL, bf, af, fo, lo, cR, cH, cF, cS, gI, gS, gA, gB, kR, kI, hs, iv, vs) := by
  have en : (nI n).toNatClampNeg = n := nI_clamp (by omega)
  have nin : vp_in (nI n) 160 := vp_in_nI hn (by omega)
  have et : (nI (ag - 1)).toNatClampNeg = ag - 1 := nI_clamp (by omega)
  have tin : vp_in (nI (ag - 1)) 152 := vp_in_nI (by omega) (by omega)
  have e1 : nI ag - 1 = nI (ag - 1) := pk_sub (b := 1) a1
  unfold wpX_enterTop
  refine nm_r e1 (nm_r (ch_a1 n) (nm_e ?_))
  dsimp only
  rw [en, et, ch_nar1]
  refine ⟨tin, nm_e ⟨tin, nin, nm_r (e' := upd aS n (nI s)) (by rw [es]) ⟨tin, nin, nm_e ⟨tin, nin, nm_e ⟨nin, nm_e ?_⟩⟩⟩⟩⟩
  exact cx_link hn s8 ch_upd_s hl _ (cx_moveCursor hn _ hp)
theorem cx_push {a b d : Int32} (hag : ag < 152) (post : SX → Prop) (hp : post (xsl, xll, xnc, xro, xob, xn, xal, nI (ag + 1), xtl, xlg, xbm, aR, aP, aS, aA, aB, aL, bf, af, fo, lo, cR, cH, cF, cS, upd gI ag (-2), upd gS ag a, upd gA ag b, upd gB ag d, kR, kI, hs, iv, vs)) : wpX_push post (xsl, xll, xnc, xro, xob, xn, xal, nI ag, xtl, xlg, xbm, aR, aP, aS, aA, aB, aL, bf, af, fo, lo, cR, cH, cF, cS, gI, gS, gA, gB, kR, kI, hs, iv, vs) a b d := by
  have ea : (nI ag).toNatClampNeg = ag := nI_clamp (by omega)
  have ain : vp_in (nI ag) 152 := vp_in_nI hag (by omega)
  unfold wpX_push
  dsimp only
  rw [ea]
  exact ⟨ain, nm_e ⟨ain, nm_e ⟨ain, nm_e ⟨ain, nm_e (nm_r (ch_a1 ag) hp)⟩⟩⟩⟩
theorem cx_app_lp {r : Nat} (hl : lg < 48) {post : SX → Prop} {m : Nat} (k : wX_appendToLog_12 post (nI r) xsl xll xnc xro xob xn xal xag xtl (nI lg) xbm (m + 1) (nI 3) aR aP aS aA aB aL bf af fo lo cR cH cF cS gI gS gA gB kR (ch_li kI iv lg 3) hs iv vs) :
    ∀ d i, i + d = 3 → wX_appendToLog_12 post (nI r) xsl xll xnc xro xob xn xal xag xtl (nI lg) xbm (m + 1 + d) (nI i) aR aP aS aA aB aL bf af fo lo cR cH cF cS gI gS gA gB kR (ch_li kI iv lg i) hs iv vs := by
  intro d
  induction d with
  | zero =>
    intro i hi
    rw [show i = 3 by omega]
    exact k
  | succ d ih =>
    intro i hi
    rw [show m + 1 + (d + 1) = (m + 1 + d) + 1 by omega]
    unfold wX_appendToLog_12
    rw [show (nI i).toNatClampNeg = i from nI_clamp (by omega), ch_3t, nI_add, show (nI (3 * lg + i)).toNatClampNeg = 3 * lg + i from nI_clamp (by omega)]
    exact br_f (nI_ge (b := 3) (by omega) (by omega)) ⟨vp_in_nI (by omega) (by omega), vp_in_nI (by omega) (by omega), nm_e (nm_r (ch_a1 i) (ih (i + 1) (by omega)))⟩
/-- a firing into the log, and into the history if its rule keeps all its heads -/
theorem cx_append {r a b d : Nat} {G : Nat → Int32} (hl : lg < 48) (h6 : r < 6) (pr : ¬ aP r = 0 ↔ ch_Pr (ch_bl aR r)) (H : ch_HI aR G hs lg) (ea : iv 0 = ch_cd a) (eb : iv 1 = ch_cd b) (ed : iv 2 = ch_cd d) :
    ∃ hs' : Nat → Int32, (∀ G' : Nat → Int32, (∀ i, i < 4 * lg → G' i = G i) → ch_kw G' lg r a b d → ch_HI aR G' hs' (lg + 1)) ∧
      ∀ post : SX → Prop, post (xsl, xll, xnc, xro, xob, xn, xal, xag, xtl, nI (lg + 1), xbm, aR, aP, aS, aA, aB, aL, bf, af, fo, lo, cR, cH, cF, cS, gI, gS, gA, gB, upd kR lg (nI r), ch_li kI iv lg 3, hs', iv, vs) → wpX_appendToLog post (xsl, xll, xnc, xro, xob, xn, xal, xag, xtl, nI lg, xbm, aR, aP, aS, aA, aB, aL, bf, af, fo, lo, cR, cH, cF, cS, gI, gS, gA, gB, kR, kI, hs, iv, vs) (nI r) := by
  have er : (nI r).toNatClampNeg = r := nI_clamp (by omega)
  have rin : vp_in (nI r) 6 := vp_in_nI h6 (by omega)
  have ent : ∀ post : SX → Prop, wX_appendToLog_12 post (nI r) xsl xll xnc xro xob xn xal xag xtl (nI lg) xbm (0 + 1) (nI 3) aR aP aS aA aB aL bf af fo lo cR cH cF cS gI gS gA gB (upd kR lg (nI r)) (ch_li kI iv lg 3) hs iv vs → wpX_appendToLog post (xsl, xll, xnc, xro, xob, xn, xal, xag, xtl, nI lg, xbm, aR, aP, aS, aA, aB, aL, bf, af, fo, lo, cR, cH, cF, cS, gI, gS, gA, gB, kR, kI, hs, iv, vs) (nI r) := by
    intro post k
    unfold wpX_appendToLog
    dsimp only
    rw [show (nI lg).toNatClampNeg = lg from nI_clamp (by omega)]
    exact ⟨vp_in_nI hl (by omega), nm_e ⟨0 + 1 + 3, cx_app_lp hl k 3 0 rfl⟩⟩
  rcases Classical.em (aP r = 0) with z | z
  · refine ⟨hs, fun G' e w => ch_HI_app H e w (fun p => pr.mpr p z), fun post hp => ent post ?_⟩
    unfold wX_appendToLog_12
    rw [er]
    exact br_t (by decide) (nm_r (ch_a1 lg) ⟨rin, br_t z hp⟩)
  · obtain ⟨m, hm, m1, m2⟩ := ch_probe hs (nI (ch_key r a b d)) (Nat.lt_of_le_of_lt H.2.2.2 (by omega))
    have t128 : (ch_st (nI (ch_key r a b d)) + m) % 128 < 128 := by omega
    refine ⟨upd hs ((ch_st (nI (ch_key r a b d)) + m) % 128) (nI (ch_key r a b d)), fun G' e w => ch_HI_ins H e w rfl hm rfl m1 m2, fun post hp => ent post ?_⟩
    unfold wX_appendToLog_12
    rw [er]
    refine br_t (by decide) (nm_r (ch_a1 lg) ⟨rin, br_f z (cx_keyOf ea eb ed _ (cx_slotOf hm m1 m2 _ ⟨vp_in_nI t128 (by omega), ?_⟩))⟩)
    rw [show (nI ((ch_st (nI (ch_key r a b d)) + m) % 128)).toNatClampNeg = (ch_st (nI (ch_key r a b d)) + m) % 128 from nI_clamp (by omega)]
    exact nm_e hp
end
end
section
def ch_pq (Q : Nat → Int32) (ag : Nat) (a b d : Int32) : Nat → Int32 := upd (upd (upd (upd Q (4 * ag) (-2)) (4 * ag + 1) a) (4 * ag + 2) b) (4 * ag + 3) d
theorem ch_pq_lt {Q : Nat → Int32} {ag i : Nat} {a b d : Int32} (h : i < 4 * ag) : ch_pq Q ag a b d i = Q i := by
  unfold ch_pq
  rw [ch_upd_n (by omega), ch_upd_n (by omega), ch_upd_n (by omega), ch_upd_n (by omega)]
theorem ch_pq_at {Q : Nat → Int32} {ag : Nat} {a b d : Int32} : ch_pq Q ag a b d (4 * ag) = -2 ∧ ch_pq Q ag a b d (4 * ag + 1) = a ∧ ch_pq Q ag a b d (4 * ag + 2) = b ∧ ch_pq Q ag a b d (4 * ag + 3) = d := by
  unfold ch_pq
  refine ⟨?_, ?_, ?_, ?_⟩
  · rw [ch_upd_n (by omega), ch_upd_n (by omega), ch_upd_n (by omega), ch_upd_s]
  · rw [ch_upd_n (by omega), ch_upd_n (by omega), ch_upd_s]
  · rw [ch_upd_n (by omega), ch_upd_s]
  · rw [ch_upd_s]
def ch_lw (G yp : Nat → Int32) (lg : Nat) (r : Int32) : Nat → (Nat → Int32)
  | 0 => upd G (4 * lg) r
  | i + 1 => upd (ch_lw G yp lg r i) (4 * lg + 1 + i) (yp i)
theorem ch_lw_lt {G yp : Nat → Int32} {lg j : Nat} {r : Int32} (hj : j < 4 * lg) : ∀ i, ch_lw G yp lg r i j = G j
  | 0 => ch_upd_n (by omega)
  | i + 1 => by
    show upd (ch_lw G yp lg r i) (4 * lg + 1 + i) (yp i) j = G j
    rw [ch_upd_n (by omega)]
    exact ch_lw_lt hj i
theorem ch_lw_at {G yp : Nat → Int32} {lg : Nat} {r : Int32} : ch_lw G yp lg r 3 (4 * lg) = r ∧ ch_lw G yp lg r 3 (4 * lg + 1) = yp 0 ∧ ch_lw G yp lg r 3 (4 * lg + 2) = yp 1 ∧ ch_lw G yp lg r 3 (4 * lg + 3) = yp 2 := by
  have e : ch_lw G yp lg r 3 = upd (upd (upd (upd G (4 * lg) r) (4 * lg + 1 + 0) (yp 0)) (4 * lg + 1 + 1) (yp 1)) (4 * lg + 1 + 2) (yp 2) := rfl
  rw [e]
  refine ⟨?_, ?_, ?_, ?_⟩
  · rw [ch_upd_n (by omega), ch_upd_n (by omega), ch_upd_n (by omega), ch_upd_s]
  · rw [ch_upd_n (by omega), ch_upd_n (by omega), ch_upd_s]
  · rw [ch_upd_n (by omega), ch_upd_s]
  · rw [ch_upd_s]
noncomputable def ch_wt (gI : Nat → Int32) (ag : Nat) : Nat := cn (fun j => gI j = -2) ag
theorem ch_wt_push (gI : Nat → Int32) (ag : Nat) : ch_wt (upd gI ag (-2)) (ag + 1) ≤ ch_wt gI ag + 1 := by
  unfold ch_wt
  show cn (fun j => upd gI ag (-2) j = -2) ag + b01 (upd gI ag (-2) ag = -2) ≤ cn (fun j => gI j = -2) ag + 1
  have e := cn_eq (P := fun j => upd gI ag (-2) j = -2) (Q := fun j => gI j = -2) (N := ag) (fun j hj => by rw [ch_upd_n (show j ≠ ag by omega)])
  have b := b01_le (upd gI ag (-2) ag = -2)
  omega
section
variable {ysl yll ync yop ytl yn ylg yag : Int32} {yR yF yL yG yQ yp yv yk : Nat → Int32}
variable {ag lg : Nat}
theorem cy_push {a b d : Int32} (hag : ag < 152) (post : SY → Prop) (hp : post (ysl, yll, ync, yop, ytl, yn, ylg, nI (ag + 1), yR, yF, yL, yG, ch_pq yQ ag a b d, yp, yv, yk)) : wpY_push post (ysl, yll, ync, yop, ytl, yn, ylg, nI ag, yR, yF, yL, yG, yQ, yp, yv, yk) a b d := by
  unfold wpY_push
  dsimp only
  rw [ch_4t, ch_a1, ch_a2, ch_a3, show (nI (4 * ag)).toNatClampNeg = 4 * ag from nI_clamp (by omega), show (nI (4 * ag + 1)).toNatClampNeg = 4 * ag + 1 from nI_clamp (by omega), show (nI (4 * ag + 2)).toNatClampNeg = 4 * ag + 2 from nI_clamp (by omega), show (nI (4 * ag + 3)).toNatClampNeg = 4 * ag + 3 from nI_clamp (by omega)]
  exact ⟨vp_in_nI (by omega) (by omega), nm_e ⟨vp_in_nI (by omega) (by omega), nm_e ⟨vp_in_nI (by omega) (by omega), nm_e ⟨vp_in_nI (by omega) (by omega), nm_e (nm_r (ch_a1 ag) hp)⟩⟩⟩⟩
theorem cy_log_lp {post : SY → Prop} {x2 : Int32} {r : Int32} (hl : lg < 48) {m : Nat} (k : wY_fire_19 post x2 ysl yll ync yop ytl yn (nI lg) yag (m + 1) (nI 3) yR yF yL (ch_lw yG yp lg r 3) yQ yp yv yk) :
    ∀ d i, i + d = 3 → wY_fire_19 post x2 ysl yll ync yop ytl yn (nI lg) yag (m + 1 + d) (nI i) yR yF yL (ch_lw yG yp lg r i) yQ yp yv yk := by
  intro d
  induction d with
  | zero =>
    intro i hi
    rw [show i = 3 by omega]
    exact k
  | succ d ih =>
    intro i hi
    rw [show m + 1 + (d + 1) = (m + 1 + d) + 1 by omega]
    unfold wY_fire_19
    rw [show (nI i).toNatClampNeg = i from nI_clamp (by omega), ch_4t, ch_a1 (4 * lg), nI_add, show (nI (4 * lg + 1 + i)).toNatClampNeg = 4 * lg + 1 + i from nI_clamp (by omega)]
    exact br_f (nI_ge (b := 3) (by omega) (by omega)) ⟨vp_in_nI (by omega) (by omega), vp_in_nI (by omega) (by omega), nm_e (nm_r (ch_a1 i) (ih (i + 1) (by omega)))⟩
end
section
variable {k sl ll nc o t n ag lg da db : Nat} {ob : Int32} {aR aP aS aA aB aL bf af fo lo cR cH cF cS gI gS gA gB kR kI hs yF yG yQ : Nat → Int32}
variable {xbm : Int32} {iv vs yp yv yk : Nat → Int32} {r : Nat}
theorem ch_In_w {da' db' : Nat} (ha : da' ≤ da) (hb : db' ≤ db) (I : ch_In k sl ll nc o t n ag lg da db ob aR aP aS aA aB aL bf af fo lo cR cH cF cS gI gS gA gB kR kI hs yF yG yQ) : ch_In k sl ll nc o t n ag lg da' db' ob aR aP aS aA aB aL bf af fo lo cR cH cF cS gI gS gA gB kR kI hs yF yG yQ := by
  obtain ⟨⟨nu, n1, n2⟩, r⟩ := I
  exact ⟨⟨by omega, n1, n2⟩, r⟩
theorem ch_In_n (I : ch_In k sl ll nc o t n ag lg da db ob aR aP aS aA aB aL bf af fo lo cR cH cF cS gI gS gA gB kR kI hs yF yG yQ) : n ≤ 160 ∧ ag ≤ 152 ∧ lg ≤ 48 ∧ nc ≤ 6 := by
  obtain ⟨⟨nu, n1, n2⟩, _⟩ := I
  omega
theorem ch_In_x {x : Nat} (I : ch_In k sl ll nc o t n ag lg da db ob aR aP aS aA aB aL bf af fo lo cR cH cF cS gI gS gA gB kR kI hs yF yG yQ) (hx : x < n) (ax : ¬ aL x = 0) : (bf x = -1 ∨ ∃ p, p < 160 ∧ bf x = nI p) ∧ (af x = -1 ∨ ∃ p, p < 160 ∧ af x = nI p) ∧ ∃ s, s < 8 ∧ aS x = nI s := by
  obtain ⟨n160, _, _⟩ := ch_In_n I
  obtain ⟨NU, RU, FA, AG, LG, HI, ⟨T, LK, CU⟩, TP⟩ := I
  refine ⟨?_, ?_, (FA x hx).2.2.2⟩
  · rcases LK.2.2.2.1 x hx ax with ⟨e, _⟩ | ⟨p, e, p1, _⟩
    · exact Or.inl e
    · exact Or.inr ⟨p, by omega, e⟩
  · rcases LK.2.2.1 x hx ax with ⟨e, _⟩ | ⟨p, e, p0, p1, _⟩
    · exact Or.inl e
    · exact Or.inr ⟨p, by omega, e⟩
/-- the bodies' new entries, on both sides -/
theorem cl_push_lp (W : ch_W (ch_bl aR r)) (hr : r < 6) (t1 : t ≠ 0) (ve : ∀ v, ch_Op (ch_bl aR r) (ch_ns (ch_bl aR r)) v → ch_ov v vs = ch_ov v yv) :
    ∀ g ag gI gS gA gB yQ, g ≤ ch_nb (ch_bl aR r) → ch_In k sl ll nc o t n ag lg 0 g ob aR aP aS aA aB aL bf af fo lo cR cH cF cS gI gS gA gB kR kI hs yF yG yQ →
    ∃ ag' gI' gS' gA' gB' yQ', ch_In k sl ll nc o t n ag' lg 0 0 ob aR aP aS aA aB aL bf af fo lo cR cH cF cS gI' gS' gA' gB' kR kI hs yF yG yQ' ∧ ag' = ag + g ∧ ch_wt gI' ag' ≤ ch_wt gI ag + g ∧
      (∀ post : SX → Prop, post (nI sl, nI ll, nI nc, nI o, ob, nI n, nI (ch_ca aL n), nI ag', nI t, nI lg, xbm, aR, aP, aS, aA, aB, aL, bf, af, fo, lo, cR, cH, cF, cS, gI', gS', gA', gB', kR, kI, hs, iv, vs) → wX_fire_72 post (nI (40 * r)) (g + 1) (ch_cd g) (nI sl) (nI ll) (nI nc) (nI o) ob (nI n) (nI (ch_ca aL n)) (nI ag) (nI t) (nI lg) xbm aR aP aS aA aB aL bf af fo lo cR cH cF cS gI gS gA gB kR kI hs iv vs) ∧
      (∀ post : SY → Prop, post (nI sl, nI ll, nI nc, nI o, nI t, nI n, nI lg, nI ag', aR, yF, aL, yG, yQ', yp, yv, yk) → wY_fire_118 post (nI (40 * r)) (g + 1) (ch_cd g) (nI sl) (nI ll) (nI nc) (nI o) (nI t) (nI n) (nI lg) (nI ag) aR yF aL yG yQ yp yv yk) := by
  have nb3 := W.1.2.2.2.2.2
  intro g
  induction g with
  | zero =>
    intro ag gI gS gA gB yQ hg I
    refine ⟨ag, gI, gS, gA, gB, yQ, I, rfl, Nat.le_refl _, fun post hp => ?_, fun post hp => ?_⟩
    · unfold wX_fire_72
      exact br_t (by rw [ch_cd0]; decide) hp
    · unfold wY_fire_118
      exact br_t (by rw [ch_cd0]; decide) hp
  | succ g ih =>
    intro ag gI gS gA gB yQ hg I
    have ib : ag + (g + 1) ≤ 8 + 3 * lg ∧ lg ≤ 48 := by
      obtain ⟨⟨nu, _, _⟩, _⟩ := I
      omega
    obtain ⟨⟨s, s8, e0⟩, o1, o2⟩ := W.2.2.2 g (by omega)
    have I2 := ch_In_push (db' := g) (s := s) (a := ch_ov (ch_bl aR r (32 + 3 * g)) vs) (b := ch_ov (ch_bl aR r (33 + 3 * g)) vs) I (by omega) t1 s8
      (Q' := ch_pq yQ ag (nI s) (ch_ov (ch_bl aR r (32 + 3 * g)) vs) (ch_ov (ch_bl aR r (33 + 3 * g)) vs)) (fun i hi => ch_pq_lt hi) ch_pq_at.1 ch_pq_at.2.1 ch_pq_at.2.2.1 ch_pq_at.2.2.2
    obtain ⟨ag', gI', gS', gA', gB', yQ', J, a1, a2, a3, a4⟩ := ih (ag + 1) _ _ _ _ _ (by omega) I2
    have e5 : nI (40 * r) + 31 + 3 * nI g = nI (40 * r + (31 + 3 * g)) := by rw [ch_a31, ch_3t, nI_add, Nat.add_assoc]
    have e6 : nI (40 * r) + 32 + 3 * nI g = nI (40 * r + (32 + 3 * g)) := by rw [ch_a32, ch_3t, nI_add, Nat.add_assoc]
    have e7 : nI (40 * r) + 33 + 3 * nI g = nI (40 * r + (33 + 3 * g)) := by rw [ch_a33, ch_3t, nI_add, Nat.add_assoc]
    have f1 : nI (40 * r + (31 + 3 * g)) + 1 = nI (40 * r + (32 + 3 * g)) := by rw [ch_a1]; exact congrArg nI (by omega)
    have f2 : nI (40 * r + (31 + 3 * g)) + 2 = nI (40 * r + (33 + 3 * g)) := by rw [ch_a2]; exact congrArg nI (by omega)
    have k0 : aR (nI (40 * r + (31 + 3 * g))).toNatClampNeg = nI s := by rw [nI_clamp (by omega), ← e0]; exact ch_blE (by omega)
    have k1 : aR (nI (40 * r + (32 + 3 * g))).toNatClampNeg = ch_bl aR r (32 + 3 * g) := by rw [nI_clamp (by omega)]; exact ch_blE (by omega)
    have k2 : aR (nI (40 * r + (33 + 3 * g))).toNatClampNeg = ch_bl aR r (33 + 3 * g) := by rw [nI_clamp (by omega)]; exact ch_blE (by omega)
    have i0 : vp_in (nI (40 * r + (31 + 3 * g))) 240 := vp_in_nI (by omega) (by omega)
    have i1 : vp_in (nI (40 * r + (32 + 3 * g))) 240 := vp_in_nI (by omega) (by omega)
    have i2 : vp_in (nI (40 * r + (33 + 3 * g))) 240 := vp_in_nI (by omega) (by omega)
    have dn : nI g + (-1) = ch_cd g := by
      unfold ch_cd
      exact (Int32.sub_eq_add_neg _ _).symm
    have wp := ch_wt_push gI ag
    refine ⟨ag', gI', gS', gA', gB', yQ', J, by omega, by omega, fun post hp => ?_, fun post hp => ?_⟩
    · unfold wX_fire_72
      rw [ch_cdS]
      refine br_f (nI_pos (by omega)) (nm_r e5 ?_)
      rw [f1, f2, k0, k1, k2]
      refine ⟨i1, cx_operand (ch_Op_Pa o1) _ ⟨i2, cx_operand (ch_Op_Pa o2) _ ⟨i0, cx_push (by omega) _ (nm_r dn ?_)⟩⟩⟩
      exact a3 post hp
    · unfold wY_fire_118
      rw [ch_cdS, e5, e6, e7, k0, k1, k2]
      refine br_f (nI_pos (by omega)) ⟨i1, cy_valueOf (ch_Op_Pa o1) _ ⟨i2, cy_valueOf (ch_Op_Pa o2) _ ⟨i0, cy_push (by omega) _ (nm_r dn ?_)⟩⟩⟩
      rw [← ve _ o1, ← ve _ o2]
      exact a4 post hp
/-- the removed heads, on both sides -/
theorem cl_kill_lp (W : ch_W (ch_bl aR r)) (hr : r < 6) (py : ∀ h, h < 3 → yp h = iv h) (dst : ∀ h h', h < h' → h' < ch_nh (ch_bl aR r) → ¬ iv h = iv h') :
    ∀ m i aL bf af fo lo, i + m = ch_nh (ch_bl aR r) → ch_In k sl ll nc o t n ag lg (3 - i) 3 ob aR aP aS aA aB aL bf af fo lo cR cH cF cS gI gS gA gB kR kI hs yF yG yQ → (∀ h, i ≤ h → h < ch_nh (ch_bl aR r) → ∃ d, d < n ∧ iv h = nI d ∧ ¬ aL d = 0) →
    ∃ aL' bf' af' fo' lo', ch_In k sl ll nc o t n ag lg 0 3 ob aR aP aS aA aB aL' bf' af' fo' lo' cR cH cF cS gI gS gA gB kR kI hs yF yG yQ ∧
      (∀ post : SX → Prop, wX_fire_72 post (nI (40 * r)) (ch_nb (ch_bl aR r) + 1) (ch_cd (ch_nb (ch_bl aR r))) (nI sl) (nI ll) (nI nc) (nI o) ob (nI n) (nI (ch_ca aL' n)) (nI ag) (nI t) (nI lg) xbm aR aP aS aA aB aL' bf' af' fo' lo' cR cH cF cS gI gS gA gB kR kI hs iv vs → wX_fire_20 post (nI (40 * r)) (nI (ch_nh (ch_bl aR r))) (m + 1) (nI i) (nI sl) (nI ll) (nI nc) (nI o) ob (nI n) (nI (ch_ca aL n)) (nI ag) (nI t) (nI lg) xbm aR aP aS aA aB aL bf af fo lo cR cH cF cS gI gS gA gB kR kI hs iv vs) ∧
      (∀ post : SY → Prop, wY_fire_118 post (nI (40 * r)) (ch_nb (ch_bl aR r) + 1) (ch_cd (ch_nb (ch_bl aR r))) (nI sl) (nI ll) (nI nc) (nI o) (nI t) (nI n) (nI lg) (nI ag) aR yF aL' yG yQ yp yv yk → wY_fire_63 post (nI (40 * r)) (nI sl) (nI ll) (nI nc) (nI o) (nI t) (nI n) (nI lg) (nI ag) (m + 1) (nI i) aR yF aL yG yQ yp yv yk) := by
  have nh3 := W.1.2.1
  have nb3 := W.1.2.2.2.2.2
  have k0 : aR (nI (40 * r)).toNatClampNeg = nI (ch_nh (ch_bl aR r)) := by rw [nI_clamp (by omega), ← W.1.1]; exact ch_blE (j := 0) (by omega)
  have in0 : vp_in (nI (40 * r)) 240 := vp_in_nI (by omega) (by omega)
  have e2 : nI (40 * r) + 2 = nI (40 * r + 2) := ch_a2 _
  have k2 : aR (nI (40 * r + 2)).toNatClampNeg = nI (ch_nb (ch_bl aR r)) := by rw [nI_clamp (by omega), ← W.1.2.2.2.2.1]; exact ch_blE (by omega)
  have in2 : vp_in (nI (40 * r + 2)) 240 := vp_in_nI (by omega) (by omega)
  intro m
  induction m with
  | zero =>
    intro i aL bf af fo lo hi I al
    refine ⟨aL, bf, af, fo, lo, ch_In_w (by omega) (Nat.le_refl _) I, fun post hp => ?_, fun post hp => ?_⟩
    · unfold wX_fire_20
      rw [e2, k2]
      exact br_t (nI_le (by omega) (by omega)) ⟨in2, nm_e ⟨_, hp⟩⟩
    · unfold wY_fire_63
      rw [e2, k0, k2]
      exact ⟨in0, br_t (nI_le (by omega) (by omega)) ⟨in2, nm_e ⟨_, hp⟩⟩⟩
  | succ m ih =>
    intro i aL bf af fo lo hi I al
    have e3 : nI (40 * r) + 3 + 4 * nI i = nI (40 * r + (3 + 4 * i)) := by rw [ch_a3, ch_4t, nI_add, Nat.add_assoc]
    have k3 : aR (nI (40 * r + (3 + 4 * i))).toNatClampNeg = ch_bl aR r (3 + 4 * i) := by rw [nI_clamp (by omega)]; exact ch_blE (by omega)
    have in3 : vp_in (nI (40 * r + (3 + 4 * i))) 240 := vp_in_nI (by omega) (by omega)
    have ei : (nI i).toNatClampNeg = i := nI_clamp (by omega)
    have iin : vp_in (nI i) 3 := vp_in_nI (by omega) (by omega)
    have nle : ¬ nI (ch_nh (ch_bl aR r)) ≤ nI i := nI_ge (by omega) (by omega)
    obtain ⟨n160, _, _⟩ := ch_In_n I
    rcases Classical.em (ch_bl aR r (3 + 4 * i) = 1) with c | c
    · obtain ⟨x, hx, ex, ax⟩ := al i (Nat.le_refl _) (by omega)
      obtain ⟨xb, xa, s, s8, es⟩ := ch_In_x I hx ax
      have exx : (nI x).toNatClampNeg = x := nI_clamp (by omega)
      have I2 := ch_In_kill (da := 3 - (i + 1)) (x := x) (s := s) (by rw [show 3 - (i + 1) + 1 = 3 - i by omega]; exact I) hx ax s8 es
      obtain ⟨aL', bf', af', fo', lo', J, a1, a2⟩ := ih (i + 1) _ _ _ _ _ (by omega) I2 (fun h h1 h2 => by
        obtain ⟨d, hd, ed, ad⟩ := al h (by omega) h2
        refine ⟨d, hd, ed, ch_d_iff.mpr ⟨ad, fun z => ?_⟩⟩
        exact dst i h (by omega) h2 (by rw [ex, ed, z]))
      have cae : nI (ch_ca aL n) - 1 = nI (ch_ca (upd aL x 0) n) := by
        rw [← ch_ca_kill hx ax]
        exact nI_pred _
      refine ⟨aL', bf', af', fo', lo', J, fun post hp => ?_, fun post hp => ?_⟩
      · unfold wX_fire_20
        rw [e3, k3, ei, ex]
        refine br_f nle ⟨in3, br_t c ⟨iin, cx_kill (by omega) s8 es xb xa _ (nm_r (ch_a1 i) ?_)⟩⟩
        rw [cae]
        exact a1 post hp
      · unfold wY_fire_63
        rw [e3, k0, k3, ei, py i (by omega), ex, exx, ch_nar0]
        exact ⟨in0, br_f nle ⟨in3, br_t c ⟨iin, vp_in_nI (by omega) (by omega), nm_e (nm_r (ch_a1 i) (a2 post hp))⟩⟩⟩
    · obtain ⟨aL', bf', af', fo', lo', J, a1, a2⟩ := ih (i + 1) aL bf af fo lo (by omega) (ch_In_w (by omega) (Nat.le_refl _) I) (fun h h1 h2 => al h (by omega) h2)
      refine ⟨aL', bf', af', fo', lo', J, fun post hp => ?_, fun post hp => ?_⟩
      · unfold wX_fire_20
        rw [e3, k3]
        exact br_f nle ⟨in3, br_f c (nm_r (ch_a1 i) (a1 post hp))⟩
      · unfold wY_fire_63
        rw [e3, k0, k3]
        exact ⟨in0, br_f nle ⟨in3, br_f c (nm_r (ch_a1 i) (a2 post hp))⟩⟩
end
end
section
def i_Rel (k : Nat) (u : SX) (v : SY) : Prop := ∃ (sl ll nc o t n ag lg : Nat) (ob xbm : Int32) (aR aP aS aA aB aL bf af fo lo cR cH cF cS gI gS gA gB kR kI hs iv vs yF yG yQ yp yv yk : Nat → Int32),
  u = (nI sl, nI ll, nI nc, nI o, ob, nI n, nI (ch_ca aL n), nI ag, nI t, nI lg, xbm, aR, aP, aS, aA, aB, aL, bf, af, fo, lo, cR, cH, cF, cS, gI, gS, gA, gB, kR, kI, hs, iv, vs) ∧ v = (nI sl, nI ll, nI nc, nI o, nI t, nI n, nI lg, nI ag, aR, yF, aL, yG, yQ, yp, yv, yk) ∧ ch_In k sl ll nc o t n ag lg 0 0 ob aR aP aS aA aB aL bf af fo lo cR cH cF cS gI gS gA gB kR kI hs yF yG yQ
theorem ch_rel {k sl ll nc o t n ag lg : Nat} {ob xbm : Int32} {aR aP aS aA aB aL bf af fo lo cR cH cF cS gI gS gA gB kR kI hs iv vs yF yG yQ yp yv yk : Nat → Int32} (I : ch_In k sl ll nc o t n ag lg 0 0 ob aR aP aS aA aB aL bf af fo lo cR cH cF cS gI gS gA gB kR kI hs yF yG yQ) : i_Rel k (nI sl, nI ll, nI nc, nI o, ob, nI n, nI (ch_ca aL n), nI ag, nI t, nI lg, xbm, aR, aP, aS, aA, aB, aL, bf, af, fo, lo, cR, cH, cF, cS, gI, gS, gA, gB, kR, kI, hs, iv, vs) (nI sl, nI ll, nI nc, nI o, nI t, nI n, nI lg, nI ag, aR, yF, aL, yG, yQ, yp, yv, yk) :=
  ⟨sl, ll, nc, o, t, n, ag, lg, ob, xbm, aR, aP, aS, aA, aB, aL, bf, af, fo, lo, cR, cH, cF, cS, gI, gS, gA, gB, kR, kI, hs, iv, vs, yF, yG, yQ, yp, yv, yk, rfl, rfl, I⟩
theorem ch_el {k : Nat} {P : SX → SY → Prop} (h : ∀ (sl ll nc o t n ag lg : Nat) (ob xbm : Int32) (aR aP aS aA aB aL bf af fo lo cR cH cF cS gI gS gA gB kR kI hs iv vs yF yG yQ yp yv yk : Nat → Int32), ch_In k sl ll nc o t n ag lg 0 0 ob aR aP aS aA aB aL bf af fo lo cR cH cF cS gI gS gA gB kR kI hs yF yG yQ → P (nI sl, nI ll, nI nc, nI o, ob, nI n, nI (ch_ca aL n), nI ag, nI t, nI lg, xbm, aR, aP, aS, aA, aB, aL, bf, af, fo, lo, cR, cH, cF, cS, gI, gS, gA, gB, kR, kI, hs, iv, vs) (nI sl, nI ll, nI nc, nI o, nI t, nI n, nI lg, nI ag, aR, yF, aL, yG, yQ, yp, yv, yk))
    {u : SX} {v : SY} (I : i_Rel k u v) : P u v := by
  unfold i_Rel at I
  exact I.elim (fun sl e0 => e0.elim (fun ll e1 => e1.elim (fun nc e2 => e2.elim (fun o e3 => e3.elim (fun t e4 => e4.elim (fun n e5 => e5.elim (fun ag e6 => e6.elim (fun lg e7 => e7.elim (fun ob e8 => e8.elim (fun xbm e9 => e9.elim (fun aR e10 => e10.elim (fun aP e11 => e11.elim (fun aS e12 => e12.elim (fun aA e13 => e13.elim (fun aB e14 => e14.elim (fun aL e15 => e15.elim (fun bf e16 => e16.elim (fun af e17 => e17.elim (fun fo e18 => e18.elim (fun lo e19 => e19.elim (fun cR e20 => e20.elim (fun cH e21 => e21.elim (fun cF e22 => e22.elim (fun cS e23 => e23.elim (fun gI e24 => e24.elim (fun gS e25 => e25.elim (fun gA e26 => e26.elim (fun gB e27 => e27.elim (fun kR e28 => e28.elim (fun kI e29 => e29.elim (fun hs e30 => e30.elim (fun iv e31 => e31.elim (fun vs e32 => e32.elim (fun yF e33 => e33.elim (fun yG e34 => e34.elim (fun yQ e35 => e35.elim (fun yp e36 => e36.elim (fun yv e37 => e37.elim (fun yk hI => by obtain ⟨e1, e2, I⟩ := hI; rw [e1, e2]; exact h sl ll nc o t n ag lg ob xbm aR aP aS aA aB aL bf af fo lo cR cH cF cS gI gS gA gB kR kI hs iv vs yF yG yQ yp yv yk I)))))))))))))))))))))))))))))))))))))))
theorem i_up {k : Nat} {u : SX} {v : SY} (h : i_Rel k u v) : i_Rel (k + 5) u v := by
  refine ch_el (P := fun u v => i_Rel (k + 5) u v) ?_ h
  intro sl ll nc o t n ag lg ob xbm aR aP aS aA aB aL bf af fo lo cR cH cF cS gI gS gA gB kR kI hs iv vs yF yG yQ yp yv yk I
  exact ch_rel (ch_In_k (by omega) I)
end
section
section
variable {k sl ll nc o t n ag lg da db : Nat} {ob : Int32} {aR aP aS aA aB aL bf af fo lo cR cH cF cS gI gS gA gB kR kI hs yF yG yQ : Nat → Int32}
variable {xbm : Int32} {iv vs yp yv yk : Nat → Int32} {r : Nat}
theorem ch_t3v {iv : Nat → Int32} {h : Nat} (hh : h < 3) : ch_t3 (iv 0) (iv 1) (iv 2) h = iv h := by
  have : h = 0 ∨ h = 1 ∨ h = 2 := by omega
  rcases this with rfl | rfl | rfl <;> rfl
theorem cl_fire (I : ch_In k sl ll nc o t n ag lg 0 0 ob aR aP aS aA aB aL bf af fo lo cR cH cF cS gI gS gA gB kR kI hs yF yG yQ) (hl : lg < ll) (t1 : t ≠ 0) (hr : r < nc) (p : ch_Ap aR aS aA aB aL yG n lg r (iv 0) (iv 1) (iv 2)) (py : ∀ h, h < 3 → yp h = iv h)
    (ve : ∀ v, ch_Op (ch_bl aR r) (ch_ns (ch_bl aR r)) v → ch_ov v vs = ch_ov v yv) :
    ∃ ag' gI' gS' gA' gB' yQ' aL' bf' af' fo' lo' hs',
      ch_In k sl ll nc o t n ag' (lg + 1) 0 0 ob aR aP aS aA aB aL' bf' af' fo' lo' cR cH cF cS gI' gS' gA' gB' (upd kR lg (nI r)) (ch_li kI iv lg 3) hs' yF (ch_lw yG yp lg (nI r) 3) yQ' ∧
      ag' + ch_wt gI' ag' ≤ ag + ch_wt gI ag + 6 ∧
      (∀ post : SX → Prop, post (nI sl, nI ll, nI nc, nI o, ob, nI n, nI (ch_ca aL' n), nI ag', nI t, nI (lg + 1), xbm, aR, aP, aS, aA, aB, aL', bf', af', fo', lo', cR, cH, cF, cS, gI', gS', gA', gB', upd kR lg (nI r), ch_li kI iv lg 3, hs', iv, vs) → wpX_fire post (nI sl, nI ll, nI nc, nI o, ob, nI n, nI (ch_ca aL n), nI ag, nI t, nI lg, xbm, aR, aP, aS, aA, aB, aL, bf, af, fo, lo, cR, cH, cF, cS, gI, gS, gA, gB, kR, kI, hs, iv, vs) (nI r)) ∧
      (∀ post : SY → Prop, post (nI sl, nI ll, nI nc, nI o, nI t, nI n, nI (lg + 1), nI ag', aR, yF, aL', ch_lw yG yp lg (nI r) 3, yQ', yp, yv, yk) → wpY_fire post (nI sl, nI ll, nI nc, nI o, nI t, nI n, nI lg, nI ag, aR, yF, aL, yG, yQ, yp, yv, yk) (nI r)) := by
  obtain ⟨n160, a152, l48, nc6⟩ := ch_In_n I
  have RU := I.2.1.1 r hr
  have W := RU.1
  have nh3 := W.1.2.1
  have nb3 := W.1.2.2.2.2.2
  have ll48 : ll ≤ 48 := I.1.1.2.2.2.1
  have code : ∀ h, h < 3 → ∃ a, a ≤ 160 ∧ iv h = ch_cd a ∧ (h < ch_nh (ch_bl aR r) → 1 ≤ a) := by
    intro h h3
    rcases Nat.lt_or_ge h (ch_nh (ch_bl aR r)) with z | z
    · obtain ⟨i, hi, ei, _⟩ := p.1.1 h z
      rw [ch_t3v h3] at ei
      exact ⟨i + 1, by omega, by rw [ei, ch_cdS], fun _ => by omega⟩
    · have e := p.1.2.1 h z h3
      rw [ch_t3v h3] at e
      exact ⟨0, by omega, by rw [e, ch_cd0], fun y => by omega⟩
  obtain ⟨a, a1, ea, a2⟩ := code 0 (by omega)
  obtain ⟨b, b1, eb, _⟩ := code 1 (by omega)
  obtain ⟨d, d1, ed, _⟩ := code 2 (by omega)
  obtain ⟨hs', H1, X1⟩ := cx_append (G := yG) (by omega) (by omega) RU.2.2 I.2.2.2.2.2.1 ea eb ed (xsl := nI sl) (xll := nI ll) (xnc := nI nc) (xro := nI o) (xob := ob) (xn := nI n) (xal := nI (ch_ca aL n)) (xag := nI ag) (xtl := nI t) (xbm := xbm) (aR := aR) (aP := aP) (aS := aS) (aA := aA) (aB := aB) (aL := aL) (bf := bf) (af := af) (fo := fo) (lo := lo) (cR := cR) (cH := cH) (cF := cF) (cS := cS) (gI := gI) (gS := gS) (gA := gA) (gB := gB) (kR := kR) (kI := kI) (hs := hs) (iv := iv) (vs := vs)
  have kwl : ch_kw (ch_lw yG yp lg (nI r) 3) lg r a b d := by
    obtain ⟨q1, q2, q3, q4⟩ := ch_lw_at (G := yG) (yp := yp) (lg := lg) (r := nI r)
    exact ⟨by omega, a2 (by omega), a1, b1, d1, q1, by rw [q2, py 0 (by omega)]; exact ea, by rw [q3, py 1 (by omega)]; exact eb, by rw [q4, py 2 (by omega)]; exact ed⟩
  have LG := I.2.2.2.2.1
  have LG' : ch_LG (upd kR lg (nI r)) (ch_li kI iv lg 3) (ch_lw yG yp lg (nI r) 3) (lg + 1) := by
    constructor
    · intro j hj
      rcases Nat.lt_or_ge j lg with z | z
      · rw [ch_lw_lt (by omega), ch_lw_lt (by omega), ch_lw_lt (by omega), ch_lw_lt (by omega), ch_upd_n (show j ≠ lg by omega), ch_li_lt (by omega), ch_li_lt (by omega), ch_li_lt (by omega)]
        exact LG.1 j z
      · have : j = lg := by omega
        subst this
        obtain ⟨q1, q2, q3, q4⟩ := ch_lw_at (G := yG) (yp := yp) (lg := j) (r := nI r)
        obtain ⟨g1, g2, g3⟩ := ch_li_at (kI := kI) (iv := iv) (lg := j)
        rw [q1, q2, q3, q4, g1, g2, g3, ch_upd_s, py 0 (by omega), py 1 (by omega), py 2 (by omega)]
        exact ⟨rfl, rfl, rfl, rfl⟩
    · intro j hj
      rcases Nat.lt_or_ge j lg with z | z
      · obtain ⟨q1, q2, q3, q4, w⟩ := LG.2 j z
        exact ⟨q1, q2, q3, q4, (ch_kw_cg (fun i hi => ch_lw_lt hi 3) z).mpr w⟩
      · have : j = lg := by omega
        subst this
        exact ⟨r, a, b, d, kwl⟩
  have I1 := ch_In_app I t1 hl (fun i hi => ch_lw_lt hi 3) LG' (H1 _ (fun i hi => ch_lw_lt hi 3) kwl)
  obtain ⟨aL', bf', af', fo', lo', I2, X2, Y2⟩ := cl_kill_lp (xbm := xbm) (vs := vs) (yv := yv) (yk := yk) W (by omega) py (fun h h' h1 h2 => by
      have := p.1.2.2 h h' h1 h2
      rwa [ch_t3v (by omega), ch_t3v (by omega)] at this) (ch_nh (ch_bl aR r)) 0 aL bf af fo lo (by omega) I1 (fun h _ h2 => by
      obtain ⟨i, hi, ei, ai⟩ := p.1.1 h h2
      rw [ch_t3v (by omega)] at ei
      exact ⟨i, hi, ei, ai⟩)
  obtain ⟨ag', gI', gS', gA', gB', yQ', I3, m1, m2, X3, Y3⟩ := cl_push_lp (xbm := xbm) (iv := iv) (vs := vs) (yp := yp) (yv := yv) (yk := yk) W (by omega) t1 ve (ch_nb (ch_bl aR r)) ag gI gS gA gB yQ (Nat.le_refl _) (ch_In_w (Nat.le_refl _) nb3 I2)
  have k0 : aR (nI (40 * r)).toNatClampNeg = nI (ch_nh (ch_bl aR r)) := by rw [nI_clamp (by omega), ← W.1.1]; exact ch_blE (j := 0) (by omega)
  have in0 : vp_in (nI (40 * r)) 240 := vp_in_nI (by omega) (by omega)
  refine ⟨ag', gI', gS', gA', gB', yQ', aL', bf', af', fo', lo', hs', I3, by omega, fun post hp => ?_, fun post hp => ?_⟩
  · unfold wpX_fire
    refine X1 _ (nm_r (ch_t40 r) ⟨in0, nm_r k0 ⟨_, X2 post (X3 post hp)⟩⟩)
  · unfold wpY_fire
    refine nm_r (ch_40t r) ?_
    rw [ch_4t, show (nI (4 * lg)).toNatClampNeg = 4 * lg from nI_clamp (by omega)]
    refine ⟨vp_in_nI (by omega) (by omega), nm_e ⟨0 + 1 + 3, cy_log_lp (r := nI r) (by omega) ?_ 3 0 rfl⟩⟩
    unfold wY_fire_19
    exact br_t (by decide) (nm_r (ch_a1 lg) ⟨_, Y2 post (Y3 post hp)⟩)
end
end
section
def ch_fc (F Q : Nat → Int32) (n t : Nat) : Nat → (Nat → Int32)
  | 0 => F
  | i + 1 => upd (ch_fc F Q n t i) (3 * n + i) (Q (4 * t + 1 + i))
theorem ch_fc_lt {F Q : Nat → Int32} {n t j : Nat} (hj : j < 3 * n) : ∀ i, ch_fc F Q n t i j = F j
  | 0 => rfl
  | i + 1 => by
    show upd (ch_fc F Q n t i) (3 * n + i) (Q (4 * t + 1 + i)) j = F j
    rw [ch_upd_n (by omega)]
    exact ch_fc_lt hj i
theorem ch_fc_at {F Q : Nat → Int32} {n t : Nat} : ch_fc F Q n t 3 (3 * n) = Q (4 * t + 1) ∧ ch_fc F Q n t 3 (3 * n + 1) = Q (4 * t + 2) ∧ ch_fc F Q n t 3 (3 * n + 2) = Q (4 * t + 3) := by
  have e : ch_fc F Q n t 3 = upd (upd (upd F (3 * n + 0) (Q (4 * t + 1 + 0))) (3 * n + 1) (Q (4 * t + 1 + 1))) (3 * n + 2) (Q (4 * t + 1 + 2)) := rfl
  rw [e]
  refine ⟨?_, ?_, ?_⟩
  · rw [ch_upd_n (by omega), ch_upd_n (by omega)]
    exact ch_upd_s
  · rw [ch_upd_n (by omega), ch_upd_s]
  · rw [ch_upd_s]
theorem ch_ca_succ (L : Nat → Int32) (i : Nat) : (L i = 0 → ch_ca L (i + 1) = ch_ca L i) ∧ (¬ L i = 0 → ch_ca L (i + 1) = ch_ca L i + 1) := by
  have e : ch_ca L (i + 1) = ch_ca L i + b01 (¬ L i = 0) := rfl
  rw [e]
  exact ⟨fun z => by rw [b01_f (fun y => y z)]; rfl, fun z => by rw [b01_t z]⟩
section
variable {ysl yll ync yop ytl yn ylg yag : Int32} {yR yF yL yG yQ yp yv yk : Nat → Int32}
variable {n ag : Nat}
theorem cy_count_lp {post : Int32 → Prop} {x1 : Int32} (hn : n ≤ 160) (k : wY_count_4 post x1 ysl yll ync yop ytl (nI n) ylg yag yR yF yL yG yQ yp yv yk 1 (nI (ch_ca yL n)) (nI n)) :
    ∀ m i, i + m = n → wY_count_4 post x1 ysl yll ync yop ytl (nI n) ylg yag yR yF yL yG yQ yp yv yk (m + 1) (nI (ch_ca yL i)) (nI i) := by
  intro m
  induction m with
  | zero =>
    intro i hi
    have : i = n := by omega
    subst this
    exact k
  | succ m ih =>
    intro i hi
    have IH := ih (i + 1) (by omega)
    unfold wY_count_4
    rw [show (nI i).toNatClampNeg = i from nI_clamp (by omega)]
    refine br_f (nI_ge (by omega) (by omega)) ⟨vp_in_nI (by omega) (by omega), ?_⟩
    rcases Classical.em (yL i = 0) with z | z
    · rw [(ch_ca_succ yL i).1 z] at IH
      exact br_t z (nm_r (ch_a1 i) IH)
    · rw [(ch_ca_succ yL i).2 z] at IH
      exact br_f z (nm_r (ch_a1 _) (nm_r (ch_a1 i) IH))
theorem ch_ca_0 (L : Nat → Int32) : ch_ca L 0 = 0 := rfl
theorem cy_count4 {post : Int32 → Prop} (hn : n ≤ 160) (hp : post (nI (ch_ca yL n))) : wpY_count post (ysl, yll, ync, yop, ytl, nI n, ylg, yag, yR, yF, yL, yG, yQ, yp, yv, yk) 4 := by
  unfold wpY_count
  refine ⟨n + 1, cy_count_lp hn ?_ n 0 (by omega)⟩
  unfold wY_count_4
  exact br_t (Int32.le_refl _) (br_f (by decide) (br_f (by decide) (br_f (by decide) (br_f (by decide) (br_t rfl hp)))))
theorem cy_fc_lp {post : Int32 → SY → Prop} {J : Int32 → Int32 → Int32 → Int32 → Int32 → Int32 → Int32 → Int32 → Int32 → Int32 → (Nat → Int32) → (Nat → Int32) → (Nat → Int32) → (Nat → Int32) → (Nat → Int32) → (Nat → Int32) → (Nat → Int32) → (Nat → Int32) → Prop} {x2 x3 x4 : Int32} {t : Nat} (hn : n < 160) (ht : t < 152) {m : Nat}
    (k : wY_run_87 post J x2 x3 x4 (nI (4 * t)) ysl yll ync yop ytl (nI n) ylg yag (m + 1) (nI 3) yR (ch_fc yF yQ n t 3) yL yG yQ yp yv yk) :
    ∀ d i, i + d = 3 → wY_run_87 post J x2 x3 x4 (nI (4 * t)) ysl yll ync yop ytl (nI n) ylg yag (m + 1 + d) (nI i) yR (ch_fc yF yQ n t i) yL yG yQ yp yv yk := by
  intro d
  induction d with
  | zero =>
    intro i hi
    rw [show i = 3 by omega]
    exact k
  | succ d ih =>
    intro i hi
    rw [show m + 1 + (d + 1) = (m + 1 + d) + 1 by omega]
    unfold wY_run_87
    rw [ch_a1 (4 * t), ch_3t, nI_add, nI_add, show (nI (4 * t + 1 + i)).toNatClampNeg = 4 * t + 1 + i from nI_clamp (by omega), show (nI (3 * n + i)).toNatClampNeg = 3 * n + i from nI_clamp (by omega)]
    exact br_f (nI_ge (b := 3) (by omega) (by omega)) ⟨vp_in_nI (by omega) (by omega), vp_in_nI (by omega) (by omega), nm_e (nm_r (ch_a1 i) (ih (i + 1) (by omega)))⟩
/-- the reference's waiting top enters -/
theorem cy_enter {post : Int32 → SY → Prop} {J : Int32 → Int32 → Int32 → Int32 → Int32 → Int32 → Int32 → Int32 → Int32 → Int32 → (Nat → Int32) → (Nat → Int32) → (Nat → Int32) → (Nat → Int32) → (Nat → Int32) → (Nat → Int32) → (Nat → Int32) → (Nat → Int32) → Prop} {x2 x3 x4 : Int32} {t : Nat} (hn : n < 160) (ht : t < 152)
    (k : J x3 (x4 + 1) ysl yll ync yop ytl (nI (n + 1)) ylg yag yR (ch_fc yF yQ n t 3) (upd yL n 1) yG (upd yQ (4 * t) (nI n)) yp yv yk) :
    wY_run_87 post J x2 x3 x4 (nI (4 * t)) ysl yll ync yop ytl (nI n) ylg yag (0 + 1 + 3) (nI 0) yR yF yL yG yQ yp yv yk := by
  refine cy_fc_lp hn ht ?_ 3 0 rfl
  unfold wY_run_87
  rw [show (nI n).toNatClampNeg = n from nI_clamp (by omega), show (nI (4 * t)).toNatClampNeg = 4 * t from nI_clamp (by omega), ch_nar1]
  exact br_t (by decide) ⟨vp_in_nI hn (by omega), nm_e ⟨vp_in_nI (by omega) (by omega), nm_e (nm_r (ch_a1 n) (nm_e k))⟩⟩
end
end
section
section
variable {k sl ll nc o t n ag lg da db : Nat} {ob : Int32} {aR aP aS aA aB aL bf af fo lo cR cH cF cS gI gS gA gB kR kI hs yF yG yQ : Nat → Int32}
variable {xbm : Int32} {iv vs yp yv yk : Nat → Int32}
theorem ch_In_SC (I : ch_In k sl ll nc o t n ag lg da db ob aR aP aS aA aB aL bf af fo lo cR cH cF cS gI gS gA gB kR kI hs yF yG yQ) : ∃ T, ch_SC aR aP aS aL bf af fo lo hs yG n lg nc T ∧ ch_LK aS aL bf af fo lo n T ∧ ch_CU aR aS aA aB aL yG cR cH cF cS gI n lg nc ag T := by
  obtain ⟨n160, a152, l48, nc6⟩ := ch_In_n I
  obtain ⟨NU, RU, FA, AG, LG, HI, ⟨T, LK, CU⟩, TP⟩ := I
  exact ⟨T, ⟨n160, by omega, nc6, LK, HI, RU.1⟩, LK, CU⟩
theorem ch_In_YC (I : ch_In k sl ll nc o t n ag lg da db ob aR aP aS aA aB aL bf af fo lo cR cH cF cS gI gS gA gB kR kI hs yF yG yQ) : ch_YC aR yF aS aA aB n nc := by
  obtain ⟨n160, a152, l48, nc6⟩ := ch_In_n I
  obtain ⟨NU, RU, FA, AG, LG, HI, X, TP⟩ := I
  exact ⟨n160, nc6, fun i hi => ⟨(FA i hi).1, (FA i hi).2.1, (FA i hi).2.2.1⟩, fun r hr => ⟨(RU.1 r hr).1, (RU.1 r hr).2.1⟩⟩
theorem ch_wt_enter {c : Nat} (hc : c < 2 ^ 30) (a1 : 1 ≤ ag) (e : gI (ag - 1) = -2) : ch_wt (upd gI (ag - 1) (nI c)) ag + 1 ≤ ch_wt gI ag := by
  unfold ch_wt
  refine cn_lt (a := ag - 1) (P := fun j => upd gI (ag - 1) (nI c) j = -2) (Q := fun j => gI j = -2) ?_ e (fun j hj z => ?_) (by omega)
  · show ¬ upd gI (ag - 1) (nI c) (ag - 1) = -2
    rw [ch_upd_s]; exact ch_m2 (by omega)
  · by_cases q : j = ag - 1
    · rw [q]; exact e
    · have z : upd gI (ag - 1) (nI c) j = -2 := z
      rwa [ch_upd_n q] at z
theorem ch_wt_pop (a1 : 1 ≤ ag) : ch_wt gI (ag - 1) ≤ ch_wt gI ag := by
  obtain ⟨b, rfl⟩ : ∃ b, ag = b + 1 := ⟨ag - 1, by omega⟩
  show ch_wt gI b ≤ ch_wt gI b + b01 _
  omega
/-- both runs, turn by turn -/
theorem cl_run {most : Nat} (hm : most ≤ 16) : ∀ m left tX tY n ag lg xbm aS aA aB aL bf af fo lo cR cH cF cS gI gS gA gB kR kI hs iv vs yF yG yQ yp yv yk, left ≤ most → ag + ch_wt gI ag + 7 * left ≤ m → tX + m < 512 → tY + m < 1000 → ch_In k sl ll nc o t n ag lg 0 0 ob aR aP aS aA aB aL bf af fo lo cR cH cF cS gI gS gA gB kR kI hs yF yG yQ →
    ∃ (q : Int32) (u' : SX) (v' : SY), i_Rel k u' v' ∧ (∀ post : Int32 → SX → Prop, post q u' → wX_run_11 post (m + 1) (nI left) (nI tX) (nI sl) (nI ll) (nI nc) (nI o) ob (nI n) (nI (ch_ca aL n)) (nI ag) (nI t) (nI lg) xbm aR aP aS aA aB aL bf af fo lo cR cH cF cS gI gS gA gB kR kI hs iv vs) ∧
      (∀ post : Int32 → SY → Prop, post q v' → wY_run_26 post (nI most) (m + 1) (nI (most - left)) (nI tY) (nI sl) (nI ll) (nI nc) (nI o) (nI t) (nI n) (nI lg) (nI ag) aR yF aL yG yQ yp yv yk) := by
  intro m
  induction m with
  | zero =>
    intro left tX tY n ag lg xbm aS aA aB aL bf af fo lo cR cH cF cS gI gS gA gB kR kI hs iv vs yF yG yQ yp yv yk hl hm hX hY I
    have a0 : ag = 0 := by omega
    refine ⟨4, _, _, ch_rel I (xbm := xbm) (iv := iv) (vs := vs) (yp := yp) (yv := yv) (yk := yk), fun post hp => ?_, fun post hp => ?_⟩
    · unfold wX_run_11
      exact br_f (nI_ge (b := 512) (by omega) (by omega)) (br_t (by rw [a0]; rfl) hp)
    · unfold wY_run_26
      exact br_f (nI_ge (b := 1000) (by omega) (by omega)) (br_t (by rw [a0]; rfl) hp)
  | succ m ih =>
    intro left tX tY n ag lg xbm aS aA aB aL bf af fo lo cR cH cF cS gI gS gA gB kR kI hs iv vs yF yG yQ yp yv yk hl hm hX hY I
    have x512 : ¬ (512 : Int32) ≤ nI tX := nI_ge (b := 512) (by omega) (by omega)
    have y1000 : ¬ (1000 : Int32) ≤ nI tY := nI_ge (b := 1000) (by omega) (by omega)
    obtain ⟨n160, a152, l48, nc6⟩ := ch_In_n I
    have sl16 : sl ≤ 16 := I.1.1.2.1
    rcases Nat.eq_zero_or_pos ag with a0 | a1
    · refine ⟨4, _, _, ch_rel I (xbm := xbm) (iv := iv) (vs := vs) (yp := yp) (yv := yv) (yk := yk), fun post hp => ?_, fun post hp => ?_⟩
      · unfold wX_run_11
        exact br_f x512 (br_t (by rw [a0]; rfl) hp)
      · unfold wY_run_26
        exact br_f y1000 (br_t (by rw [a0]; rfl) hp)
    · have an0 : ¬ nI ag = 0 := nI_ne0 a1 (by omega)
      have e1 : nI ag - 1 = nI (ag - 1) := pk_sub (b := 1) a1
      have et : (nI (ag - 1)).toNatClampNeg = ag - 1 := nI_clamp (by omega)
      have tin : vp_in (nI (ag - 1)) 152 := vp_in_nI (by omega) (by omega)
      have eq4 : (nI (4 * (ag - 1))).toNatClampNeg = 4 * (ag - 1) := nI_clamp (by omega)
      have qin : vp_in (nI (4 * (ag - 1))) 608 := vp_in_nI (by omega) (by omega)
      obtain ⟨g1, g2, g3, g4, ⟨s, s8, es⟩, gid⟩ := I.2.2.2.1.1 (ag - 1) (by omega)
      have t1 : t ≠ 0 := by
        intro z
        have := I.1.2.2 z
        omega
      rcases gid with gw | ⟨c, hc, ec⟩
      · rcases Nat.lt_or_ge (ch_ca aL n) sl with al | al
        · have n159 : n < 160 := by
            obtain ⟨⟨nu, _, _⟩, _⟩ := I
            omega
          have hlo : lo s = -1 ∨ ∃ p, p < 160 ∧ lo s = nI p := by
            obtain ⟨T, _, LK, _⟩ := ch_In_SC I
            rcases LK.2.1 s s8 with ⟨e, _⟩ | ⟨p, e, p1, _⟩
            · exact Or.inl e
            · exact Or.inr ⟨p, by omega, e⟩
          obtain ⟨f1, f2, f3⟩ := ch_fc_at (F := yF) (Q := yQ) (n := n) (t := ag - 1)
          have I2 := ch_In_enter I a1 gw al s8 es (F' := ch_fc yF yQ n (ag - 1) 3) (fun i hi => ch_fc_lt hi 3) (f1.trans g2) (f2.trans g3) (f3.trans g4)
          have wt := ch_wt_enter (gI := gI) (ag := ag) (c := n) (by omega) a1 gw
          obtain ⟨q, u', v', r1, r2, r3⟩ := ih left (tX + 1) (tY + 1) (n + 1) ag lg xbm _ _ _ _ _ _ _ _ _ _ _ _ _ gS gA gB kR kI hs iv vs _ yG _ yp yv yk hl (by omega) (by omega) (by omega) I2
          refine ⟨q, u', v', r1, fun post hp => ?_, fun post hp => ?_⟩
          · unfold wX_run_11
            rw [e1, et]
            refine br_f x512 (br_f an0 ⟨tin, nm_r gw (br_t rfl (br_t (nI_lt al (by omega)) (cx_enter n159 a1 a152 s8 es hlo _ (nm_r (ch_a1 tX) ?_))))⟩)
            rw [ch_a1, ← ch_ca_enter]
            exact r2 post hp
          · unfold wY_run_26
            rw [e1, ch_4t]
            refine br_f y1000 (br_f an0 (nm_e ?_))
            rw [eq4]
            refine ⟨qin, nm_r (g1.trans gw) (br_t rfl (cy_count4 n160 (br_t (nI_lt al (by omega)) ⟨_, cy_enter n159 (by omega) ?_⟩)))⟩
            rw [ch_a1]
            exact r3 post hp
        · have nal : ¬ nI (ch_ca aL n) < nI sl := nI_nlt al (by have := ch_ca_le aL n; omega)
          refine ⟨6, _, _, ch_rel I (xbm := xbm) (iv := iv) (vs := vs) (yp := yp) (yv := yv) (yk := yk), fun post hp => ?_, fun post hp => ?_⟩
          · unfold wX_run_11
            rw [e1, et]
            exact br_f x512 (br_f an0 ⟨tin, nm_r gw (br_t rfl (br_f nal hp))⟩)
          · unfold wY_run_26
            rw [e1, ch_4t]
            refine br_f y1000 (br_f an0 (nm_e ?_))
            rw [eq4]
            exact ⟨qin, nm_r (g1.trans gw) (br_t rfl (cy_count4 n160 (br_f nal hp)))⟩
      · have c2 : ¬ nI c = -2 := ch_m2 (by omega)
        have ecc : (nI c).toNatClampNeg = c := nI_clamp (by omega)
        have cin : vp_in (nI c) 160 := vp_in_nI (by omega) (by omega)
        have wp := ch_wt_pop (gI := gI) (ag := ag) a1
        obtain ⟨qa, qa1, qa2, qa3⟩ := cy_alive (x := nI c) (yL := aL) n160 (ysl := nI sl) (yll := nI ll) (ync := nI nc) (yop := nI o) (ytl := nI t) (ylg := nI lg) (yag := nI ag) (yR := aR) (yF := yF) (yG := yG) (yQ := yQ) (yp := yp) (yv := yv) (yk := yk)
        have alc := ch_Al_nI (L := aL) (n := n) (c := c) (by omega) (by omega)
        rcases Classical.em (aL c = 0) with ac | ac
        · have qa0 : qa = 0 := qa1.resolve_right (fun z => ((alc.mp (qa2.mp z)).2) ac)
          subst qa0
          have I2 := ch_In_pop I a1 hc ec (Or.inl ac)
          obtain ⟨q, u', v', r1, r2, r3⟩ := ih left (tX + 1) (tY + 1) n (ag - 1) lg xbm aS aA aB aL bf af fo lo cR cH cF cS gI gS gA gB kR kI hs iv vs yF yG yQ yp yv yk hl (by omega) (by omega) (by omega) I2
          refine ⟨q, u', v', r1, fun post hp => ?_, fun post hp => ?_⟩
          · unfold wX_run_11 wX_run_87
            rw [e1, et]
            refine br_f x512 (br_f an0 ⟨tin, nm_r ec ?_⟩)
            rw [ecc]
            exact br_f c2 ⟨cin, br_t ac (nm_e (nm_r (ch_a1 tX) (r2 post hp)))⟩
          · unfold wY_run_26
            rw [e1, ch_4t]
            refine br_f y1000 (br_f an0 (nm_e ?_))
            rw [eq4]
            exact ⟨qin, nm_r (g1.trans ec) (br_f c2 (qa3 _ (br_t rfl (nm_e (nm_r (ch_a1 tY) (r3 post hp))))))⟩
        · have qa0 : qa = 1 := qa2.mpr (alc.mpr ⟨hc, ac⟩)
          subst qa0
          obtain ⟨T, C, LK, CU⟩ := ch_In_SC I
          have YC := ch_In_YC I
          have h3 : ∀ r, r < nc → ch_nh (ch_bl aR r) ≤ 3 := fun r hr => (YC.2.2.2 r hr).1.1.2.1
          have top : ∀ (r : Nat) (x y z : Int32), r < nc → ch_Ap aR aS aA aB aL yG n lg r x y z → ∀ i, i < n → ch_on x y z i → i ≤ c := fun r x y z hr p => ch_top I.2.2.2.2.2.2.2 I.2.2.2.1 (by omega) hc ec hr p
          obtain ⟨q, cR', cH', cF', cS', bm', vs', iv', q1, q2, q3, q4, q5, q6⟩ := cx_seek C hc ac (CU (ag - 1) c (by omega) hc ec ac) (xsl := nI sl) (xll := nI ll) (xro := nI o) (xob := ob) (xn := nI n) (xal := nI (ch_ca aL n)) (xag := nI ag) (xtl := nI t) (xlg := nI lg) (xbm := xbm) (aR := aR) (aP := aP) (aS := aS) (aA := aA) (aB := aB) (aL := aL) (bf := bf) (af := af) (fo := fo) (lo := lo) (cR := cR) (cH := cH) (cF := cF) (cS := cS) (gI := gI) (gS := gS) (gA := gA) (gB := gB) (kR := kR) (kI := kI) (hs := hs) (iv := iv) (vs := vs)
          have I1 : ch_In k sl ll nc o t n ag lg 0 0 ob aR aP aS aA aB aL bf af fo lo cR' cH' cF' cS' gI gS gA gB kR kI hs yF yG yQ := by
            obtain ⟨NU, RU, FA, AG, LG, HI, _, TP⟩ := I
            exact ch_In_cur NU RU FA AG LG HI LK CU TP q2 q3
          have SE := cy_search (c := c) YC l48 (ysl := nI sl) (yll := nI ll) (yop := nI o) (ytl := nI t) (yag := nI ag) (yL := aL) (yG := yG) (yQ := yQ) (yp := yp) (yv := yv) (yk := yk)
          rcases q1 with rfl | rfl
          · have none := q5 rfl
            rcases SE with ⟨r, h, a, b, d, yp', yv', yk', s1, s2, s3, s4, s5, s6, s7, s8, s9⟩ | ⟨yp', yv', yk', s1, s2⟩
            · exfalso
              obtain ⟨f, s', hf, hs', px, _⟩ := ch_P5_PX (by omega) hc (h3 r s1) s2 s3 s4 s5 s6 (top r _ _ _ s1 s6.2)
              exact none r h f s' s1 s2 hf hs' (Or.inl s1) px
            · have I2 := ch_In_pop I1 a1 hc ec (Or.inr none)
              obtain ⟨q, u', v', r1, r2, r3⟩ := ih left (tX + 1) (tY + 1) n (ag - 1) lg bm' aS aA aB aL bf af fo lo cR' cH' cF' cS' gI gS gA gB kR kI hs iv' vs' yF yG yQ yp' yv' yk' hl (by omega) (by omega) (by omega) I2
              refine ⟨q, u', v', r1, fun post hp => ?_, fun post hp => ?_⟩
              · unfold wX_run_11 wX_run_87
                rw [e1, et]
                refine br_f x512 (br_f an0 ⟨tin, nm_r ec ?_⟩)
                rw [ecc]
                refine br_f c2 ⟨cin, br_f ac (q6 _ (br_t rfl (nm_r e1 (nm_r (ch_a1 tX) (r2 post hp)))))⟩
              · unfold wY_run_26
                rw [e1, ch_4t]
                refine br_f y1000 (br_f an0 (nm_e ?_))
                rw [eq4]
                exact ⟨qin, nm_r (g1.trans ec) (br_f c2 (qa3 _ (br_f ch_10 (s2 _ (br_t rfl (nm_r e1 (nm_r (ch_a1 tY) (r3 post hp))))))))⟩
          · obtain ⟨r, h, f, s', hr, hh, ecr, fd⟩ := q4 rfl
            obtain ⟨d1, d2, d3, d4, d5, d6, d7, d8, d9, d10, d11, w, d12, d13⟩ := fd
            rcases SE with ⟨r2, h2, a, b, d, yp', yv', yk', s1, s2, s3, s4, s5, s6, s7, s8, s9⟩ | ⟨yp', yv', yk', s1, s2⟩
            · obtain ⟨rfl, m1, m2, m3⟩ := ch_meet (by omega) hc h3 top hr hh d1 d2 d7 d8 s1 s2 s3 s4 s5 s6 s7
              obtain ⟨p1, p2, p3, w', p4, p5⟩ := s8
              rw [m1, m2, m3] at p4
              have rm1 : ¬ nI r2 = -1 := ch_m1 (by omega)
              have i3 : ch_Ap aR aS aA aB aL yG n lg r2 (iv' 0) (iv' 1) (iv' 2) := by rw [d9, d10, d11]; exact d8
              have py : ∀ h, h < 3 → yp' h = iv' h := by
                intro h h3
                have : h = 0 ∨ h = 1 ∨ h = 2 := by omega
                rcases this with rfl | rfl | rfl
                · rw [p1, m1, d9]
                · rw [p2, m2, d10]
                · rw [p3, m3, d11]
              have ve : ∀ v, ch_Op (ch_bl aR r2) (ch_ns (ch_bl aR r2)) v → ch_ov v vs' = ch_ov v yv' := by
                intro v o
                rw [d13, p5]
                exact ch_ov_eq (YC.2.2.2 r2 s1).1 d12 p4 o
              rcases Nat.lt_or_ge lg ll with hll | hll
              · have lt : nI lg < nI ll := nI_lt hll (by have := I.1.1.2.2.2.1; omega)
                rcases Nat.eq_zero_or_pos left with l0 | l1
                · subst l0
                  refine ⟨5, _, _, ch_rel I1 (xbm := bm') (iv := iv') (vs := vs') (yp := yp') (yv := yv') (yk := yk'), fun post hp => ?_, fun post hp => ?_⟩
                  · unfold wX_run_11
                    rw [e1, et]
                    refine br_f x512 (br_f an0 ⟨tin, nm_r ec ?_⟩)
                    rw [ecc]
                    exact br_f c2 ⟨cin, br_f ac (q6 _ (br_f ch_10 (br_t lt (br_t rfl hp))))⟩
                  · unfold wY_run_26
                    rw [e1, ch_4t]
                    refine br_f y1000 (br_f an0 (nm_e ?_))
                    rw [eq4]
                    exact ⟨qin, nm_r (g1.trans ec) (br_f c2 (qa3 _ (br_f ch_10 (s9 _ (br_f rm1 (br_t lt (br_f (nI_nlt (by omega) (by omega)) hp)))))))⟩
                · obtain ⟨ag', gI', gS', gA', gB', yQ', aL', bf', af', fo', lo', hs', I2, mu, X2, Y2⟩ := cl_fire (xbm := bm') (yk := yk') I1 hll t1 hr i3 py ve
                  obtain ⟨q, u', v', r1, r2', r3⟩ := ih (left - 1) (tX + 1) (tY + 1) n ag' (lg + 1) bm' aS aA aB aL' bf' af' fo' lo' cR' cH' cF' cS' gI' gS' gA' gB' _ _ hs' iv' vs' yF _ yQ' yp' yv' yk' (by omega) (by omega) (by omega) (by omega) I2
                  refine ⟨q, u', v', r1, fun post hp => ?_, fun post hp => ?_⟩
                  · have lm : nI left + (-1) = nI (left - 1) := by
                      obtain ⟨l', rfl⟩ : ∃ l', left = l' + 1 := ⟨left - 1, by omega⟩
                      exact pk_m1 l'
                    unfold wX_run_11
                    rw [e1, et]
                    refine br_f x512 (br_f an0 ⟨tin, nm_r ec ?_⟩)
                    rw [ecc]
                    refine br_f c2 ⟨cin, br_f ac (q6 _ (br_f ch_10 (br_t lt (br_f (nI_ne0 l1 (by omega)) ⟨cin, ?_⟩))))⟩
                    rw [ecr]
                    exact X2 _ (nm_r lm (nm_r (ch_a1 tX) (r2' post hp)))
                  · unfold wY_run_26
                    rw [e1, ch_4t]
                    refine br_f y1000 (br_f an0 (nm_e ?_))
                    rw [eq4]
                    have lm : nI (most - left) + 1 = nI (most - (left - 1)) := by rw [ch_a1]; exact congrArg nI (by omega)
                    exact ⟨qin, nm_r (g1.trans ec) (br_f c2 (qa3 _ (br_f ch_10 (s9 _ (br_f rm1 (br_t lt (br_t (nI_lt (by omega) (by omega)) (Y2 _ (nm_r lm (nm_r (ch_a1 tY) (r3 post hp)))))))))))⟩
              · have nlt : ¬ nI lg < nI ll := nI_nlt hll (by omega)
                refine ⟨7, _, _, ch_rel I1 (xbm := bm') (iv := iv') (vs := vs') (yp := yp') (yv := yv') (yk := yk'), fun post hp => ?_, fun post hp => ?_⟩
                · unfold wX_run_11
                  rw [e1, et]
                  refine br_f x512 (br_f an0 ⟨tin, nm_r ec ?_⟩)
                  rw [ecc]
                  exact br_f c2 ⟨cin, br_f ac (q6 _ (br_f ch_10 (br_f nlt hp)))⟩
                · unfold wY_run_26
                  rw [e1, ch_4t]
                  refine br_f y1000 (br_f an0 (nm_e ?_))
                  rw [eq4]
                  exact ⟨qin, nm_r (g1.trans ec) (br_f c2 (qa3 _ (br_f ch_10 (s9 _ (br_f rm1 (br_f nlt hp))))))⟩
            · exfalso
              obtain ⟨l1, l2, l3⟩ := ch_kle (h := h) (by have := h3 r hr; omega) hc d1 d2
              exact s1 r h _ _ _ hr hh l1 l2 l3 (ch_PX_P5 (by have := h3 r hr; omega) d8)
end
end
section
section
variable {xsl xll xnc xro xob xn xal xag xtl xlg xbm : Int32} {aR aP aS aA aB aL bf af fo lo cR cH cF cS gI gS gA gB kR kI hs iv vs : Nat → Int32}
variable {n : Nat}
theorem cx_alive {x : Int32} (hn : n ≤ 160) : ∃ q, (q = 0 ∨ q = 1) ∧ (q = 1 ↔ ch_Al aL n x) ∧ ∀ post : Int32 → Prop, post q → wpX_alive post (xsl, xll, xnc, xro, xob, nI n, xal, xag, xtl, xlg, xbm, aR, aP, aS, aA, aB, aL, bf, af, fo, lo, cR, cH, cF, cS, gI, gS, gA, gB, kR, kI, hs, iv, vs) x := by
  rcases Classical.em (x < 0) with h0 | h0
  · refine ⟨0, Or.inl rfl, ⟨fun z => absurd z.symm ch_10, ?_⟩, fun post hp => ?_⟩
    · rintro ⟨i, hi, rfl, _⟩
      exact absurd h0 (nI_pos (by omega))
    · unfold wpX_alive
      exact br_t h0 hp
  · obtain ⟨j, hj, rfl⟩ := nI_of h0
    rcases Nat.lt_or_ge j n with h | h
    · have ej : (nI j).toNatClampNeg = j := nI_clamp hj
      rcases Classical.em (aL j = 0) with z | z
      · refine ⟨0, Or.inl rfl, ⟨fun z => absurd z.symm ch_10, ?_⟩, fun post hp => ?_⟩
        · rintro ⟨i, hi, e, a⟩
          have := (nI_eq (by omega) (by omega)).mp e
          subst this
          exact absurd z a
        · unfold wpX_alive
          dsimp only
          rw [ej]
          exact br_f h0 (br_f (nI_ge h (by omega)) ⟨vp_in_nI (by omega) (by omega), br_t z hp⟩)
      · refine ⟨1, Or.inr rfl, ⟨fun _ => ⟨j, h, rfl, z⟩, fun _ => rfl⟩, fun post hp => ?_⟩
        unfold wpX_alive
        dsimp only
        rw [ej]
        exact br_f h0 (br_f (nI_ge h (by omega)) ⟨vp_in_nI (by omega) (by omega), br_f z hp⟩)
    · refine ⟨0, Or.inl rfl, ⟨fun z => absurd z.symm ch_10, ?_⟩, fun post hp => ?_⟩
      · rintro ⟨i, hi, e, a⟩
        have := (nI_eq (by omega) (by omega)).mp e
        omega
      · unfold wpX_alive
        exact br_f h0 (br_t (nI_le h hj) hp)
end
theorem ch_q01 {q q' : Int32} {P : Prop} (a : q = 0 ∨ q = 1) (b : q = 1 ↔ P) (a' : q' = 0 ∨ q' = 1) (b' : q' = 1 ↔ P) : q' = q := by
  rcases a with rfl | rfl
  · rcases a' with rfl | rfl
    · rfl
    · exact absurd (b.mpr (b'.mp rfl)).symm ch_10
  · exact b'.mpr (b.mp rfl)
theorem i_vc_alive {k : Nat} {u : SX} {v : SY} (I : i_Rel k u v) (hk : k + 5 ≤ 2562) (v1 : Int32) : wpX_alive (fun r => wpY_alive (fun r' => r' = r ∧ i_Rel (k + 5) u v) v v1) u v1 := by
  refine ch_el (P := fun u v => wpX_alive (fun r => wpY_alive (fun r' => r' = r ∧ i_Rel (k + 5) u v) v v1) u v1) ?_ I
  clear I
  intro sl ll nc o t n ag lg ob xbm aR aP aS aA aB aL bf af fo lo cR cH cF cS gI gS gA gB kR kI hs iv vs yF yG yQ yp yv yk I
  have J := ch_rel (ch_In_k (k' := k + 5) (by omega) I) (xbm := xbm) (iv := iv) (vs := vs) (yp := yp) (yv := yv) (yk := yk)
  obtain ⟨n160, _, _, _⟩ := ch_In_n I
  obtain ⟨q, q1, q2, q3⟩ := cx_alive (x := v1) n160 (aL := aL)
  obtain ⟨q', q1', q2', q3'⟩ := cy_alive (x := v1) n160 (yL := aL)
  exact q3 _ (q3' _ ⟨ch_q01 q1 q2 q1' q2', J⟩)
theorem i_vc_count {k : Nat} {u : SX} {v : SY} (I : i_Rel k u v) (hk : k + 5 ≤ 2562) (v1 : Int32) : wpX_count (fun r => wpY_count (fun r' => r' = r ∧ i_Rel (k + 5) u v) v v1) u v1 := by
  refine ch_el (P := fun u v => wpX_count (fun r => wpY_count (fun r' => r' = r ∧ i_Rel (k + 5) u v) v v1) u v1) ?_ I
  clear I
  intro sl ll nc o t n ag lg ob xbm aR aP aS aA aB aL bf af fo lo cR cH cF cS gI gS gA gB kR kI hs iv vs yF yG yQ yp yv yk I
  have J := ch_rel (ch_In_k (k' := k + 5) (by omega) I) (xbm := xbm) (iv := iv) (vs := vs) (yp := yp) (yv := yv) (yk := yk)
  obtain ⟨n160, _, _, _⟩ := ch_In_n I
  have Y : ∀ post : Int32 → Prop, wY_count_4 post v1 (nI sl) (nI ll) (nI nc) (nI o) (nI t) (nI n) (nI lg) (nI ag) aR yF aL yG yQ yp yv yk 1 (nI (ch_ca aL n)) (nI n) → wpY_count post (nI sl, nI ll, nI nc, nI o, nI t, nI n, nI lg, nI ag, aR, yF, aL, yG, yQ, yp, yv, yk) v1 := by
    intro post k
    unfold wpY_count
    exact ⟨n + 1, cy_count_lp n160 k n 0 (by omega)⟩
  have neq : ∀ i : Nat, i ≤ 6 → v1 < 0 ∨ 6 < v1 → ¬ v1 = nI i := by
    intro i hi z e
    subst e
    rcases z with z | z
    · exact nI_pos (by omega) z
    · exact absurd z (nI_nlt (a := 6) (by omega) (by omega))
  have out : v1 < 0 ∨ 6 < v1 → wpY_count (fun r' => r' = -1 ∧ i_Rel (k + 5) (nI sl, nI ll, nI nc, nI o, ob, nI n, nI (ch_ca aL n), nI ag, nI t, nI lg, xbm, aR, aP, aS, aA, aB, aL, bf, af, fo, lo, cR, cH, cF, cS, gI, gS, gA, gB, kR, kI, hs, iv, vs) (nI sl, nI ll, nI nc, nI o, nI t, nI n, nI lg, nI ag, aR, yF, aL, yG, yQ, yp, yv, yk)) (nI sl, nI ll, nI nc, nI o, nI t, nI n, nI lg, nI ag, aR, yF, aL, yG, yQ, yp, yv, yk) v1 := by
    intro z
    refine Y _ ?_
    unfold wY_count_4
    exact br_t (Int32.le_refl _) (br_f (neq 0 (by omega) z) (br_f (neq 1 (by omega) z) (br_f (neq 2 (by omega) z) (br_f (neq 3 (by omega) z) (br_f (neq 4 (by omega) z) (br_f (neq 5 (by omega) z) (br_f (neq 6 (by omega) z) ⟨rfl, J⟩)))))))
  unfold wpX_count
  rcases Classical.em (v1 < 0) with h0 | h0
  · exact br_t h0 (out (Or.inl h0))
  · refine br_f h0 ?_
    rcases Classical.em (6 < v1) with h6 | h6
    · exact br_t h6 (out (Or.inr h6))
    · refine br_f h6 ?_
      obtain ⟨j, hj, rfl⟩ := nI_of h0
      have j6 : j ≤ 6 := by
        rcases Nat.lt_or_ge 6 j with z | z
        · exact absurd (nI_lt (a := 6) z hj) h6
        · exact z
      have : j = 0 ∨ j = 1 ∨ j = 2 ∨ j = 3 ∨ j = 4 ∨ j = 5 ∨ j = 6 := by omega
      rcases this with rfl | rfl | rfl | rfl | rfl | rfl | rfl
      · refine br_t rfl (Y _ ?_)
        unfold wY_count_4
        exact br_t (Int32.le_refl _) (br_t rfl ⟨rfl, J⟩)
      · refine br_f (by decide) (br_t rfl ?_)
        have o01 : o = 0 ∨ o = 1 := by have := I.1.1.2.2.2.2.2.1; omega
        rcases o01 with rfl | rfl
        · refine br_t rfl (Y _ ?_)
          unfold wY_count_4
          exact br_t (Int32.le_refl _) (br_f (by decide) (br_t rfl (br_t rfl ⟨rfl, J⟩)))
        · refine br_f ch_10 (Y _ ?_)
          unfold wY_count_4
          exact br_t (Int32.le_refl _) (br_f (by decide) (br_t rfl (br_f ch_10 ⟨rfl, J⟩)))
      · refine br_f (by decide) (br_f (by decide) (br_t rfl (Y _ ?_)))
        unfold wY_count_4
        exact br_t (Int32.le_refl _) (br_f (by decide) (br_f (by decide) (br_t rfl ⟨rfl, J⟩)))
      · refine br_f (by decide) (br_f (by decide) (br_f (by decide) (br_t rfl (Y _ ?_))))
        unfold wY_count_4
        exact br_t (Int32.le_refl _) (br_f (by decide) (br_f (by decide) (br_f (by decide) (br_t rfl ⟨rfl, J⟩))))
      · refine br_f (by decide) (br_f (by decide) (br_f (by decide) (br_f (by decide) (br_t rfl (Y _ ?_)))))
        unfold wY_count_4
        exact br_t (Int32.le_refl _) (br_f (by decide) (br_f (by decide) (br_f (by decide) (br_f (by decide) (br_t rfl ⟨rfl, J⟩)))))
      · refine br_f (by decide) (br_f (by decide) (br_f (by decide) (br_f (by decide) (br_f (by decide) (br_t rfl (Y _ ?_))))))
        unfold wY_count_4
        exact br_t (Int32.le_refl _) (br_f (by decide) (br_f (by decide) (br_f (by decide) (br_f (by decide) (br_f (by decide) (br_t rfl ⟨rfl, J⟩))))))
      · refine br_f (by decide) (br_f (by decide) (br_f (by decide) (br_f (by decide) (br_f (by decide) (br_f (by decide) (br_t rfl (Y _ ?_)))))))
        unfold wY_count_4
        exact br_t (Int32.le_refl _) (br_f (by decide) (br_f (by decide) (br_f (by decide) (br_f (by decide) (br_f (by decide) (br_f (by decide) (br_t rfl ⟨rfl, J⟩)))))))
theorem i_vc_fact {k : Nat} {u : SX} {v : SY} (I : i_Rel k u v) (hk : k + 5 ≤ 2562) (v1 : Int32) (v2 : Int32) : wpX_fact (fun r => wpY_fact (fun r' => r' = r ∧ i_Rel (k + 5) u v) v v1 v2) u v1 v2 := by
  refine ch_el (P := fun u v => wpX_fact (fun r => wpY_fact (fun r' => r' = r ∧ i_Rel (k + 5) u v) v v1 v2) u v1 v2) ?_ I
  clear I
  intro sl ll nc o t n ag lg ob xbm aR aP aS aA aB aL bf af fo lo cR cH cF cS gI gS gA gB kR kI hs iv vs yF yG yQ yp yv yk I
  have J := ch_rel (ch_In_k (k' := k + 5) (by omega) I) (xbm := xbm) (iv := iv) (vs := vs) (yp := yp) (yv := yv) (yk := yk)
  obtain ⟨n160, _, _, _⟩ := ch_In_n I
  have FA := I.2.2.1
  unfold wpX_fact wpY_fact
  dsimp only
  rcases Classical.em (v1 < 0) with h0 | h0
  · exact br_t h0 (br_t h0 ⟨rfl, J⟩)
  · refine br_f h0 ?_
    obtain ⟨j, hj, rfl⟩ := nI_of h0
    rcases Nat.lt_or_ge j n with hn | hn
    · have lt : nI j < nI n := nI_lt hn (by omega)
      have nle : ¬ nI n ≤ nI j := nI_ge hn (by omega)
      refine br_t lt ?_
      rcases Classical.em (v2 < 0) with g0 | g0
      · exact br_t g0 (br_f h0 (br_f nle (br_t g0 ⟨rfl, J⟩)))
      · refine br_f g0 ?_
        obtain ⟨i, hi, rfl⟩ := nI_of g0
        rcases Nat.lt_or_ge 2 i with i2 | i2
        · exact br_t (nI_lt (a := 2) i2 hi) (br_f h0 (br_f nle (br_f g0 (br_f (nI_ge (a := 2) i2 hi) ⟨rfl, J⟩))))
        · refine br_f (nI_nlt (b := i) (a := 2) i2 (by omega)) ?_
          obtain ⟨f1, f2, f3, _⟩ := FA j hn
          have ej : (nI j).toNatClampNeg = j := nI_clamp hj
          have jin : vp_in (nI j) 160 := vp_in_nI (by omega) (by omega)
          have e : 3 * nI j + nI i = nI (3 * j + i) := by rw [ch_3t, nI_add]
          have ee : (nI (3 * j + i)).toNatClampNeg = 3 * j + i := nI_clamp (by omega)
          have ein : vp_in (nI (3 * j + i)) 480 := vp_in_nI (by omega) (by omega)
          have le2 : nI i ≤ 2 := nI_le (b := 2) i2 (by omega)
          rw [ej, e, ee]
          have : i = 0 ∨ i = 1 ∨ i = 2 := by omega
          rcases this with rfl | rfl | rfl
          · exact br_t rfl ⟨jin, br_f h0 (br_f nle (br_f g0 (br_t le2 ⟨ein, f1, J⟩)))⟩
          · exact br_f (by decide) (br_t rfl ⟨jin, br_f h0 (br_f nle (br_f g0 (br_t le2 ⟨ein, f2, J⟩)))⟩)
          · exact br_f (by decide) (br_f (by decide) (br_t rfl ⟨jin, br_f h0 (br_f nle (br_f g0 (br_t le2 ⟨ein, f3, J⟩)))⟩))
    · exact br_f (nI_nlt hn hj) (br_f h0 (br_t (nI_le hn hj) ⟨rfl, J⟩))
theorem i_vc_fired {k : Nat} {u : SX} {v : SY} (I : i_Rel k u v) (hk : k + 5 ≤ 2562) (v1 : Int32) (v2 : Int32) : wpX_fired (fun r => wpY_fired (fun r' => r' = r ∧ i_Rel (k + 5) u v) v v1 v2) u v1 v2 := by
  refine ch_el (P := fun u v => wpX_fired (fun r => wpY_fired (fun r' => r' = r ∧ i_Rel (k + 5) u v) v v1 v2) u v1 v2) ?_ I
  clear I
  intro sl ll nc o t n ag lg ob xbm aR aP aS aA aB aL bf af fo lo cR cH cF cS gI gS gA gB kR kI hs iv vs yF yG yQ yp yv yk I
  have J := ch_rel (ch_In_k (k' := k + 5) (by omega) I) (xbm := xbm) (iv := iv) (vs := vs) (yp := yp) (yv := yv) (yk := yk)
  obtain ⟨n160, _, l48, _⟩ := ch_In_n I
  have LG := I.2.2.2.2.1.1
  unfold wpX_fired wpY_fired
  dsimp only
  rcases Classical.em (v1 < 0) with h0 | h0
  · exact br_t h0 (br_t h0 ⟨rfl, J⟩)
  · refine br_f h0 ?_
    obtain ⟨j, hj, rfl⟩ := nI_of h0
    rcases Nat.lt_or_ge j lg with hn | hn
    · have nle : ¬ nI lg ≤ nI j := nI_ge hn (by omega)
      refine br_f nle ?_
      rcases Classical.em (v2 < 0) with g0 | g0
      · exact br_t g0 (br_f h0 (br_f nle (br_t g0 ⟨rfl, J⟩)))
      · refine br_f g0 ?_
        obtain ⟨i, hi, rfl⟩ := nI_of g0
        rcases Nat.lt_or_ge 3 i with i3 | i3
        · exact br_f (nI_ge (a := 3) i3 hi) (br_f h0 (br_f nle (br_f g0 (br_f (nI_ge (a := 3) i3 hi) ⟨rfl, J⟩))))
        · have le3 : nI i ≤ 3 := nI_le (b := 3) i3 (by omega)
          refine br_t le3 ?_
          obtain ⟨f1, f2, f3, f4⟩ := LG j hn
          have ej : (nI j).toNatClampNeg = j := nI_clamp hj
          have jin : vp_in (nI j) 48 := vp_in_nI (by omega) (by omega)
          have e : 4 * nI j + nI i = nI (4 * j + i) := by rw [ch_4t, nI_add]
          have ee : (nI (4 * j + i)).toNatClampNeg = 4 * j + i := nI_clamp (by omega)
          have ein : vp_in (nI (4 * j + i)) 192 := vp_in_nI (by omega) (by omega)
          rw [ej, e, ee]
          rcases Nat.eq_zero_or_pos i with z | z
          · subst z
            exact br_t rfl ⟨jin, br_f h0 (br_f nle (br_f g0 (br_t le3 ⟨ein, f1, J⟩)))⟩
          · have x : 3 * nI j + nI i - 1 = nI (3 * j + i - 1) := by rw [ch_3t, nI_add]; exact pk_sub (b := 1) (by omega)
            have xe : (nI (3 * j + i - 1)).toNatClampNeg = 3 * j + i - 1 := nI_clamp (by omega)
            rw [x, xe]
            refine br_f (nI_ne0 z hi) ⟨vp_in_nI (by omega) (by omega), br_f h0 (br_f nle (br_f g0 (br_t le3 ⟨ein, ?_, J⟩)))⟩
            have : i = 1 ∨ i = 2 ∨ i = 3 := by omega
            rcases this with rfl | rfl | rfl
            · exact f2
            · exact f3
            · exact f4
    · exact br_t (nI_le hn hj) (br_f h0 (br_t (nI_le hn hj) ⟨rfl, J⟩))
theorem i_vc_entry {k : Nat} {u : SX} {v : SY} (I : i_Rel k u v) (hk : k + 5 ≤ 2562) (v1 : Int32) (v2 : Int32) : wpX_entry (fun r => wpY_entry (fun r' => r' = r ∧ i_Rel (k + 5) u v) v v1 v2) u v1 v2 := by
  refine ch_el (P := fun u v => wpX_entry (fun r => wpY_entry (fun r' => r' = r ∧ i_Rel (k + 5) u v) v v1 v2) u v1 v2) ?_ I
  clear I
  intro sl ll nc o t n ag lg ob xbm aR aP aS aA aB aL bf af fo lo cR cH cF cS gI gS gA gB kR kI hs iv vs yF yG yQ yp yv yk I
  have J := ch_rel (ch_In_k (k' := k + 5) (by omega) I) (xbm := xbm) (iv := iv) (vs := vs) (yp := yp) (yv := yv) (yk := yk)
  obtain ⟨n160, a152, l48, _⟩ := ch_In_n I
  have AG := I.2.2.2.1.1
  unfold wpX_entry wpY_entry
  dsimp only
  rcases Classical.em (v1 < 0) with h0 | h0
  · exact br_t h0 (br_t h0 ⟨rfl, J⟩)
  · refine br_f h0 ?_
    obtain ⟨j, hj, rfl⟩ := nI_of h0
    rcases Nat.lt_or_ge j ag with hn | hn
    · have lt : nI j < nI ag := nI_lt hn (by omega)
      have nle : ¬ nI ag ≤ nI j := nI_ge hn (by omega)
      have ex : nI ag - 1 - nI j = nI (ag - 1 - j) := by
        rw [show nI ag - 1 = nI (ag - 1) from pk_sub (b := 1) (by omega)]
        exact pk_sub (by omega)
      rw [ex]
      refine br_t lt (nm_e ?_)
      rcases Classical.em (v2 < 0) with g0 | g0
      · exact br_t g0 (br_f h0 (br_f nle (br_t g0 ⟨rfl, J⟩)))
      · refine br_f g0 ?_
        obtain ⟨i, hi, rfl⟩ := nI_of g0
        rcases Nat.lt_or_ge 3 i with i3 | i3
        · exact br_t (nI_lt (a := 3) i3 hi) (br_f h0 (br_f nle (br_f g0 (br_f (nI_ge (a := 3) i3 hi) ⟨rfl, J⟩))))
        · have le3 : nI i ≤ 3 := nI_le (b := 3) i3 (by omega)
          refine br_f (nI_nlt (b := i) (a := 3) i3 (by omega)) ?_
          obtain ⟨f1, f2, f3, f4, _⟩ := AG (ag - 1 - j) (by omega)
          have ej : (nI (ag - 1 - j)).toNatClampNeg = ag - 1 - j := nI_clamp (by omega)
          have jin : vp_in (nI (ag - 1 - j)) 152 := vp_in_nI (by omega) (by omega)
          have e : 4 * nI (ag - 1 - j) + nI i = nI (4 * (ag - 1 - j) + i) := by rw [ch_4t, nI_add]
          have ee : (nI (4 * (ag - 1 - j) + i)).toNatClampNeg = 4 * (ag - 1 - j) + i := nI_clamp (by omega)
          have ein : vp_in (nI (4 * (ag - 1 - j) + i)) 608 := vp_in_nI (by omega) (by omega)
          rw [ej, e, ee]
          have : i = 0 ∨ i = 1 ∨ i = 2 ∨ i = 3 := by omega
          rcases this with rfl | rfl | rfl | rfl
          · exact br_t rfl ⟨jin, br_f h0 (br_f nle (br_f g0 (br_t le3 ⟨ein, f1, J⟩)))⟩
          · exact br_f (by decide) (br_t rfl ⟨jin, br_f h0 (br_f nle (br_f g0 (br_t le3 ⟨ein, f2, J⟩)))⟩)
          · exact br_f (by decide) (br_f (by decide) (br_t rfl ⟨jin, br_f h0 (br_f nle (br_f g0 (br_t le3 ⟨ein, f3, J⟩)))⟩))
          · exact br_f (by decide) (br_f (by decide) (br_f (by decide) (br_t rfl ⟨jin, br_f h0 (br_f nle (br_f g0 (br_t le3 ⟨ein, f4, J⟩)))⟩)))
    · exact br_f (nI_nlt hn hj) (br_f h0 (br_t (nI_le hn hj) ⟨rfl, J⟩))
end
section
theorem i_vc_part {k : Nat} {u : SX} {v : SY} (I : i_Rel k u v) (hk : k + 5 ≤ 2562) (v1 : Int32) (v2 : Int32) : wpX_part (fun r => wpY_part (fun r' => r' = r ∧ i_Rel (k + 5) u v) v v1 v2) u v1 v2 := by
  refine ch_el (P := fun u v => wpX_part (fun r => wpY_part (fun r' => r' = r ∧ i_Rel (k + 5) u v) v v1 v2) u v1 v2) ?_ I
  clear I
  intro sl ll nc o t n ag lg ob xbm aR aP aS aA aB aL bf af fo lo cR cH cF cS gI gS gA gB kR kI hs iv vs yF yG yQ yp yv yk I
  have J := ch_rel (ch_In_k (k' := k + 5) (by omega) I) (xbm := xbm) (iv := iv) (vs := vs) (yp := yp) (yv := yv) (yk := yk)
  obtain ⟨_, _, _, nc6⟩ := ch_In_n I
  have o01 : o = 0 ∨ o = 1 := by have := I.1.1.2.2.2.2.2.1; omega
  have onc : o = 1 → nc < 6 := fun z => (I.1.2.1 z).1
  have X : ∀ post : Int32 → Prop, wX_part_20 post v1 v2 (nI (nc + o)) (nI sl) (nI ll) (nI nc) (nI o) ob (nI n) (nI (ch_ca aL n)) (nI ag) (nI t) (nI lg) xbm aR aP aS aA aB aL bf af fo lo cR cH cF cS gI gS gA gB kR kI hs iv vs → wpX_part post (nI sl, nI ll, nI nc, nI o, ob, nI n, nI (ch_ca aL n), nI ag, nI t, nI lg, xbm, aR, aP, aS, aA, aB, aL, bf, af, fo, lo, cR, cH, cF, cS, gI, gS, gA, gB, kR, kI, hs, iv, vs) v1 v2 := by
    intro post k
    unfold wpX_part
    rcases o01 with rfl | rfl
    · exact br_t rfl k
    · refine br_f ch_10 ?_
      rw [ch_a1]
      exact k
  have bad : (∀ post : Int32 → Prop, post (-1) → wX_part_20 post v1 v2 (nI (nc + o)) (nI sl) (nI ll) (nI nc) (nI o) ob (nI n) (nI (ch_ca aL n)) (nI ag) (nI t) (nI lg) xbm aR aP aS aA aB aL bf af fo lo cR cH cF cS gI gS gA gB kR kI hs iv vs) → wpY_part (fun r' => r' = -1 ∧ i_Rel (k + 5) (nI sl, nI ll, nI nc, nI o, ob, nI n, nI (ch_ca aL n), nI ag, nI t, nI lg, xbm, aR, aP, aS, aA, aB, aL, bf, af, fo, lo, cR, cH, cF, cS, gI, gS, gA, gB, kR, kI, hs, iv, vs) (nI sl, nI ll, nI nc, nI o, nI t, nI n, nI lg, nI ag, aR, yF, aL, yG, yQ, yp, yv, yk)) (nI sl, nI ll, nI nc, nI o, nI t, nI n, nI lg, nI ag, aR, yF, aL, yG, yQ, yp, yv, yk) v1 v2 → wpX_part (fun r => wpY_part (fun r' => r' = r ∧ i_Rel (k + 5) (nI sl, nI ll, nI nc, nI o, ob, nI n, nI (ch_ca aL n), nI ag, nI t, nI lg, xbm, aR, aP, aS, aA, aB, aL, bf, af, fo, lo, cR, cH, cF, cS, gI, gS, gA, gB, kR, kI, hs, iv, vs) (nI sl, nI ll, nI nc, nI o, nI t, nI n, nI lg, nI ag, aR, yF, aL, yG, yQ, yp, yv, yk)) (nI sl, nI ll, nI nc, nI o, nI t, nI n, nI lg, nI ag, aR, yF, aL, yG, yQ, yp, yv, yk) v1 v2) (nI sl, nI ll, nI nc, nI o, ob, nI n, nI (ch_ca aL n), nI ag, nI t, nI lg, xbm, aR, aP, aS, aA, aB, aL, bf, af, fo, lo, cR, cH, cF, cS, gI, gS, gA, gB, kR, kI, hs, iv, vs) v1 v2 :=
    fun a b => X _ (a _ b)
  rcases Classical.em (v2 < 0) with g0 | g0
  · refine bad (fun post hp => ?_) ?_
    · unfold wX_part_20
      exact br_c (fun _ => hp) (fun _ => br_c (fun _ => hp) (fun _ => br_t g0 hp))
    · unfold wpY_part
      exact br_t g0 ⟨rfl, J⟩
  · obtain ⟨i, hi, rfl⟩ := nI_of g0
    rcases Nat.lt_or_ge 39 i with i39 | i39
    · refine bad (fun post hp => ?_) ?_
      · unfold wX_part_20
        exact br_c (fun _ => hp) (fun _ => br_c (fun _ => hp) (fun _ => br_f g0 (br_f (nI_ge (a := 39) i39 hi) hp)))
      · unfold wpY_part
        exact br_f g0 (br_t (nI_lt (a := 39) i39 hi) ⟨rfl, J⟩)
    · have n39 : ¬ (39 : Int32) < nI i := nI_nlt (b := i) (a := 39) i39 (by omega)
      rcases Classical.em (v1 < 0) with h0 | h0
      · refine bad (fun post hp => ?_) ?_
        · unfold wX_part_20
          exact br_t h0 hp
        · unfold wpY_part
          exact br_f g0 (br_f n39 (br_t h0 ⟨rfl, J⟩))
      · obtain ⟨j, hj, rfl⟩ := nI_of h0
        rcases Nat.lt_or_ge j (nc + o) with hn | hn
        · refine X _ ?_
          have e : nI j * 40 + nI i = nI (40 * j + i) := by rw [ch_t40, nI_add]
          have e' : 40 * nI j + nI i = nI (40 * j + i) := by rw [ch_40t, nI_add]
          have ein : vp_in (nI (40 * j + i)) 240 := vp_in_nI (by omega) (by omega)
          have Y : wpY_part (fun r' => r' = aR (nI (40 * j + i)).toNatClampNeg ∧ i_Rel (k + 5) (nI sl, nI ll, nI nc, nI o, ob, nI n, nI (ch_ca aL n), nI ag, nI t, nI lg, xbm, aR, aP, aS, aA, aB, aL, bf, af, fo, lo, cR, cH, cF, cS, gI, gS, gA, gB, kR, kI, hs, iv, vs) (nI sl, nI ll, nI nc, nI o, nI t, nI n, nI lg, nI ag, aR, yF, aL, yG, yQ, yp, yv, yk)) (nI sl, nI ll, nI nc, nI o, nI t, nI n, nI lg, nI ag, aR, yF, aL, yG, yQ, yp, yv, yk) (nI j) (nI i) := by
            have fin : wY_part_39 (fun r' => r' = aR (nI (40 * j + i)).toNatClampNeg ∧ i_Rel (k + 5) (nI sl, nI ll, nI nc, nI o, ob, nI n, nI (ch_ca aL n), nI ag, nI t, nI lg, xbm, aR, aP, aS, aA, aB, aL, bf, af, fo, lo, cR, cH, cF, cS, gI, gS, gA, gB, kR, kI, hs, iv, vs) (nI sl, nI ll, nI nc, nI o, nI t, nI n, nI lg, nI ag, aR, yF, aL, yG, yQ, yp, yv, yk)) (nI j) (nI i) (nI sl) (nI ll) (nI nc) (nI o) (nI t) (nI n) (nI lg) (nI ag) aR yF aL yG yQ yp yv yk := by
              unfold wY_part_39
              rw [e']
              exact ⟨ein, rfl, J⟩
            unfold wpY_part
            refine br_f g0 (br_f n39 (br_f h0 (br_f (nI_nlt (by omega) (by omega)) ?_)))
            rcases Nat.lt_or_ge j nc with z | z
            · exact br_f (fun y => by have := (nI_eq (by omega) (by omega)).mp y; omega) fin
            · have : j = nc := by omega
              subst this
              have : o = 1 := by omega
              subst this
              exact br_t rfl (br_f ch_10 fin)
          unfold wX_part_20
          rw [e]
          exact br_f h0 (br_f (nI_ge hn (by omega)) (br_f g0 (br_t (nI_le (b := 39) i39 (by omega)) ⟨ein, Y⟩)))
        · refine bad (fun post hp => ?_) ?_
          · unfold wX_part_20
            exact br_f h0 (br_t (nI_le hn hj) hp)
          · unfold wpY_part
            refine br_f g0 (br_f n39 (br_f h0 ?_))
            rcases Nat.lt_or_ge nc j with z | z
            · exact br_t (nI_lt z hj) ⟨rfl, J⟩
            · have : j = nc := by omega
              subst this
              have : o = 0 := by omega
              subst this
              exact br_f (nI_nlt (Nat.le_refl _) hj) (br_t rfl (br_t rfl ⟨rfl, J⟩))
/-- the first alive id of a symbol that isn't below `from` -/
def ch_Rn (S L : Nat → Int32) (n : Nat) (s fr q : Int32) : Prop :=
  (q = -1 ∧ ∀ j, j < n → ¬ L j = 0 → S j = s → nI j < fr) ∨ (∃ i, q = nI i ∧ i < n ∧ ¬ L i = 0 ∧ S i = s ∧ ¬ nI i < fr ∧ ∀ j, j < i → ¬ L j = 0 → S j = s → nI j < fr)
section
variable {xsl xll xnc xro xob xn xal xag xtl xlg xbm : Int32} {aR aP aS aA aB aL bf af fo lo cR cH cF cS gI gS gA gB kR kI hs iv vs : Nat → Int32}
variable {n s : Nat} {T : Nat → Nat}
theorem cx_next_lp {fr : Int32} (LK : ch_LK aS aL bf af fo lo n T) (hn : n ≤ 160) (s8 : s < 8) :
    ∀ d l y e, n - l ≤ d → y ≤ l → l ≤ n → ch_Nx aS aL n (nI s) l e → (∀ j, j < l → ¬ aL j = 0 → aS j = nI s → nI j < fr) →
    ∃ q, ch_Rn aS aL n (nI s) fr q ∧ ∀ post : Int32 → Prop, post q → wX_next_20 post fr xsl xll xnc xro xob xn xal xag xtl xlg xbm aR aP aS aA aB aL bf af fo lo cR cH cF cS gI gS gA gB kR kI hs iv vs (d + 1) e (nI y) := by
  intro d
  induction d with
  | zero =>
    intro l y e hd hy hl nx lo'
    rcases nx with ⟨e1, h⟩ | ⟨i, e1, i1, i2, _⟩
    · refine ⟨-1, Or.inl ⟨rfl, fun j hj a b => lo' j (by omega) a b⟩, fun post hp => ?_⟩
      unfold wX_next_20
      rw [e1]
      rcases Classical.em ((160 : Int32) ≤ nI y) with z | z
      · exact br_t z hp
      · exact br_f z (br_t rfl hp)
    · omega
  | succ d ih =>
    intro l y e hd hy hl nx lo'
    rcases nx with ⟨e1, h⟩ | ⟨i, e1, i1, i2, i3, i4, i5⟩
    · refine ⟨-1, Or.inl ⟨rfl, fun j hj a b => ?_⟩, fun post hp => ?_⟩
      · rcases Nat.lt_or_ge j l with z | z
        · exact lo' j z a b
        · exact absurd b (h j z hj a)
      · unfold wX_next_20
        rw [e1]
        rcases Classical.em ((160 : Int32) ≤ nI y) with z | z
        · exact br_t z hp
        · exact br_f z (br_t rfl hp)
    · subst e1
      have y160 : ¬ (160 : Int32) ≤ nI y := nI_ge (b := 160) (by omega) (by omega)
      have low : ∀ j, j < i → ¬ aL j = 0 → aS j = nI s → nI j < fr := by
        intro j hj a b
        rcases Nat.lt_or_ge j l with z | z
        · exact lo' j z a b
        · exact absurd b (i5 j z hj a)
      rcases Classical.em (fr ≤ nI i) with z | z
      · refine ⟨nI i, Or.inr ⟨i, rfl, i2, i3, i4, Int32.not_lt.mpr z, low⟩, fun post hp => ?_⟩
        unfold wX_next_20
        exact br_f y160 (br_f (ch_m1 (by omega)) (br_t z hp))
      · have lt : nI i < fr := Int32.not_le.mp z
        have nx := LK.2.2.1 i i2 i3
        rw [i4] at nx
        obtain ⟨q, q1, q2⟩ := ih (i + 1) (y + 1) (af i) (by omega) (by omega) (by omega) nx (fun j hj a b => by
          rcases Nat.lt_or_ge j i with w | w
          · exact low j w a b
          · rw [show j = i by omega]; exact lt)
        refine ⟨q, q1, fun post hp => ?_⟩
        unfold wX_next_20
        rw [show (nI i).toNatClampNeg = i from nI_clamp (by omega)]
        exact br_f y160 (br_f (ch_m1 (by omega)) (br_f z ⟨vp_in_nI (by omega) (by omega), nm_e (nm_r (ch_a1 y) (q2 post hp))⟩))
end
section
variable {ysl yll ync yop ytl yn ylg yag : Int32} {yR yF yL yG yQ yp yv yk : Nat → Int32}
variable {n : Nat} {aS : Nat → Int32}
theorem cy_next_lp {s fr q : Int32} (hF : ∀ i, i < n → yF (3 * i) = aS i) (hn : n ≤ 160) (R : ch_Rn aS yL n s fr q) (post : Int32 → Prop) (hp : post q) :
    ∀ m i, i + m = n → (∀ j, j < i → ¬ (¬ yL j = 0 ∧ aS j = s ∧ ¬ nI j < fr)) → wY_next_2 post s fr ysl yll ync yop ytl (nI n) ylg yag yR yF yL yG yQ yp yv yk (m + 1) (nI i) := by
  intro m
  induction m with
  | zero =>
    intro i hi h
    have : i = n := by omega
    subst this
    have e : q = -1 := by
      rcases R with ⟨e, _⟩ | ⟨j, e, j1, j2, j3, j4, _⟩
      · exact e
      · exact absurd ⟨j2, j3, j4⟩ (h j j1)
    subst e
    unfold wY_next_2
    exact br_t (Int32.le_refl _) hp
  | succ m ih =>
    intro i hi h
    have nle : ¬ nI n ≤ nI i := nI_ge (by omega) (by omega)
    have go : ¬ (¬ yL i = 0 ∧ aS i = s ∧ ¬ nI i < fr) → wY_next_2 post s fr ysl yll ync yop ytl (nI n) ylg yag yR yF yL yG yQ yp yv yk (m + 1) (nI (i + 1)) := by
      intro z
      refine ih (i + 1) (by omega) (fun j hj => ?_)
      rcases Nat.lt_or_ge j i with w | w
      · exact h j w
      · rw [show j = i by omega]; exact z
    unfold wY_next_2
    rw [show (nI i).toNatClampNeg = i from nI_clamp (by omega), ch_3t, show (nI (3 * i)).toNatClampNeg = 3 * i from nI_clamp (by omega), hF i (by omega)]
    refine br_f nle ?_
    rcases Classical.em (nI i < fr) with a | a
    · exact br_t a (nm_r (ch_a1 i) (go (fun z => z.2.2 a)))
    · refine br_f a ⟨vp_in_nI (by omega) (by omega), ?_⟩
      rcases Classical.em (yL i = 0) with b | b
      · exact br_t b (nm_r (ch_a1 i) (go (fun z => z.1 b)))
      · refine br_f b ⟨vp_in_nI (by omega) (by omega), ?_⟩
        rcases Classical.em (aS i = s) with c | c
        · have e : q = nI i := by
            rcases R with ⟨e, h'⟩ | ⟨j, e, j1, j2, j3, j4, j5⟩
            · exact absurd (h' i (by omega) b c) a
            · rcases Nat.lt_trichotomy i j with w | w | w
              · exact absurd (j5 i w b c) a
              · rw [w]; exact e
              · exact absurd ⟨j2, j3, j4⟩ (h j w)
          subst e
          exact br_t c hp
        · exact br_f c (nm_r (ch_a1 i) (go (fun z => c z.2.1)))
end
theorem cx_isSymbol {u : SX} {x : Int32} : ∃ q : Int32, (q = 0 ∨ q = 1) ∧ (q = 1 ↔ ∃ s, s < 8 ∧ x = nI s) ∧ ∀ post : Int32 → Prop, post q → wpX_isSymbol post u x := by
  rcases Classical.em (x < 0) with h0 | h0
  · refine ⟨0, Or.inl rfl, ⟨fun z => absurd z.symm ch_10, ?_⟩, fun post hp => ?_⟩
    · rintro ⟨s, s8, rfl⟩
      exact absurd h0 (nI_pos (by omega))
    · unfold wpX_isSymbol
      exact br_t h0 hp
  · obtain ⟨j, hj, rfl⟩ := nI_of h0
    rcases Nat.lt_or_ge 7 j with h | h
    · refine ⟨0, Or.inl rfl, ⟨fun z => absurd z.symm ch_10, ?_⟩, fun post hp => ?_⟩
      · rintro ⟨s, s8, e⟩
        have := (nI_eq hj (by omega)).mp e
        omega
      · unfold wpX_isSymbol
        exact br_f h0 (br_t (nI_lt (a := 7) h hj) hp)
    · refine ⟨1, Or.inr rfl, ⟨fun _ => ⟨j, by omega, rfl⟩, fun _ => rfl⟩, fun post hp => ?_⟩
      unfold wpX_isSymbol
      exact br_f h0 (br_f (nI_nlt (b := j) (a := 7) h (by omega)) hp)
theorem i_vc_next {k : Nat} {u : SX} {v : SY} (I : i_Rel k u v) (hk : k + 5 ≤ 2562) (v1 : Int32) (v2 : Int32) : wpX_next (fun r => wpY_next (fun r' => r' = r ∧ i_Rel (k + 5) u v) v v1 v2) u v1 v2 := by
  refine ch_el (P := fun u v => wpX_next (fun r => wpY_next (fun r' => r' = r ∧ i_Rel (k + 5) u v) v v1 v2) u v1 v2) ?_ I
  clear I
  intro sl ll nc o t n ag lg ob xbm aR aP aS aA aB aL bf af fo lo cR cH cF cS gI gS gA gB kR kI hs iv vs yF yG yQ yp yv yk I
  have J := ch_rel (ch_In_k (k' := k + 5) (by omega) I) (xbm := xbm) (iv := iv) (vs := vs) (yp := yp) (yv := yv) (yk := yk)
  obtain ⟨n160, _, _, nc6⟩ := ch_In_n I
  have FA := I.2.2.1
  obtain ⟨T, _, LK, _⟩ := ch_In_SC I
  have Y : ∀ q, ch_Rn aS aL n v1 v2 q → wpY_next (fun r' => r' = q ∧ i_Rel (k + 5) (nI sl, nI ll, nI nc, nI o, ob, nI n, nI (ch_ca aL n), nI ag, nI t, nI lg, xbm, aR, aP, aS, aA, aB, aL, bf, af, fo, lo, cR, cH, cF, cS, gI, gS, gA, gB, kR, kI, hs, iv, vs) (nI sl, nI ll, nI nc, nI o, nI t, nI n, nI lg, nI ag, aR, yF, aL, yG, yQ, yp, yv, yk)) (nI sl, nI ll, nI nc, nI o, nI t, nI n, nI lg, nI ag, aR, yF, aL, yG, yQ, yp, yv, yk) v1 v2 := by
    intro q R
    unfold wpY_next
    exact ⟨n + 1, cy_next_lp (fun i hi => (FA i hi).1) n160 R _ ⟨rfl, J⟩ n 0 (by omega) (fun j hj => by omega)⟩
  obtain ⟨q, q1, q2, q3⟩ := cx_isSymbol (x := v1) (u := (nI sl, nI ll, nI nc, nI o, ob, nI n, nI (ch_ca aL n), nI ag, nI t, nI lg, xbm, aR, aP, aS, aA, aB, aL, bf, af, fo, lo, cR, cH, cF, cS, gI, gS, gA, gB, kR, kI, hs, iv, vs))
  unfold wpX_next
  refine q3 _ ?_
  rcases q1 with rfl | rfl
  · refine br_t rfl (Y (-1) (Or.inl ⟨rfl, fun j hj _ e => ?_⟩))
    obtain ⟨s, s8, es⟩ := (FA j hj).2.2.2
    exact absurd (q2.mpr ⟨s, s8, e.symm.trans es⟩) (fun z => ch_10 z.symm)
  · obtain ⟨s, s8, rfl⟩ := q2.mp rfl
    obtain ⟨q, R, w⟩ := cx_next_lp (fr := v2) LK n160 s8 n 0 0 (fo s) (by omega) (by omega) (by omega) (LK.1 s s8) (fun j hj => by omega) (xsl := nI sl) (xll := nI ll) (xnc := nI nc) (xro := nI o) (xob := ob) (xn := nI n) (xal := nI (ch_ca aL n)) (xag := nI ag) (xtl := nI t) (xlg := nI lg) (xbm := xbm) (aR := aR) (aP := aP) (aS := aS) (aA := aA) (aB := aB) (aL := aL) (bf := bf) (af := af) (fo := fo) (lo := lo) (cR := cR) (cH := cH) (cF := cF) (cS := cS) (gI := gI) (gS := gS) (gA := gA) (gB := gB) (kR := kR) (kI := kI) (hs := hs) (iv := iv) (vs := vs)
    rw [show (nI s).toNatClampNeg = s from nI_clamp (by omega)]
    exact br_f ch_10 ⟨vp_in_nI s8 (by omega), nm_e ⟨_, w _ (Y q R)⟩⟩
theorem i_vc_tell {k : Nat} {u : SX} {v : SY} (I : i_Rel k u v) (hk : k + 5 ≤ 2562) (v1 : Int32) (v2 : Int32) (v3 : Int32) : wpX_tell (fun r u' => wpY_tell (fun r' v' => r' = r ∧ i_Rel (k + 5) u' v') v v1 v2 v3) u v1 v2 v3 := by
  refine ch_el (P := fun u v => wpX_tell (fun r u' => wpY_tell (fun r' v' => r' = r ∧ i_Rel (k + 5) u' v') v v1 v2 v3) u v1 v2 v3) ?_ I
  clear I
  intro sl ll nc o t n ag lg ob xbm aR aP aS aA aB aL bf af fo lo cR cH cF cS gI gS gA gB kR kI hs iv vs yF yG yQ yp yv yk I
  have J := ch_rel (ch_In_k (k' := k + 5) (by omega) I) (xbm := xbm) (iv := iv) (vs := vs) (yp := yp) (yv := yv) (yk := yk)
  obtain ⟨n160, a152, _, nc6⟩ := ch_In_n I
  have o01 : o = 0 ∨ o = 1 := by have := I.1.1.2.2.2.2.2.1; omega
  have tk : t ≤ k := I.1.1.2.2.2.2.2.2.1
  unfold wpX_tell
  rcases o01 with o0 | o0
  · refine br_t (by rw [o0]; rfl) ?_
    have oy : nI o = 0 := by rw [o0]; rfl
    obtain ⟨q, q1, q2, q3⟩ := cx_isSymbol (x := v1) (u := (nI sl, nI ll, nI nc, nI o, ob, nI n, nI (ch_ca aL n), nI ag, nI t, nI lg, xbm, aR, aP, aS, aA, aB, aL, bf, af, fo, lo, cR, cH, cF, cS, gI, gS, gA, gB, kR, kI, hs, iv, vs))
    refine q3 _ ?_
    rcases q1 with rfl | rfl
    · refine br_t rfl ?_
      unfold wpY_tell
      refine br_t oy ?_
      rcases Classical.em (v1 < 0) with h0 | h0
      · exact br_t h0 ⟨rfl, J⟩
      · refine br_f h0 ?_
        obtain ⟨j, hj, rfl⟩ := nI_of h0
        have : 7 < j := by
          rcases Nat.lt_or_ge 7 j with z | z
          · exact z
          · exact absurd (q2.mpr ⟨j, by omega, rfl⟩) (fun z => ch_10 z.symm)
        exact br_f (nI_ge (a := 7) this hj) ⟨rfl, J⟩
    · refine br_f ch_10 ?_
      obtain ⟨s, s8, rfl⟩ := q2.mp rfl
      have Y0 : ∀ {A B : Prop}, A → (nI s < 0 → B) ∧ (¬ nI s < 0 → ((nI s ≤ 7 → A) ∧ (¬ nI s ≤ 7 → B))) := fun a => br_f (nI_pos (by omega)) (br_t (nI_le (b := 7) (by omega) (by omega)) a)
      rcases Nat.lt_or_ge ag 8 with a8 | a8
      · have lt : nI ag < 8 := nI_lt (b := 8) a8 (by omega)
        refine br_t lt (cx_push (by omega) _ (nm_r (ch_a1 t) ?_))
        unfold wpY_tell
        refine br_t oy (Y0 (br_t lt (cy_push (by omega) _ (nm_r (ch_a1 t) ?_))))
        have I2 := ch_In_tell I o0
        have I3 := ch_In_push (db' := 0) (a := v2) (b := v3) I2 (by omega) (by omega) s8 (Q' := ch_pq yQ ag (nI s) v2 v3) (fun i hi => ch_pq_lt hi) ch_pq_at.1 ch_pq_at.2.1 ch_pq_at.2.2.1 ch_pq_at.2.2.2
        exact ⟨rfl, ch_rel (ch_In_k (k' := k + 5) (by omega) I3) (xbm := xbm) (iv := iv) (vs := vs) (yp := yp) (yv := yv) (yk := yk)⟩
      · have nlt : ¬ nI ag < 8 := nI_nlt (b := 8) a8 (by omega)
        refine br_f nlt ?_
        unfold wpY_tell
        exact br_t oy (Y0 (br_f nlt ⟨rfl, J⟩))
  · subst o0
    refine br_f ch_10 ?_
    unfold wpY_tell
    exact br_f ch_10 ⟨rfl, J⟩
theorem cx_clamp {u : SX} {x a b : Int32} (post : Int32 → Prop) (h : ((a ≤ x → (((x ≤ b → (post x)) ∧ (¬ x ≤ b → (post b))))) ∧ (¬ a ≤ x → (post a)))) : wpX_clamp post u x a b := by
  unfold wpX_clamp
  exact h
theorem i_vc_run {k : Nat} {u : SX} {v : SY} (I : i_Rel k u v) (hk : k + 5 ≤ 2562) (v1 : Int32) : wpX_run (fun r u' => wpY_run (fun r' v' => r' = r ∧ i_Rel (k + 5) u' v') v v1) u v1 := by
  refine ch_el (P := fun u v => wpX_run (fun r u' => wpY_run (fun r' v' => r' = r ∧ i_Rel (k + 5) u' v') v v1) u v1) ?_ I
  clear I
  intro sl ll nc o t n ag lg ob xbm aR aP aS aA aB aL bf af fo lo cR cH cF cS gI gS gA gB kR kI hs iv vs yF yG yQ yp yv yk I
  obtain ⟨n160, a152, _, nc6⟩ := ch_In_n I
  have wl : ch_wt gI ag ≤ ag := cn_le _ _
  have main : ∀ most, most ≤ 16 → ∀ (PY : (Int32 → SY → Prop) → Prop), (∀ post, (∃ n26 : Nat, wY_run_26 post (nI most) n26 0 0 (nI sl) (nI ll) (nI nc) (nI o) (nI t) (nI n) (nI lg) (nI ag) aR yF aL yG yQ yp yv yk) → PY post) → ∃ n11 : Nat, wX_run_11 (fun r u' => PY (fun r' v' => r' = r ∧ i_Rel (k + 5) u' v')) n11 (nI most) 0 (nI sl) (nI ll) (nI nc) (nI o) ob (nI n) (nI (ch_ca aL n)) (nI ag) (nI t) (nI lg) xbm aR aP aS aA aB aL bf af fo lo cR cH cF cS gI gS gA gB kR kI hs iv vs := by
    intro most hm PY hY
    obtain ⟨q, u', v', r1, r2, r3⟩ := cl_run (k := k) (sl := sl) (ll := ll) (nc := nc) (o := o) (t := t) (ob := ob) (aR := aR) (aP := aP) hm 420 most 0 0 n ag lg xbm aS aA aB aL bf af fo lo cR cH cF cS gI gS gA gB kR kI hs iv vs yF yG yQ yp yv yk (Nat.le_refl _) (by omega) (by omega) (by omega) I
    refine ⟨421, r2 _ (hY _ ⟨421, ?_⟩)⟩
    have := r3 (fun r' v' => r' = q ∧ i_Rel (k + 5) u' v') ⟨rfl, i_up r1⟩
    rw [Nat.sub_self] at this
    exact this
  unfold wpX_run
  refine cx_clamp _ ?_
  rcases Classical.em ((0 : Int32) ≤ v1) with h0 | h0
  · obtain ⟨j, hj, rfl⟩ := nI_of (x := v1) (Int32.not_lt.mpr h0)
    rcases Nat.lt_or_ge 16 j with z | z
    · have n16 : ¬ nI j ≤ 16 := nI_ge (a := 16) z hj
      refine br_t h0 (br_f n16 (main 16 (by omega) (fun post => wpY_run post (nI sl, nI ll, nI nc, nI o, nI t, nI n, nI lg, nI ag, aR, yF, aL, yG, yQ, yp, yv, yk) (nI j)) (fun post hp => ?_)))
      unfold wpY_run
      exact br_t h0 (br_f n16 hp)
    · have n16 : nI j ≤ 16 := nI_le (b := 16) z (by omega)
      refine br_t h0 (br_t n16 (main j z (fun post => wpY_run post (nI sl, nI ll, nI nc, nI o, nI t, nI n, nI lg, nI ag, aR, yF, aL, yG, yQ, yp, yv, yk) (nI j)) (fun post hp => ?_)))
      unfold wpY_run
      exact br_t h0 (br_t n16 hp)
  · refine br_f h0 (main 0 (by omega) (fun post => wpY_run post (nI sl, nI ll, nI nc, nI o, nI t, nI n, nI lg, nI ag, aR, yF, aL, yG, yQ, yp, yv, yk) v1) (fun post hp => ?_))
    unfold wpY_run
    exact br_f h0 hp
end
section
section
variable {xsl xll xnc xro xob xn xal xag xtl xlg xbm : Int32} {aR aP aS aA aB aL bf af fo lo cR cH cF cS gI gS gA gB kR kI hs iv vs : Nat → Int32}
variable {yG : Nat → Int32} {n lg nc r : Nat} {T : Nat → Nat}
/-- X's heads one by one, for a given choice -/
theorem cx_heads {x y z : Int32} (C : ch_SC aR aP aS aL bf af fo lo hs yG n lg nc T) (hr : r < nc) (p0 : iv 0 = x) (p1 : iv 1 = y) (p2 : iv 2 = z)
    (dst : ∀ h h', h < h' → h' < ch_nh (ch_bl aR r) → ¬ ch_t3 x y z h = ch_t3 x y z h') :
    ∀ d i bm vs, i + d = 3 → (∀ h, h < i → h < ch_nh (ch_bl aR r) → ch_Al aL n (ch_t3 x y z h)) → (∀ h, h < i → ch_nh (ch_bl aR r) ≤ h → ch_t3 x y z h = -1) →
    ch_M (ch_b bm) (fun w => ∀ h, h < i → h < ch_nh (ch_bl aR r) → ch_Hd (ch_bl aR r) aS aA aB h (ch_t3 x y z h).toNatClampNeg w) vs → (∀ q, q < 6 → ch_b bm q → ch_D (ch_bl aR r) 0 q) →
    ∃ (q bm' : Int32) (vs' : Nat → Int32), (q = 0 ∨ q = 1) ∧ (q = 1 ↔ ch_Ap aR aS aA aB aL yG n lg r x y z) ∧
      ∀ post : Int32 → SX → Prop, post q (xsl, xll, xnc, xro, xob, nI n, xal, xag, xtl, xlg, bm', aR, aP, aS, aA, aB, aL, bf, af, fo, lo, cR, cH, cF, cS, gI, gS, gA, gB, kR, kI, hs, iv, vs') → wX_applicable_86 post (nI r) (nI (ch_nh (ch_bl aR r))) (d + 1) (nI i) xsl xll xnc xro xob (nI n) xal xag xtl xlg bm aR aP aS aA aB aL bf af fo lo cR cH cF cS gI gS gA gB kR kI hs iv vs := by
  obtain ⟨W, nh1, pr⟩ := C.2.2.2.2.2 r hr
  have nh3 := W.1.2.1
  have n160 := C.1
  have nc6 := C.2.2.1
  have pt : ∀ i, i < 3 → iv i = ch_t3 x y z i := by
    intro i hi
    have : i = 0 ∨ i = 1 ∨ i = 2 := by omega
    rcases this with rfl | rfl | rfl
    · exact p0
    · exact p1
    · exact p2
  intro d
  induction d with
  | zero =>
    intro i bm vs hi A1 A2 M hD
    have e : i = 3 := by omega
    subst e
    have mv := ch_M_self M
    have MV : ch_Mt (ch_bl aR r) aS aA aB x y z vs := fun h hh => mv h (by omega) hh
    have code : ∀ h, h < 3 → ∃ a, a ≤ 160 ∧ iv h = ch_cd a ∧ (h < ch_nh (ch_bl aR r) → 1 ≤ a) := by
      intro h h3
      rcases Nat.lt_or_ge h (ch_nh (ch_bl aR r)) with q | q
      · obtain ⟨i, hi, ei, _⟩ := A1 h h3 q
        exact ⟨i + 1, by omega, by rw [pt h h3, ei, ch_cdS], fun _ => by omega⟩
      · exact ⟨0, by omega, by rw [pt h h3, A2 h h3 q, ch_cd0], fun y => by omega⟩
    obtain ⟨a, a1, ea, a2⟩ := code 0 (by omega)
    obtain ⟨b, b1, eb, _⟩ := code 1 (by omega)
    obtain ⟨d, d1, ed, _⟩ := code 2 (by omega)
    have xa : x = ch_cd a := p0.symm.trans ea
    have yb : y = ch_cd b := p1.symm.trans eb
    have zd : z = ch_cd d := p2.symm.trans ed
    obtain ⟨q, vs', q01, qi, _, _, w⟩ := cx_holds (LGD := ch_Lg yG lg (nI r) x y z) W (by omega)
      (fun np vs => by
        have := cx_logged ea eb ed C.2.2.2.2.1 C.2.1 (show r < 6 by omega) (a2 (by omega)) a1 b1 d1 (pr.mp np) (xsl := xsl) (xll := xll) (xnc := xnc) (xro := xro) (xob := xob) (xn := nI n) (xal := xal) (xag := xag) (xtl := xtl) (xlg := xlg) (xbm := bm) (aR := aR) (aP := aP) (aS := aS) (aA := aA) (aB := aB) (aL := aL) (bf := bf) (af := af) (fo := fo) (lo := lo) (cR := cR) (cH := cH) (cF := cF) (cS := cS) (gI := gI) (gS := gS) (gA := gA) (gB := gB) (kR := kR) (kI := kI) (hs := hs) (iv := iv) (vs := vs)
        rw [← xa, ← yb, ← zd] at this
        exact this) (xsl := xsl) (xll := xll) (xnc := xnc) (xro := xro) (xob := xob) (xn := nI n) (xal := xal) (xag := xag) (xtl := xtl) (xlg := xlg) (xbm := bm) (aR := aR) (aP := aP) (aS := aS) (aA := aA) (aB := aB) (aL := aL) (bf := bf) (af := af) (fo := fo) (lo := lo) (cR := cR) (cH := cH) (cF := cF) (cS := cS) (gI := gI) (gS := gS) (gA := gA) (gB := gB) (kR := kR) (kI := kI) (hs := hs) (iv := iv) (vs := vs)
    refine ⟨q, bm, vs', q01, ?_, fun post hp => ?_⟩
    · rw [qi]
      constructor
      · rintro ⟨g, l⟩
        exact ⟨⟨fun h hh => A1 h (by omega) hh, fun h h1 h2 => A2 h h2 h1, dst⟩, ⟨vs, MV, g⟩, fun p => l (pr.mpr p)⟩
      · rintro ⟨_, ⟨w, mw, g⟩, l⟩
        exact ⟨ch_Gd_ag W (ch_Mt_ag W mw MV) g, fun z => l (pr.mp z)⟩
    · unfold wX_applicable_86
      exact br_t (by decide) (w _ ⟨ch_bo q01, hp⟩)
  | succ d ih =>
    intro i bm vs hi A1 A2 M hD
    have i3 : i < 3 := by omega
    have ei : (nI i).toNatClampNeg = i := nI_clamp (by omega)
    have c3 : ¬ (3 : Int32) ≤ nI i := nI_ge (b := 3) i3 (by omega)
    have iin : vp_in (nI i) 3 := vp_in_nI i3 (by omega)
    rcases Nat.lt_or_ge i (ch_nh (ch_bl aR r)) with hh | hh
    · have lt : nI i < nI (ch_nh (ch_bl aR r)) := nI_lt hh (by omega)
      obtain ⟨qa, qa1, qa2, qa3⟩ := cx_alive (x := ch_t3 x y z i) n160 (xsl := xsl) (xll := xll) (xnc := xnc) (xro := xro) (xob := xob) (xal := xal) (xag := xag) (xtl := xtl) (xlg := xlg) (xbm := bm) (aR := aR) (aP := aP) (aS := aS) (aA := aA) (aB := aB) (aL := aL) (bf := bf) (af := af) (fo := fo) (lo := lo) (cR := cR) (cH := cH) (cF := cF) (cS := cS) (gI := gI) (gS := gS) (gA := gA) (gB := gB) (kR := kR) (kI := kI) (hs := hs) (iv := iv) (vs := vs)
      rcases qa1 with rfl | rfl
      · refine ⟨0, bm, vs, Or.inl rfl, ⟨fun z => absurd z.symm ch_10, fun p => absurd (qa2.mpr (p.1.1 i hh)) (fun z => ch_10 z.symm)⟩, fun post hp => ?_⟩
        unfold wX_applicable_86
        rw [ei]
        exact br_f c3 ⟨iin, nm_r (pt i i3) (br_t lt (qa3 _ (br_t rfl hp)))⟩
      · obtain ⟨id, hid, eid, aid⟩ := qa2.mp rfl
        obtain ⟨m, b1, v1, m01, m1, m0, mk, md, mw⟩ := cx_matchHead (h := i) (i := id) W (by omega) hh (by omega) M hD (xsl := xsl) (xll := xll) (xnc := xnc) (xro := xro) (xob := xob) (xn := nI n) (xal := xal) (xag := xag) (xtl := xtl) (xlg := xlg) (xbm := bm) (aR := aR) (aP := aP) (aS := aS) (aA := aA) (aB := aB) (aL := aL) (bf := bf) (af := af) (fo := fo) (lo := lo) (cR := cR) (cH := cH) (cF := cF) (cS := cS) (gI := gI) (gS := gS) (gA := gA) (gB := gB) (kR := kR) (kI := kI) (hs := hs) (iv := iv) (vs := vs)
        rcases m01 with rfl | rfl
        · refine ⟨0, b1, v1, Or.inl rfl, ⟨fun z => absurd z.symm ch_10, fun p => ?_⟩, fun post hp => ?_⟩
          · obtain ⟨w, mw, _⟩ := p.2.1
            have m1 := mw i hh
            rw [eid, nI_clamp (by omega)] at m1
            exact absurd ⟨fun h _ hh => mw h hh, m1⟩ (m0 rfl w)
          · unfold wX_applicable_86
            rw [ei]
            refine br_f c3 ⟨iin, nm_r ((pt i i3).trans eid) (br_t lt ?_)⟩
            rw [eid] at qa3
            exact qa3 _ (br_f ch_10 (mw _ (br_t rfl hp)))
        · obtain ⟨q', b2, v2, r1, r2, r4⟩ := ih (i + 1) b1 v1 (by omega)
              (fun h h1 h2 => by
                rcases Nat.lt_or_ge h i with q | q
                · exact A1 h q h2
                · rw [show h = i by omega]; exact ⟨id, hid, eid, aid⟩)
              (fun h h1 h2 => A2 h (by omega) h2)
              (ch_M_cg (m1 rfl) (fun w => ⟨fun ⟨a, b⟩ h h1 h2 => by
                rcases Nat.lt_or_ge h i with q | q
                · exact a h q h2
                · rw [show h = i by omega, eid, nI_clamp (by omega)]; exact b, fun a => ⟨fun h h1 h2 => a h (by omega) h2, by
                  have := a i (by omega) hh
                  rwa [eid, nI_clamp (by omega)] at this⟩⟩)) md
          refine ⟨q', b2, v2, r1, r2, fun post hp => ?_⟩
          unfold wX_applicable_86
          rw [ei]
          refine br_f c3 ⟨iin, nm_r ((pt i i3).trans eid) (br_t lt ?_)⟩
          rw [eid] at qa3
          exact qa3 _ (br_f ch_10 (mw _ (br_f ch_10 (nm_r (ch_a1 i) (r4 post hp)))))
    · have nlt : ¬ nI i < nI (ch_nh (ch_bl aR r)) := nI_nlt hh (by omega)
      rcases Classical.em (ch_t3 x y z i = -1) with c | c
      · obtain ⟨q', b2, v2, r1, r2, r4⟩ := ih (i + 1) bm vs (by omega)
          (fun h h1 h2 => A1 h (by omega) h2)
          (fun h h1 h2 => by
            rcases Nat.lt_or_ge h i with q | q
            · exact A2 h q h2
            · rw [show h = i by omega]; exact c)
          (ch_M_cg M (fun w => ⟨fun a h h1 h2 => a h (by omega) h2, fun a h h1 h2 => a h (by omega) h2⟩)) hD
        refine ⟨q', b2, v2, r1, r2, fun post hp => ?_⟩
        unfold wX_applicable_86
        rw [ei]
        exact br_f c3 ⟨iin, nm_r (pt i i3) (br_f nlt (br_t c (nm_r (ch_a1 i) (r4 post hp))))⟩
      · refine ⟨0, bm, vs, Or.inl rfl, ⟨fun z => absurd z.symm ch_10, fun p => absurd (p.1.2.1 i hh i3) c⟩, fun post hp => ?_⟩
        unfold wX_applicable_86
        rw [ei]
        exact br_f c3 ⟨iin, nm_r (pt i i3) (br_f nlt (br_f c hp))⟩
theorem cx_app {x y z : Int32} (C : ch_SC aR aP aS aL bf af fo lo hs yG n lg nc T) (hr : r < nc) :
    ∃ (q bm' : Int32) (iv' vs' : Nat → Int32), (q = 0 ∨ q = 1) ∧ (q = 1 ↔ ch_Ap aR aS aA aB aL yG n lg r x y z) ∧
      ∀ post : Int32 → SX → Prop, post q (xsl, xll, nI nc, xro, xob, nI n, xal, xag, xtl, xlg, bm', aR, aP, aS, aA, aB, aL, bf, af, fo, lo, cR, cH, cF, cS, gI, gS, gA, gB, kR, kI, hs, iv', vs') → wpX_applicable post (xsl, xll, nI nc, xro, xob, nI n, xal, xag, xtl, xlg, xbm, aR, aP, aS, aA, aB, aL, bf, af, fo, lo, cR, cH, cF, cS, gI, gS, gA, gB, kR, kI, hs, iv, vs) (nI r) x y z := by
  obtain ⟨W, nh1, pr⟩ := C.2.2.2.2.2 r hr
  have nh3 := W.1.2.1
  have nc6 := C.2.2.1
  have k0 : aR (nI (40 * r)).toNatClampNeg = nI (ch_nh (ch_bl aR r)) := by rw [nI_clamp (by omega), ← W.1.1]; exact ch_blE (j := 0) (by omega)
  have in0 : vp_in (nI (40 * r)) 240 := vp_in_nI (by omega) (by omega)
  have ent : ∀ post : Int32 → SX → Prop, ((nI (ch_nh (ch_bl aR r)) ≤ 1 → wX_applicable_36 post (nI r) x y z (nI (ch_nh (ch_bl aR r))) xsl xll (nI nc) xro xob (nI n) xal xag xtl xlg xbm aR aP aS aA aB aL bf af fo lo cR cH cF cS gI gS gA gB kR kI hs iv vs) ∧ (¬ nI (ch_nh (ch_bl aR r)) ≤ 1 → ((x = y → post 0 (xsl, xll, nI nc, xro, xob, nI n, xal, xag, xtl, xlg, xbm, aR, aP, aS, aA, aB, aL, bf, af, fo, lo, cR, cH, cF, cS, gI, gS, gA, gB, kR, kI, hs, iv, vs)) ∧ (¬ x = y → wX_applicable_36 post (nI r) x y z (nI (ch_nh (ch_bl aR r))) xsl xll (nI nc) xro xob (nI n) xal xag xtl xlg xbm aR aP aS aA aB aL bf af fo lo cR cH cF cS gI gS gA gB kR kI hs iv vs)))) → wpX_applicable post (xsl, xll, nI nc, xro, xob, nI n, xal, xag, xtl, xlg, xbm, aR, aP, aS, aA, aB, aL, bf, af, fo, lo, cR, cH, cF, cS, gI, gS, gA, gB, kR, kI, hs, iv, vs) (nI r) x y z := by
    intro post k
    unfold wpX_applicable
    dsimp only
    rw [ch_t40, k0]
    exact br_f (nI_pos (by omega)) (br_t (nI_lt hr (by omega)) ⟨in0, nm_e k⟩)
  have no : (∃ h h', h < h' ∧ h' < ch_nh (ch_bl aR r) ∧ ch_t3 x y z h = ch_t3 x y z h') → ((0 : Int32) = 1 ↔ ch_Ap aR aS aA aB aL yG n lg r x y z) := by
    rintro ⟨h, h', h1, h2, e⟩
    exact ⟨fun z => absurd z.symm ch_10, fun p => absurd e (p.1.2.2 h h' h1 h2)⟩
  have full : (∀ h h', h < h' → h' < ch_nh (ch_bl aR r) → ¬ ch_t3 x y z h = ch_t3 x y z h') →
      ∃ (q bm' : Int32) (iv' vs' : Nat → Int32), (q = 0 ∨ q = 1) ∧ (q = 1 ↔ ch_Ap aR aS aA aB aL yG n lg r x y z) ∧
      ∀ post : Int32 → SX → Prop, post q (xsl, xll, nI nc, xro, xob, nI n, xal, xag, xtl, xlg, bm', aR, aP, aS, aA, aB, aL, bf, af, fo, lo, cR, cH, cF, cS, gI, gS, gA, gB, kR, kI, hs, iv', vs') → wX_applicable_56 post (nI r) x y z (nI (ch_nh (ch_bl aR r))) xsl xll (nI nc) xro xob (nI n) xal xag xtl xlg xbm aR aP aS aA aB aL bf af fo lo cR cH cF cS gI gS gA gB kR kI hs iv vs := by
    intro dst
    obtain ⟨q, bm', vs', q1, q2, q3⟩ := cx_heads (iv := upd (upd (upd iv 0 x) 1 y) 2 z) (x := x) (y := y) (z := z) C hr rfl rfl rfl dst 3 0 0 vs (by omega) (fun h h1 => by omega) (fun h h1 => by omega)
      (ch_M_cg (ch_M_0 (fun p hp => ch_b0 (by omega)) vs) (fun w => ⟨fun _ h h1 => by omega, fun _ => trivial⟩)) (fun q hq z => absurd z (ch_b0 (by omega))) (xsl := xsl) (xll := xll) (xnc := nI nc) (xro := xro) (xob := xob) (xal := xal) (xag := xag) (xtl := xtl) (xlg := xlg) (aR := aR) (aP := aP) (aS := aS) (aA := aA) (aB := aB) (aL := aL) (bf := bf) (af := af) (fo := fo) (lo := lo) (cR := cR) (cH := cH) (cF := cF) (cS := cS) (gI := gI) (gS := gS) (gA := gA) (gB := gB) (kR := kR) (kI := kI) (hs := hs)
    refine ⟨q, bm', upd (upd (upd iv 0 x) 1 y) 2 z, vs', q1, q2, fun post hp => ?_⟩
    unfold wX_applicable_56
    exact nm_e (nm_e (nm_e ⟨_, q3 post hp⟩))
  have H : ch_nh (ch_bl aR r) = 1 ∨ ch_nh (ch_bl aR r) = 2 ∨ ch_nh (ch_bl aR r) = 3 := by omega
  rcases H with e | e | e
  · obtain ⟨q, bm', iv', vs', q1, q2, q3⟩ := full (fun h h' h1 h2 => by omega)
    refine ⟨q, bm', iv', vs', q1, q2, fun post hp => ent post ?_⟩
    have q3 := q3 post hp
    rw [e] at q3 ⊢
    unfold wX_applicable_36
    exact br_t (by decide) (br_t (by decide) q3)
  · rcases Classical.em (x = y) with c | c
    · refine ⟨0, xbm, iv, vs, Or.inl rfl, no ⟨0, 1, by omega, by omega, c⟩, fun post hp => ent post ?_⟩
      rw [e]
      exact br_f (by decide) (br_t c hp)
    · obtain ⟨q, bm', iv', vs', q1, q2, q3⟩ := full (fun h h' h1 h2 => by
        have : h = 0 ∧ h' = 1 := by omega
        obtain ⟨rfl, rfl⟩ := this
        exact c)
      refine ⟨q, bm', iv', vs', q1, q2, fun post hp => ent post ?_⟩
      have q3 := q3 post hp
      rw [e] at q3 ⊢
      unfold wX_applicable_36
      exact br_f (by decide) (br_f c (br_t (by decide) q3))
  · rcases Classical.em (x = y) with c | c
    · refine ⟨0, xbm, iv, vs, Or.inl rfl, no ⟨0, 1, by omega, by omega, c⟩, fun post hp => ent post ?_⟩
      rw [e]
      exact br_f (by decide) (br_t c hp)
    · rcases Classical.em (x = z) with c2 | c2
      · refine ⟨0, xbm, iv, vs, Or.inl rfl, no ⟨0, 2, by omega, by omega, c2⟩, fun post hp => ent post ?_⟩
        rw [e]
        unfold wX_applicable_36
        exact br_f (by decide) (br_f c (br_f (by decide) (br_t c2 hp)))
      · rcases Classical.em (y = z) with c3 | c3
        · refine ⟨0, xbm, iv, vs, Or.inl rfl, no ⟨1, 2, by omega, by omega, c3⟩, fun post hp => ent post ?_⟩
          rw [e]
          unfold wX_applicable_36
          exact br_f (by decide) (br_f c (br_f (by decide) (br_f c2 (br_t c3 hp))))
        · obtain ⟨q, bm', iv', vs', q1, q2, q3⟩ := full (fun h h' h1 h2 => by
            have : (h = 0 ∧ h' = 1) ∨ (h = 0 ∧ h' = 2) ∨ (h = 1 ∧ h' = 2) := by omega
            rcases this with ⟨rfl, rfl⟩ | ⟨rfl, rfl⟩ | ⟨rfl, rfl⟩
            · exact c
            · exact c2
            · exact c3)
          refine ⟨q, bm', iv', vs', q1, q2, fun post hp => ent post ?_⟩
          have q3 := q3 post hp
          rw [e] at q3 ⊢
          unfold wX_applicable_36
          exact br_f (by decide) (br_f c (br_f (by decide) (br_f c2 (br_f c3 q3))))
end
theorem i_vc_applicable {k : Nat} {u : SX} {v : SY} (I : i_Rel k u v) (hk : k + 5 ≤ 2562) (v1 : Int32) (v2 : Int32) (v3 : Int32) (v4 : Int32) : wpX_applicable (fun r u' => wpY_applicable (fun r' v' => r' = r ∧ i_Rel (k + 5) u' v') v v1 v2 v3 v4) u v1 v2 v3 v4 := by
  refine ch_el (P := fun u v => wpX_applicable (fun r u' => wpY_applicable (fun r' v' => r' = r ∧ i_Rel (k + 5) u' v') v v1 v2 v3 v4) u v1 v2 v3 v4) ?_ I
  clear I
  intro sl ll nc o t n ag lg ob xbm aR aP aS aA aB aL bf af fo lo cR cH cF cS gI gS gA gB kR kI hs iv vs yF yG yQ yp yv yk I
  have J := ch_rel (ch_In_k (k' := k + 5) (by omega) I) (xbm := xbm) (iv := iv) (vs := vs) (yp := yp) (yv := yv) (yk := yk)
  obtain ⟨n160, a152, l48, nc6⟩ := ch_In_n I
  rcases Classical.em (v1 < 0) with h0 | h0
  · unfold wpX_applicable wpY_applicable
    exact br_t h0 (br_t h0 ⟨rfl, J⟩)
  · obtain ⟨r, hj, rfl⟩ := nI_of h0
    rcases Nat.lt_or_ge r nc with hr | hr
    · obtain ⟨T, C, _, _⟩ := ch_In_SC I
      obtain ⟨q, bm', iv', vs', q1, q2, q3⟩ := cx_app (x := v2) (y := v3) (z := v4) C hr (xsl := nI sl) (xll := nI ll) (xro := nI o) (xob := ob) (xal := nI (ch_ca aL n)) (xag := nI ag) (xtl := nI t) (xlg := nI lg) (xbm := xbm) (aR := aR) (aP := aP) (aS := aS) (aA := aA) (aB := aB) (aL := aL) (bf := bf) (af := af) (fo := fo) (lo := lo) (cR := cR) (cH := cH) (cF := cF) (cS := cS) (gI := gI) (gS := gS) (gA := gA) (gB := gB) (kR := kR) (kI := kI) (hs := hs) (iv := iv) (vs := vs)
      obtain ⟨q', yp', yv', yk', q1', q2', _, q4'⟩ := cy_app (x := v2) (y := v3) (z := v4) (ch_In_YC I) hr l48 (ysl := nI sl) (yll := nI ll) (yop := nI o) (ytl := nI t) (yag := nI ag) (yL := aL) (yG := yG) (yQ := yQ) (yp := yp) (yv := yv) (yk := yk)
      exact q3 _ (q4' _ ⟨ch_q01 q1 q2 q1' q2', ch_rel (ch_In_k (k' := k + 5) (by omega) I) (xbm := bm') (iv := iv') (vs := vs') (yp := yp') (yv := yv') (yk := yk')⟩)
    · have nlt : ¬ nI r < nI nc := nI_nlt hr hj
      unfold wpX_applicable wpY_applicable
      exact br_f h0 (br_f nlt (br_f h0 (br_f nlt ⟨rfl, J⟩)))
end
section
theorem ch_m1f_lt {f : Nat → Int32} : ∀ {i j : Nat}, j < i → ch_m1f f i j = -1
  | 0, j, h => by omega
  | i + 1, j, h => by
    show upd (ch_m1f f i) i (-1) j = -1
    by_cases e : j = i
    · rw [e, ch_upd_s]
    · rw [ch_upd_n e]; exact ch_m1f_lt (by omega)
section
variable {xsl xll xnc xro xob xn xal xag xtl xlg xbm : Int32} {aR aP aS aA aB aL bf af fo lo cR cH cF cS gI gS gA gB kR kI hs iv vs : Nat → Int32}
theorem cx_clr2 {post : SX → Prop} (hp : post (xsl, xll, xnc, xro, xob, xn, xal, xag, xtl, xlg, xbm, aR, aP, aS, aA, aB, aL, bf, af, fo, lo, cR, cH, cF, cS, gI, gS, gA, gB, kR, kI, ch_kz hs 128, iv, vs)) : ∀ d i, i + d = 128 → wX_clearWork_55 post xsl xll xnc xro xob xn xal xag xtl xlg xbm (d + 1) (nI i) aR aP aS aA aB aL bf af fo lo cR cH cF cS gI gS gA gB kR kI (ch_kz hs i) iv vs := by
  intro d
  induction d with
  | zero =>
    intro i hi
    rw [show i = 128 by omega]
    unfold wX_clearWork_55
    exact br_t (by decide) hp
  | succ d ih =>
    intro i hi
    unfold wX_clearWork_55
    rw [show (nI i).toNatClampNeg = i from nI_clamp (by omega)]
    exact br_f (nI_ge (b := 128) (by omega) (by omega)) ⟨vp_in_nI (by omega) (by omega), nm_e (nm_r (ch_a1 i) (ih (i + 1) (by omega)))⟩
theorem cx_clr1 {post : SX → Prop} (hp : post (xsl, xll, xnc, xro, xob, xn, xal, xag, xtl, xlg, xbm, aR, aP, aS, aA, aB, aL, bf, af, ch_m1f fo 8, ch_m1f lo 8, cR, cH, cF, cS, gI, gS, gA, gB, kR, kI, ch_kz hs 128, iv, vs)) : ∀ d i, i + d = 8 → wX_clearWork_27 post xsl xll xnc xro xob xn xal xag xtl xlg xbm (d + 1) (nI i) aR aP aS aA aB aL bf af (ch_m1f fo i) (ch_m1f lo i) cR cH cF cS gI gS gA gB kR kI hs iv vs := by
  intro d
  induction d with
  | zero =>
    intro i hi
    rw [show i = 8 by omega]
    unfold wX_clearWork_27
    exact br_t (by decide) ⟨129, cx_clr2 hp 128 0 (by omega)⟩
  | succ d ih =>
    intro i hi
    unfold wX_clearWork_27
    rw [show (nI i).toNatClampNeg = i from nI_clamp (by omega)]
    exact br_f (nI_ge (b := 8) (by omega) (by omega)) ⟨vp_in_nI (by omega) (by omega), nm_e ⟨vp_in_nI (by omega) (by omega), nm_e (nm_r (ch_a1 i) (ih (i + 1) (by omega)))⟩⟩
theorem cx_clear {post : SX → Prop} (hp : post (xsl, xll, xnc, xro, xob, 0, 0, 0, 0, 0, xbm, aR, aP, aS, aA, aB, aL, bf, af, ch_m1f fo 8, ch_m1f lo 8, cR, cH, cF, cS, gI, gS, gA, gB, kR, kI, ch_kz hs 128, iv, vs)) : wpX_clearWork post (xsl, xll, xnc, xro, xob, xn, xal, xag, xtl, xlg, xbm, aR, aP, aS, aA, aB, aL, bf, af, fo, lo, cR, cH, cF, cS, gI, gS, gA, gB, kR, kI, hs, iv, vs) := by
  unfold wpX_clearWork
  exact ⟨9, cx_clr1 hp 8 0 (by omega)⟩
end
theorem i_vc_reset {k : Nat} {u : SX} {v : SY} (I : i_Rel k u v) (hk : k + 5 ≤ 2562) (v1 : Int32) : wpX_reset (fun u' => wpY_reset (fun v' => i_Rel (k + 5) u' v') v (lw_bz v1)) u (lw_bz v1) := by
  refine ch_el (P := fun u v => wpX_reset (fun u' => wpY_reset (fun v' => i_Rel (k + 5) u' v') v (lw_bz v1)) u (lw_bz v1)) ?_ I
  clear I
  intro sl ll nc o t n ag lg ob xbm aR aP aS aA aB aL bf af fo lo cR cH cF cS gI gS gA gB kR kI hs iv vs yF yG yQ yp yv yk I
  have nu := I.1.1
  have o1 := I.1.2.1
  unfold wpX_reset
  refine cx_clear ?_
  rcases lw_bz_01 v1 with e | e
  · rw [e]
    refine br_t rfl ?_
    unfold wpY_reset
    refine br_t rfl ?_
    exact ch_rel (k := k + 5) (ch_In_idle (fo' := ch_m1f fo 8) (lo' := ch_m1f lo 8) (hs' := ch_kz hs 128) (by omega) ⟨by omega, by omega, fun z => (o1 z).1⟩ I.2.1 (fun s hs => ⟨ch_m1f_lt hs, ch_m1f_lt hs⟩) (fun j hj => ch_kz_lt hj)) (xbm := xbm) (iv := iv) (vs := vs) (yp := yp) (yv := yv) (yk := yk)
  · rw [e]
    refine br_f ch_10 ?_
    unfold wpY_reset
    refine br_f ch_10 ?_
    exact ch_rel (k := k + 5) (ch_In_idle (nc' := 0) (o' := 0) (ob' := ob) (R' := aR) (P' := aP) (fo' := ch_m1f fo 8) (lo' := ch_m1f lo 8) (hs' := ch_kz hs 128) (by omega) ⟨by omega, by omega, fun z => by omega⟩ ⟨fun r hr => by omega, fun z => by omega⟩ (fun s hs => ⟨ch_m1f_lt hs, ch_m1f_lt hs⟩) (fun j hj => ch_kz_lt hj)) (xbm := xbm) (iv := iv) (vs := vs) (yp := yp) (yv := yv) (yk := yk)
theorem ch_cl4 (x : Int32) {m : Nat} (h4 : 4 ≤ m) (hm : m < 2 ^ 31) : ∃ j, 4 ≤ j ∧ j ≤ m ∧ ∀ A : Int32 → Prop, A (nI j) → ((4 ≤ x → ((x ≤ nI m → A x) ∧ (¬ x ≤ nI m → A (nI m)))) ∧ (¬ 4 ≤ x → A 4)) := by
  rcases Classical.em ((4 : Int32) ≤ x) with h | h
  · have h0 : ¬ x < 0 := Int32.not_lt.mpr (Int32.le_trans (by decide) h)
    obtain ⟨j, hj, rfl⟩ := nI_of h0
    have j4 : 4 ≤ j := by
      rcases Nat.lt_or_ge j 4 with z | z
      · exact absurd h (nI_ge (b := 4) z (by omega))
      · exact z
    rcases Nat.lt_or_ge m j with z | z
    · exact ⟨m, h4, Nat.le_refl _, fun A a => br_t h (br_f (nI_ge z hj) a)⟩
    · exact ⟨j, j4, z, fun A a => br_t h (br_t (nI_le z hm) a)⟩
  · exact ⟨4, by omega, h4, fun A a => br_f h a⟩
theorem cx_clampJ {u : SX} {x : Int32} {j m : Nat} {post : Int32 → Prop} (S : ∀ A : Int32 → Prop, A (nI j) → ((4 ≤ x → ((x ≤ nI m → A x) ∧ (¬ x ≤ nI m → A (nI m)))) ∧ (¬ 4 ≤ x → A 4))) (hp : post (nI j)) : wpX_clamp post u x 4 (nI m) :=
  cx_clamp post (S post hp)
theorem i_vc0 (k0 : Int32) (k1 : Int32) : wpX_init (fun u => wpY_init (fun v => i_Rel 2 u v) k0 k1) k0 k1 := by
  obtain ⟨sl, s1, s2, S⟩ := ch_cl4 k0 (m := 16) (by omega) (by omega)
  obtain ⟨ll, l1, l2, L⟩ := ch_cl4 k1 (m := 48) (by omega) (by omega)
  unfold wpX_init
  refine cx_clampJ S ?_
  refine cx_clampJ L ?_
  refine cx_clear ?_
  dsimp only
  have fin : i_Rel 2 (nI sl, nI ll, 0, 0, 0, 0, 0, 0, 0, 0, 0, (fun _ => 0), (fun _ => 0), (fun _ => 0), (fun _ => 0), (fun _ => 0), (fun _ => 0), (fun _ => 0), (fun _ => 0), ch_m1f (fun _ => 0) 8, ch_m1f (fun _ => 0) 8, (fun _ => 0), (fun _ => 0), (fun _ => 0), (fun _ => 0), (fun _ => 0), (fun _ => 0), (fun _ => 0), (fun _ => 0), (fun _ => 0), (fun _ => 0), ch_kz (fun _ => 0) 128, (fun _ => 0), (fun _ => 0))
      (nI sl, nI ll, 0, 0, 0, 0, 0, 0, (fun _ => 0), (fun _ => 0), (fun _ => 0), (fun _ => 0), (fun _ => 0), (fun _ => 0), (fun _ => 0), (fun _ => 0)) :=
    ch_rel (k := 2) (sl := sl) (ll := ll) (nc := 0) (o := 0) (t := 0) (n := 0) (ag := 0) (lg := 0) (ob := 0) (xbm := 0) (ch_In_idle (nc' := 0) (o' := 0) (ob' := 0) (by omega) ⟨by omega, by omega, fun z => by omega⟩ ⟨fun r hr => by omega, fun z => by omega⟩ (fun s hs => ⟨ch_m1f_lt hs, ch_m1f_lt hs⟩) (fun j hj => ch_kz_lt hj))
  unfold wpY_init
  refine S (fun z => wY_init_94 _ k1 z 0 0 0 0 0 0 0 0 (fun _ => 0) (fun _ => 0) (fun _ => 0) (fun _ => 0) (fun _ => 0) (fun _ => 0) (fun _ => 0) (fun _ => 0)) ?_
  unfold wY_init_94
  exact L (fun z => i_Rel 2 _ (nI sl, z, 0, 0, 0, 0, 0, 0, (fun _ => 0), (fun _ => 0), (fun _ => 0), (fun _ => 0), (fun _ => 0), (fun _ => 0), (fun _ => 0), (fun _ => 0))) fin
end
section
theorem ch_D_cg {K K' : Nat → Int32} {i p : Nat} (e0 : ch_nh K' = ch_nh K) (e1 : ∀ h, h < ch_nh K → K' (5 + 4 * h) = K (5 + 4 * h) ∧ K' (6 + 4 * h) = K (6 + 4 * h))
    (e2 : ∀ j, j < i → K' (15 + 4 * j) = K (15 + 4 * j) ∧ K' (18 + 4 * j) = K (18 + 4 * j)) : ch_D K' i p ↔ ch_D K i p := by
  unfold ch_D
  rw [e0]
  refine and_congr Iff.rfl (or_congr ⟨?_, ?_⟩ ⟨?_, ?_⟩)
  · rintro ⟨h, hh, e⟩
    rw [(e1 h hh).1, (e1 h hh).2] at e
    exact ⟨h, hh, e⟩
  · rintro ⟨h, hh, e⟩
    refine ⟨h, hh, ?_⟩
    rw [(e1 h hh).1, (e1 h hh).2]
    exact e
  · rintro ⟨j, hj, e⟩
    rw [(e2 j hj).1, (e2 j hj).2] at e
    exact ⟨j, hj, e⟩
  · rintro ⟨j, hj, e⟩
    refine ⟨j, hj, ?_⟩
    rw [(e2 j hj).1, (e2 j hj).2]
    exact e
theorem ch_Op_cg {K K' : Nat → Int32} {i : Nat} {x : Int32} (h : ∀ p, ch_D K i p → ch_D K' i p) (o : ch_Op K i x) : ch_Op K' i x :=
  o.elim (fun ⟨p, e, d⟩ => Or.inl ⟨p, e, h p d⟩) Or.inr
/-- one more head -/
theorem ch_W_head {K K' : Nat → Int32} {rm p q : Int32} {s : Nat} (W : ch_W K) (ns0 : ch_ns K = 0) (nb0 : ch_nb K = 0) (h3 : ch_nh K < 3) (hrm : rm = 0 ∨ rm = 1) (s8 : s < 8) (hp : ch_Pa p) (hq : ch_Pa q)
    (e0 : K' 0 = nI (ch_nh K + 1)) (e1 : K' 1 = K 1) (e2 : K' 2 = K 2) (ek : ∀ j, 3 ≤ j → j < 3 + 4 * ch_nh K → K' j = K j)
    (f3 : K' (3 + 4 * ch_nh K) = rm) (f4 : K' (4 + 4 * ch_nh K) = nI s) (f5 : K' (5 + 4 * ch_nh K) = p) (f6 : K' (6 + 4 * ch_nh K) = q) :
    ch_W K' ∧ ch_ns K' = 0 ∧ ∀ v, v < 6 → (ch_D K' 0 v ↔ ch_D K 0 v ∨ p = nI v ∨ q = nI v) := by
  have n' : ch_nh K' = ch_nh K + 1 := by unfold ch_nh at *; rw [e0, nI_clamp (by omega)]
  have s' : ch_ns K' = 0 := by rw [← ns0]; unfold ch_ns; rw [e1]
  have b' : ch_nb K' = 0 := by rw [← nb0]; unfold ch_nb; rw [e2]
  refine ⟨⟨⟨by rw [n']; exact e0, by omega, by rw [s', e1, ← ns0]; exact W.1.2.2.1, by omega, by rw [b', e2, ← nb0]; exact W.1.2.2.2.2.1, by omega⟩, ?_, fun i hi => by omega, fun g hg => by omega⟩, s', ?_⟩
  · intro h hh
    rcases Nat.lt_or_ge h (ch_nh K) with z | z
    · rw [ek _ (by omega) (by omega), ek _ (by omega) (by omega), ek _ (by omega) (by omega), ek _ (by omega) (by omega)]
      exact W.2.1 h z
    · have : h = ch_nh K := by omega
      subst this
      rw [f3, f4, f5, f6]
      exact ⟨hrm, ⟨s, s8, rfl⟩, hp, hq⟩
  · intro v hv
    constructor
    · rintro ⟨_, ⟨h, hh, e⟩ | ⟨j, hj, _⟩⟩
      · rcases Nat.lt_or_ge h (ch_nh K) with z | z
        · rw [ek _ (by omega) (by omega), ek _ (by omega) (by omega)] at e
          exact Or.inl ⟨hv, Or.inl ⟨h, z, e⟩⟩
        · have : h = ch_nh K := by omega
          subst this
          rw [f5, f6] at e
          exact Or.inr e
      · omega
    · rintro (⟨_, ⟨h, hh, e⟩ | ⟨j, hj, _⟩⟩ | e)
      · refine ⟨hv, Or.inl ⟨h, by omega, ?_⟩⟩
        rw [ek _ (by omega) (by omega), ek _ (by omega) (by omega)]
        exact e
      · omega
      · refine ⟨hv, Or.inl ⟨ch_nh K, by omega, ?_⟩⟩
        rw [f5, f6]
        exact e
/-- one more step -/
theorem ch_W_step {K K' : Nat → Int32} {x y w : Int32} {o : Nat} (W : ch_W K) (nb0 : ch_nb K = 0) (h4 : ch_ns K < 4) (ho : o < 8) (hx : ch_Op K (ch_ns K) x) (hy : ch_Op K (ch_ns K) y)
    (hw : 5 ≤ o → ∃ p, p < 6 ∧ w = nI p ∧ ¬ ch_D K (ch_ns K) p)
    (e1 : K' 1 = nI (ch_ns K + 1)) (ek : ∀ j, j ≠ 1 → j < 15 + 4 * ch_ns K → K' j = K j)
    (f0 : K' (15 + 4 * ch_ns K) = nI o) (f1 : K' (16 + 4 * ch_ns K) = x) (f2 : K' (17 + 4 * ch_ns K) = y) (f3 : K' (18 + 4 * ch_ns K) = w) :
    ch_W K' ∧ ch_ns K' = ch_ns K + 1 ∧ ∀ v, v < 6 → (ch_D K' (ch_ns K + 1) v ↔ ch_D K (ch_ns K) v ∨ (5 ≤ o ∧ w = nI v)) := by
  have nh3 := W.1.2.1
  have n' : ch_nh K' = ch_nh K := by unfold ch_nh; rw [ek 0 (by omega) (by omega)]
  have s' : ch_ns K' = ch_ns K + 1 := by unfold ch_ns at *; rw [e1, nI_clamp (by omega)]
  have b' : ch_nb K' = 0 := by rw [← nb0]; unfold ch_nb; rw [ek 2 (by omega) (by omega)]
  have DD : ∀ i p, i ≤ ch_ns K → (ch_D K' i p ↔ ch_D K i p) := fun i p hi => ch_D_cg n' (fun h hh => ⟨ek _ (by omega) (by omega), ek _ (by omega) (by omega)⟩) (fun j hj => ⟨ek _ (by omega) (by omega), ek _ (by omega) (by omega)⟩)
  have o5 : ¬ nI o < 5 ↔ 5 ≤ o := by
    rw [show (5 : Int32) = nI 5 from rfl, nI_ltI (by omega) (by omega)]
    omega
  refine ⟨⟨⟨by rw [n', ek 0 (by omega) (by omega)]; exact W.1.1, by omega, by rw [s']; exact e1, by omega, by rw [b', ek 2 (by omega) (by omega), ← nb0]; exact W.1.2.2.2.2.1, by omega⟩, ?_, ?_, fun g hg => by omega⟩, s', ?_⟩
  · intro h hh
    rw [ek _ (by omega) (by omega), ek _ (by omega) (by omega), ek _ (by omega) (by omega), ek _ (by omega) (by omega)]
    exact W.2.1 h (by omega)
  · intro i hi
    rcases Nat.lt_or_ge i (ch_ns K) with z | z
    · obtain ⟨⟨o', p1, p2, p3⟩, p4, p5⟩ := W.2.2.1 i z
      rw [ek _ (by omega) (by omega), ek _ (by omega) (by omega), ek _ (by omega) (by omega), ek _ (by omega) (by omega)]
      refine ⟨⟨o', p1, p2, fun q => ?_⟩, ch_Op_cg (fun p d => (DD i p (by omega)).mpr d) p4, ch_Op_cg (fun p d => (DD i p (by omega)).mpr d) p5⟩
      obtain ⟨p, a, b, c⟩ := p3 q
      exact ⟨p, a, b, fun d => c ((DD i p (by omega)).mp d)⟩
    · have : i = ch_ns K := by omega
      subst this
      rw [f0, f1, f2, f3]
      refine ⟨⟨o, ho, rfl, fun q => ?_⟩, ch_Op_cg (fun p d => (DD _ p (Nat.le_refl _)).mpr d) hx, ch_Op_cg (fun p d => (DD _ p (Nat.le_refl _)).mpr d) hy⟩
      obtain ⟨p, a, b, c⟩ := hw q
      exact ⟨p, a, b, fun d => c ((DD _ p (Nat.le_refl _)).mp d)⟩
  · intro v hv
    constructor
    · rintro ⟨_, e | ⟨j, hj, e⟩⟩
      · exact Or.inl ((DD (ch_ns K) v (Nat.le_refl _)).mp ⟨hv, Or.inl e⟩)
      · rcases Nat.lt_or_ge j (ch_ns K) with z | z
        · exact Or.inl ((DD (ch_ns K) v (Nat.le_refl _)).mp ⟨hv, Or.inr ⟨j, z, e⟩⟩)
        · have : j = ch_ns K := by omega
          subst this
          rw [f0, f3] at e
          exact Or.inr ⟨o5.mp e.1, e.2⟩
    · rintro (d | ⟨q, e⟩)
      · exact ch_D_mono (by omega) ((DD (ch_ns K) v (Nat.le_refl _)).mpr d)
      · refine ⟨hv, Or.inr ⟨ch_ns K, by omega, ?_⟩⟩
        rw [f0, f3]
        exact ⟨o5.mpr q, e⟩
/-- one more body -/
theorem ch_W_body {K K' : Nat → Int32} {x y : Int32} {s : Nat} (W : ch_W K) (h3 : ch_nb K < 3) (s8 : s < 8) (hx : ch_Op K (ch_ns K) x) (hy : ch_Op K (ch_ns K) y)
    (e2 : K' 2 = nI (ch_nb K + 1)) (ek : ∀ j, j ≠ 2 → j < 31 + 3 * ch_nb K → K' j = K j)
    (f0 : K' (31 + 3 * ch_nb K) = nI s) (f1 : K' (32 + 3 * ch_nb K) = x) (f2 : K' (33 + 3 * ch_nb K) = y) :
    ch_W K' ∧ ch_ns K' = ch_ns K ∧ ∀ i p, i ≤ ch_ns K → (ch_D K' i p ↔ ch_D K i p) := by
  have nh3 := W.1.2.1
  have ns4 := W.1.2.2.2.1
  have n' : ch_nh K' = ch_nh K := by unfold ch_nh; rw [ek 0 (by omega) (by omega)]
  have s' : ch_ns K' = ch_ns K := by unfold ch_ns; rw [ek 1 (by omega) (by omega)]
  have b' : ch_nb K' = ch_nb K + 1 := by unfold ch_nb at *; rw [e2, nI_clamp (by omega)]
  have DD : ∀ i p, i ≤ ch_ns K → (ch_D K' i p ↔ ch_D K i p) := fun i p hi => ch_D_cg n' (fun h hh => ⟨ek _ (by omega) (by omega), ek _ (by omega) (by omega)⟩) (fun j hj => ⟨ek _ (by omega) (by omega), ek _ (by omega) (by omega)⟩)
  refine ⟨⟨⟨by rw [n', ek 0 (by omega) (by omega)]; exact W.1.1, by omega, by rw [s', ek 1 (by omega) (by omega)]; exact W.1.2.2.1, by omega, by rw [b']; exact e2, by omega⟩, ?_, ?_, ?_⟩, s', DD⟩
  · intro h hh
    rw [ek _ (by omega) (by omega), ek _ (by omega) (by omega), ek _ (by omega) (by omega), ek _ (by omega) (by omega)]
    exact W.2.1 h (by omega)
  · intro i hi
    obtain ⟨⟨o', p1, p2, p3⟩, p4, p5⟩ := W.2.2.1 i (by omega)
    rw [ek _ (by omega) (by omega), ek _ (by omega) (by omega), ek _ (by omega) (by omega), ek _ (by omega) (by omega)]
    refine ⟨⟨o', p1, p2, fun q => ?_⟩, ch_Op_cg (fun p d => (DD i p (by omega)).mpr d) p4, ch_Op_cg (fun p d => (DD i p (by omega)).mpr d) p5⟩
    obtain ⟨p, a, b, c⟩ := p3 q
    exact ⟨p, a, b, fun d => c ((DD i p (by omega)).mp d)⟩
  · intro g hg
    rw [s']
    rcases Nat.lt_or_ge g (ch_nb K) with z | z
    · obtain ⟨q1, q2, q3⟩ := W.2.2.2 g z
      rw [ek _ (by omega) (by omega), ek _ (by omega) (by omega), ek _ (by omega) (by omega)]
      exact ⟨q1, ch_Op_cg (fun p d => (DD _ p (Nat.le_refl _)).mpr d) q2, ch_Op_cg (fun p d => (DD _ p (Nat.le_refl _)).mpr d) q3⟩
    · have : g = ch_nb K := by omega
      subst this
      rw [f0, f1, f2]
      exact ⟨⟨s, s8, rfl⟩, ch_Op_cg (fun p d => (DD _ p (Nat.le_refl _)).mpr d) hx, ch_Op_cg (fun p d => (DD _ p (Nat.le_refl _)).mpr d) hy⟩
/-- the small checks -/
theorem cx_isVariable {u : SX} {x : Int32} : ∃ q : Int32, (q = 0 ∨ q = 1) ∧ (q = 1 ↔ ∃ p, p < 6 ∧ x = nI p) ∧ ∀ post : Int32 → Prop, post q → wpX_isVariable post u x := by
  rcases Classical.em (x < 0) with h0 | h0
  · refine ⟨0, Or.inl rfl, ⟨fun z => absurd z.symm ch_10, ?_⟩, fun post hp => ?_⟩
    · rintro ⟨s, s8, rfl⟩
      exact absurd h0 (nI_pos (by omega))
    · unfold wpX_isVariable
      exact br_t h0 hp
  · obtain ⟨j, hj, rfl⟩ := nI_of h0
    rcases Nat.lt_or_ge 5 j with h | h
    · refine ⟨0, Or.inl rfl, ⟨fun z => absurd z.symm ch_10, ?_⟩, fun post hp => ?_⟩
      · rintro ⟨s, s8, e⟩
        have := (nI_eq hj (by omega)).mp e
        omega
      · unfold wpX_isVariable
        exact br_f h0 (br_t (nI_lt (a := 5) h hj) hp)
    · refine ⟨1, Or.inr rfl, ⟨fun _ => ⟨j, by omega, rfl⟩, fun _ => rfl⟩, fun post hp => ?_⟩
      unfold wpX_isVariable
      exact br_f h0 (br_f (nI_nlt (b := j) (a := 5) h (by omega)) hp)
theorem ch_64 (x : Int32) : (x < 64 ∧ ¬ ∃ q, 64 ≤ q ∧ q ≤ 191 ∧ x = nI q) ∨ (¬ x < 64 ∧ ((191 < x ∧ ¬ ∃ q, 64 ≤ q ∧ q ≤ 191 ∧ x = nI q) ∨ (¬ 191 < x ∧ ∃ q, 64 ≤ q ∧ q ≤ 191 ∧ x = nI q))) := by
  rcases Classical.em (x < 64) with h | h
  · refine Or.inl ⟨h, ?_⟩
    rintro ⟨q, q1, q2, rfl⟩
    exact ch_g64 q1 (by omega) h
  · have h0 : ¬ x < 0 := fun z => h (Int32.lt_trans z (by decide))
    obtain ⟨j, hj, rfl⟩ := nI_of h0
    have j64 : 64 ≤ j := by
      rcases Nat.lt_or_ge j 64 with z | z
      · exact absurd (ch_n64 z) h
      · exact z
    rcases Nat.lt_or_ge 191 j with z | z
    · refine Or.inr ⟨h, Or.inl ⟨nI_lt (a := 191) z hj, ?_⟩⟩
      rintro ⟨q, q1, q2, e⟩
      have := (nI_eq hj (by omega)).mp e
      omega
    · exact Or.inr ⟨h, Or.inr ⟨nI_nlt (b := j) (a := 191) z (by omega), j, j64, z, rfl⟩⟩
theorem cx_isConstant {u : SX} {x : Int32} : ∃ q : Int32, (q = 0 ∨ q = 1) ∧ (q = 1 ↔ ∃ q, 64 ≤ q ∧ q ≤ 191 ∧ x = nI q) ∧ ∀ post : Int32 → Prop, post q → wpX_isConstant post u x := by
  rcases ch_64 x with ⟨h, n⟩ | ⟨h, ⟨h2, n⟩ | ⟨h2, y⟩⟩
  · refine ⟨0, Or.inl rfl, ⟨fun z => absurd z.symm ch_10, fun z => absurd z n⟩, fun post hp => ?_⟩
    unfold wpX_isConstant
    exact br_t h hp
  · refine ⟨0, Or.inl rfl, ⟨fun z => absurd z.symm ch_10, fun z => absurd z n⟩, fun post hp => ?_⟩
    unfold wpX_isConstant
    exact br_f h (br_t h2 hp)
  · refine ⟨1, Or.inr rfl, ⟨fun _ => y, fun _ => rfl⟩, fun post hp => ?_⟩
    unfold wpX_isConstant
    exact br_f h (br_f h2 hp)
section
variable {xsl xll xnc xro xob xn xal xag xtl xlg xbm : Int32} {aR aP aS aA aB aL bf af fo lo cR cH cF cS gI gS gA gB kR kI hs iv vs : Nat → Int32}
variable {nc : Nat}
theorem cx_isPattern {x : Int32} : ∃ q : Int32, (q = 0 ∨ q = 1) ∧ (q = 1 ↔ ch_Pa x) ∧ ∀ post : Int32 → Prop, post q → wpX_isPattern post (xsl, xll, xnc, xro, xob, xn, xal, xag, xtl, xlg, xbm, aR, aP, aS, aA, aB, aL, bf, af, fo, lo, cR, cH, cF, cS, gI, gS, gA, gB, kR, kI, hs, iv, vs) x := by
  obtain ⟨q, q1, q2, q3⟩ := cx_isVariable (x := x) (u := (xsl, xll, xnc, xro, xob, xn, xal, xag, xtl, xlg, xbm, aR, aP, aS, aA, aB, aL, bf, af, fo, lo, cR, cH, cF, cS, gI, gS, gA, gB, kR, kI, hs, iv, vs))
  rcases q1 with rfl | rfl
  · obtain ⟨c, c1, c2, c3⟩ := cx_isConstant (x := x) (u := (xsl, xll, xnc, xro, xob, xn, xal, xag, xtl, xlg, xbm, aR, aP, aS, aA, aB, aL, bf, af, fo, lo, cR, cH, cF, cS, gI, gS, gA, gB, kR, kI, hs, iv, vs))
    refine ⟨c, c1, ⟨fun z => Or.inr (c2.mp z), fun z => z.elim (fun y => absurd (q2.mpr y).symm ch_10) c2.mpr⟩, fun post hp => ?_⟩
    unfold wpX_isPattern
    refine q3 _ (br_t rfl (c3 _ ?_))
    rcases c1 with rfl | rfl
    · exact br_t rfl hp
    · exact br_f ch_10 hp
  · refine ⟨1, Or.inr rfl, ⟨fun _ => Or.inl (q2.mp rfl), fun _ => rfl⟩, fun post hp => ?_⟩
    unfold wpX_isPattern
    exact q3 _ (br_f ch_10 hp)
theorem cx_isOperand {x : Int32} {K : Nat → Int32} {i : Nat} (ob : ∀ p, p < 6 → (ch_b xob p ↔ ch_D K i p)) : ∃ q : Int32, (q = 0 ∨ q = 1) ∧ (q = 1 ↔ ch_Op K i x) ∧ ∀ post : Int32 → Prop, post q → wpX_isOperand post (xsl, xll, xnc, xro, xob, xn, xal, xag, xtl, xlg, xbm, aR, aP, aS, aA, aB, aL, bf, af, fo, lo, cR, cH, cF, cS, gI, gS, gA, gB, kR, kI, hs, iv, vs) x := by
  obtain ⟨c, c1, c2, c3⟩ := cx_isConstant (x := x) (u := (xsl, xll, xnc, xro, xob, xn, xal, xag, xtl, xlg, xbm, aR, aP, aS, aA, aB, aL, bf, af, fo, lo, cR, cH, cF, cS, gI, gS, gA, gB, kR, kI, hs, iv, vs))
  rcases c1 with rfl | rfl
  · obtain ⟨q, q1, q2, q3⟩ := cx_isVariable (x := x) (u := (xsl, xll, xnc, xro, xob, xn, xal, xag, xtl, xlg, xbm, aR, aP, aS, aA, aB, aL, bf, af, fo, lo, cR, cH, cF, cS, gI, gS, gA, gB, kR, kI, hs, iv, vs))
    rcases q1 with rfl | rfl
    · refine ⟨0, Or.inl rfl, ⟨fun z => absurd z.symm ch_10, fun z => z.elim (fun ⟨p, e, d⟩ => absurd (q2.mpr ⟨p, d.1, e⟩) (fun y => ch_10 y.symm)) (fun y => absurd (c2.mpr y) (fun y => ch_10 y.symm))⟩, fun post hp => ?_⟩
      unfold wpX_isOperand
      exact c3 _ (br_t rfl (q3 _ (br_t rfl hp)))
    · obtain ⟨p, p6, rfl⟩ := q2.mp rfl
      rcases Classical.em (ch_b xob p) with b | b
      · refine ⟨1, Or.inr rfl, ⟨fun _ => Or.inl ⟨p, rfl, (ob p p6).mp b⟩, fun _ => rfl⟩, fun post hp => ?_⟩
        unfold wpX_isOperand
        exact c3 _ (br_t rfl (q3 _ (br_f ch_10 (br_f b hp))))
      · refine ⟨0, Or.inl rfl, ⟨fun z => absurd z.symm ch_10, fun z => z.elim (fun ⟨p', e, d⟩ => ?_) (fun y => absurd (c2.mpr y) (fun y => ch_10 y.symm))⟩, fun post hp => ?_⟩
        · have := (nI_eq (by omega) (by have := d.1; omega)).mp e
          subst this
          exact absurd ((ob p p6).mpr d) b
        · unfold wpX_isOperand
          exact c3 _ (br_t rfl (q3 _ (br_f ch_10 (br_t (Classical.byContradiction b) hp))))
  · refine ⟨1, Or.inr rfl, ⟨fun _ => Or.inr (c2.mp rfl), fun _ => rfl⟩, fun post hp => ?_⟩
    unfold wpX_isOperand
    exact c3 _ (br_f ch_10 hp)
theorem cx_bind {x : Int32} : ∃ ob' : Int32, (∀ p, p < 6 → (ch_b ob' p ↔ ch_b xob p ∨ x = nI p)) ∧ ∀ post : SX → Prop, post (xsl, xll, xnc, xro, ob', xn, xal, xag, xtl, xlg, xbm, aR, aP, aS, aA, aB, aL, bf, af, fo, lo, cR, cH, cF, cS, gI, gS, gA, gB, kR, kI, hs, iv, vs) → wpX_bind post (xsl, xll, xnc, xro, xob, xn, xal, xag, xtl, xlg, xbm, aR, aP, aS, aA, aB, aL, bf, af, fo, lo, cR, cH, cF, cS, gI, gS, gA, gB, kR, kI, hs, iv, vs) x := by
  obtain ⟨q, q1, q2, q3⟩ := cx_isVariable (x := x) (u := (xsl, xll, xnc, xro, xob, xn, xal, xag, xtl, xlg, xbm, aR, aP, aS, aA, aB, aL, bf, af, fo, lo, cR, cH, cF, cS, gI, gS, gA, gB, kR, kI, hs, iv, vs))
  rcases q1 with rfl | rfl
  · refine ⟨xob, fun p p6 => ⟨Or.inl, fun z => z.elim id (fun e => absurd (q2.mpr ⟨p, p6, e⟩) (fun y => ch_10 y.symm))⟩, fun post hp => ?_⟩
    unfold wpX_bind
    exact q3 _ (br_t rfl hp)
  · obtain ⟨p, p6, rfl⟩ := q2.mp rfl
    refine ⟨xob ||| ((1 : Int32) <<< (nI p &&& 31)), fun p' h6 => ?_, fun post hp => ?_⟩
    · rw [ch_b_or xob (by omega) (by omega), nI_eq (by omega) (by omega)]
      exact or_congr Iff.rfl ⟨fun z => z.symm, fun z => z.symm⟩
    · unfold wpX_bind
      exact q3 _ (br_f ch_10 (nm_e hp))
end
section
variable {ysl yll ync yop ytl yn ylg yag : Int32} {yR yF yL yG yQ yp yv yk : Nat → Int32}
variable {nc : Nat}
theorem cy_pattern {x : Int32} : ∃ q : Int32, (q = 0 ∨ q = 1) ∧ (q = 1 ↔ ch_Pa x) ∧ ∀ post : Int32 → Prop, post q → wpY_pattern post (ysl, yll, ync, yop, ytl, yn, ylg, yag, yR, yF, yL, yG, yQ, yp, yv, yk) x := by
  have cst : (¬ ∃ p, p < 6 ∧ x = nI p) → ∃ q : Int32, (q = 0 ∨ q = 1) ∧ (q = 1 ↔ ch_Pa x) ∧ ∀ post : Int32 → Prop, post q → wY_pattern_9 post x ysl yll ync yop ytl yn ylg yag yR yF yL yG yQ yp yv yk := by
    intro nv
    rcases ch_64 x with ⟨h, n⟩ | ⟨h, ⟨h2, n⟩ | ⟨h2, y⟩⟩
    · refine ⟨0, Or.inl rfl, ⟨fun z => absurd z.symm ch_10, fun z => z.elim (fun y => absurd y nv) (fun y => absurd y n)⟩, fun post hp => ?_⟩
      unfold wY_pattern_9
      exact br_t h hp
    · refine ⟨0, Or.inl rfl, ⟨fun z => absurd z.symm ch_10, fun z => z.elim (fun y => absurd y nv) (fun y => absurd y n)⟩, fun post hp => ?_⟩
      unfold wY_pattern_9
      exact br_f h (br_t h2 hp)
    · refine ⟨1, Or.inr rfl, ⟨fun _ => Or.inr y, fun _ => rfl⟩, fun post hp => ?_⟩
      unfold wY_pattern_9
      exact br_f h (br_f h2 hp)
  rcases Classical.em (x < 0) with h0 | h0
  · obtain ⟨q, q1, q2, q3⟩ := cst (fun ⟨p, p6, e⟩ => by subst e; exact nI_pos (by omega) h0)
    refine ⟨q, q1, q2, fun post hp => ?_⟩
    unfold wpY_pattern
    exact br_t h0 (q3 post hp)
  · obtain ⟨j, hj, rfl⟩ := nI_of h0
    rcases Nat.lt_or_ge 5 j with h | h
    · obtain ⟨q, q1, q2, q3⟩ := cst (fun ⟨p, p6, e⟩ => by have := (nI_eq hj (by omega)).mp e; omega)
      refine ⟨q, q1, q2, fun post hp => ?_⟩
      unfold wpY_pattern
      exact br_f h0 (br_f (nI_ge (a := 5) h hj) (q3 post hp))
    · refine ⟨1, Or.inr rfl, ⟨fun _ => Or.inl ⟨j, by omega, rfl⟩, fun _ => rfl⟩, fun post hp => ?_⟩
      unfold wpY_pattern
      exact br_f h0 (br_t (nI_le (b := 5) h (by omega)) hp)
theorem cy_op_s {p : Nat} {post : Int32 → Prop} (W : ch_W (ch_bl yR nc)) (hc : nc < 6) (p6 : p < 6) (a : ch_D (ch_bl yR nc) (ch_ns (ch_bl yR nc)) p → post 1) (b : ¬ ch_D (ch_bl yR nc) (ch_ns (ch_bl yR nc)) p → post 0)
    (nh : ∀ h, h < ch_nh (ch_bl yR nc) → ¬ (ch_bl yR nc (5 + 4 * h) = nI p ∨ ch_bl yR nc (6 + 4 * h) = nI p)) :
    ∀ m i, i + m = ch_ns (ch_bl yR nc) → (∀ j, j < i → ¬ (¬ ch_bl yR nc (15 + 4 * j) < 5 ∧ ch_bl yR nc (18 + 4 * j) = nI p)) → wY_operand_81 post (nI p) (nI (40 * nc)) ysl yll ync yop ytl yn ylg yag yR yF yL yG yQ yp yv yk (m + 1) (nI i) := by
  have ns4 := W.1.2.2.2.1
  have e1 : nI (40 * nc) + 1 = nI (40 * nc + 1) := ch_a1 _
  have k1 : yR (nI (40 * nc + 1)).toNatClampNeg = nI (ch_ns (ch_bl yR nc)) := by rw [nI_clamp (by omega), ← W.1.2.2.1]; exact ch_blE (by omega)
  have in1 : vp_in (nI (40 * nc + 1)) 240 := vp_in_nI (by omega) (by omega)
  intro m
  induction m with
  | zero =>
    intro i hi h
    have : i = ch_ns (ch_bl yR nc) := by omega
    subst this
    unfold wY_operand_81
    rw [e1, k1]
    refine ⟨in1, br_t (Int32.le_refl _) (b ?_)⟩
    rintro ⟨_, ⟨g, hg, e⟩ | ⟨j, hj, e⟩⟩
    · exact nh g hg e
    · exact h j hj e
  | succ m ih =>
    intro i hi h
    have e15 : nI (40 * nc) + 15 + 4 * nI i = nI (40 * nc + (15 + 4 * i)) := by rw [ch_a15, ch_4t, nI_add, Nat.add_assoc]
    have e18 : nI (40 * nc) + 18 + 4 * nI i = nI (40 * nc + (18 + 4 * i)) := by rw [ch_a18, ch_4t, nI_add, Nat.add_assoc]
    have k15 : yR (nI (40 * nc + (15 + 4 * i))).toNatClampNeg = ch_bl yR nc (15 + 4 * i) := by rw [nI_clamp (by omega)]; exact ch_blE (by omega)
    have k18 : yR (nI (40 * nc + (18 + 4 * i))).toNatClampNeg = ch_bl yR nc (18 + 4 * i) := by rw [nI_clamp (by omega)]; exact ch_blE (by omega)
    have go : ¬ (¬ ch_bl yR nc (15 + 4 * i) < 5 ∧ ch_bl yR nc (18 + 4 * i) = nI p) → wY_operand_81 post (nI p) (nI (40 * nc)) ysl yll ync yop ytl yn ylg yag yR yF yL yG yQ yp yv yk (m + 1) (nI (i + 1)) := by
      intro z
      refine ih (i + 1) (by omega) (fun j hj => ?_)
      rcases Nat.lt_or_ge j i with w | w
      · exact h j w
      · rw [show j = i by omega]; exact z
    unfold wY_operand_81
    rw [e1, k1, e15, e18, k15, k18]
    refine ⟨in1, br_f (nI_ge (by omega) (by omega)) ⟨vp_in_nI (by omega) (by omega), ?_⟩⟩
    rcases Classical.em (ch_bl yR nc (15 + 4 * i) < 5) with z | z
    · exact br_t z (nm_r (ch_a1 i) (go (fun q => q.1 z)))
    · refine br_f z ⟨vp_in_nI (by omega) (by omega), ?_⟩
      rcases Classical.em (ch_bl yR nc (18 + 4 * i) = nI p) with y | y
      · exact br_t y (a ⟨p6, Or.inr ⟨i, by omega, z, y⟩⟩)
      · exact br_f y (nm_r (ch_a1 i) (go (fun q => y q.2)))
theorem cy_op_h {p : Nat} {post : Int32 → Prop} (W : ch_W (ch_bl yR nc)) (hc : nc < 6) (p6 : p < 6) (a : ch_D (ch_bl yR nc) (ch_ns (ch_bl yR nc)) p → post 1) (b : ¬ ch_D (ch_bl yR nc) (ch_ns (ch_bl yR nc)) p → post 0) :
    ∀ m i, i + m = ch_nh (ch_bl yR nc) → (∀ h, h < i → ¬ (ch_bl yR nc (5 + 4 * h) = nI p ∨ ch_bl yR nc (6 + 4 * h) = nI p)) → wY_operand_28 post (nI p) (nI (40 * nc)) ysl yll ync yop ytl yn ylg yag yR yF yL yG yQ yp yv yk (m + 1) (nI i) := by
  have nh3 := W.1.2.1
  have k0 : yR (nI (40 * nc)).toNatClampNeg = nI (ch_nh (ch_bl yR nc)) := by rw [nI_clamp (by omega), ← W.1.1]; exact ch_blE (j := 0) (by omega)
  have in0 : vp_in (nI (40 * nc)) 240 := vp_in_nI (by omega) (by omega)
  intro m
  induction m with
  | zero =>
    intro i hi h
    have : i = ch_nh (ch_bl yR nc) := by omega
    subst this
    unfold wY_operand_28
    rw [k0]
    exact ⟨in0, br_t (Int32.le_refl _) ⟨_, cy_op_s W hc p6 a b h (ch_ns (ch_bl yR nc)) 0 (by omega) (fun j hj => by omega)⟩⟩
  | succ m ih =>
    intro i hi h
    have e5 : nI (40 * nc) + 5 + 4 * nI i = nI (40 * nc + (5 + 4 * i)) := by rw [ch_a5, ch_4t, nI_add, Nat.add_assoc]
    have e6 : nI (40 * nc) + 6 + 4 * nI i = nI (40 * nc + (6 + 4 * i)) := by rw [ch_a6, ch_4t, nI_add, Nat.add_assoc]
    have k5 : yR (nI (40 * nc + (5 + 4 * i))).toNatClampNeg = ch_bl yR nc (5 + 4 * i) := by rw [nI_clamp (by omega)]; exact ch_blE (by omega)
    have k6 : yR (nI (40 * nc + (6 + 4 * i))).toNatClampNeg = ch_bl yR nc (6 + 4 * i) := by rw [nI_clamp (by omega)]; exact ch_blE (by omega)
    unfold wY_operand_28
    rw [k0, e5, e6, k5, k6]
    refine ⟨in0, br_f (nI_ge (by omega) (by omega)) ⟨vp_in_nI (by omega) (by omega), ?_⟩⟩
    rcases Classical.em (ch_bl yR nc (5 + 4 * i) = nI p) with y | y
    · exact br_t y (a ⟨p6, Or.inl ⟨i, by omega, Or.inl y⟩⟩)
    · refine br_f y ⟨vp_in_nI (by omega) (by omega), ?_⟩
      rcases Classical.em (ch_bl yR nc (6 + 4 * i) = nI p) with x | x
      · exact br_t x (a ⟨p6, Or.inl ⟨i, by omega, Or.inr x⟩⟩)
      · refine br_f x (nm_r (ch_a1 i) (ih (i + 1) (by omega) (fun j hj => ?_)))
        rcases Nat.lt_or_ge j i with w | w
        · exact h j w
        · rw [show j = i by omega]; exact fun q => q.elim y x
theorem cy_operand {x : Int32} (W : ch_W (ch_bl yR nc)) (hc : nc < 6) : ∃ q : Int32, (q = 0 ∨ q = 1) ∧ (q = 1 ↔ ch_Op (ch_bl yR nc) (ch_ns (ch_bl yR nc)) x) ∧ ∀ post : Int32 → Prop, post q → wpY_operand post (ysl, yll, nI nc, yop, ytl, yn, ylg, yag, yR, yF, yL, yG, yQ, yp, yv, yk) x := by
  obtain ⟨q, q1, q2, q3⟩ := cy_pattern (x := x) (ysl := ysl) (yll := yll) (ync := nI nc) (yop := yop) (ytl := ytl) (yn := yn) (ylg := ylg) (yag := yag) (yR := yR) (yF := yF) (yL := yL) (yG := yG) (yQ := yQ) (yp := yp) (yv := yv) (yk := yk)
  rcases q1 with rfl | rfl
  · refine ⟨0, Or.inl rfl, ⟨fun z => absurd z.symm ch_10, fun z => absurd (q2.mpr (ch_Op_Pa z)) (fun y => ch_10 y.symm)⟩, fun post hp => ?_⟩
    unfold wpY_operand
    exact nm_r (ch_40t nc) (q3 _ (br_t rfl hp))
  · rcases q2.mp rfl with ⟨p, p6, rfl⟩ | ⟨c, c1, c2, rfl⟩
    · have un : ch_Op (ch_bl yR nc) (ch_ns (ch_bl yR nc)) (nI p) → ch_D (ch_bl yR nc) (ch_ns (ch_bl yR nc)) p := by
        rintro (⟨p', e, d⟩ | ⟨c, c1, c2, e⟩)
        · have := (nI_eq (by omega) (by have := d.1; omega)).mp e
          rw [this]; exact d
        · have := (nI_eq (by omega) (by omega)).mp e
          omega
      rcases Classical.em (ch_D (ch_bl yR nc) (ch_ns (ch_bl yR nc)) p) with d | d
      · refine ⟨1, Or.inr rfl, ⟨fun _ => Or.inl ⟨p, rfl, d⟩, fun _ => rfl⟩, fun post hp => ?_⟩
        unfold wpY_operand
        exact nm_r (ch_40t nc) (q3 _ (br_f ch_10 (br_t (ch_n64 (by omega)) ⟨_, cy_op_h W hc p6 (fun _ => hp) (fun z => absurd d z) (ch_nh (ch_bl yR nc)) 0 (by omega) (fun j hj => by omega)⟩)))
      · refine ⟨0, Or.inl rfl, ⟨fun z => absurd z.symm ch_10, fun z => absurd (un z) d⟩, fun post hp => ?_⟩
        unfold wpY_operand
        exact nm_r (ch_40t nc) (q3 _ (br_f ch_10 (br_t (ch_n64 (by omega)) ⟨_, cy_op_h W hc p6 (fun z => absurd z d) (fun _ => hp) (ch_nh (ch_bl yR nc)) 0 (by omega) (fun j hj => by omega)⟩)))
    · refine ⟨1, Or.inr rfl, ⟨fun _ => Or.inr ⟨c, c1, c2, rfl⟩, fun _ => rfl⟩, fun post hp => ?_⟩
      unfold wpY_operand
      exact nm_r (ch_40t nc) (q3 _ (br_f ch_10 (br_f (ch_g64 c1 (by omega)) hp)))
end
end
section
def ch_zr (R : Nat → Int32) (b : Nat) : Nat → (Nat → Int32)
  | 0 => R
  | i + 1 => upd (ch_zr R b i) (b + i) 0
theorem ch_zr_at {R : Nat → Int32} {b : Nat} : ∀ {i j : Nat}, j < i → ch_zr R b i (b + j) = 0
  | 0, j, h => by omega
  | i + 1, j, h => by
    show upd (ch_zr R b i) (b + i) 0 (b + j) = 0
    by_cases e : j = i
    · rw [e, ch_upd_s]
    · rw [ch_upd_n (by omega)]; exact ch_zr_at (by omega)
theorem ch_zr_ne {R : Nat → Int32} {r nc : Nat} (h : r ≠ nc) : ∀ i, i ≤ 40 → ch_bl (ch_zr R (40 * nc) i) r = ch_bl R r
  | 0, _ => rfl
  | i + 1, hi => by
    show ch_bl (upd (ch_zr R (40 * nc) i) (40 * nc + i) 0) r = ch_bl R r
    rw [ch_bl_ne h (by omega)]
    exact ch_zr_ne h i (by omega)
theorem ch_zr_bl {R : Nat → Int32} {nc : Nat} : ch_bl (ch_zr R (40 * nc) 40) nc = fun _ => 0 := by
  funext j
  unfold ch_bl
  by_cases h : j < 40
  · rw [if_pos h]; exact ch_zr_at h
  · rw [if_neg h]
theorem ch_W_0 : ch_W (fun _ => 0) := by
  have a : ch_nh (fun _ => 0) = 0 := rfl
  have b : ch_ns (fun _ => 0) = 0 := rfl
  have c : ch_nb (fun _ => 0) = 0 := rfl
  refine ⟨⟨by rw [a]; rfl, by omega, by rw [b]; rfl, by omega, by rw [c]; rfl, by omega⟩, fun h hh => by omega, fun h hh => by omega, fun h hh => by omega⟩
theorem ch_bl_ne0 {R : Nat → Int32} {r r' : Nat} {x : Int32} (h : r ≠ r') : ch_bl (upd R (40 * r') x) r = ch_bl R r := ch_bl_ne (k := 0) h (by omega)
theorem ch_bl_eq0 {R : Nat → Int32} {r : Nat} {x : Int32} : ch_bl (upd R (40 * r) x) r = upd (ch_bl R r) 0 x := ch_bl_eq (k := 0) (by omega)
section
variable {k sl ll nc o t n ag lg da db : Nat} {ob : Int32} {aR aP aS aA aB aL bf af fo lo cR cH cF cS gI gS gA gB kR kI hs yF yG yQ : Nat → Int32}
variable {xbm : Int32} {iv vs yp yv yk : Nat → Int32}
/-- only the open rule has changed -/
theorem ch_open_rel {R' : Nat → Int32} {ob' : Int32} (I : ch_In k sl ll nc 1 0 0 0 0 0 0 ob aR aP aS aA aB aL bf af fo lo cR cH cF cS gI gS gA gB kR kI hs yF yG yQ) (ne : ∀ r, r < nc → ch_bl R' r = ch_bl aR r) (W' : ch_W (ch_bl R' nc))
    (obs : ∀ p, p < 6 → (ch_b ob' p ↔ ch_D (ch_bl R' nc) (ch_ns (ch_bl R' nc)) p)) : i_Rel (k + 5) (nI sl, nI ll, nI nc, nI 1, ob', nI 0, nI (ch_ca aL 0), nI 0, nI 0, nI 0, xbm, R', aP, aS, aA, aB, aL, bf, af, fo, lo, cR, cH, cF, cS, gI, gS, gA, gB, kR, kI, hs, iv, vs) (nI sl, nI ll, nI nc, nI 1, nI 0, nI 0, nI 0, nI 0, R', yF, aL, yG, yQ, yp, yv, yk) := by
  obtain ⟨f1, f2⟩ := ch_In_0f I
  have nu := I.1.1
  have c6 := (I.1.2.1 rfl).1
  refine ch_rel (ch_In_idle ⟨by omega, by omega, by omega, by omega⟩ ⟨by omega, by omega, fun _ => c6⟩ ⟨fun r hr => ?_, fun _ => ⟨W', obs⟩⟩ f1 f2)
  rw [ne r hr]
  exact I.2.1.1 r hr
end
section
variable {xsl xll xnc xro xob xn xal xag xtl xlg xbm : Int32} {aR aP aS aA aB aL bf af fo lo cR cH cF cS gI gS gA gB kR kI hs iv vs : Nat → Int32}
theorem cx_open_lp {nc : Nat} {post : Int32 → SX → Prop} (hc : nc < 6) (hp : post 0 (xsl, xll, xnc, 1, 0, xn, xal, xag, xtl, xlg, xbm, ch_zr aR (40 * nc) 40, aP, aS, aA, aB, aL, bf, af, fo, lo, cR, cH, cF, cS, gI, gS, gA, gB, kR, kI, hs, iv, vs)) :
    ∀ d i, i + d = 40 → wX_open_37 post (nI (40 * nc)) xsl xll xnc xro xob xn xal xag xtl xlg xbm (d + 1) (nI i) (ch_zr aR (40 * nc) i) aP aS aA aB aL bf af fo lo cR cH cF cS gI gS gA gB kR kI hs iv vs := by
  intro d
  induction d with
  | zero =>
    intro i hi
    rw [show i = 40 by omega]
    unfold wX_open_37
    exact br_t (by decide) hp
  | succ d ih =>
    intro i hi
    unfold wX_open_37
    rw [nI_add, show (nI (40 * nc + i)).toNatClampNeg = 40 * nc + i from nI_clamp (by omega)]
    exact br_f (nI_ge (b := 40) (by omega) (by omega)) ⟨vp_in_nI (by omega) (by omega), nm_e (nm_r (ch_a1 i) (ih (i + 1) (by omega)))⟩
end
section
variable {ysl yll ync yop ytl yn ylg yag : Int32} {yR yF yL yG yQ yp yv yk : Nat → Int32}
theorem cy_open_lp {nc : Nat} {post : Int32 → SY → Prop} (hc : nc < 6) (hp : post 0 (ysl, yll, nI nc, 1, ytl, yn, ylg, yag, ch_zr yR (40 * nc) 40, yF, yL, yG, yQ, yp, yv, yk)) :
    ∀ d i, i + d = 40 → wY_open_29 post ysl yll (nI nc) yop ytl yn ylg yag (d + 1) (nI i) (ch_zr yR (40 * nc) i) yF yL yG yQ yp yv yk := by
  intro d
  induction d with
  | zero =>
    intro i hi
    rw [show i = 40 by omega]
    unfold wY_open_29
    exact br_t (by decide) hp
  | succ d ih =>
    intro i hi
    unfold wY_open_29
    rw [ch_40t, nI_add, show (nI (40 * nc + i)).toNatClampNeg = 40 * nc + i from nI_clamp (by omega)]
    exact br_f (nI_ge (b := 40) (by omega) (by omega)) ⟨vp_in_nI (by omega) (by omega), nm_e (nm_r (ch_a1 i) (ih (i + 1) (by omega)))⟩
end
theorem i_vc_open {k : Nat} {u : SX} {v : SY} (I : i_Rel k u v) (hk : k + 5 ≤ 2562) : wpX_open (fun r u' => wpY_open (fun r' v' => r' = r ∧ i_Rel (k + 5) u' v') v) u := by
  refine ch_el (P := fun u v => wpX_open (fun r u' => wpY_open (fun r' v' => r' = r ∧ i_Rel (k + 5) u' v') v) u) ?_ I
  clear I
  intro sl ll nc o t n ag lg ob xbm aR aP aS aA aB aL bf af fo lo cR cH cF cS gI gS gA gB kR kI hs iv vs yF yG yQ yp yv yk I
  have J := ch_rel (ch_In_k (k' := k + 5) (by omega) I) (xbm := xbm) (iv := iv) (vs := vs) (yp := yp) (yv := yv) (yk := yk)
  obtain ⟨n160, a152, _, nc6⟩ := ch_In_n I
  have nu := I.1.1
  have o01 : o = 0 ∨ o = 1 := by omega
  have tk : t < 2 ^ 31 := by omega
  rcases Nat.eq_zero_or_pos t with t0 | t0
  · subst t0
    have nt : ¬ (0 : Int32) < nI 0 := by decide
    rcases o01 with o0 | o0
    · subst o0
      rcases Nat.lt_or_ge nc 6 with c6 | c6
      · have lt : nI nc < 6 := nI_lt (b := 6) c6 (by omega)
        obtain ⟨n0, a0, l0⟩ := I.1.2.2 rfl
        subst n0 a0 l0
        obtain ⟨f1, f2⟩ := ch_In_0f I
        unfold wpX_open
        refine br_f nt (br_t rfl (br_t lt (nm_r (ch_t40 nc) ⟨41, cx_open_lp c6 ?_ 40 0 rfl⟩)))
        unfold wpY_open
        refine br_f nt (br_t rfl (br_t lt ⟨41, cy_open_lp c6 ?_ 40 0 rfl⟩))
        refine ⟨rfl, ch_rel (k := k + 5) (o := 1) (ch_In_idle (nc' := nc) (o' := 1) (ob' := 0) (R' := ch_zr aR (40 * nc) 40) (P' := aP) ⟨by omega, by omega, by omega, by omega⟩ ⟨by omega, by omega, fun _ => c6⟩ ⟨fun r hr => ?_, fun _ => ?_⟩ f1 f2) (xbm := xbm) (iv := iv) (vs := vs) (yp := yp) (yv := yv) (yk := yk)⟩
        · rw [ch_zr_ne (by omega) 40 (by omega)]
          exact I.2.1.1 r hr
        · rw [ch_zr_bl]
          refine ⟨ch_W_0, fun p p6 => ⟨fun z => absurd z (ch_b0 (by omega)), ?_⟩⟩
          rintro ⟨_, ⟨h, hh, _⟩ | ⟨j, hj, _⟩⟩
          · have : ch_nh (fun _ => 0) = 0 := rfl
            omega
          · have : ch_ns (fun _ => 0) = 0 := rfl
            omega
      · have nlt : ¬ nI nc < 6 := nI_nlt (b := 6) c6 (by omega)
        unfold wpX_open wpY_open
        exact br_f nt (br_t rfl (br_f nlt (br_f nt (br_t rfl (br_f nlt ⟨rfl, J⟩)))))
    · subst o0
      unfold wpX_open wpY_open
      exact br_f nt (br_f ch_10 (br_f nt (br_f ch_10 ⟨rfl, J⟩)))
  · have lt : (0 : Int32) < nI t := nI_lt (a := 0) t0 tk
    unfold wpX_open wpY_open
    exact br_t lt (br_t lt ⟨rfl, J⟩)
section
variable {xsl xll xnc xro xob xn xal xag xtl xlg xbm : Int32} {aR aP aS aA aB aL bf af fo lo cR cH cF cS gI gS gA gB kR kI hs iv vs : Nat → Int32}
variable {nc : Nat}
theorem cx_close_lp (W : ch_W (ch_bl aR nc)) (hc : nc < 6) : ∀ m i x2, i + m = ch_nh (ch_bl aR nc) → (x2 = 0 ∨ x2 = 1) → (¬ x2 = 0 ↔ ∀ h, h < i → ¬ ch_bl aR nc (3 + 4 * h) = 1) →
    ∃ kp : Int32, (¬ kp = 0 ↔ ch_Pr (ch_bl aR nc)) ∧ ∀ post : Int32 → SX → Prop, post 0 (xsl, xll, nI (nc + 1), 0, xob, xn, xal, xag, xtl, xlg, xbm, aR, upd aP nc kp, aS, aA, aB, aL, bf, af, fo, lo, cR, cH, cF, cS, gI, gS, gA, gB, kR, kI, hs, iv, vs) → wX_close_30 post (nI (40 * nc)) xsl xll (nI nc) xro xob xn xal xag xtl xlg xbm aR aP aS aA aB aL bf af fo lo cR cH cF cS gI gS gA gB kR kI hs iv vs (m + 1) x2 (nI i) := by
  have nh3 := W.1.2.1
  have k0 : aR (nI (40 * nc)).toNatClampNeg = nI (ch_nh (ch_bl aR nc)) := by rw [nI_clamp (by omega), ← W.1.1]; exact ch_blE (j := 0) (by omega)
  have in0 : vp_in (nI (40 * nc)) 240 := vp_in_nI (by omega) (by omega)
  intro m
  induction m with
  | zero =>
    intro i x2 hi h01 fl
    have : i = ch_nh (ch_bl aR nc) := by omega
    subst this
    refine ⟨x2, fl, fun post hp => ?_⟩
    unfold wX_close_30
    rw [k0, show (nI nc).toNatClampNeg = nc from nI_clamp (by omega)]
    have ex : vp_nar .boolean x2 = x2 := by rcases h01 with rfl | rfl <;> rfl
    rw [ex]
    exact ⟨in0, br_t (Int32.le_refl _) ⟨vp_in_nI hc (by omega), nm_e (nm_r (ch_a1 nc) hp)⟩⟩
  | succ m ih =>
    intro i x2 hi h01 fl
    have e3 : nI (40 * nc) + 3 + 4 * nI i = nI (40 * nc + (3 + 4 * i)) := by rw [ch_a3, ch_4t, nI_add, Nat.add_assoc]
    have k3 : aR (nI (40 * nc + (3 + 4 * i))).toNatClampNeg = ch_bl aR nc (3 + 4 * i) := by rw [nI_clamp (by omega)]; exact ch_blE (by omega)
    have in3 : vp_in (nI (40 * nc + (3 + 4 * i))) 240 := vp_in_nI (by omega) (by omega)
    have nle : ¬ nI (ch_nh (ch_bl aR nc)) ≤ nI i := nI_ge (by omega) (by omega)
    rcases Classical.em (ch_bl aR nc (3 + 4 * i) = 1) with c | c
    · obtain ⟨kp, p1, p2⟩ := ih (i + 1) 0 (by omega) (Or.inl rfl) ⟨fun z => absurd rfl z, fun z => absurd c (z i (by omega))⟩
      refine ⟨kp, p1, fun post hp => ?_⟩
      unfold wX_close_30
      rw [k0, e3, k3]
      exact ⟨in0, br_f nle ⟨in3, br_t c (nm_r (ch_a1 i) (p2 post hp))⟩⟩
    · obtain ⟨kp, p1, p2⟩ := ih (i + 1) x2 (by omega) h01 (fl.trans ⟨fun a h hh => by
          rcases Nat.lt_or_ge h i with q | q
          · exact a h q
          · rw [show h = i by omega]; exact c, fun a h hh => a h (by omega)⟩)
      refine ⟨kp, p1, fun post hp => ?_⟩
      unfold wX_close_30
      rw [k0, e3, k3]
      exact ⟨in0, br_f nle ⟨in3, br_f c (nm_r (ch_a1 i) (p2 post hp))⟩⟩
end
theorem i_vc_close {k : Nat} {u : SX} {v : SY} (I : i_Rel k u v) (hk : k + 5 ≤ 2562) : wpX_close (fun r u' => wpY_close (fun r' v' => r' = r ∧ i_Rel (k + 5) u' v') v) u := by
  refine ch_el (P := fun u v => wpX_close (fun r u' => wpY_close (fun r' v' => r' = r ∧ i_Rel (k + 5) u' v') v) u) ?_ I
  clear I
  intro sl ll nc o t n ag lg ob xbm aR aP aS aA aB aL bf af fo lo cR cH cF cS gI gS gA gB kR kI hs iv vs yF yG yQ yp yv yk I
  have J := ch_rel (ch_In_k (k' := k + 5) (by omega) I) (xbm := xbm) (iv := iv) (vs := vs) (yp := yp) (yv := yv) (yk := yk)
  have nu := I.1.1
  have o01 : o = 0 ∨ o = 1 := by omega
  rcases o01 with o0 | o0
  · subst o0
    unfold wpX_close wpY_close
    exact nm_e (br_t rfl (br_t rfl ⟨rfl, J⟩))
  · subst o0
    obtain ⟨c6, t0⟩ := I.1.2.1 rfl
    subst t0
    obtain ⟨n0, a0, l0⟩ := I.1.2.2 rfl
    subst n0 a0 l0
    obtain ⟨W, obs⟩ := I.2.1.2 rfl
    obtain ⟨f1, f2⟩ := ch_In_0f I
    have nh3 := W.1.2.1
    have k0 : aR (nI (40 * nc)).toNatClampNeg = nI (ch_nh (ch_bl aR nc)) := by rw [nI_clamp (by omega), ← W.1.1]; exact ch_blE (j := 0) (by omega)
    have in0 : vp_in (nI (40 * nc)) 240 := vp_in_nI (by omega) (by omega)
    unfold wpX_close
    refine nm_r (ch_t40 nc) (br_f ch_10 ⟨in0, ?_⟩)
    rw [k0]
    rcases Nat.eq_zero_or_pos (ch_nh (ch_bl aR nc)) with z | z
    · refine br_t (by rw [z]; rfl) ?_
      unfold wpY_close
      dsimp only
      rw [ch_40t, k0]
      exact br_f ch_10 ⟨in0, br_t (by rw [z]; rfl) ⟨rfl, J⟩⟩
    · have nz : ¬ nI (ch_nh (ch_bl aR nc)) = 0 := nI_ne0 z (by omega)
      obtain ⟨kp, p1, p2⟩ := cx_close_lp (nc := nc) W c6 (ch_nh (ch_bl aR nc)) 0 1 (by omega) (Or.inr rfl) ⟨fun _ h hh => by omega, fun _ => ch_10⟩ (xsl := nI sl) (xll := nI ll) (xro := nI 1) (xob := ob) (xn := nI 0) (xal := nI (ch_ca aL 0)) (xag := nI 0) (xtl := nI 0) (xlg := nI 0) (xbm := xbm) (aR := aR) (aP := aP) (aS := aS) (aA := aA) (aB := aB) (aL := aL) (bf := bf) (af := af) (fo := fo) (lo := lo) (cR := cR) (cH := cH) (cF := cF) (cS := cS) (gI := gI) (gS := gS) (gA := gA) (gB := gB) (kR := kR) (kI := kI) (hs := hs) (iv := iv) (vs := vs)
      refine br_f nz ⟨_, p2 _ ?_⟩
      unfold wpY_close
      dsimp only
      rw [ch_40t, k0]
      refine br_f ch_10 ⟨in0, br_f nz (nm_r (ch_a1 nc) ?_)⟩
      refine ⟨rfl, ch_rel (k := k + 5) (o := 0) (nc := nc + 1) (ch_In_idle (nc' := nc + 1) (o' := 0) (ob' := ob) (R' := aR) (P' := upd aP nc kp) ⟨by omega, by omega, by omega, by omega⟩ ⟨by omega, by omega, fun z => by omega⟩ ⟨fun r hr => ?_, fun z => by omega⟩ f1 f2) (xbm := xbm) (iv := iv) (vs := vs) (yp := yp) (yv := yv) (yk := yk)⟩
      rcases Nat.lt_or_ge r nc with q | q
      · rw [ch_upd_n (by omega)]
        exact I.2.1.1 r q
      · have : r = nc := by omega
        subst this
        rw [ch_upd_s]
        exact ⟨W, z, p1⟩
end
section
def ch_hR (R : Nat → Int32) (nc a : Nat) (rm s p q : Int32) : Nat → Int32 :=
  upd (upd (upd (upd (upd R (40 * nc + (3 + 4 * a)) rm) (40 * nc + (4 + 4 * a)) s) (40 * nc + (5 + 4 * a)) p) (40 * nc + (6 + 4 * a)) q) (40 * nc) (nI (a + 1))
theorem ch_hR_ne {R : Nat → Int32} {nc a r : Nat} {rm s p q : Int32} (ha : a < 3) (h : r ≠ nc) : ch_bl (ch_hR R nc a rm s p q) r = ch_bl R r := by
  unfold ch_hR
  rw [ch_bl_ne0 h, ch_bl_ne h (by omega), ch_bl_ne h (by omega), ch_bl_ne h (by omega), ch_bl_ne h (by omega)]
theorem ch_hR_bl {R : Nat → Int32} {nc a : Nat} {rm s p q : Int32} (ha : a < 3) : ch_bl (ch_hR R nc a rm s p q) nc = upd (upd (upd (upd (upd (ch_bl R nc) (3 + 4 * a) rm) (4 + 4 * a) s) (5 + 4 * a) p) (6 + 4 * a) q) 0 (nI (a + 1)) := by
  unfold ch_hR
  rw [ch_bl_eq0, ch_bl_eq (by omega), ch_bl_eq (by omega), ch_bl_eq (by omega), ch_bl_eq (by omega)]
theorem ch_hR_W {R : Nat → Int32} {nc s : Nat} {rm p q : Int32} (W : ch_W (ch_bl R nc)) (ns0 : ch_ns (ch_bl R nc) = 0) (nb0 : ch_nb (ch_bl R nc) = 0) (h3 : ch_nh (ch_bl R nc) < 3) (hrm : rm = 0 ∨ rm = 1) (s8 : s < 8) (hp : ch_Pa p) (hq : ch_Pa q) :
    ch_W (ch_bl (ch_hR R nc (ch_nh (ch_bl R nc)) rm (nI s) p q) nc) ∧ ch_ns (ch_bl (ch_hR R nc (ch_nh (ch_bl R nc)) rm (nI s) p q) nc) = 0 ∧
      ∀ v, v < 6 → (ch_D (ch_bl (ch_hR R nc (ch_nh (ch_bl R nc)) rm (nI s) p q) nc) 0 v ↔ ch_D (ch_bl R nc) 0 v ∨ p = nI v ∨ q = nI v) := by
  rw [ch_hR_bl h3]
  refine ch_W_head W ns0 nb0 h3 hrm s8 hp hq ch_upd_s ?_ ?_ (fun j j3 jl => ?_) ?_ ?_ ?_ ?_
  · rw [ch_upd_n (by omega), ch_upd_n (by omega), ch_upd_n (by omega), ch_upd_n (by omega), ch_upd_n (by omega)]
  · rw [ch_upd_n (by omega), ch_upd_n (by omega), ch_upd_n (by omega), ch_upd_n (by omega), ch_upd_n (by omega)]
  · rw [ch_upd_n (by omega), ch_upd_n (by omega), ch_upd_n (by omega), ch_upd_n (by omega), ch_upd_n (by omega)]
  · rw [ch_upd_n (by omega), ch_upd_n (by omega), ch_upd_n (by omega), ch_upd_n (by omega), ch_upd_s]
  · rw [ch_upd_n (by omega), ch_upd_n (by omega), ch_upd_n (by omega), ch_upd_s]
  · rw [ch_upd_n (by omega), ch_upd_n (by omega), ch_upd_s]
  · rw [ch_upd_n (by omega), ch_upd_s]
theorem ch_hR_e {R : Nat → Int32} {nc a : Nat} {rm s p q : Int32} (e : R (40 * nc) = nI a) :
    upd (upd (upd (upd (upd R (40 * nc + (3 + 4 * a)) rm) (40 * nc + (4 + 4 * a)) s) (40 * nc + (5 + 4 * a)) p) (40 * nc + (6 + 4 * a)) q) (40 * nc)
      (upd (upd (upd (upd R (40 * nc + (3 + 4 * a)) rm) (40 * nc + (4 + 4 * a)) s) (40 * nc + (5 + 4 * a)) p) (40 * nc + (6 + 4 * a)) q (40 * nc) + 1) = ch_hR R nc a rm s p q := by
  unfold ch_hR
  rw [ch_upd_n (by omega), ch_upd_n (by omega), ch_upd_n (by omega), ch_upd_n (by omega), e, ch_a1]
section
variable {xsl xll xnc xro xob xn xal xag xtl xlg xbm : Int32} {aR aP aS aA aB aL bf af fo lo cR cH cF cS gI gS gA gB kR kI hs iv vs : Nat → Int32}
variable {nc : Nat}
theorem cx_head113 {a : Nat} {rm s p q : Int32} (ha : a < 3) (hc : nc < 6) (e : aR (40 * nc) = nI a) :
    ∃ ob' : Int32, (∀ v, v < 6 → (ch_b ob' v ↔ ch_b xob v ∨ p = nI v ∨ q = nI v)) ∧ ∀ post : Int32 → SX → Prop, post 0 (xsl, xll, xnc, xro, ob', xn, xal, xag, xtl, xlg, xbm, ch_hR aR nc a rm s p q, aP, aS, aA, aB, aL, bf, af, fo, lo, cR, cH, cF, cS, gI, gS, gA, gB, kR, kI, hs, iv, vs) →
      wX_head_113 post s p q (nI (40 * nc)) (nI (40 * nc + (3 + 4 * a))) rm (nI (40 * nc + (3 + 4 * a))) xsl xll xnc xro xob xn xal xag xtl xlg xbm aR aP aS aA aB aL bf af fo lo cR cH cF cS gI gS gA gB kR kI hs iv vs := by
  obtain ⟨o1, b1, w1⟩ := cx_bind (x := p) (xsl := xsl) (xll := xll) (xnc := xnc) (xro := xro) (xob := xob) (xn := xn) (xal := xal) (xag := xag) (xtl := xtl) (xlg := xlg) (xbm := xbm) (aR := ch_hR aR nc a rm s p q) (aP := aP) (aS := aS) (aA := aA) (aB := aB) (aL := aL) (bf := bf) (af := af) (fo := fo) (lo := lo) (cR := cR) (cH := cH) (cF := cF) (cS := cS) (gI := gI) (gS := gS) (gA := gA) (gB := gB) (kR := kR) (kI := kI) (hs := hs) (iv := iv) (vs := vs)
  obtain ⟨o2, b2, w2⟩ := cx_bind (x := q) (xsl := xsl) (xll := xll) (xnc := xnc) (xro := xro) (xob := o1) (xn := xn) (xal := xal) (xag := xag) (xtl := xtl) (xlg := xlg) (xbm := xbm) (aR := ch_hR aR nc a rm s p q) (aP := aP) (aS := aS) (aA := aA) (aB := aB) (aL := aL) (bf := bf) (af := af) (fo := fo) (lo := lo) (cR := cR) (cH := cH) (cF := cF) (cS := cS) (gI := gI) (gS := gS) (gA := gA) (gB := gB) (kR := kR) (kI := kI) (hs := hs) (iv := iv) (vs := vs)
  have e1 : nI (40 * nc + (3 + 4 * a)) + 1 = nI (40 * nc + (4 + 4 * a)) := by rw [ch_a1]; exact congrArg nI (by omega)
  have e2 : nI (40 * nc + (3 + 4 * a)) + 2 = nI (40 * nc + (5 + 4 * a)) := by rw [ch_a2]; exact congrArg nI (by omega)
  have e3 : nI (40 * nc + (3 + 4 * a)) + 3 = nI (40 * nc + (6 + 4 * a)) := by rw [ch_a3]; exact congrArg nI (by omega)
  refine ⟨o2, fun v v6 => by rw [b2 v v6, b1 v v6, or_assoc], fun post hp => ?_⟩
  unfold wX_head_113
  rw [e1, e2, e3, show (nI (40 * nc)).toNatClampNeg = 40 * nc from nI_clamp (by omega), show (nI (40 * nc + (3 + 4 * a))).toNatClampNeg = 40 * nc + (3 + 4 * a) from nI_clamp (by omega), show (nI (40 * nc + (4 + 4 * a))).toNatClampNeg = 40 * nc + (4 + 4 * a) from nI_clamp (by omega), show (nI (40 * nc + (5 + 4 * a))).toNatClampNeg = 40 * nc + (5 + 4 * a) from nI_clamp (by omega), show (nI (40 * nc + (6 + 4 * a))).toNatClampNeg = 40 * nc + (6 + 4 * a) from nI_clamp (by omega)]
  exact ⟨vp_in_nI (by omega) (by omega), nm_e ⟨vp_in_nI (by omega) (by omega), nm_e ⟨vp_in_nI (by omega) (by omega), nm_e ⟨vp_in_nI (by omega) (by omega), nm_e ⟨vp_in_nI (by omega) (by omega), vp_in_nI (by omega) (by omega), nm_r (ch_hR_e e) (w1 _ (w2 _ hp))⟩⟩⟩⟩⟩
end
section
variable {ysl yll ync yop ytl yn ylg yag : Int32} {yR yF yL yG yQ yp yv yk : Nat → Int32}
variable {nc : Nat}
theorem cy_head115 {a : Nat} {rm s p q : Int32} (ha : a < 3) (hc : nc < 6) (e : yR (40 * nc) = nI a) (post : Int32 → SY → Prop) (hp : post 0 (ysl, yll, ync, yop, ytl, yn, ylg, yag, ch_hR yR nc a rm s p q, yF, yL, yG, yQ, yp, yv, yk)) :
    wY_head_115 post s p q (nI (40 * nc)) (nI (40 * nc + (3 + 4 * a))) rm (nI (40 * nc + (3 + 4 * a))) ysl yll ync yop ytl yn ylg yag yR yF yL yG yQ yp yv yk := by
  have e1 : nI (40 * nc + (3 + 4 * a)) + 1 = nI (40 * nc + (4 + 4 * a)) := by rw [ch_a1]; exact congrArg nI (by omega)
  have e2 : nI (40 * nc + (3 + 4 * a)) + 2 = nI (40 * nc + (5 + 4 * a)) := by rw [ch_a2]; exact congrArg nI (by omega)
  have e3 : nI (40 * nc + (3 + 4 * a)) + 3 = nI (40 * nc + (6 + 4 * a)) := by rw [ch_a3]; exact congrArg nI (by omega)
  unfold wY_head_115
  rw [e1, e2, e3, show (nI (40 * nc)).toNatClampNeg = 40 * nc from nI_clamp (by omega), show (nI (40 * nc + (3 + 4 * a))).toNatClampNeg = 40 * nc + (3 + 4 * a) from nI_clamp (by omega), show (nI (40 * nc + (4 + 4 * a))).toNatClampNeg = 40 * nc + (4 + 4 * a) from nI_clamp (by omega), show (nI (40 * nc + (5 + 4 * a))).toNatClampNeg = 40 * nc + (5 + 4 * a) from nI_clamp (by omega), show (nI (40 * nc + (6 + 4 * a))).toNatClampNeg = 40 * nc + (6 + 4 * a) from nI_clamp (by omega)]
  exact ⟨vp_in_nI (by omega) (by omega), nm_e ⟨vp_in_nI (by omega) (by omega), nm_e ⟨vp_in_nI (by omega) (by omega), nm_e ⟨vp_in_nI (by omega) (by omega), nm_e ⟨vp_in_nI (by omega) (by omega), vp_in_nI (by omega) (by omega), nm_r (ch_hR_e e) hp⟩⟩⟩⟩⟩
end
theorem ch_7 {x : Int32} (h0 : ¬ x < 0) (h : ¬ ∃ s, s < 8 ∧ x = nI s) : 7 < x := by
  obtain ⟨j, hj, rfl⟩ := nI_of h0
  rcases Nat.lt_or_ge 7 j with z | z
  · exact nI_lt (a := 7) z hj
  · exact absurd ⟨j, by omega, rfl⟩ h
theorem i_vc_head {k : Nat} {u : SX} {v : SY} (I : i_Rel k u v) (hk : k + 5 ≤ 2562) (v1 : Int32) (v2 : Int32) (v3 : Int32) (v4 : Int32) : wpX_head (fun r u' => wpY_head (fun r' v' => r' = r ∧ i_Rel (k + 5) u' v') v (lw_bz v1) v2 v3 v4) u (lw_bz v1) v2 v3 v4 := by
  refine ch_el (P := fun u v => wpX_head (fun r u' => wpY_head (fun r' v' => r' = r ∧ i_Rel (k + 5) u' v') v (lw_bz v1) v2 v3 v4) u (lw_bz v1) v2 v3 v4) ?_ I
  clear I
  intro sl ll nc o t n ag lg ob xbm aR aP aS aA aB aL bf af fo lo cR cH cF cS gI gS gA gB kR kI hs iv vs yF yG yQ yp yv yk I
  have J := ch_rel (ch_In_k (k' := k + 5) (by omega) I) (xbm := xbm) (iv := iv) (vs := vs) (yp := yp) (yv := yv) (yk := yk)
  have nu := I.1.1
  have o01 : o = 0 ∨ o = 1 := by omega
  rcases o01 with o0 | o0
  · subst o0
    unfold wpX_head wpY_head
    exact nm_e (br_t rfl (nm_e (br_t rfl ⟨rfl, J⟩)))
  · subst o0
    obtain ⟨c6, t0⟩ := I.1.2.1 rfl
    subst t0
    obtain ⟨n0, a0, l0⟩ := I.1.2.2 rfl
    subst n0 a0 l0
    obtain ⟨W, obs⟩ := I.2.1.2 rfl
    have nh3 := W.1.2.1
    have ns4 := W.1.2.2.2.1
    have nb3 := W.1.2.2.2.2.2
    have e1 : nI (40 * nc) + 1 = nI (40 * nc + 1) := ch_a1 _
    have e2 : nI (40 * nc) + 2 = nI (40 * nc + 2) := ch_a2 _
    have k0 : aR (nI (40 * nc)).toNatClampNeg = nI (ch_nh (ch_bl aR nc)) := by rw [nI_clamp (by omega), ← W.1.1]; exact ch_blE (j := 0) (by omega)
    have k0' : aR (40 * nc) = nI (ch_nh (ch_bl aR nc)) := by rw [← W.1.1]; exact ch_blE (j := 0) (by omega)
    have k1 : aR (nI (40 * nc + 1)).toNatClampNeg = nI (ch_ns (ch_bl aR nc)) := by rw [nI_clamp (by omega), ← W.1.2.2.1]; exact ch_blE (by omega)
    have k2 : aR (nI (40 * nc + 2)).toNatClampNeg = nI (ch_nb (ch_bl aR nc)) := by rw [nI_clamp (by omega), ← W.1.2.2.2.2.1]; exact ch_blE (by omega)
    have in0 : vp_in (nI (40 * nc)) 240 := vp_in_nI (by omega) (by omega)
    have in1 : vp_in (nI (40 * nc + 1)) 240 := vp_in_nI (by omega) (by omega)
    have in2 : vp_in (nI (40 * nc + 2)) 240 := vp_in_nI (by omega) (by omega)
    have e3 : nI (40 * nc) + 3 + 4 * nI (ch_nh (ch_bl aR nc)) = nI (40 * nc + (3 + 4 * ch_nh (ch_bl aR nc))) := by rw [ch_a3, ch_4t, nI_add, Nat.add_assoc]
    unfold wpX_head
    refine nm_r (ch_t40 nc) ?_
    rw [e1, e2, k0, k1, k2, e3]
    refine br_f ch_10 ⟨in1, ?_⟩
    rcases Nat.eq_zero_or_pos (ch_ns (ch_bl aR nc)) with ns0 | ns0
    · have c1 : ¬ (0 : Int32) < nI (ch_ns (ch_bl aR nc)) := by rw [ns0]; decide
      refine br_f c1 ⟨in2, ?_⟩
      rcases Nat.eq_zero_or_pos (ch_nb (ch_bl aR nc)) with nb0 | nb0
      · have c2 : nI (ch_nb (ch_bl aR nc)) ≤ 0 := by rw [nb0]; decide
        refine br_t c2 ?_
        obtain ⟨q, q1, q2, q3⟩ := cx_isSymbol (x := v2) (u := (nI sl, nI ll, nI nc, nI 1, ob, nI 0, nI (ch_ca aL 0), nI 0, nI 0, nI 0, xbm, aR, aP, aS, aA, aB, aL, bf, af, fo, lo, cR, cH, cF, cS, gI, gS, gA, gB, kR, kI, hs, iv, vs))
        refine q3 _ ?_
        rcases q1 with rfl | rfl
        · refine br_t rfl ?_
          have ns : ¬ ∃ s, s < 8 ∧ v2 = nI s := fun z => ch_10 (q2.mpr z).symm
          unfold wpY_head
          refine nm_r (ch_40t nc) ?_
          rw [e1, e2, k0, k1, k2]
          refine br_f ch_10 ⟨in1, br_f c1 ⟨in2, br_t c2 ?_⟩⟩
          rcases Classical.em (v2 < 0) with h0 | h0
          · exact br_t h0 ⟨rfl, J⟩
          · exact br_f h0 (br_t (ch_7 h0 ns) ⟨rfl, J⟩)
        · obtain ⟨s, s8, rfl⟩ := q2.mp rfl
          refine br_f ch_10 ?_
          have Y0 : ∀ {A B : Prop}, A → (nI s < 0 → B) ∧ (¬ nI s < 0 → ((7 < nI s → B) ∧ (¬ 7 < nI s → A))) := fun a => br_f (nI_pos (by omega)) (br_f (nI_nlt (b := s) (a := 7) (by omega) (by omega)) a)
          obtain ⟨p, p1, p2, p3⟩ := cx_isPattern (x := v3) (xsl := nI sl) (xll := nI ll) (xnc := nI nc) (xro := nI 1) (xob := ob) (xn := nI 0) (xal := nI (ch_ca aL 0)) (xag := nI 0) (xtl := nI 0) (xlg := nI 0) (xbm := xbm) (aR := aR) (aP := aP) (aS := aS) (aA := aA) (aB := aB) (aL := aL) (bf := bf) (af := af) (fo := fo) (lo := lo) (cR := cR) (cH := cH) (cF := cF) (cS := cS) (gI := gI) (gS := gS) (gA := gA) (gB := gB) (kR := kR) (kI := kI) (hs := hs) (iv := iv) (vs := vs)
          obtain ⟨p', p1', p2', p3'⟩ := cy_pattern (x := v3) (ysl := nI sl) (yll := nI ll) (ync := nI nc) (yop := nI 1) (ytl := nI 0) (yn := nI 0) (ylg := nI 0) (yag := nI 0) (yR := aR) (yF := yF) (yL := aL) (yG := yG) (yQ := yQ) (yp := yp) (yv := yv) (yk := yk)
          have pp := ch_q01 p1 p2 p1' p2'
          subst pp
          refine p3 _ ?_
          rcases p1 with rfl | rfl
          · refine br_t rfl ?_
            unfold wpY_head
            refine nm_r (ch_40t nc) ?_
            rw [e1, e2, k0, k1, k2]
            exact br_f ch_10 ⟨in1, br_f c1 ⟨in2, br_t c2 (Y0 (p3' _ (br_t rfl ⟨rfl, J⟩)))⟩⟩
          · refine br_f ch_10 ?_
            obtain ⟨r, r1, r2, r3⟩ := cx_isPattern (x := v4) (xsl := nI sl) (xll := nI ll) (xnc := nI nc) (xro := nI 1) (xob := ob) (xn := nI 0) (xal := nI (ch_ca aL 0)) (xag := nI 0) (xtl := nI 0) (xlg := nI 0) (xbm := xbm) (aR := aR) (aP := aP) (aS := aS) (aA := aA) (aB := aB) (aL := aL) (bf := bf) (af := af) (fo := fo) (lo := lo) (cR := cR) (cH := cH) (cF := cF) (cS := cS) (gI := gI) (gS := gS) (gA := gA) (gB := gB) (kR := kR) (kI := kI) (hs := hs) (iv := iv) (vs := vs)
            obtain ⟨r', r1', r2', r3'⟩ := cy_pattern (x := v4) (ysl := nI sl) (yll := nI ll) (ync := nI nc) (yop := nI 1) (ytl := nI 0) (yn := nI 0) (ylg := nI 0) (yag := nI 0) (yR := aR) (yF := yF) (yL := aL) (yG := yG) (yQ := yQ) (yp := yp) (yv := yv) (yk := yk)
            have rr := ch_q01 r1 r2 r1' r2'
            subst rr
            refine r3 _ ?_
            rcases r1 with rfl | rfl
            · refine br_t rfl ?_
              unfold wpY_head
              refine nm_r (ch_40t nc) ?_
              rw [e1, e2, k0, k1, k2]
              exact br_f ch_10 ⟨in1, br_f c1 ⟨in2, br_t c2 (Y0 (p3' _ (br_f ch_10 (r3' _ (br_t rfl ⟨rfl, J⟩)))))⟩⟩
            · refine br_f ch_10 ⟨in0, ?_⟩
              rcases Nat.lt_or_ge (ch_nh (ch_bl aR nc)) 3 with h3 | h3
              · have lt : nI (ch_nh (ch_bl aR nc)) < 3 := nI_lt (b := 3) h3 (by omega)
                refine br_t lt ⟨in0, nm_e ?_⟩
                have fin : ∀ rm : Int32, (rm = 0 ∨ rm = 1) → wX_head_113 (fun r u' => wpY_head (fun r' v' => r' = r ∧ i_Rel (k + 5) u' v') (nI sl, nI ll, nI nc, nI 1, nI 0, nI 0, nI 0, nI 0, aR, yF, aL, yG, yQ, yp, yv, yk) rm (nI s) v3 v4) (nI s) v3 v4 (nI (40 * nc)) (nI (40 * nc + (3 + 4 * ch_nh (ch_bl aR nc)))) rm (nI (40 * nc + (3 + 4 * ch_nh (ch_bl aR nc)))) (nI sl) (nI ll) (nI nc) (nI 1) ob (nI 0) (nI (ch_ca aL 0)) (nI 0) (nI 0) (nI 0) xbm aR aP aS aA aB aL bf af fo lo cR cH cF cS gI gS gA gB kR kI hs iv vs := by
                  intro rm hrm
                  obtain ⟨w1, w2, w3⟩ := ch_hR_W (rm := rm) (s := s) W ns0 nb0 h3 hrm s8 (p2.mp rfl) (r2.mp rfl)
                  obtain ⟨ob', b1, b2⟩ := cx_head113 (rm := rm) (s := nI s) (p := v3) (q := v4) h3 c6 k0' (xsl := nI sl) (xll := nI ll) (xnc := nI nc) (xro := nI 1) (xob := ob) (xn := nI 0) (xal := nI (ch_ca aL 0)) (xag := nI 0) (xtl := nI 0) (xlg := nI 0) (xbm := xbm) (aR := aR) (aP := aP) (aS := aS) (aA := aA) (aB := aB) (aL := aL) (bf := bf) (af := af) (fo := fo) (lo := lo) (cR := cR) (cH := cH) (cF := cF) (cS := cS) (gI := gI) (gS := gS) (gA := gA) (gB := gB) (kR := kR) (kI := kI) (hs := hs) (iv := iv) (vs := vs)
                  refine b2 _ ?_
                  unfold wpY_head
                  refine nm_r (ch_40t nc) ?_
                  rw [e1, e2, k0, k1, k2, e3]
                  refine br_f ch_10 ⟨in1, br_f c1 ⟨in2, br_t c2 (Y0 (p3' _ (br_f ch_10 (r3' _ (br_f ch_10 ⟨in0, br_t lt ⟨in0, nm_e ?_⟩⟩)))))⟩⟩
                  have Yf := cy_head115 (rm := rm) (s := nI s) (p := v3) (q := v4) h3 c6 k0' (fun r' v' => r' = 0 ∧ i_Rel (k + 5) (nI sl, nI ll, nI nc, nI 1, ob', nI 0, nI (ch_ca aL 0), nI 0, nI 0, nI 0, xbm, ch_hR aR nc (ch_nh (ch_bl aR nc)) rm (nI s) v3 v4, aP, aS, aA, aB, aL, bf, af, fo, lo, cR, cH, cF, cS, gI, gS, gA, gB, kR, kI, hs, iv, vs) v') ⟨rfl, ch_open_rel I (fun r hr => ch_hR_ne h3 (by omega)) w1 (fun v v6 => by rw [b1 v v6, obs v v6, w2, ns0, w3 v v6]) (xbm := xbm) (iv := iv) (vs := vs) (yp := yp) (yv := yv) (yk := yk)⟩
                    (ysl := nI sl) (yll := nI ll) (ync := nI nc) (yop := nI 1) (ytl := nI 0) (yn := nI 0) (ylg := nI 0) (yag := nI 0) (yR := aR) (yF := yF) (yL := aL) (yG := yG) (yQ := yQ) (yp := yp) (yv := yv) (yk := yk)
                  rcases hrm with rfl | rfl
                  · exact br_t rfl Yf
                  · exact br_f ch_10 Yf
                rcases lw_bz_01 v1 with z | z
                · rw [z]
                  exact br_t rfl (fin 0 (Or.inl rfl))
                · rw [z]
                  exact br_f ch_10 (fin 1 (Or.inr rfl))
              · have nlt : ¬ nI (ch_nh (ch_bl aR nc)) < 3 := nI_nlt (b := 3) h3 (by omega)
                refine br_f nlt ?_
                unfold wpY_head
                refine nm_r (ch_40t nc) ?_
                rw [e1, e2, k0, k1, k2]
                exact br_f ch_10 ⟨in1, br_f c1 ⟨in2, br_t c2 (Y0 (p3' _ (br_f ch_10 (r3' _ (br_f ch_10 ⟨in0, br_f nlt ⟨rfl, J⟩⟩)))))⟩⟩
      · have c2 : ¬ nI (ch_nb (ch_bl aR nc)) ≤ 0 := nI_nle nb0 (by omega)
        refine br_f c2 ?_
        unfold wpY_head
        refine nm_r (ch_40t nc) ?_
        rw [e1, e2, k0, k1, k2]
        exact br_f ch_10 ⟨in1, br_f c1 ⟨in2, br_f c2 ⟨rfl, J⟩⟩⟩
    · have c1 : (0 : Int32) < nI (ch_ns (ch_bl aR nc)) := nI_lt (a := 0) ns0 (by omega)
      refine br_t c1 ?_
      unfold wpY_head
      refine nm_r (ch_40t nc) ?_
      rw [e1, e2, k0, k1, k2]
      exact br_f ch_10 ⟨in1, br_t c1 ⟨rfl, J⟩⟩
end
section
def ch_sR (R : Nat → Int32) (nc b : Nat) (o x y w : Int32) : Nat → Int32 :=
  upd (upd (upd (upd (upd R (40 * nc + (15 + 4 * b)) o) (40 * nc + (16 + 4 * b)) x) (40 * nc + (17 + 4 * b)) y) (40 * nc + (18 + 4 * b)) w) (40 * nc + 1) (nI (b + 1))
theorem ch_sR_ne {R : Nat → Int32} {nc b r : Nat} {o x y w : Int32} (hb : b < 4) (h : r ≠ nc) : ch_bl (ch_sR R nc b o x y w) r = ch_bl R r := by
  unfold ch_sR
  rw [ch_bl_ne h (by omega), ch_bl_ne h (by omega), ch_bl_ne h (by omega), ch_bl_ne h (by omega), ch_bl_ne h (by omega)]
theorem ch_sR_bl {R : Nat → Int32} {nc b : Nat} {o x y w : Int32} (hb : b < 4) : ch_bl (ch_sR R nc b o x y w) nc = upd (upd (upd (upd (upd (ch_bl R nc) (15 + 4 * b) o) (16 + 4 * b) x) (17 + 4 * b) y) (18 + 4 * b) w) 1 (nI (b + 1)) := by
  unfold ch_sR
  rw [ch_bl_eq (by omega), ch_bl_eq (by omega), ch_bl_eq (by omega), ch_bl_eq (by omega), ch_bl_eq (by omega)]
theorem ch_sR_W {R : Nat → Int32} {nc o : Nat} {x y w : Int32} (W : ch_W (ch_bl R nc)) (nb0 : ch_nb (ch_bl R nc) = 0) (h4 : ch_ns (ch_bl R nc) < 4) (ho : o < 8) (hx : ch_Op (ch_bl R nc) (ch_ns (ch_bl R nc)) x) (hy : ch_Op (ch_bl R nc) (ch_ns (ch_bl R nc)) y)
    (hw : 5 ≤ o → ∃ p, p < 6 ∧ w = nI p ∧ ¬ ch_D (ch_bl R nc) (ch_ns (ch_bl R nc)) p) :
    ch_W (ch_bl (ch_sR R nc (ch_ns (ch_bl R nc)) (nI o) x y w) nc) ∧ ch_ns (ch_bl (ch_sR R nc (ch_ns (ch_bl R nc)) (nI o) x y w) nc) = ch_ns (ch_bl R nc) + 1 ∧
      ∀ v, v < 6 → (ch_D (ch_bl (ch_sR R nc (ch_ns (ch_bl R nc)) (nI o) x y w) nc) (ch_ns (ch_bl R nc) + 1) v ↔ ch_D (ch_bl R nc) (ch_ns (ch_bl R nc)) v ∨ (5 ≤ o ∧ w = nI v)) := by
  rw [ch_sR_bl h4]
  refine ch_W_step W nb0 h4 ho hx hy hw ch_upd_s (fun j j1 jl => ?_) ?_ ?_ ?_ ?_
  · rw [ch_upd_n (by omega), ch_upd_n (by omega), ch_upd_n (by omega), ch_upd_n (by omega), ch_upd_n (by omega)]
  · rw [ch_upd_n (by omega), ch_upd_n (by omega), ch_upd_n (by omega), ch_upd_n (by omega), ch_upd_s]
  · rw [ch_upd_n (by omega), ch_upd_n (by omega), ch_upd_n (by omega), ch_upd_s]
  · rw [ch_upd_n (by omega), ch_upd_n (by omega), ch_upd_s]
  · rw [ch_upd_n (by omega), ch_upd_s]
theorem ch_sR_e {R : Nat → Int32} {nc b : Nat} {o x y w : Int32} (e : R (40 * nc + 1) = nI b) :
    upd (upd (upd (upd (upd R (40 * nc + (15 + 4 * b)) o) (40 * nc + (16 + 4 * b)) x) (40 * nc + (17 + 4 * b)) y) (40 * nc + (18 + 4 * b)) w) (40 * nc + 1)
      (upd (upd (upd (upd R (40 * nc + (15 + 4 * b)) o) (40 * nc + (16 + 4 * b)) x) (40 * nc + (17 + 4 * b)) y) (40 * nc + (18 + 4 * b)) w (40 * nc + 1) + 1) = ch_sR R nc b o x y w := by
  unfold ch_sR
  rw [ch_upd_n (by omega), ch_upd_n (by omega), ch_upd_n (by omega), ch_upd_n (by omega), e, ch_a1]
section
variable {xsl xll xnc xro xob xn xal xag xtl xlg xbm : Int32} {aR aP aS aA aB aL bf af fo lo cR cH cF cS gI gS gA gB kR kI hs iv vs : Nat → Int32}
variable {nc : Nat}
theorem cx_step93 {b o : Nat} {x y v : Int32} (hb : b < 4) (hc : nc < 6) (ho : o < 8) (e : aR (40 * nc + 1) = nI b) :
    ∃ ob' : Int32, (∀ p, p < 6 → (ch_b ob' p ↔ ch_b xob p ∨ (5 ≤ o ∧ v = nI p))) ∧ ∀ post : Int32 → SX → Prop, post 0 (xsl, xll, xnc, xro, ob', xn, xal, xag, xtl, xlg, xbm, ch_sR aR nc b (nI o) x y (if o < 5 then 0 else v), aP, aS, aA, aB, aL, bf, af, fo, lo, cR, cH, cF, cS, gI, gS, gA, gB, kR, kI, hs, iv, vs) →
      wX_step_93 post (nI o) x y v (nI (40 * nc)) xsl xll xnc xro xob xn xal xag xtl xlg xbm aR aP aS aA aB aL bf af fo lo cR cH cF cS gI gS gA gB kR kI hs iv vs := by
  have e1 : nI (40 * nc) + 1 = nI (40 * nc + 1) := ch_a1 _
  have k1 : aR (nI (40 * nc + 1)).toNatClampNeg = nI b := by rw [nI_clamp (by omega)]; exact e
  have in1 : vp_in (nI (40 * nc + 1)) 240 := vp_in_nI (by omega) (by omega)
  have e15 : nI (40 * nc) + 15 + 4 * nI b = nI (40 * nc + (15 + 4 * b)) := by rw [ch_a15, ch_4t, nI_add, Nat.add_assoc]
  have a1 : nI (40 * nc + (15 + 4 * b)) + 1 = nI (40 * nc + (16 + 4 * b)) := by rw [ch_a1]; exact congrArg nI (by omega)
  have a2 : nI (40 * nc + (15 + 4 * b)) + 2 = nI (40 * nc + (17 + 4 * b)) := by rw [ch_a2]; exact congrArg nI (by omega)
  have a3 : nI (40 * nc + (15 + 4 * b)) + 3 = nI (40 * nc + (18 + 4 * b)) := by rw [ch_a3]; exact congrArg nI (by omega)
  have lt4 : nI b < 4 := nI_lt (b := 4) hb (by omega)
  have t1 : (nI (40 * nc + 1)).toNatClampNeg = 40 * nc + 1 := nI_clamp (by omega)
  have t15 : (nI (40 * nc + (15 + 4 * b))).toNatClampNeg = 40 * nc + (15 + 4 * b) := nI_clamp (by omega)
  have t16 : (nI (40 * nc + (16 + 4 * b))).toNatClampNeg = 40 * nc + (16 + 4 * b) := nI_clamp (by omega)
  have t17 : (nI (40 * nc + (17 + 4 * b))).toNatClampNeg = 40 * nc + (17 + 4 * b) := nI_clamp (by omega)
  have t18 : (nI (40 * nc + (18 + 4 * b))).toNatClampNeg = 40 * nc + (18 + 4 * b) := nI_clamp (by omega)
  have i15 : vp_in (nI (40 * nc + (15 + 4 * b))) 240 := vp_in_nI (by omega) (by omega)
  have i16 : vp_in (nI (40 * nc + (16 + 4 * b))) 240 := vp_in_nI (by omega) (by omega)
  have i17 : vp_in (nI (40 * nc + (17 + 4 * b))) 240 := vp_in_nI (by omega) (by omega)
  have i18 : vp_in (nI (40 * nc + (18 + 4 * b))) 240 := vp_in_nI (by omega) (by omega)
  rcases Nat.lt_or_ge o 5 with o5 | o5
  · refine ⟨xob, fun p _ => ⟨Or.inl, fun z => z.elim id (fun y => by omega)⟩, fun post hp => ?_⟩
    rw [if_pos o5] at hp
    have c5 : nI o < 5 := nI_lt (b := 5) o5 (by omega)
    unfold wX_step_93 wX_step_174
    rw [e1, k1, e15, t1]
    refine ⟨in1, br_t lt4 ⟨in1, nm_e ?_⟩⟩
    rw [a1, a2, a3, t15, t16, t17, t18]
    exact ⟨i15, nm_e ⟨i16, nm_e ⟨i17, nm_e (br_t c5 ⟨i18, nm_e ⟨in1, in1, nm_r (ch_sR_e e) (br_t c5 hp)⟩⟩)⟩⟩⟩
  · obtain ⟨ob', b1, w1⟩ := cx_bind (x := v) (xsl := xsl) (xll := xll) (xnc := xnc) (xro := xro) (xob := xob) (xn := xn) (xal := xal) (xag := xag) (xtl := xtl) (xlg := xlg) (xbm := xbm) (aR := ch_sR aR nc b (nI o) x y v) (aP := aP) (aS := aS) (aA := aA) (aB := aB) (aL := aL) (bf := bf) (af := af) (fo := fo) (lo := lo) (cR := cR) (cH := cH) (cF := cF) (cS := cS) (gI := gI) (gS := gS) (gA := gA) (gB := gB) (kR := kR) (kI := kI) (hs := hs) (iv := iv) (vs := vs)
    refine ⟨ob', fun p p6 => by rw [b1 p p6]; exact or_congr Iff.rfl ⟨fun z => ⟨o5, z⟩, fun z => z.2⟩, fun post hp => ?_⟩
    rw [if_neg (by omega)] at hp
    have c5 : ¬ nI o < 5 := nI_nlt (b := 5) o5 (by omega)
    unfold wX_step_93 wX_step_174
    rw [e1, k1, e15, t1]
    refine ⟨in1, br_t lt4 ⟨in1, nm_e ?_⟩⟩
    rw [a1, a2, a3, t15, t16, t17, t18]
    exact ⟨i15, nm_e ⟨i16, nm_e ⟨i17, nm_e (br_f c5 ⟨i18, nm_e ⟨in1, in1, nm_r (ch_sR_e e) (br_f c5 (w1 _ hp))⟩⟩)⟩⟩⟩
end
section
variable {ysl yll ync yop ytl yn ylg yag : Int32} {yR yF yL yG yQ yp yv yk : Nat → Int32}
variable {nc : Nat}
theorem cy_step95 {b o : Nat} {x y v : Int32} (hb : b < 4) (hc : nc < 6) (ho : o < 8) (e : yR (40 * nc + 1) = nI b) (post : Int32 → SY → Prop) (hp : post 0 (ysl, yll, ync, yop, ytl, yn, ylg, yag, ch_sR yR nc b (nI o) x y (if o < 5 then 0 else v), yF, yL, yG, yQ, yp, yv, yk)) :
    wY_step_95 post (nI o) x y v (nI (40 * nc)) ysl yll ync yop ytl yn ylg yag yR yF yL yG yQ yp yv yk := by
  have e1 : nI (40 * nc) + 1 = nI (40 * nc + 1) := ch_a1 _
  have k1 : yR (nI (40 * nc + 1)).toNatClampNeg = nI b := by rw [nI_clamp (by omega)]; exact e
  have in1 : vp_in (nI (40 * nc + 1)) 240 := vp_in_nI (by omega) (by omega)
  have e15 : nI (40 * nc) + 15 + 4 * nI b = nI (40 * nc + (15 + 4 * b)) := by rw [ch_a15, ch_4t, nI_add, Nat.add_assoc]
  have a1 : nI (40 * nc + (15 + 4 * b)) + 1 = nI (40 * nc + (16 + 4 * b)) := by rw [ch_a1]; exact congrArg nI (by omega)
  have a2 : nI (40 * nc + (15 + 4 * b)) + 2 = nI (40 * nc + (17 + 4 * b)) := by rw [ch_a2]; exact congrArg nI (by omega)
  have a3 : nI (40 * nc + (15 + 4 * b)) + 3 = nI (40 * nc + (18 + 4 * b)) := by rw [ch_a3]; exact congrArg nI (by omega)
  have lt4 : nI b < 4 := nI_lt (b := 4) hb (by omega)
  have t1 : (nI (40 * nc + 1)).toNatClampNeg = 40 * nc + 1 := nI_clamp (by omega)
  have t15 : (nI (40 * nc + (15 + 4 * b))).toNatClampNeg = 40 * nc + (15 + 4 * b) := nI_clamp (by omega)
  have t16 : (nI (40 * nc + (16 + 4 * b))).toNatClampNeg = 40 * nc + (16 + 4 * b) := nI_clamp (by omega)
  have t17 : (nI (40 * nc + (17 + 4 * b))).toNatClampNeg = 40 * nc + (17 + 4 * b) := nI_clamp (by omega)
  have t18 : (nI (40 * nc + (18 + 4 * b))).toNatClampNeg = 40 * nc + (18 + 4 * b) := nI_clamp (by omega)
  have i15 : vp_in (nI (40 * nc + (15 + 4 * b))) 240 := vp_in_nI (by omega) (by omega)
  have i16 : vp_in (nI (40 * nc + (16 + 4 * b))) 240 := vp_in_nI (by omega) (by omega)
  have i17 : vp_in (nI (40 * nc + (17 + 4 * b))) 240 := vp_in_nI (by omega) (by omega)
  have i18 : vp_in (nI (40 * nc + (18 + 4 * b))) 240 := vp_in_nI (by omega) (by omega)
  unfold wY_step_95 wY_step_176
  rw [e1, k1, e15, t1]
  refine ⟨in1, br_t lt4 ⟨in1, nm_e ?_⟩⟩
  rw [a1, a2, a3, t15, t16, t17, t18]
  rcases Nat.lt_or_ge o 5 with o5 | o5
  · rw [if_pos o5] at hp
    exact ⟨i15, nm_e ⟨i16, nm_e ⟨i17, nm_e (br_t (nI_lt (b := 5) o5 (by omega)) ⟨i18, nm_e ⟨in1, in1, nm_r (ch_sR_e e) hp⟩⟩)⟩⟩⟩
  · rw [if_neg (by omega)] at hp
    exact ⟨i15, nm_e ⟨i16, nm_e ⟨i17, nm_e (br_f (nI_nlt (b := 5) o5 (by omega)) ⟨i18, nm_e ⟨in1, in1, nm_r (ch_sR_e e) hp⟩⟩)⟩⟩⟩
end
theorem i_vc_step {k : Nat} {u : SX} {v : SY} (I : i_Rel k u v) (hk : k + 5 ≤ 2562) (v1 : Int32) (v2 : Int32) (v3 : Int32) (v4 : Int32) : wpX_step (fun r u' => wpY_step (fun r' v' => r' = r ∧ i_Rel (k + 5) u' v') v v1 v2 v3 v4) u v1 v2 v3 v4 := by
  refine ch_el (P := fun u v => wpX_step (fun r u' => wpY_step (fun r' v' => r' = r ∧ i_Rel (k + 5) u' v') v v1 v2 v3 v4) u v1 v2 v3 v4) ?_ I
  clear I
  intro sl ll nc o t n ag lg ob xbm aR aP aS aA aB aL bf af fo lo cR cH cF cS gI gS gA gB kR kI hs iv vs yF yG yQ yp yv yk I
  have J := ch_rel (ch_In_k (k' := k + 5) (by omega) I) (xbm := xbm) (iv := iv) (vs := vs) (yp := yp) (yv := yv) (yk := yk)
  have nu := I.1.1
  have o01 : o = 0 ∨ o = 1 := by omega
  rcases o01 with o0 | o0
  · subst o0
    unfold wpX_step wpY_step
    exact nm_e (br_t rfl (nm_e (br_t rfl ⟨rfl, J⟩)))
  · subst o0
    obtain ⟨c6, t0⟩ := I.1.2.1 rfl
    subst t0
    obtain ⟨n0, a0, l0⟩ := I.1.2.2 rfl
    subst n0 a0 l0
    obtain ⟨W, obs⟩ := I.2.1.2 rfl
    have nh3 := W.1.2.1
    have ns4 := W.1.2.2.2.1
    have nb3 := W.1.2.2.2.2.2
    have e2 : nI (40 * nc) + 2 = nI (40 * nc + 2) := ch_a2 _
    have k0 : aR (nI (40 * nc)).toNatClampNeg = nI (ch_nh (ch_bl aR nc)) := by rw [nI_clamp (by omega), ← W.1.1]; exact ch_blE (j := 0) (by omega)
    have k1' : aR (40 * nc + 1) = nI (ch_ns (ch_bl aR nc)) := by rw [← W.1.2.2.1]; exact ch_blE (by omega)
    have k2 : aR (nI (40 * nc + 2)).toNatClampNeg = nI (ch_nb (ch_bl aR nc)) := by rw [nI_clamp (by omega), ← W.1.2.2.2.2.1]; exact ch_blE (by omega)
    have in0 : vp_in (nI (40 * nc)) 240 := vp_in_nI (by omega) (by omega)
    have in2 : vp_in (nI (40 * nc + 2)) 240 := vp_in_nI (by omega) (by omega)
    have Y : ∀ post : Int32 → SY → Prop, ((nI (ch_nh (ch_bl aR nc)) = 0 → post 1 (nI sl, nI ll, nI nc, nI 1, nI 0, nI 0, nI 0, nI 0, aR, yF, aL, yG, yQ, yp, yv, yk)) ∧ (¬ nI (ch_nh (ch_bl aR nc)) = 0 → ((¬ nI (ch_nb (ch_bl aR nc)) ≤ 0 → post 1 (nI sl, nI ll, nI nc, nI 1, nI 0, nI 0, nI 0, nI 0, aR, yF, aL, yG, yQ, yp, yv, yk)) ∧ (nI (ch_nb (ch_bl aR nc)) ≤ 0 → ((v1 < 0 → post 2 (nI sl, nI ll, nI nc, nI 1, nI 0, nI 0, nI 0, nI 0, aR, yF, aL, yG, yQ, yp, yv, yk)) ∧ (¬ v1 < 0 → ((7 < v1 → post 2 (nI sl, nI ll, nI nc, nI 1, nI 0, nI 0, nI 0, nI 0, aR, yF, aL, yG, yQ, yp, yv, yk)) ∧ (¬ 7 < v1 → wpY_operand (fun r_9 => ((r_9 = 0 → post 2 (nI sl, nI ll, nI nc, nI 1, nI 0, nI 0, nI 0, nI 0, aR, yF, aL, yG, yQ, yp, yv, yk)) ∧ (¬ r_9 = 0 → wpY_operand (fun r_27 => ((r_27 = 0 → post 2 (nI sl, nI ll, nI nc, nI 1, nI 0, nI 0, nI 0, nI 0, aR, yF, aL, yG, yQ, yp, yv, yk)) ∧ (¬ r_27 = 0 → ((v1 < 5 → wY_step_95 post v1 v2 v3 v4 (nI (40 * nc)) (nI sl) (nI ll) (nI nc) (nI 1) (nI 0) (nI 0) (nI 0) (nI 0) aR yF aL yG yQ yp yv yk) ∧ (¬ v1 < 5 → ((v4 < 0 → post 2 (nI sl, nI ll, nI nc, nI 1, nI 0, nI 0, nI 0, nI 0, aR, yF, aL, yG, yQ, yp, yv, yk)) ∧ (¬ v4 < 0 → ((5 < v4 → post 2 (nI sl, nI ll, nI nc, nI 1, nI 0, nI 0, nI 0, nI 0, aR, yF, aL, yG, yQ, yp, yv, yk)) ∧ (¬ 5 < v4 → wpY_operand (fun r_64 => ((r_64 = 0 → wY_step_95 post v1 v2 v3 v4 (nI (40 * nc)) (nI sl) (nI ll) (nI nc) (nI 1) (nI 0) (nI 0) (nI 0) (nI 0) aR yF aL yG yQ yp yv yk) ∧ (¬ r_64 = 0 → post 2 (nI sl, nI ll, nI nc, nI 1, nI 0, nI 0, nI 0, nI 0, aR, yF, aL, yG, yQ, yp, yv, yk)))) (nI sl, nI ll, nI nc, nI 1, nI 0, nI 0, nI 0, nI 0, aR, yF, aL, yG, yQ, yp, yv, yk) v4))))))))) (nI sl, nI ll, nI nc, nI 1, nI 0, nI 0, nI 0, nI 0, aR, yF, aL, yG, yQ, yp, yv, yk) v3))) (nI sl, nI ll, nI nc, nI 1, nI 0, nI 0, nI 0, nI 0, aR, yF, aL, yG, yQ, yp, yv, yk) v2)))))))) → wpY_step post (nI sl, nI ll, nI nc, nI 1, nI 0, nI 0, nI 0, nI 0, aR, yF, aL, yG, yQ, yp, yv, yk) v1 v2 v3 v4 := by
      intro post q
      unfold wpY_step
      refine nm_r (ch_40t nc) ?_
      rw [e2, k0, k2]
      exact br_f ch_10 ⟨in0, br_c q.1 (fun z => ⟨in2, br_c (q.2 z).2 (q.2 z).1⟩)⟩
    unfold wpX_step
    refine nm_r (ch_t40 nc) ?_
    rw [e2, k0, k2]
    refine br_f ch_10 ⟨in0, ?_⟩
    rcases Nat.eq_zero_or_pos (ch_nh (ch_bl aR nc)) with z | z
    · have c0 : nI (ch_nh (ch_bl aR nc)) = 0 := by rw [z]; rfl
      exact br_t c0 (Y _ (br_t c0 ⟨rfl, J⟩))
    · have c0 : ¬ nI (ch_nh (ch_bl aR nc)) = 0 := nI_ne0 z (by omega)
      refine br_f c0 ⟨in2, ?_⟩
      rcases Nat.eq_zero_or_pos (ch_nb (ch_bl aR nc)) with nb0 | nb0
      · have c2 : nI (ch_nb (ch_bl aR nc)) ≤ 0 := by rw [nb0]; decide
        refine br_t c2 ?_
        have Y : ∀ post : Int32 → SY → Prop, ((v1 < 0 → post 2 (nI sl, nI ll, nI nc, nI 1, nI 0, nI 0, nI 0, nI 0, aR, yF, aL, yG, yQ, yp, yv, yk)) ∧ (¬ v1 < 0 → ((7 < v1 → post 2 (nI sl, nI ll, nI nc, nI 1, nI 0, nI 0, nI 0, nI 0, aR, yF, aL, yG, yQ, yp, yv, yk)) ∧ (¬ 7 < v1 → wpY_operand (fun r_9 => ((r_9 = 0 → post 2 (nI sl, nI ll, nI nc, nI 1, nI 0, nI 0, nI 0, nI 0, aR, yF, aL, yG, yQ, yp, yv, yk)) ∧ (¬ r_9 = 0 → wpY_operand (fun r_27 => ((r_27 = 0 → post 2 (nI sl, nI ll, nI nc, nI 1, nI 0, nI 0, nI 0, nI 0, aR, yF, aL, yG, yQ, yp, yv, yk)) ∧ (¬ r_27 = 0 → ((v1 < 5 → wY_step_95 post v1 v2 v3 v4 (nI (40 * nc)) (nI sl) (nI ll) (nI nc) (nI 1) (nI 0) (nI 0) (nI 0) (nI 0) aR yF aL yG yQ yp yv yk) ∧ (¬ v1 < 5 → ((v4 < 0 → post 2 (nI sl, nI ll, nI nc, nI 1, nI 0, nI 0, nI 0, nI 0, aR, yF, aL, yG, yQ, yp, yv, yk)) ∧ (¬ v4 < 0 → ((5 < v4 → post 2 (nI sl, nI ll, nI nc, nI 1, nI 0, nI 0, nI 0, nI 0, aR, yF, aL, yG, yQ, yp, yv, yk)) ∧ (¬ 5 < v4 → wpY_operand (fun r_64 => ((r_64 = 0 → wY_step_95 post v1 v2 v3 v4 (nI (40 * nc)) (nI sl) (nI ll) (nI nc) (nI 1) (nI 0) (nI 0) (nI 0) (nI 0) aR yF aL yG yQ yp yv yk) ∧ (¬ r_64 = 0 → post 2 (nI sl, nI ll, nI nc, nI 1, nI 0, nI 0, nI 0, nI 0, aR, yF, aL, yG, yQ, yp, yv, yk)))) (nI sl, nI ll, nI nc, nI 1, nI 0, nI 0, nI 0, nI 0, aR, yF, aL, yG, yQ, yp, yv, yk) v4))))))))) (nI sl, nI ll, nI nc, nI 1, nI 0, nI 0, nI 0, nI 0, aR, yF, aL, yG, yQ, yp, yv, yk) v3))) (nI sl, nI ll, nI nc, nI 1, nI 0, nI 0, nI 0, nI 0, aR, yF, aL, yG, yQ, yp, yv, yk) v2)))) → wpY_step post (nI sl, nI ll, nI nc, nI 1, nI 0, nI 0, nI 0, nI 0, aR, yF, aL, yG, yQ, yp, yv, yk) v1 v2 v3 v4 :=
          fun post q => Y post (br_f c0 ⟨fun y => absurd c2 y, fun _ => q⟩)
        rcases Classical.em (v1 < 0) with h0 | h0
        · exact br_t h0 (Y _ (br_t h0 ⟨rfl, J⟩))
        · refine br_f h0 ?_
          rcases Classical.em (7 < v1) with h7 | h7
          · exact br_t h7 (Y _ (br_f h0 (br_t h7 ⟨rfl, J⟩)))
          · refine br_f h7 ?_
            obtain ⟨op, hop, rfl⟩ := nI_of h0
            have op8 : op < 8 := by
              rcases Nat.lt_or_ge 7 op with y | y
              · exact absurd (nI_lt (a := 7) y hop) h7
              · omega
            obtain ⟨p, p1, p2, p3⟩ := cx_isOperand (x := v2) (K := ch_bl aR nc) (i := ch_ns (ch_bl aR nc)) obs (xsl := nI sl) (xll := nI ll) (xnc := nI nc) (xro := nI 1) (xob := ob) (xn := nI 0) (xal := nI (ch_ca aL 0)) (xag := nI 0) (xtl := nI 0) (xlg := nI 0) (xbm := xbm) (aR := aR) (aP := aP) (aS := aS) (aA := aA) (aB := aB) (aL := aL) (bf := bf) (af := af) (fo := fo) (lo := lo) (cR := cR) (cH := cH) (cF := cF) (cS := cS) (gI := gI) (gS := gS) (gA := gA) (gB := gB) (kR := kR) (kI := kI) (hs := hs) (iv := iv) (vs := vs)
            obtain ⟨p', p1', p2', p3'⟩ := cy_operand (x := v2) W c6 (ysl := nI sl) (yll := nI ll) (yop := nI 1) (ytl := nI 0) (yn := nI 0) (ylg := nI 0) (yag := nI 0) (yR := aR) (yF := yF) (yL := aL) (yG := yG) (yQ := yQ) (yp := yp) (yv := yv) (yk := yk)
            have pp := ch_q01 p1 p2 p1' p2'
            subst pp
            refine p3 _ ?_
            rcases p1 with rfl | rfl
            · exact br_t rfl (Y _ (br_f h0 (br_f h7 (p3' _ (br_t rfl ⟨rfl, J⟩)))))
            · refine br_f ch_10 ?_
              obtain ⟨r, r1, r2, r3⟩ := cx_isOperand (x := v3) (K := ch_bl aR nc) (i := ch_ns (ch_bl aR nc)) obs (xsl := nI sl) (xll := nI ll) (xnc := nI nc) (xro := nI 1) (xob := ob) (xn := nI 0) (xal := nI (ch_ca aL 0)) (xag := nI 0) (xtl := nI 0) (xlg := nI 0) (xbm := xbm) (aR := aR) (aP := aP) (aS := aS) (aA := aA) (aB := aB) (aL := aL) (bf := bf) (af := af) (fo := fo) (lo := lo) (cR := cR) (cH := cH) (cF := cF) (cS := cS) (gI := gI) (gS := gS) (gA := gA) (gB := gB) (kR := kR) (kI := kI) (hs := hs) (iv := iv) (vs := vs)
              obtain ⟨r', r1', r2', r3'⟩ := cy_operand (x := v3) W c6 (ysl := nI sl) (yll := nI ll) (yop := nI 1) (ytl := nI 0) (yn := nI 0) (ylg := nI 0) (yag := nI 0) (yR := aR) (yF := yF) (yL := aL) (yG := yG) (yQ := yQ) (yp := yp) (yv := yv) (yk := yk)
              have rr := ch_q01 r1 r2 r1' r2'
              subst rr
              refine r3 _ ?_
              rcases r1 with rfl | rfl
              · exact br_t rfl (Y _ (br_f h0 (br_f h7 (p3' _ (br_f ch_10 (r3' _ (br_t rfl ⟨rfl, J⟩)))))))
              · refine br_f ch_10 ?_
                have full : ¬ ch_ns (ch_bl aR nc) < 4 → (∀ post : Int32 → SX → Prop, post 3 (nI sl, nI ll, nI nc, nI 1, ob, nI 0, nI (ch_ca aL 0), nI 0, nI 0, nI 0, xbm, aR, aP, aS, aA, aB, aL, bf, af, fo, lo, cR, cH, cF, cS, gI, gS, gA, gB, kR, kI, hs, iv, vs) → wX_step_93 post (nI op) v2 v3 v4 (nI (40 * nc)) (nI sl) (nI ll) (nI nc) (nI 1) ob (nI 0) (nI (ch_ca aL 0)) (nI 0) (nI 0) (nI 0) xbm aR aP aS aA aB aL bf af fo lo cR cH cF cS gI gS gA gB kR kI hs iv vs) ∧ (∀ post : Int32 → SY → Prop, post 3 (nI sl, nI ll, nI nc, nI 1, nI 0, nI 0, nI 0, nI 0, aR, yF, aL, yG, yQ, yp, yv, yk) → wY_step_95 post (nI op) v2 v3 v4 (nI (40 * nc)) (nI sl) (nI ll) (nI nc) (nI 1) (nI 0) (nI 0) (nI 0) (nI 0) aR yF aL yG yQ yp yv yk) := by
                  intro nb4
                  have e1 : nI (40 * nc) + 1 = nI (40 * nc + 1) := ch_a1 _
                  have k1 : aR (nI (40 * nc + 1)).toNatClampNeg = nI (ch_ns (ch_bl aR nc)) := by rw [nI_clamp (by omega)]; exact k1'
                  have in1 : vp_in (nI (40 * nc + 1)) 240 := vp_in_nI (by omega) (by omega)
                  have nlt : ¬ nI (ch_ns (ch_bl aR nc)) < 4 := nI_nlt (b := 4) (by omega) (by omega)
                  constructor
                  · intro post hp
                    unfold wX_step_93
                    rw [e1, k1]
                    exact ⟨in1, br_f nlt hp⟩
                  · intro post hp
                    unfold wY_step_95
                    rw [e1, k1]
                    exact ⟨in1, br_f nlt hp⟩
                have fin : (5 ≤ op → ∃ p, p < 6 ∧ v4 = nI p ∧ ¬ ch_D (ch_bl aR nc) (ch_ns (ch_bl aR nc)) p) → (∀ post : Int32 → SY → Prop, wY_step_95 post (nI op) v2 v3 v4 (nI (40 * nc)) (nI sl) (nI ll) (nI nc) (nI 1) (nI 0) (nI 0) (nI 0) (nI 0) aR yF aL yG yQ yp yv yk → wpY_step post (nI sl, nI ll, nI nc, nI 1, nI 0, nI 0, nI 0, nI 0, aR, yF, aL, yG, yQ, yp, yv, yk) (nI op) v2 v3 v4) →
                    wX_step_93 (fun r u' => wpY_step (fun r' v' => r' = r ∧ i_Rel (k + 5) u' v') (nI sl, nI ll, nI nc, nI 1, nI 0, nI 0, nI 0, nI 0, aR, yF, aL, yG, yQ, yp, yv, yk) (nI op) v2 v3 v4) (nI op) v2 v3 v4 (nI (40 * nc)) (nI sl) (nI ll) (nI nc) (nI 1) ob (nI 0) (nI (ch_ca aL 0)) (nI 0) (nI 0) (nI 0) xbm aR aP aS aA aB aL bf af fo lo cR cH cF cS gI gS gA gB kR kI hs iv vs := by
                  intro hw YY
                  rcases Nat.lt_or_ge (ch_ns (ch_bl aR nc)) 4 with b4 | b4
                  · have hw' : 5 ≤ op → ∃ p, p < 6 ∧ (if op < 5 then 0 else v4) = nI p ∧ ¬ ch_D (ch_bl aR nc) (ch_ns (ch_bl aR nc)) p := fun y => by
                      rw [if_neg (by omega)]; exact hw y
                    obtain ⟨w1, w2, w3⟩ := ch_sR_W W nb0 b4 op8 (p2.mp rfl) (r2.mp rfl) hw'
                    obtain ⟨ob', b1, b2⟩ := cx_step93 (x := v2) (y := v3) (v := v4) b4 c6 op8 k1' (xsl := nI sl) (xll := nI ll) (xnc := nI nc) (xro := nI 1) (xob := ob) (xn := nI 0) (xal := nI (ch_ca aL 0)) (xag := nI 0) (xtl := nI 0) (xlg := nI 0) (xbm := xbm) (aR := aR) (aP := aP) (aS := aS) (aA := aA) (aB := aB) (aL := aL) (bf := bf) (af := af) (fo := fo) (lo := lo) (cR := cR) (cH := cH) (cF := cF) (cS := cS) (gI := gI) (gS := gS) (gA := gA) (gB := gB) (kR := kR) (kI := kI) (hs := hs) (iv := iv) (vs := vs)
                    refine b2 _ (YY _ (cy_step95 b4 c6 op8 k1' _ ⟨rfl, ch_open_rel I (fun r hr => ch_sR_ne b4 (by omega)) w1 (fun v v6 => ?_) (xbm := xbm) (iv := iv) (vs := vs) (yp := yp) (yv := yv) (yk := yk)⟩))
                    rw [b1 v v6, obs v v6, w2, w3 v v6]
                    refine or_congr Iff.rfl ⟨fun y => ⟨y.1, by rw [if_neg (by omega)]; exact y.2⟩, fun y => ⟨y.1, ?_⟩⟩
                    have := y.2
                    rwa [if_neg (by omega)] at this
                  · obtain ⟨f1, f2⟩ := full (by omega)
                    exact f1 _ (YY _ (f2 _ ⟨rfl, J⟩))
                rcases Nat.lt_or_ge op 5 with o5 | o5
                · have c5 : nI op < 5 := nI_lt (b := 5) o5 (by omega)
                  exact br_t c5 (fin (fun y => by omega) (fun post q => Y post (br_f h0 (br_f h7 (p3' _ (br_f ch_10 (r3' _ (br_f ch_10 (br_t c5 q)))))))))
                · have c5 : ¬ nI op < 5 := nI_nlt (b := 5) o5 (by omega)
                  refine br_f c5 ?_
                  obtain ⟨q, q1, q2, q3⟩ := cx_isVariable (x := v4) (u := (nI sl, nI ll, nI nc, nI 1, ob, nI 0, nI (ch_ca aL 0), nI 0, nI 0, nI 0, xbm, aR, aP, aS, aA, aB, aL, bf, af, fo, lo, cR, cH, cF, cS, gI, gS, gA, gB, kR, kI, hs, iv, vs))
                  refine q3 _ ?_
                  rcases q1 with rfl | rfl
                  · refine br_t rfl (Y _ (br_f h0 (br_f h7 (p3' _ (br_f ch_10 (r3' _ (br_f ch_10 (br_f c5 ?_))))))))
                    rcases Classical.em (v4 < 0) with g0 | g0
                    · exact br_t g0 ⟨rfl, J⟩
                    · refine br_f g0 (br_t ?_ ⟨rfl, J⟩)
                      obtain ⟨j, hj, rfl⟩ := nI_of g0
                      rcases Nat.lt_or_ge 5 j with y | y
                      · exact nI_lt (a := 5) y hj
                      · exact absurd (q2.mpr ⟨j, by omega, rfl⟩) (fun y => ch_10 y.symm)
                  · obtain ⟨x, x6, ex⟩ := q2.mp rfl
                    have g0 : ¬ v4 < 0 := by rw [ex]; exact nI_pos (by omega)
                    have g5 : ¬ 5 < v4 := by rw [ex]; exact nI_nlt (b := x) (a := 5) (by omega) (by omega)
                    refine br_f ch_10 ?_
                    obtain ⟨d, d1, d2, d3⟩ := cx_isOperand (x := v4) (K := ch_bl aR nc) (i := ch_ns (ch_bl aR nc)) obs (xsl := nI sl) (xll := nI ll) (xnc := nI nc) (xro := nI 1) (xob := ob) (xn := nI 0) (xal := nI (ch_ca aL 0)) (xag := nI 0) (xtl := nI 0) (xlg := nI 0) (xbm := xbm) (aR := aR) (aP := aP) (aS := aS) (aA := aA) (aB := aB) (aL := aL) (bf := bf) (af := af) (fo := fo) (lo := lo) (cR := cR) (cH := cH) (cF := cF) (cS := cS) (gI := gI) (gS := gS) (gA := gA) (gB := gB) (kR := kR) (kI := kI) (hs := hs) (iv := iv) (vs := vs)
                    obtain ⟨d', d1', d2', d3'⟩ := cy_operand (x := v4) W c6 (ysl := nI sl) (yll := nI ll) (yop := nI 1) (ytl := nI 0) (yn := nI 0) (ylg := nI 0) (yag := nI 0) (yR := aR) (yF := yF) (yL := aL) (yG := yG) (yQ := yQ) (yp := yp) (yv := yv) (yk := yk)
                    have dd := ch_q01 d1 d2 d1' d2'
                    subst dd
                    refine d3 _ ?_
                    rcases d1 with rfl | rfl
                    · refine br_t rfl (fin (fun _ => ⟨x, x6, ex, fun y => ch_10 (d2.mpr (Or.inl ⟨x, ex, y⟩)).symm⟩) (fun post q => Y post (br_f h0 (br_f h7 (p3' _ (br_f ch_10 (r3' _ (br_f ch_10 (br_f c5 (br_f g0 (br_f g5 (d3' _ (br_t rfl q)))))))))))))
                    · exact br_f ch_10 (Y _ (br_f h0 (br_f h7 (p3' _ (br_f ch_10 (r3' _ (br_f ch_10 (br_f c5 (br_f g0 (br_f g5 (d3' _ (br_f ch_10 ⟨rfl, J⟩))))))))))))
      · have c2 : ¬ nI (ch_nb (ch_bl aR nc)) ≤ 0 := nI_nle nb0 (by omega)
        exact br_f c2 (Y _ (br_f c0 ⟨fun _ => ⟨rfl, J⟩, fun y => absurd y c2⟩))
end
section
def ch_bR (R : Nat → Int32) (nc b : Nat) (s x y : Int32) : Nat → Int32 :=
  upd (upd (upd (upd R (40 * nc + (31 + 3 * b)) s) (40 * nc + (32 + 3 * b)) x) (40 * nc + (33 + 3 * b)) y) (40 * nc + 2) (nI (b + 1))
theorem ch_bR_ne {R : Nat → Int32} {nc b r : Nat} {s x y : Int32} (hb : b < 3) (h : r ≠ nc) : ch_bl (ch_bR R nc b s x y) r = ch_bl R r := by
  unfold ch_bR
  rw [ch_bl_ne h (by omega), ch_bl_ne h (by omega), ch_bl_ne h (by omega), ch_bl_ne h (by omega)]
theorem ch_bR_bl {R : Nat → Int32} {nc b : Nat} {s x y : Int32} (hb : b < 3) : ch_bl (ch_bR R nc b s x y) nc = upd (upd (upd (upd (ch_bl R nc) (31 + 3 * b) s) (32 + 3 * b) x) (33 + 3 * b) y) 2 (nI (b + 1)) := by
  unfold ch_bR
  rw [ch_bl_eq (by omega), ch_bl_eq (by omega), ch_bl_eq (by omega), ch_bl_eq (by omega)]
theorem ch_bR_W {R : Nat → Int32} {nc s : Nat} {x y : Int32} (W : ch_W (ch_bl R nc)) (h3 : ch_nb (ch_bl R nc) < 3) (s8 : s < 8) (hx : ch_Op (ch_bl R nc) (ch_ns (ch_bl R nc)) x) (hy : ch_Op (ch_bl R nc) (ch_ns (ch_bl R nc)) y) :
    ch_W (ch_bl (ch_bR R nc (ch_nb (ch_bl R nc)) (nI s) x y) nc) ∧ ch_ns (ch_bl (ch_bR R nc (ch_nb (ch_bl R nc)) (nI s) x y) nc) = ch_ns (ch_bl R nc) ∧
      ∀ i p, i ≤ ch_ns (ch_bl R nc) → (ch_D (ch_bl (ch_bR R nc (ch_nb (ch_bl R nc)) (nI s) x y) nc) i p ↔ ch_D (ch_bl R nc) i p) := by
  rw [ch_bR_bl h3]
  refine ch_W_body W h3 s8 hx hy ch_upd_s (fun j j1 jl => ?_) ?_ ?_ ?_
  · rw [ch_upd_n (by omega), ch_upd_n (by omega), ch_upd_n (by omega), ch_upd_n (by omega)]
  · rw [ch_upd_n (by omega), ch_upd_n (by omega), ch_upd_n (by omega), ch_upd_s]
  · rw [ch_upd_n (by omega), ch_upd_n (by omega), ch_upd_s]
  · rw [ch_upd_n (by omega), ch_upd_s]
theorem ch_bR_e {R : Nat → Int32} {nc b : Nat} {s x y : Int32} (e : R (40 * nc + 2) = nI b) :
    upd (upd (upd (upd R (40 * nc + (31 + 3 * b)) s) (40 * nc + (32 + 3 * b)) x) (40 * nc + (33 + 3 * b)) y) (40 * nc + 2)
      (upd (upd (upd R (40 * nc + (31 + 3 * b)) s) (40 * nc + (32 + 3 * b)) x) (40 * nc + (33 + 3 * b)) y (40 * nc + 2) + 1) = ch_bR R nc b s x y := by
  unfold ch_bR
  rw [ch_upd_n (by omega), ch_upd_n (by omega), ch_upd_n (by omega), e, ch_a1]
theorem i_vc_body {k : Nat} {u : SX} {v : SY} (I : i_Rel k u v) (hk : k + 5 ≤ 2562) (v1 : Int32) (v2 : Int32) (v3 : Int32) : wpX_body (fun r u' => wpY_body (fun r' v' => r' = r ∧ i_Rel (k + 5) u' v') v v1 v2 v3) u v1 v2 v3 := by
  refine ch_el (P := fun u v => wpX_body (fun r u' => wpY_body (fun r' v' => r' = r ∧ i_Rel (k + 5) u' v') v v1 v2 v3) u v1 v2 v3) ?_ I
  clear I
  intro sl ll nc o t n ag lg ob xbm aR aP aS aA aB aL bf af fo lo cR cH cF cS gI gS gA gB kR kI hs iv vs yF yG yQ yp yv yk I
  have J := ch_rel (ch_In_k (k' := k + 5) (by omega) I) (xbm := xbm) (iv := iv) (vs := vs) (yp := yp) (yv := yv) (yk := yk)
  have nu := I.1.1
  have o01 : o = 0 ∨ o = 1 := by omega
  rcases o01 with o0 | o0
  · subst o0
    unfold wpX_body wpY_body
    exact nm_e (br_t rfl (nm_e (br_t rfl ⟨rfl, J⟩)))
  · subst o0
    obtain ⟨c6, t0⟩ := I.1.2.1 rfl
    subst t0
    obtain ⟨n0, a0, l0⟩ := I.1.2.2 rfl
    subst n0 a0 l0
    obtain ⟨W, obs⟩ := I.2.1.2 rfl
    have nh3 := W.1.2.1
    have ns4 := W.1.2.2.2.1
    have nb3 := W.1.2.2.2.2.2
    have e2 : nI (40 * nc) + 2 = nI (40 * nc + 2) := ch_a2 _
    have k0 : aR (nI (40 * nc)).toNatClampNeg = nI (ch_nh (ch_bl aR nc)) := by rw [nI_clamp (by omega), ← W.1.1]; exact ch_blE (j := 0) (by omega)
    have k2' : aR (40 * nc + 2) = nI (ch_nb (ch_bl aR nc)) := by rw [← W.1.2.2.2.2.1]; exact ch_blE (by omega)
    have k2 : aR (nI (40 * nc + 2)).toNatClampNeg = nI (ch_nb (ch_bl aR nc)) := by rw [nI_clamp (by omega)]; exact k2'
    have in0 : vp_in (nI (40 * nc)) 240 := vp_in_nI (by omega) (by omega)
    have in2 : vp_in (nI (40 * nc + 2)) 240 := vp_in_nI (by omega) (by omega)
    unfold wpX_body
    refine nm_r (ch_t40 nc) ?_
    rw [e2, k0, k2]
    refine br_f ch_10 ⟨in0, ?_⟩
    rcases Nat.eq_zero_or_pos (ch_nh (ch_bl aR nc)) with z | z
    · have c0 : nI (ch_nh (ch_bl aR nc)) = 0 := by rw [z]; rfl
      refine br_t c0 ?_
      unfold wpY_body
      refine nm_r (ch_40t nc) ?_
      rw [e2, k0, k2]
      exact br_f ch_10 ⟨in0, br_t c0 ⟨rfl, J⟩⟩
    · have c0 : ¬ nI (ch_nh (ch_bl aR nc)) = 0 := nI_ne0 z (by omega)
      refine br_f c0 ?_
      obtain ⟨q, q1, q2, q3⟩ := cx_isSymbol (x := v1) (u := (nI sl, nI ll, nI nc, nI 1, ob, nI 0, nI (ch_ca aL 0), nI 0, nI 0, nI 0, xbm, aR, aP, aS, aA, aB, aL, bf, af, fo, lo, cR, cH, cF, cS, gI, gS, gA, gB, kR, kI, hs, iv, vs))
      refine q3 _ ?_
      rcases q1 with rfl | rfl
      · refine br_t rfl ?_
        have ns : ¬ ∃ s, s < 8 ∧ v1 = nI s := fun z => ch_10 (q2.mpr z).symm
        unfold wpY_body
        refine nm_r (ch_40t nc) ?_
        rw [e2, k0, k2]
        refine br_f ch_10 ⟨in0, br_f c0 ?_⟩
        rcases Classical.em (v1 < 0) with h0 | h0
        · exact br_t h0 ⟨rfl, J⟩
        · exact br_f h0 (br_t (ch_7 h0 ns) ⟨rfl, J⟩)
      · obtain ⟨s, s8, rfl⟩ := q2.mp rfl
        refine br_f ch_10 ?_
        have Y0 : ∀ {A B : Prop}, A → (nI s < 0 → B) ∧ (¬ nI s < 0 → ((7 < nI s → B) ∧ (¬ 7 < nI s → A))) := fun a => br_f (nI_pos (by omega)) (br_f (nI_nlt (b := s) (a := 7) (by omega) (by omega)) a)
        obtain ⟨p, p1, p2, p3⟩ := cx_isOperand (x := v2) (K := ch_bl aR nc) (i := ch_ns (ch_bl aR nc)) obs (xsl := nI sl) (xll := nI ll) (xnc := nI nc) (xro := nI 1) (xob := ob) (xn := nI 0) (xal := nI (ch_ca aL 0)) (xag := nI 0) (xtl := nI 0) (xlg := nI 0) (xbm := xbm) (aR := aR) (aP := aP) (aS := aS) (aA := aA) (aB := aB) (aL := aL) (bf := bf) (af := af) (fo := fo) (lo := lo) (cR := cR) (cH := cH) (cF := cF) (cS := cS) (gI := gI) (gS := gS) (gA := gA) (gB := gB) (kR := kR) (kI := kI) (hs := hs) (iv := iv) (vs := vs)
        obtain ⟨p', p1', p2', p3'⟩ := cy_operand (x := v2) W c6 (ysl := nI sl) (yll := nI ll) (yop := nI 1) (ytl := nI 0) (yn := nI 0) (ylg := nI 0) (yag := nI 0) (yR := aR) (yF := yF) (yL := aL) (yG := yG) (yQ := yQ) (yp := yp) (yv := yv) (yk := yk)
        have pp := ch_q01 p1 p2 p1' p2'
        subst pp
        refine p3 _ ?_
        rcases p1 with rfl | rfl
        · refine br_t rfl ?_
          unfold wpY_body
          refine nm_r (ch_40t nc) ?_
          rw [e2, k0, k2]
          exact br_f ch_10 ⟨in0, br_f c0 (Y0 (p3' _ (br_t rfl ⟨rfl, J⟩)))⟩
        · refine br_f ch_10 ?_
          obtain ⟨r, r1, r2, r3⟩ := cx_isOperand (x := v3) (K := ch_bl aR nc) (i := ch_ns (ch_bl aR nc)) obs (xsl := nI sl) (xll := nI ll) (xnc := nI nc) (xro := nI 1) (xob := ob) (xn := nI 0) (xal := nI (ch_ca aL 0)) (xag := nI 0) (xtl := nI 0) (xlg := nI 0) (xbm := xbm) (aR := aR) (aP := aP) (aS := aS) (aA := aA) (aB := aB) (aL := aL) (bf := bf) (af := af) (fo := fo) (lo := lo) (cR := cR) (cH := cH) (cF := cF) (cS := cS) (gI := gI) (gS := gS) (gA := gA) (gB := gB) (kR := kR) (kI := kI) (hs := hs) (iv := iv) (vs := vs)
          obtain ⟨r', r1', r2', r3'⟩ := cy_operand (x := v3) W c6 (ysl := nI sl) (yll := nI ll) (yop := nI 1) (ytl := nI 0) (yn := nI 0) (ylg := nI 0) (yag := nI 0) (yR := aR) (yF := yF) (yL := aL) (yG := yG) (yQ := yQ) (yp := yp) (yv := yv) (yk := yk)
          have rr := ch_q01 r1 r2 r1' r2'
          subst rr
          refine r3 _ ?_
          rcases r1 with rfl | rfl
          · refine br_t rfl ?_
            unfold wpY_body
            refine nm_r (ch_40t nc) ?_
            rw [e2, k0, k2]
            exact br_f ch_10 ⟨in0, br_f c0 (Y0 (p3' _ (br_f ch_10 (r3' _ (br_t rfl ⟨rfl, J⟩)))))⟩
          · refine br_f ch_10 ⟨in2, ?_⟩
            rcases Nat.lt_or_ge (ch_nb (ch_bl aR nc)) 3 with h3 | h3
            · have lt : nI (ch_nb (ch_bl aR nc)) < 3 := nI_lt (b := 3) h3 (by omega)
              have e31 : nI (40 * nc) + 31 + 3 * nI (ch_nb (ch_bl aR nc)) = nI (40 * nc + (31 + 3 * ch_nb (ch_bl aR nc))) := by rw [ch_a31, ch_3t, nI_add, Nat.add_assoc]
              have a1 : nI (40 * nc + (31 + 3 * ch_nb (ch_bl aR nc))) + 1 = nI (40 * nc + (32 + 3 * ch_nb (ch_bl aR nc))) := by rw [ch_a1]; exact congrArg nI (by omega)
              have a2 : nI (40 * nc + (31 + 3 * ch_nb (ch_bl aR nc))) + 2 = nI (40 * nc + (33 + 3 * ch_nb (ch_bl aR nc))) := by rw [ch_a2]; exact congrArg nI (by omega)
              have t2 : (nI (40 * nc + 2)).toNatClampNeg = 40 * nc + 2 := nI_clamp (by omega)
              have t31 : (nI (40 * nc + (31 + 3 * ch_nb (ch_bl aR nc)))).toNatClampNeg = 40 * nc + (31 + 3 * ch_nb (ch_bl aR nc)) := nI_clamp (by omega)
              have t32 : (nI (40 * nc + (32 + 3 * ch_nb (ch_bl aR nc)))).toNatClampNeg = 40 * nc + (32 + 3 * ch_nb (ch_bl aR nc)) := nI_clamp (by omega)
              have t33 : (nI (40 * nc + (33 + 3 * ch_nb (ch_bl aR nc)))).toNatClampNeg = 40 * nc + (33 + 3 * ch_nb (ch_bl aR nc)) := nI_clamp (by omega)
              have i31 : vp_in (nI (40 * nc + (31 + 3 * ch_nb (ch_bl aR nc)))) 240 := vp_in_nI (by omega) (by omega)
              have i32 : vp_in (nI (40 * nc + (32 + 3 * ch_nb (ch_bl aR nc)))) 240 := vp_in_nI (by omega) (by omega)
              have i33 : vp_in (nI (40 * nc + (33 + 3 * ch_nb (ch_bl aR nc)))) 240 := vp_in_nI (by omega) (by omega)
              obtain ⟨w1, w2, w3⟩ := ch_bR_W W h3 s8 (p2.mp rfl) (r2.mp rfl)
              refine br_t lt ⟨in2, nm_r e31 ?_⟩
              rw [a1, a2, t2, t31, t32, t33]
              refine ⟨i31, nm_e ⟨i32, nm_e ⟨i33, nm_e ⟨in2, in2, nm_r (ch_bR_e k2') ?_⟩⟩⟩⟩
              unfold wpY_body
              refine nm_r (ch_40t nc) ?_
              rw [e2, k0, k2]
              refine br_f ch_10 ⟨in0, br_f c0 (Y0 (p3' _ (br_f ch_10 (r3' _ (br_f ch_10 ⟨in2, br_t lt ⟨in2, nm_r e31 ?_⟩⟩)))))⟩
              rw [a1, a2, t2, t31, t32, t33]
              refine ⟨i31, nm_e ⟨i32, nm_e ⟨i33, nm_e ⟨in2, in2, nm_r (ch_bR_e k2') ⟨rfl, ch_open_rel I (fun r hr => ch_bR_ne h3 (by omega)) w1 (fun v v6 => ?_) (xbm := xbm) (iv := iv) (vs := vs) (yp := yp) (yv := yv) (yk := yk)⟩⟩⟩⟩⟩
              rw [obs v v6, w2, w3 _ v (Nat.le_refl _)]
            · have nlt : ¬ nI (ch_nb (ch_bl aR nc)) < 3 := nI_nlt (b := 3) h3 (by omega)
              refine br_f nlt ?_
              unfold wpY_body
              refine nm_r (ch_40t nc) ?_
              rw [e2, k0, k2]
              exact br_f ch_10 ⟨in0, br_f c0 (Y0 (p3' _ (br_f ch_10 (r3' _ (br_f ch_10 ⟨in2, br_f nlt ⟨rfl, J⟩⟩)))))⟩
end
