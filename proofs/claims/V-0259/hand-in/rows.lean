section
/-! rows of kit/rows, pasted -/
theorem pk_us {f : Nat → Int32} {k : Nat} {x : Int32} : upd f k x k = x := if_pos rfl
theorem pk_un {f : Nat → Int32} {k j : Nat} {x : Int32} (h : j ≠ k) : upd f k x j = f j := if_neg h
theorem pk_sub {a b : Nat} (h : b ≤ a) : nI a - nI b = nI (a - b) := by
  obtain ⟨c, rfl⟩ : ∃ c, a = c + b := ⟨a - b, by omega⟩
  rw [← nI_add, Int32.add_sub_cancel, Nat.add_sub_cancel]
theorem pk_m1 (n : Nat) : nI (n + 1) + (-1) = nI n := by
  rw [← nI_1, Int32.add_assoc, show (1 : Int32) + (-1) = 0 from rfl, Int32.add_zero]
theorem pk_mul (a b : Nat) : nI a * nI b = nI (a * b) := (Int32.ofNat_mul a b).symm
theorem pk_le {x y : Int32} {A B : Prop} (a b : Nat) (f : a ≤ b → A) (g : b < a → B) (hx : x = nI a := by rfl) (hy : y = nI b := by rfl) (ha : a < 2 ^ 31 := by omega) (hb : b < 2 ^ 31 := by omega) : (x ≤ y → A) ∧ (¬ x ≤ y → B) := by
  subst hx hy
  rw [nI_leI ha hb]
  exact ⟨f, fun z => g (by omega)⟩
theorem pk_lt {x y : Int32} {A B : Prop} (a b : Nat) (f : a < b → A) (g : b ≤ a → B) (hx : x = nI a := by rfl) (hy : y = nI b := by rfl) (ha : a < 2 ^ 31 := by omega) (hb : b < 2 ^ 31 := by omega) : (x < y → A) ∧ (¬ x < y → B) := by
  subst hx hy
  rw [nI_ltI ha hb]
  exact ⟨f, fun z => g (by omega)⟩
theorem pk_eq {x y : Int32} {A B : Prop} (a b : Nat) (f : a = b → A) (g : a ≠ b → B) (hx : x = nI a := by rfl) (hy : y = nI b := by rfl) (ha : a < 2 ^ 31 := by omega) (hb : b < 2 ^ 31 := by omega) : (x = y → A) ∧ (¬ x = y → B) := by
  subst hx hy
  rw [nI_eq ha hb]
  exact ⟨f, g⟩
theorem pk_in {x : Int32} (n N : Nat) (h : n < N) (hx : x = nI n := by rfl) (hN : N < 2 ^ 31 := by omega) : vp_in x N := by
  subst hx
  exact vp_in_nI h hN
theorem pk_cl {x : Int32} (n : Nat) (hx : x = nI n := by rfl) (h : n < 2 ^ 31 := by omega) : x.toNatClampNeg = n := by
  subst hx
  exact nI_clamp h
theorem pk_ix (x : Int32) {n : Nat} (hn : n < 2 ^ 31) : x < 0 ∨ nI n ≤ x ∨ ∃ j : Nat, j < n ∧ x = nI j := by
  by_cases h : x < 0
  · exact Or.inl h
  · obtain ⟨j, hj, rfl⟩ := nI_of h
    by_cases h2 : j < n
    · exact Or.inr (Or.inr ⟨j, h2, rfl⟩)
    · exact Or.inr (Or.inl (nI_le (by omega) hj))
theorem pk_least (P : Nat → Prop) (h : ∃ k, P k) : ∃ k, P k ∧ ∀ j, j < k → ¬ P j := by
  obtain ⟨k, hk⟩ := h
  induction k using Nat.strongRecOn with
  | ind k ih =>
    by_cases e : ∃ j, j < k ∧ P j
    · obtain ⟨j, hj, pj⟩ := e
      exact ih j hj pj
    · exact ⟨k, hk, fun j hj pj => e ⟨j, hj, pj⟩⟩
theorem sb_m1 {p : Nat} (h : 0 < p) : nI p + (-1) = nI (p - 1) := by
  obtain ⟨q, rfl⟩ : ∃ q, p = q + 1 := ⟨p - 1, by omega⟩
  exact pk_m1 q
def bt (x : Int32) (i : Nat) : Bool := x.toBitVec.getLsbD i
theorem b_ext {x y : Int32} (h : ∀ i, i < 32 → bt x i = bt y i) : x = y := Int32.toBitVec_inj.mp (BitVec.eq_of_getLsbD_eq (fun i hi => h i hi))
theorem b_or (x y : Int32) (i : Nat) : bt (x ||| y) i = (bt x i || bt y i) := by unfold bt; rw [Int32.toBitVec_or, BitVec.getLsbD_or]
theorem b_and (x y : Int32) (i : Nat) : bt (x &&& y) i = (bt x i && bt y i) := by unfold bt; rw [Int32.toBitVec_and, BitVec.getLsbD_and]
theorem b_big {x : Int32} {i : Nat} (h : 32 ≤ i) : bt x i = false := BitVec.getLsbD_of_ge _ _ h
theorem b_0 (i : Nat) : bt 0 i = false := BitVec.getLsbD_zero
theorem s_l : ∀ n, n < 32 → ((nI n &&& 31).toBitVec.smod 32).toNat = n := by decide +kernel
theorem b_shl (n : Nat) (hn : n < 32) (x : Int32) {i : Nat} (hi : i < 32) : bt (x <<< (nI n &&& 31)) i = (decide (n ≤ i) && bt x (i - n)) := by
  unfold bt
  rw [Int32.toBitVec_shiftLeft]
  show (x.toBitVec <<< ((nI n &&& 31).toBitVec.smod 32).toNat).getLsbD i = _
  rw [s_l n hn, BitVec.getLsbD_shiftLeft]
  rcases Nat.lt_or_ge i n with h | h
  · simp [h, Nat.not_le.mpr h]
  · simp [hi, h, Nat.not_lt.mpr h]
theorem b_sshr (n : Nat) (hn : n < 32) (x : Int32) {i : Nat} (hi : i < 32) : bt (x >>> (nI n &&& 31)) i = if n + i < 32 then bt x (n + i) else bt x 31 := by
  unfold bt
  rw [Int32.toBitVec_shiftRight]
  show (x.toBitVec.sshiftRight ((nI n &&& 31).toBitVec.smod 32).toNat).getLsbD i = _
  rw [s_l n hn, BitVec.getLsbD_sshiftRight, BitVec.msb_eq_getLsbD_last]
  simp [hi]
/-! own base: option-coded ints, bits, reads and writes, counting -/
def ba_o : Option Nat → Int32
  | none => -1
  | some x => nI x
theorem ba_o_n : ba_o none = -1 := rfl
theorem ba_o_s (x : Nat) : ba_o (some x) = nI x := rfl
theorem ba_n1lt : (-1 : Int32) < 0 := by decide
theorem ba_n1le : ¬ (0 : Int32) ≤ -1 := by decide
theorem ba_ne1 {a : Nat} (h : a < 2 ^ 31) : ¬ nI a = -1 := by
  intro e
  have := nI_pos (n := a) h
  rw [e] at this
  exact this ba_n1lt
theorem ba_eq0 {a : Nat} (h : a < 2 ^ 31) : nI a = 0 ↔ a = 0 := by
  rw [← nI_0, nI_eq h (by omega)]
theorem ba_le0 {a : Nat} (h : a < 2 ^ 31) : nI a ≤ 0 ↔ a = 0 := by
  rw [← nI_0, nI_leI h (by omega)]; omega
theorem ba_on {z : Int32} {A B : Prop} (o : Option Nat) (hz : z = ba_o o) (hb : ∀ x, o = some x → x < 2 ^ 31) (f : o = none → A) (g : ∀ x, o = some x → B) : (z < 0 → A) ∧ (¬ z < 0 → B) := by
  subst hz
  cases o with
  | none => exact br_t ba_n1lt (f rfl)
  | some x => exact br_f (nI_pos (hb x rfl)) (g x rfl)
theorem ba_op {z : Int32} {A B : Prop} (o : Option Nat) (hz : z = ba_o o) (hb : ∀ x, o = some x → x < 2 ^ 31) (f : o = none → A) (g : ∀ x, o = some x → B) : (0 ≤ z → B) ∧ (¬ 0 ≤ z → A) := by
  subst hz
  cases o with
  | none => exact br_f ba_n1le (f rfl)
  | some x => exact br_t (nI_pos' (hb x rfl)) (g x rfl)
theorem ba_o_inj {o p : Option Nat} (ho : ∀ x, o = some x → x < 2 ^ 31) (hp : ∀ x, p = some x → x < 2 ^ 31) (h : ba_o o = ba_o p) : o = p := by
  cases o with
  | none =>
    cases p with
    | none => rfl
    | some y => exact absurd h.symm (ba_ne1 (hp y rfl))
  | some x =>
    cases p with
    | none => exact absurd h (ba_ne1 (ho x rfl))
    | some y => exact congrArg some ((nI_eq (ho x rfl) (hp y rfl)).mp h)
theorem ba_m8 (a : Nat) : nI a * 8 = nI (a * 8) := pk_mul a 8
theorem ba_m32 (a : Nat) : nI a * 32 = nI (a * 32) := pk_mul a 32
theorem ba_m256 (a : Nat) : nI a * 256 = nI (a * 256) := pk_mul a 256
theorem ba_ix8 (v i : Nat) : nI v * 8 + nI i = nI (v * 8 + i) := by rw [ba_m8, nI_add]
theorem ba_ix32 (v i : Nat) : nI v * 32 + nI i = nI (v * 32 + i) := by rw [ba_m32, nI_add]
theorem ba_ixr (v i : Nat) : 256 + nI v * 8 + nI i = nI (256 + v * 8 + i) := by
  rw [ba_m8, show (256 : Int32) = nI 256 from rfl, nI_add, nI_add]
theorem ba_ixf (f v i : Nat) : nI f * 256 + nI v * 8 + nI i = nI (f * 256 + v * 8 + i) := by
  rw [ba_m8, ba_m256, nI_add, nI_add]
theorem ba_8p (b : Nat) : 8 + nI b = nI (8 + b) := nI_add 8 b
theorem ba_s1 {n : Nat} (h : 0 < n) : nI n - 1 = nI (n - 1) := by
  obtain ⟨m, rfl⟩ : ∃ m, n = m + 1 := ⟨n - 1, by omega⟩
  exact nI_pred m
theorem ba_vb0 : vp_nar .boolean 0 = 0 := by decide
theorem ba_vb1 : vp_nar .boolean 1 = 1 := by decide
theorem ba_rd {a : Nat → Int32} {x z : Int32} {P : Int32 → Prop} (j : Nat) (e : x = nI j) (hj : j < 2 ^ 31) (ez : a j = z) (h : P z) : ∀ y, y = a x.toNatClampNeg → P y := by
  subst e
  rw [nI_clamp hj, ez]
  exact nm_e h
theorem ba_wr {a : Nat → Int32} {x z z' : Int32} {P : (Nat → Int32) → Prop} (j : Nat) (e : x = nI j) (hj : j < 2 ^ 31) (ez : z = z') (h : P (upd a j z')) : ∀ y, y = upd a x.toNatClampNeg z → P y := by
  subst e
  rw [nI_clamp hj, ez]
  exact nm_e h
/-! bits -/
theorem ba_and1 (y : Int32) : ((y &&& 1) = 0 ↔ bt y 0 = false) ∧ ((y &&& 1) = 1 ↔ bt y 0 = true) := by
  have e : (y &&& 1).toBitVec = BitVec.setWidth 32 (BitVec.ofBool (y.toBitVec.getLsbD 0)) := by
    rw [Int32.toBitVec_and]
    exact BitVec.and_one_eq_setWidth_ofBool_getLsbD
  rw [← Int32.toBitVec_inj, ← Int32.toBitVec_inj, e]
  unfold bt
  cases y.toBitVec.getLsbD 0
  · exact ⟨⟨fun _ => rfl, fun _ => by decide⟩, ⟨fun z => absurd z (by decide), fun z => absurd z (by decide)⟩⟩
  · exact ⟨⟨fun z => absurd z (by decide), fun z => absurd z (by decide)⟩, ⟨fun _ => rfl, fun _ => by decide⟩⟩
theorem ba_sh0 (x : Int32) {s : Nat} (hs : s < 32) : bt (x >>> (nI s &&& 31)) 0 = bt x s := by
  rw [b_sshr s hs x (by omega), if_pos (by omega), Nat.add_zero]
theorem ba_bit (x : Int32) {s : Nat} (hs : s < 32) : ((x >>> (nI s &&& 31)) &&& 1) = 0 ↔ bt x s = false := by
  rw [(ba_and1 _).1, ba_sh0 x hs]
theorem ba_bit1 (x : Int32) {s : Nat} (hs : s < 32) : ((x >>> (nI s &&& 31)) &&& 1) = 1 ↔ bt x s = true := by
  rw [(ba_and1 _).2, ba_sh0 x hs]
theorem ba_1 : ∀ i, i < 32 → bt 1 i = decide (i = 0) := by decide +kernel
theorem ba_set (x : Int32) {s i : Nat} (hs : s < 32) (hi : i < 32) : bt (x ||| ((1 : Int32) <<< (nI s &&& 31))) i = (bt x i || decide (i = s)) := by
  rw [b_or, b_shl s hs 1 hi]
  congr 1
  by_cases h : s ≤ i
  · rw [ba_1 (i - s) (by omega), decide_eq_true h, Bool.true_and]
    by_cases e : i = s
    · rw [decide_eq_true e, decide_eq_true (by omega)]
    · rw [decide_eq_false e, decide_eq_false (by omega)]
  · rw [decide_eq_false h, Bool.false_and, decide_eq_false (by omega)]
theorem ba_setT (x : Int32) {s i : Nat} (hs : s < 32) (hi : i < 32) : bt (x ||| ((1 : Int32) <<< (nI s &&& 31))) i = true ↔ (bt x i = true ∨ i = s) := by
  rw [ba_set x hs hi, Bool.or_eq_true, decide_eq_true_iff]
theorem ba_bb {x : Int32} {s : Nat} (hs : s < 32) {A B : Prop} (f : bt x s = false → A) (g : bt x s = true → B) : (((x >>> (nI s &&& 31)) &&& 1) = 0 → A) ∧ (¬ ((x >>> (nI s &&& 31)) &&& 1) = 0 → B) := by
  rw [ba_bit x hs]
  exact ⟨f, fun h => g (by cases e : bt x s; exact absurd e h; rfl)⟩
theorem ba_bb1 {x : Int32} {s : Nat} (hs : s < 32) {A B : Prop} (f : bt x s = true → A) (g : bt x s = false → B) : (((x >>> (nI s &&& 31)) &&& 1) = 1 → A) ∧ (¬ ((x >>> (nI s &&& 31)) &&& 1) = 1 → B) := by
  rw [ba_bit1 x hs]
  exact ⟨f, fun h => g (by cases e : bt x s; rfl; exact absurd e h)⟩
/-! counting -/
noncomputable def ba_b (P : Prop) : Nat := @ite Nat P (Classical.propDecidable P) 1 0
theorem ba_b_t {P : Prop} (h : P) : ba_b P = 1 := by unfold ba_b; rw [if_pos h]
theorem ba_b_f {P : Prop} (h : ¬ P) : ba_b P = 0 := by unfold ba_b; rw [if_neg h]
theorem ba_b_le (P : Prop) : ba_b P ≤ 1 := by
  rcases Classical.em P with h | h
  · rw [ba_b_t h]; omega
  · rw [ba_b_f h]; omega
theorem ba_b_mono {P Q : Prop} (h : P → Q) : ba_b P ≤ ba_b Q := by
  rcases Classical.em P with hp | hp
  · rw [ba_b_t hp, ba_b_t (h hp)]; omega
  · rw [ba_b_f hp]; omega
noncomputable def cn (P : Nat → Prop) : Nat → Nat
  | 0 => 0
  | k + 1 => cn P k + ba_b (P k)
theorem cn_0 (P : Nat → Prop) : cn P 0 = 0 := rfl
theorem cn_t {P : Nat → Prop} {k : Nat} (h : P k) : cn P (k + 1) = cn P k + 1 := by rw [cn, ba_b_t h]
theorem cn_f {P : Nat → Prop} {k : Nat} (h : ¬ P k) : cn P (k + 1) = cn P k := by rw [cn, ba_b_f h, Nat.add_zero]
theorem cn_mono {P Q : Nat → Prop} : ∀ {N : Nat}, (∀ k, k < N → P k → Q k) → cn P N ≤ cn Q N
  | 0, _ => Nat.le_refl _
  | N + 1, h => by
    have a := cn_mono (P := P) (Q := Q) (N := N) (fun k hk => h k (by omega))
    have b := ba_b_mono (h N (by omega))
    simp only [cn]; omega
theorem cn_lt {P Q : Nat → Prop} {a : Nat} (hp : ¬ P a) (hq : Q a) : ∀ {N : Nat}, (∀ k, k < N → P k → Q k) → a < N → cn P N < cn Q N
  | 0, _, h => by omega
  | N + 1, h, ha => by
    simp only [cn]
    rcases Nat.lt_or_ge a N with z | z
    · have x := cn_lt hp hq (N := N) (fun k hk => h k (by omega)) z
      have b := ba_b_mono (h N (by omega))
      omega
    · have e : a = N := by omega
      subst e
      have x := cn_mono (P := P) (Q := Q) (N := a) (fun k hk => h k (by omega))
      rw [ba_b_t hq, ba_b_f hp]; omega
theorem cn_le (P : Nat → Prop) : ∀ N, cn P N ≤ N
  | 0 => Nat.le_refl _
  | N + 1 => by have := cn_le P N; have := ba_b_le (P N); simp only [cn]; omega
theorem cn_eq {P Q : Nat → Prop} {N : Nat} (h : ∀ k, k < N → (P k ↔ Q k)) : cn P N = cn Q N :=
  Nat.le_antisymm (cn_mono fun k hk => (h k hk).mp) (cn_mono fun k hk => (h k hk).mpr)
theorem cn_mn (P : Nat → Prop) {a b : Nat} (h : a ≤ b) : cn P a ≤ cn P b := by
  induction b with
  | zero => rw [Nat.le_zero.mp h]; exact Nat.le_refl _
  | succ b ih =>
    rcases Nat.lt_or_ge a (b + 1) with z | z
    · have := ih (by omega); simp only [cn]; omega
    · rw [Nat.le_antisymm h z]; exact Nat.le_refl _
theorem cn_add {P : Nat → Prop} {a : Nat} (hp : ¬ P a) : ∀ {N : Nat}, a < N → cn (fun k => P k ∨ k = a) N = cn P N + 1
  | 0, h => by omega
  | N + 1, h => by
    simp only [cn]
    rcases Nat.lt_or_ge a N with z | z
    · rw [cn_add hp z]
      have : ba_b (P N ∨ N = a) = ba_b (P N) := Nat.le_antisymm (ba_b_mono fun q => q.elim id (fun e => by omega)) (ba_b_mono Or.inl)
      omega
    · have e : a = N := by omega
      subst e
      rw [cn_eq (P := fun k => P k ∨ k = a) (Q := P) (fun k hk => ⟨fun q => q.elim id (fun e => by omega), Or.inl⟩), ba_b_t (Or.inr rfl), ba_b_f hp]
theorem cn_full {P : Nat → Prop} {N : Nat} (h : cn P N = N) : ∀ k, k < N → P k := by
  intro k hk
  apply Classical.byContradiction
  intro hn
  have a := cn_lt (P := P) (Q := fun _ => True) hn trivial (N := N) (fun _ _ _ => trivial) hk
  have b := cn_le (fun _ => True) N
  omega
theorem cn_all {P : Nat → Prop} : ∀ {N : Nat}, (∀ k, k < N → P k) → cn P N = N
  | 0, _ => rfl
  | N + 1, h => by rw [cn_t (h N (by omega)), cn_all (N := N) (fun k hk => h k (by omega))]
theorem cn_none {P : Nat → Prop} : ∀ {N : Nat}, (∀ k, k < N → ¬ P k) → cn P N = 0
  | 0, _ => rfl
  | N + 1, h => by rw [cn_f (h N (by omega)), cn_none (N := N) (fun k hk => h k (by omega))]
/-- disjoint parts: their counts add up -/
theorem cn_or {P Q : Nat → Prop} : ∀ {N : Nat}, (∀ k, k < N → P k → ¬ Q k) → cn (fun k => P k ∨ Q k) N = cn P N + cn Q N
  | 0, _ => rfl
  | N + 1, h => by
    have ih := cn_or (P := P) (Q := Q) (N := N) (fun k hk => h k (by omega))
    simp only [cn]
    rcases Classical.em (P N) with p | p
    · rw [ih, ba_b_t (Or.inl p), ba_b_t p, ba_b_f (h N (by omega) p)]; omega
    · rcases Classical.em (Q N) with q | q
      · rw [ih, ba_b_t (Or.inr q), ba_b_t q, ba_b_f p]; omega
      · rw [ih, ba_b_f (fun z => z.elim p q), ba_b_f p, ba_b_f q]; omega
/-- an injection of [0,n) into the members of P below N -/
theorem cn_inj : ∀ (n : Nat) (f : Nat → Nat) (P : Nat → Prop) (N : Nat), (∀ i, i < n → f i < N ∧ P (f i)) → (∀ i j, i < n → j < n → f i = f j → i = j) → n ≤ cn P N
  | 0, _, _, _, _, _ => Nat.zero_le _
  | n + 1, f, P, N, h, hj => by
    have ih := cn_inj n f (fun k => P k ∧ k ≠ f n) N (fun i hi => ⟨(h i (by omega)).1, (h i (by omega)).2, fun e => by have := hj i n (by omega) (by omega) e; omega⟩) (fun i j hi hj' e => hj i j (by omega) (by omega) e)
    have := cn_lt (P := fun k => P k ∧ k ≠ f n) (Q := P) (a := f n) (fun z => z.2 rfl) (h n (by omega)).2 (N := N) (fun k _ z => z.1) (h n (by omega)).1
    omega
theorem ba_pig {n m : Nat} (f : Nat → Nat) (h : ∀ i, i < n → f i < m) (hj : ∀ i j, i < n → j < n → f i = f j → i = j) : n ≤ m :=
  Nat.le_trans (cn_inj n f (fun _ => True) m (fun i hi => ⟨h i hi, trivial⟩) hj) (cn_le _ _)
/-- a sequence with a bounded measure that grows until it stands -/
theorem ba_stab {N : Nat} (m : Nat → Nat) (st : Nat → Prop) (h : ∀ k, st k ∨ m k < m (k + 1)) (hp : ∀ k, st k → st (k + 1)) (hb : ∀ k, m k ≤ N) : st N := by
  apply Classical.byContradiction
  intro hn
  have key : ∀ k, k ≤ N → ¬ st (N - k) := by
    intro k
    induction k with
    | zero => intro _; exact hn
    | succ k ih =>
      intro hk hs
      have e : N - (k + 1) + 1 = N - k := by omega
      exact ih (by omega) (e ▸ hp _ hs)
  have low : ∀ k, k ≤ N + 1 → k ≤ m k := by
    intro k
    induction k with
    | zero => intro _; omega
    | succ k ih =>
      intro hk
      have a := ih (by omega)
      have b : ¬ st k := by
        have := key (N - k) (by omega)
        have e : N - (N - k) = k := by omega
        rw [e] at this; exact this
      rcases h k with c | c
      · exact absurd c b
      · omega
  have := low (N + 1) (Nat.le_refl _)
  have := hb (N + 1)
  omega
/-- the place of the next member, by its rank -/
theorem cn_at {P : Nat → Prop} : ∀ {N r : Nat}, r < cn P N → ∃ v, v < N ∧ P v ∧ cn P v = r
  | 0, r, h => by rw [cn_0] at h; omega
  | N + 1, r, h => by
    rcases Nat.lt_or_ge r (cn P N) with z | z
    · obtain ⟨v, a, b, c⟩ := cn_at (N := N) z
      exact ⟨v, by omega, b, c⟩
    · rcases Classical.em (P N) with p | p
      · rw [cn_t p] at h
        exact ⟨N, by omega, p, by omega⟩
      · rw [cn_f p] at h; omega
/-- the greatest member below n -/
noncomputable def ba_l (P : Nat → Prop) : Nat → Option Nat
  | 0 => none
  | n + 1 => @ite (Option Nat) (P n) (Classical.propDecidable (P n)) (some n) (ba_l P n)
theorem ba_l_t {P : Nat → Prop} {n : Nat} (h : P n) : ba_l P (n + 1) = some n := by rw [ba_l, if_pos h]
theorem ba_l_f {P : Nat → Prop} {n : Nat} (h : ¬ P n) : ba_l P (n + 1) = ba_l P n := by rw [ba_l, if_neg h]
theorem ba_l_n {P : Nat → Prop} : ∀ {n : Nat}, ba_l P n = none → ∀ k, k < n → ¬ P k
  | 0, _, k, hk => by omega
  | n + 1, h, k, hk => by
    rcases Classical.em (P n) with p | p
    · rw [ba_l_t p] at h; cases h
    · rw [ba_l_f p] at h
      rcases Nat.lt_or_ge k n with z | z
      · exact ba_l_n h k z
      · rw [show k = n by omega]; exact p
theorem ba_l_s {P : Nat → Prop} {u : Nat} : ∀ {n : Nat}, ba_l P n = some u → u < n ∧ P u ∧ ∀ k, u < k → k < n → ¬ P k
  | 0, h => by cases h
  | n + 1, h => by
    rcases Classical.em (P n) with p | p
    · rw [ba_l_t p] at h
      cases h
      exact ⟨by omega, p, fun k a b => by omega⟩
    · rw [ba_l_f p] at h
      obtain ⟨a, b, c⟩ := ba_l_s h
      refine ⟨by omega, b, fun k x y => ?_⟩
      rcases Nat.lt_or_ge k n with z | z
      · exact c k x z
      · rw [show k = n by omega]; exact p
/-! top of a stack of height h; fills; represented arrays -/
def ba_t : Nat → Int32
  | 0 => -1
  | h + 1 => nI h
theorem ba_tm (h : Nat) : nI h + (-1) = ba_t h := by
  cases h with
  | zero => decide
  | succ h => exact pk_m1 h
def ba_fill (a : Nat → Int32) (i : Nat) (z : Int32) : Nat → Int32 := fun j => if j < i then z else a j
theorem ba_fill_0 (a : Nat → Int32) (z : Int32) : ba_fill a 0 z = a := funext fun _ => if_neg (by omega)
theorem ba_fill_s (a : Nat → Int32) (i : Nat) (z : Int32) : upd (ba_fill a i z) i z = ba_fill a (i + 1) z := by
  funext j
  unfold upd ba_fill
  by_cases h : j = i
  · rw [if_pos h, if_pos (by omega)]
  · rw [if_neg h]
    by_cases h2 : j < i
    · rw [if_pos h2, if_pos (by omega)]
    · rw [if_neg h2, if_neg (by omega)]
theorem ba_fill_t {a : Nat → Int32} {i j : Nat} {z : Int32} (h : j < i) : ba_fill a i z j = z := if_pos h
theorem ba_fill_f {a : Nat → Int32} {i j : Nat} {z : Int32} (h : ¬ j < i) : ba_fill a i z j = a j := if_neg h
theorem ba_f0 {a : Nat → Int32} {z : Int32} : ∀ j, j < 0 → a j = z := fun j hj => by omega
theorem ba_f1 {a : Nat → Int32} {i : Nat} {z : Int32} (h : ∀ j, j < i → a j = z) : ∀ j, j < i + 1 → upd a i z j = z := by
  intro j hj
  rcases Classical.em (j = i) with e | e
  · rw [e, pk_us]
  · rw [pk_un e]; exact h j (by omega)
theorem ba_if {c d A B : Prop} (e : c ↔ d) (f : d → A) (g : ¬ d → B) : (c → A) ∧ (¬ c → B) := ⟨fun h => f (e.mp h), fun h => g (fun z => h (e.mpr z))⟩
end
section
/-! reach in at most k edges, avoiding g; dominance -/
def gr_R (n : Nat) (E : Nat → Nat → Prop) (g : Nat → Prop) : Nat → Nat → Prop
  | 0, b => b = 0 ∧ ¬ g 0
  | k + 1, b => gr_R n E g k b ∨ (b < n ∧ ¬ g b ∧ ∃ p, p < n ∧ gr_R n E g k p ∧ E p b)
def gr_D (n : Nat) (E : Nat → Nat → Prop) (a b : Nat) : Prop := ∀ k, ¬ gr_R n E (fun x => x = a) k b
def gr_all (n : Nat) (E : Nat → Nat → Prop) : Prop := ∀ b, b < n → ∃ k, gr_R n E (fun _ => False) k b
section GR
variable {n : Nat} {E : Nat → Nat → Prop} {g : Nat → Prop}
theorem gr_up {k b : Nat} (h : gr_R n E g k b) : gr_R n E g (k + 1) b := Or.inl h
theorem gr_mono {b : Nat} : ∀ {k j : Nat}, k ≤ j → gr_R n E g k b → gr_R n E g j b := by
  intro k j h r
  induction j with
  | zero => rw [Nat.le_zero.mp h] at r; exact r
  | succ j ih =>
    rcases Nat.lt_or_ge k (j + 1) with z | z
    · exact gr_up (ih (by omega))
    · rw [Nat.le_antisymm h z] at r; exact r
theorem gr_ng : ∀ {k b : Nat}, gr_R n E g k b → ¬ g b
  | 0, _, h => by rw [h.1]; exact h.2
  | k + 1, _, h => h.elim (fun a => gr_ng a) (fun a => a.2.1)
theorem gr_lt (hn : 0 < n) : ∀ {k b : Nat}, gr_R n E g k b → b < n
  | 0, _, h => by rw [h.1]; exact hn
  | k + 1, _, h => h.elim (fun a => gr_lt hn a) (fun a => a.1)
/-- stepping on -/
theorem gr_st {k p b : Nat} (h : gr_R n E g k p) (hp : p < n) (hb : b < n) (hg : ¬ g b) (e : E p b) : gr_R n E g (k + 1) b := Or.inr ⟨hb, hg, p, hp, h, e⟩
/-- saturation: n edges are enough -/
theorem gr_sat (hn : 0 < n) {k b : Nat} (h : gr_R n E g k b) : gr_R n E g n b := by
  have key := ba_stab (N := n) (fun k => cn (gr_R n E g k) n) (fun k => ∀ b, gr_R n E g (k + 1) b → gr_R n E g k b) (fun k => by
      rcases Classical.em (∀ b, gr_R n E g (k + 1) b → gr_R n E g k b) with a | a
      · exact Or.inl a
      · right
        have ⟨b, hb⟩ := Classical.not_forall.mp a
        have ⟨h1, h2⟩ := Classical.not_imp.mp hb
        exact cn_lt h2 h1 (fun _ _ r => gr_up r) (gr_lt hn h1)) (fun k hk b r => by
      rcases r with r | ⟨h1, h2, p, h3, h4, h5⟩
      · exact r
      · exact gr_st (hk p h4) h3 h1 h2 h5) (fun k => cn_le _ _)
  have all : ∀ j b, gr_R n E g (n + j) b → gr_R n E g n b := by
    intro j
    induction j with
    | zero => exact fun b r => r
    | succ j ih =>
      intro b r
      rcases r with r | ⟨h1, h2, p, h3, h4, h5⟩
      · exact ih b r
      · exact key b (gr_st (ih p h4) h3 h1 h2 h5)
  exact all k b (gr_mono (by omega) h)
/-- a walk that avoids a either avoids c too or meets c -/
theorem gr_cut {a c : Nat} : ∀ {k b : Nat}, gr_R n E (fun x => x = a) k b → gr_R n E (fun x => x = c) k b ∨ ∃ j, j ≤ k ∧ gr_R n E (fun x => x = a) j c
  | 0, b, h => by
    rcases Classical.em (0 = c) with z | z
    · exact Or.inr ⟨0, Nat.le_refl _, z.symm, h.2⟩
    · exact Or.inl ⟨h.1, z⟩
  | k + 1, b, h => by
    rcases h with r | ⟨h1, h2, p, h3, h4, h5⟩
    · rcases gr_cut r with x | ⟨j, hj, x⟩
      · exact Or.inl (gr_up x)
      · exact Or.inr ⟨j, by omega, x⟩
    · rcases gr_cut h4 with x | ⟨j, hj, x⟩
      · rcases Classical.em (b = c) with z | z
        · exact Or.inr ⟨k + 1, Nat.le_refl _, z ▸ gr_st h4 h3 h1 h2 h5⟩
        · exact Or.inl (gr_st x h3 h1 z h5)
      · exact Or.inr ⟨j, by omega, x⟩
theorem gr_D_rf (b : Nat) : gr_D n E b b := fun _ h => gr_ng h rfl
theorem gr_D_0 (b : Nat) : gr_D n E 0 b := by
  intro k
  induction k generalizing b with
  | zero => intro h; exact h.2 rfl
  | succ k ih =>
    rintro (r | ⟨_, _, p, _, h4, _⟩)
    · exact ih b r
    · exact ih p h4
theorem gr_D_to0 {a : Nat} (h : gr_D n E a 0) : a = 0 := by
  apply Classical.byContradiction
  intro z
  exact h 0 ⟨rfl, fun e => z e.symm⟩
theorem gr_D_tr {a b c : Nat} (h1 : gr_D n E a b) (h2 : gr_D n E b c) : gr_D n E a c := by
  intro k r
  rcases gr_cut (c := b) r with x | ⟨j, _, x⟩
  · exact h2 k x
  · exact h1 j x
theorem gr_D_pr {a b p : Nat} (h : gr_D n E a b) (hab : a ≠ b) (hp : p < n) (hb : b < n) (e : E p b) : gr_D n E a p :=
  fun k r => h (k + 1) (gr_st r hp hb (fun z => hab z.symm) e)
theorem gr_D_of {a b : Nat} (hb : b ≠ 0) (h : ∀ p, p < n → E p b → gr_D n E a p) : gr_D n E a b := by
  intro k
  induction k with
  | zero => exact fun r => hb r.1
  | succ k ih =>
    rintro (r | ⟨_, _, p, h3, h4, h5⟩)
    · exact ih r
    · exact h p h3 h5 k h4
theorem gr_D_k {a : Nat} : ∀ {k b : Nat}, gr_R n E (fun _ => False) k b → gr_D n E a b → ∃ j, j ≤ k ∧ gr_R n E (fun _ => False) j a ∧ (j = k → a = b)
  | 0, b, r, h => by
    have e := r.1
    subst e
    exact ⟨0, Nat.le_refl _, ⟨gr_D_to0 h, fun z => z⟩, fun _ => gr_D_to0 h⟩
  | k + 1, b, r, h => by
    rcases r with r | ⟨h1, h2, p, h3, h4, h5⟩
    · obtain ⟨j, a1, a2, a3⟩ := gr_D_k r h
      exact ⟨j, by omega, a2, fun z => by omega⟩
    · rcases Classical.em (a = b) with z | z
      · exact ⟨k + 1, Nat.le_refl _, z ▸ gr_st h4 h3 h1 h2 h5, fun _ => z⟩
      · obtain ⟨j, a1, a2, a3⟩ := gr_D_k h4 (gr_D_pr h z h3 h1 h5)
        exact ⟨j, by omega, a2, fun z => by omega⟩
theorem gr_D_as {a b : Nat} (ha : ∃ k, gr_R n E (fun _ => False) k a) (h1 : gr_D n E a b) (h2 : gr_D n E b a) : a = b := by
  obtain ⟨ka, ra, ma⟩ := pk_least _ ha
  obtain ⟨j, hj, rj, ej⟩ := gr_D_k ra h2
  obtain ⟨i, hi, ri, ei⟩ := gr_D_k rj h1
  have : ¬ i < ka := fun z => ma i z ri
  exact ei (by omega)
end GR
end
section
/-! the iteration of immediate dominators, pure -/
def do_O (n : Nat) (E : Nat → Nat → Prop) (oi : Nat → Nat) : Prop :=
  (∀ b, b < n → oi b < n) ∧ (∀ b c, b < n → c < n → oi b = oi c → b = c) ∧ oi 0 = 0 ∧ (∀ b, b < n → b ≠ 0 → ∃ p, p < n ∧ E p b ∧ oi p < oi b)
def do_Q (n : Nat) (E : Nat → Nat → Prop) (j x b : Nat) : Prop := ∀ k, k < j → ¬ gr_R n E (fun y => y = x) k b
def do_I (n : Nat) (E : Nat → Nat → Prop) (oi : Nat → Nat) (id : Nat → Option Nat) : Prop :=
  id 0 = some 0 ∧ ∀ b, b < n → b ≠ 0 → ∀ x, id b = some x → x < n ∧ id x ≠ none ∧ oi x < oi b ∧ ∀ a, gr_D n E a b → a ≠ b → gr_D n E a x
def do_A (n : Nat) (E : Nat → Nat → Prop) (id : Nat → Option Nat) (j : Nat) : Prop := ∀ b, b < n → b ≠ 0 → ∀ x, id b = some x → do_Q n E j x b
def do_C (n : Nat) (E : Nat → Nat → Prop) (oi : Nat → Nat) (id : Nat → Option Nat) (a x : Nat) : Prop :=
  x < n ∧ id x ≠ none ∧ oi x ≤ oi a ∧ ∀ j, do_A n E id j → do_Q n E j x a
def do_P (n : Nat) (id : Nat → Option Nat) : Prop := ∀ b, b < n → id b ≠ none
section DOM
variable {n : Nat} {E : Nat → Nat → Prop} {oi : Nat → Nat} {id : Nat → Option Nat}
theorem do_lt (O : do_O n E oi) {a : Nat} : ∀ {m b : Nat}, oi b < m → b < n → gr_D n E a b → a = b ∨ (a < n ∧ oi a < oi b) := by
  intro m
  induction m with
  | zero => intro b h; omega
  | succ m ih =>
    intro b hm hb hd
    rcases Classical.em (a = b) with z | z
    · exact Or.inl z
    · right
      rcases Classical.em (b = 0) with w | w
      · subst w; exact absurd (gr_D_to0 hd) z
      · obtain ⟨p, hp, he, ho⟩ := O.2.2.2 b hb w
        have hd' := gr_D_pr hd z hp hb he
        rcases ih (b := p) (by omega) hp hd' with y | y
        · subst y; exact ⟨hp, ho⟩
        · exact ⟨y.1, by omega⟩
theorem do_le (O : do_O n E oi) {a b : Nat} (hb : b < n) (h : gr_D n E a b) : a = b ∨ (a < n ∧ oi a < oi b) := do_lt O (Nat.lt_succ_self _) hb h
theorem do_Q_rf (j b : Nat) : do_Q n E j b b := fun _ _ r => gr_ng r rfl
theorem do_Q_tr {j c x b : Nat} (h1 : do_Q n E j c x) (h2 : do_Q n E j x b) : do_Q n E j c b := by
  intro k hk r
  rcases gr_cut (c := x) r with y | ⟨i, hi, y⟩
  · exact h2 k hk y
  · exact h1 i (by omega) y
theorem do_Q_mono {i j x b : Nat} (h : i ≤ j) (q : do_Q n E j x b) : do_Q n E i x b := fun k hk => q k (by omega)
theorem do_Q_D (hn : 0 < n) {j x b : Nat} (hj : n < j) (q : do_Q n E j x b) : gr_D n E x b := fun _ r => q n hj (gr_sat hn r)
theorem do_A_mono {i j : Nat} (h : i ≤ j) (A : do_A n E id j) : do_A n E id i := fun b hb h0 x hx => do_Q_mono h (A b hb h0 x hx)
theorem do_A_0 : do_A n E id 0 := fun _ _ _ _ _ _ h => absurd h (Nat.not_lt_zero _)
theorem do_C_rf {a : Nat} (ha : a < n) (h : id a ≠ none) : do_C n E oi id a a := ⟨ha, h, Nat.le_refl _, fun j _ => do_Q_rf j a⟩
/-- one step up: x is not the entry -/
theorem do_C_st (I : do_I n E oi id) {a x : Nat} (h : do_C n E oi id a x) (hx : x ≠ 0) : ∃ y, id x = some y ∧ do_C n E oi id a y ∧ oi y < oi x := by
  cases e : id x with
  | none => exact absurd e h.2.1
  | some y =>
    obtain ⟨h1, h2, h3, h4⟩ := I.2 x h.1 hx y e
    exact ⟨y, rfl, ⟨h1, h2, Nat.le_trans (Nat.le_of_lt h3) h.2.2.1, fun j hA => do_Q_tr (hA x h.1 hx y e) (h.2.2.2 j hA)⟩, h3⟩
theorem do_cd (O : do_O n E oi) (I : do_I n E oi id) {d x y z : Nat} (hx : x < n) (hx0 : x ≠ 0) (hy : y < n) (ho : oi y < oi x) (e : id x = some z) (h1 : gr_D n E d x) (h2 : gr_D n E d y) : gr_D n E d z := by
  refine (I.2 x hx hx0 z e).2.2.2 d h1 ?_
  intro w
  subst w
  rcases do_le O hy h2 with q | q
  · subst q; omega
  · omega
def do_M (n : Nat) (E : Nat → Nat → Prop) (oi : Nat → Nat) (id : Nat → Option Nat) (b k : Nat) (best : Option Nat) : Prop :=
  (best = none → ∀ p, p < k → p < n → E p b → id p = none) ∧
  (∀ r, best = some r → r < n ∧ id r ≠ none ∧ (∀ p, p < k → p < n → E p b → id p ≠ none → oi r ≤ oi p ∧ ∀ j, do_A n E id j → do_Q n E j r p) ∧ (∀ d, (∀ p, p < k → p < n → E p b → id p ≠ none → gr_D n E d p) → gr_D n E d r))
theorem do_M_0 (b : Nat) : do_M n E oi id b 0 none := ⟨fun _ p hp => absurd hp (Nat.not_lt_zero _), fun _ h => by cases h⟩
theorem do_M_skip {b k : Nat} {best : Option Nat} (h : do_M n E oi id b k best) (hk : E k b → id k = none) : do_M n E oi id b (k + 1) best := by
  refine ⟨fun e p hp hn he => ?_, fun r e => ?_⟩
  · rcases Nat.lt_or_ge p k with z | z
    · exact h.1 e p z hn he
    · have : p = k := by omega
      subst this; exact hk he
  · obtain ⟨a1, a2, a3, a4⟩ := h.2 r e
    refine ⟨a1, a2, fun p hp hn he hi => ?_, fun d hd => a4 d (fun p hp hn he hi => hd p (by omega) hn he hi)⟩
    rcases Nat.lt_or_ge p k with z | z
    · exact a3 p z hn he hi
    · have : p = k := by omega
      subst this; exact absurd (hk he) hi
theorem do_M_fst {b k : Nat} (h : do_M n E oi id b k none) (hk : k < n) (hi : id k ≠ none) (he : E k b) : do_M n E oi id b (k + 1) (some k) := by
  refine ⟨fun e => (by cases e), fun r e => ?_⟩
  cases e
  refine ⟨hk, hi, fun p hp hn he' hi' => ?_, fun d hd => hd k (by omega) hk he hi⟩
  rcases Nat.lt_or_ge p k with z | z
  · exact absurd (h.1 rfl p z hn he') hi'
  · have : p = k := by omega
    subst this
    exact ⟨Nat.le_refl _, fun j _ => do_Q_rf j p⟩
theorem do_M_cd {b k r s : Nat} (h : do_M n E oi id b k (some r)) (hk : k < n) (hi : id k ≠ none) (he : E k b) (c1 : do_C n E oi id r s) (c2 : do_C n E oi id k s) (cd : ∀ d, gr_D n E d r → gr_D n E d k → gr_D n E d s) : do_M n E oi id b (k + 1) (some s) := by
  refine ⟨fun e => (by cases e), fun r' e => ?_⟩
  cases e
  obtain ⟨a1, a2, a3, a4⟩ := h.2 r rfl
  refine ⟨c1.1, c1.2.1, fun p hp hn he' hi' => ?_, fun d hd => cd d (a4 d (fun p hp hn he hi => hd p (by omega) hn he hi)) (hd k (by omega) hk he hi)⟩
  rcases Nat.lt_or_ge p k with z | z
  · obtain ⟨b1, b2⟩ := a3 p z hn he' hi'
    exact ⟨Nat.le_trans c1.2.2.1 b1, fun j hA => do_Q_tr (c1.2.2.2 j hA) (b2 j hA)⟩
  · have : p = k := by omega
    subst this
    exact ⟨c2.2.2.1, c2.2.2.2⟩
/-- what the meet gives -/
theorem do_new (O : do_O n E oi) {b : Nat} (hb : b < n) (hb0 : b ≠ 0) {best : Option Nat} (M : do_M n E oi id b n best) (hp : ∀ p, p < n → oi p < oi b → id p ≠ none) :
    ∃ r, best = some r ∧ r < n ∧ id r ≠ none ∧ oi r < oi b ∧ (∀ a, gr_D n E a b → a ≠ b → gr_D n E a r) ∧ (∀ j, do_A n E id j → (j = 0 ∨ do_P n id) → do_Q n E (j + 1) r b) := by
  obtain ⟨p0, hp0, he0, ho0⟩ := O.2.2.2 b hb hb0
  cases best with
  | none => exact absurd (M.1 rfl p0 hp0 hp0 he0) (hp p0 hp0 ho0)
  | some r =>
    obtain ⟨a1, a2, a3, a4⟩ := M.2 r rfl
    refine ⟨r, rfl, a1, a2, ?_, ?_, ?_⟩
    · have := (a3 p0 hp0 hp0 he0 (hp p0 hp0 ho0)).1
      omega
    · intro a hd hab
      exact a4 a (fun p hp hn he _ => gr_D_pr hd hab hn hb he)
    · intro j hA hj k
      induction k with
      | zero => exact fun _ r => hb0 r.1
      | succ k ih =>
        rintro hk (q | ⟨_, _, p, h3, h4, h5⟩)
        · exact ih (by omega) q
        · rcases hj with hj | hj
          · omega
          · exact (a3 p h3 h3 h5 (hj p h3)).2 j hA k (by omega) h4
def do_u (id : Nat → Option Nat) (b r : Nat) : Nat → Option Nat := fun x => if x = b then some r else id x
theorem do_u_s {b r : Nat} : do_u id b r b = some r := if_pos rfl
theorem do_u_n {b r x : Nat} (h : x ≠ b) : do_u id b r x = id x := if_neg h
theorem do_u_nn {b r x : Nat} (h : id x ≠ none) : do_u id b r x ≠ none := by
  rcases Classical.em (x = b) with z | z
  · subst z; rw [do_u_s]; exact fun e => by cases e
  · rw [do_u_n z]; exact h
theorem do_I_u (I : do_I n E oi id) {b r : Nat} (hb0 : b ≠ 0) (h1 : r < n) (h2 : id r ≠ none) (h3 : oi r < oi b) (h4 : ∀ a, gr_D n E a b → a ≠ b → gr_D n E a r) : do_I n E oi (do_u id b r) := by
  refine ⟨by rw [do_u_n (fun z => hb0 z.symm)]; exact I.1, fun c hc hc0 x e => ?_⟩
  rcases Classical.em (c = b) with z | z
  · subst z
    rw [do_u_s] at e
    cases e
    exact ⟨h1, do_u_nn h2, h3, h4⟩
  · rw [do_u_n z] at e
    obtain ⟨a1, a2, a3, a4⟩ := I.2 c hc hc0 x e
    exact ⟨a1, do_u_nn a2, a3, a4⟩
/-- the invariant of a pass: m passes before, place k, whether something has changed -/
def do_V (n : Nat) (E : Nat → Nat → Prop) (oi : Nat → Nat) (id : Nat → Option Nat) (m k : Nat) (ch : Bool) : Prop :=
  do_I n E oi id ∧ (∀ b, b < n → oi b < k → id b ≠ none) ∧ (m = 0 ∨ do_P n id) ∧ do_A n E id m ∧
  (∀ b, b < n → b ≠ 0 → oi b < k → ∀ x, id b = some x → do_Q n E (m + 1) x b) ∧
  (ch = false → ∀ b, b < n → b ≠ 0 → oi b < k → ∀ x, id b = some x → ∀ j, do_A n E id j → (j = 0 ∨ do_P n id) → do_Q n E (j + 1) x b)
theorem do_V_step (O : do_O n E oi) {m b : Nat} {ch : Bool} {best : Option Nat} (hb : b < n) (hb0 : b ≠ 0) (V : do_V n E oi id m (oi b) ch) (M : do_M n E oi id b n best) :
    ∃ r, best = some r ∧ r < n ∧ (id b = some r → do_V n E oi id m (oi b + 1) ch) ∧ (id b ≠ some r → do_V n E oi (do_u id b r) m (oi b + 1) true) := by
  obtain ⟨I, V2, V3, V4, V5, V6⟩ := V
  obtain ⟨r, e, h1, h2, h3, h4, h5⟩ := do_new O hb hb0 M V2
  have hk : ∀ c, c < n → oi c < oi b + 1 → oi c < oi b ∨ c = b := by
    intro c hc ho
    rcases Nat.lt_or_ge (oi c) (oi b) with z | z
    · exact Or.inl z
    · exact Or.inr (O.2.1 c b hc hb (by omega))
  refine ⟨r, e, h1, fun ei => ?_, fun _ => ?_⟩
  · refine ⟨I, fun c hc ho => ?_, V3, V4, fun c hc hc0 ho x hx => ?_, fun hch c hc hc0 ho x hx => ?_⟩
    · rcases hk c hc ho with z | z
      · exact V2 c hc z
      · rw [z, ei]; exact fun z => by cases z
    · rcases hk c hc ho with z | z
      · exact V5 c hc hc0 z x hx
      · subst z
        rw [ei] at hx; cases hx
        exact h5 m V4 V3
    · rcases hk c hc ho with z | z
      · exact V6 hch c hc hc0 z x hx
      · subst z
        rw [ei] at hx; cases hx
        exact h5
  · refine ⟨do_I_u I hb0 h1 h2 h3 h4, fun c hc ho => ?_, V3.imp (fun z => z) (fun p c hc => do_u_nn (p c hc)), fun c hc hc0 x hx => ?_, fun c hc hc0 ho x hx => ?_, fun z => by cases z⟩
    · rcases hk c hc ho with z | z
      · exact do_u_nn (V2 c hc z)
      · rw [z, do_u_s]; exact fun z => by cases z
    · rcases Classical.em (c = b) with z | z
      · subst z
        rw [do_u_s] at hx; cases hx
        exact do_Q_mono (Nat.le_succ _) (h5 m V4 V3)
      · rw [do_u_n z] at hx
        exact V4 c hc hc0 x hx
    · rcases Classical.em (c = b) with z | z
      · subst z
        rw [do_u_s] at hx; cases hx
        exact h5 m V4 V3
      · rw [do_u_n z] at hx
        rcases hk c hc ho with y | y
        · exact V5 c hc hc0 y x hx
        · exact absurd y z
/-- the head of the outer loop -/
def do_H (n : Nat) (E : Nat → Nat → Prop) (oi : Nat → Nat) (id : Nat → Option Nat) (m : Nat) (ch : Bool) : Prop :=
  do_I n E oi id ∧ (m = 0 ∨ do_P n id) ∧ do_A n E id m ∧ (ch = false → do_P n id ∧ ∀ j, do_A n E id j)
theorem do_H_in (O : do_O n E oi) {m : Nat} {ch : Bool} (hn : 0 < n) (H : do_H n E oi id m ch) : do_V n E oi id m 1 false := by
  have h0 : ∀ b, b < n → oi b < 1 → b = 0 := fun b hb ho => O.2.1 b 0 hb hn (by rw [O.2.2.1]; omega)
  refine ⟨H.1, fun b hb ho => ?_, H.2.1, H.2.2.1, fun b hb hb0 ho => absurd (h0 b hb ho) hb0, fun _ b hb hb0 ho => absurd (h0 b hb ho) hb0⟩
  rw [h0 b hb ho, H.1.1]
  exact fun z => by cases z
theorem do_H_out (O : do_O n E oi) {m : Nat} {ch : Bool} (V : do_V n E oi id m n ch) : do_H n E oi id (m + 1) ch := by
  obtain ⟨I, V2, V3, V4, V5, V6⟩ := V
  have hP : do_P n id := fun b hb => V2 b hb (O.1 b hb)
  refine ⟨I, Or.inr hP, fun b hb hb0 x hx => V5 b hb hb0 (O.1 b hb) x hx, fun hch => ⟨hP, fun j => ?_⟩⟩
  induction j with
  | zero => exact do_A_0
  | succ j ih => exact fun b hb hb0 x hx => V6 hch b hb hb0 (O.1 b hb) x hx j ih (Or.inr hP)
def do_F (n : Nat) (E : Nat → Nat → Prop) (oi : Nat → Nat) (I : Nat → Nat) : Prop :=
  ∀ b, b < n → b ≠ 0 → I b < n ∧ oi (I b) < oi b ∧ ∀ a, gr_D n E a b ↔ a = b ∨ gr_D n E a (I b)
theorem do_end (hn : 0 < n) (hn8 : n ≤ 8) {m : Nat} {ch : Bool} (H : do_H n E oi id m ch) (hx : ch = false ∨ 64 ≤ m) :
    ∃ I : Nat → Nat, I 0 = 0 ∧ (∀ b, b < n → id b = some (I b)) ∧ do_F n E oi I := by
  have hP : do_P n id := by
    rcases hx with z | z
    · exact (H.2.2.2 z).1
    · rcases H.2.1 with y | y
      · omega
      · exact y
  have hA : do_A n E id 9 := by
    rcases hx with z | z
    · exact (H.2.2.2 z).2 9
    · exact do_A_mono (by omega) H.2.2.1
  refine ⟨fun b => (id b).getD 0, by show (id 0).getD 0 = 0; rw [H.1.1]; rfl, fun b hb => ?_, fun b hb hb0 => ?_⟩
  · show id b = some ((id b).getD 0)
    cases e : id b with
    | none => exact absurd e (hP b hb)
    | some x => rfl
  · show (id b).getD 0 < n ∧ oi ((id b).getD 0) < oi b ∧ ∀ a, gr_D n E a b ↔ a = b ∨ gr_D n E a ((id b).getD 0)
    cases e : id b with
    | none => exact absurd e (hP b hb)
    | some x =>
      obtain ⟨h1, h2, h3, h4⟩ := H.1.2 b hb hb0 x e
      have hD : gr_D n E x b := do_Q_D hn (by omega) (hA b hb hb0 x e)
      refine ⟨h1, h3, fun a => ⟨fun h => ?_, fun h => ?_⟩⟩
      · rcases Classical.em (a = b) with z | z
        · exact Or.inl z
        · exact Or.inr (h4 a h z)
      · rcases h with z | z
        · rw [z]; exact gr_D_rf b
        · exact gr_D_tr z hD
end DOM
end
section
/-! congruence by rounds (Moore), pure -/
def cg_M (Lab : Nat → Nat → Prop) (A : Nat → Nat → Option Nat) : Nat → Nat → Nat → Prop
  | 0, _, _ => True
  | k + 1, u, v => Lab u v ∧ ∀ i x y, i < 8 → A u i = some x → A v i = some y → cg_M Lab A k x y
def cg_E (Lab : Nat → Nat → Prop) (A : Nat → Nat → Option Nat) (u v : Nat) : Prop := ∀ k, cg_M Lab A k u v
/-- what is known of labels and arguments -/
def cg_H (nv : Nat) (Lab : Nat → Nat → Prop) (A : Nat → Nat → Option Nat) : Prop :=
  (∀ u, u < nv → Lab u u) ∧ (∀ u v, Lab u v → Lab v u) ∧ (∀ u v w, Lab u v → Lab v w → Lab u w) ∧
  (∀ u i x, u < nv → i < 8 → A u i = some x → x < nv) ∧ (∀ u v i, u < nv → v < nv → i < 8 → Lab u v → A u i = none → A v i = none)
section CG
variable {nv : Nat} {Lab : Nat → Nat → Prop} {A : Nat → Nat → Option Nat}
theorem cg_so (H : cg_H nv Lab A) {u v i x : Nat} (hu : u < nv) (hv : v < nv) (hi : i < 8) (h : Lab u v) (e : A u i = some x) : ∃ y, A v i = some y ∧ y < nv := by
  cases ev : A v i with
  | none => rw [H.2.2.2.2 v u i hv hu hi (H.2.1 u v h) ev] at e; cases e
  | some y => exact ⟨y, rfl, H.2.2.2.1 v i y hv hi ev⟩
theorem cg_M_dn : ∀ {k u v : Nat}, cg_M Lab A (k + 1) u v → cg_M Lab A k u v
  | 0, _, _, _ => trivial
  | k + 1, _, _, h => ⟨h.1, fun i x y hi hx hy => cg_M_dn (h.2 i x y hi hx hy)⟩
theorem cg_M_mono {u v : Nat} : ∀ {j k : Nat}, j ≤ k → cg_M Lab A k u v → cg_M Lab A j u v := by
  intro j k h m
  induction k with
  | zero => rw [Nat.le_zero.mp h]; exact m
  | succ k ih =>
    rcases Nat.lt_or_ge j (k + 1) with z | z
    · exact ih (by omega) (cg_M_dn m)
    · rw [Nat.le_antisymm h z]; exact m
theorem cg_M_rf (H : cg_H nv Lab A) : ∀ {k u : Nat}, u < nv → cg_M Lab A k u u
  | 0, _, _ => trivial
  | k + 1, u, hu => ⟨H.1 u hu, fun i x y hi hx hy => by
      rw [hx] at hy; cases hy
      exact cg_M_rf H (H.2.2.2.1 u i x hu hi hx)⟩
theorem cg_M_sy (H : cg_H nv Lab A) : ∀ {k u v : Nat}, cg_M Lab A k u v → cg_M Lab A k v u
  | 0, _, _, _ => trivial
  | k + 1, _, _, h => ⟨H.2.1 _ _ h.1, fun i x y hi hx hy => cg_M_sy H (h.2 i y x hi hy hx)⟩
theorem cg_M_tr (H : cg_H nv Lab A) : ∀ {k u v w : Nat}, u < nv → v < nv → w < nv → cg_M Lab A k u v → cg_M Lab A k v w → cg_M Lab A k u w
  | 0, _, _, _, _, _, _, _, _ => trivial
  | k + 1, u, v, w, hu, hv, hw, h1, h2 => ⟨H.2.2.1 _ _ _ h1.1 h2.1, fun i x z hi hx hz => by
      obtain ⟨y, hy, hyn⟩ := cg_so H hu hv hi h1.1 hx
      exact cg_M_tr H (H.2.2.2.1 u i x hu hi hx) hyn (H.2.2.2.1 w i z hw hi hz) (h1.2 i x y hi hx hy) (h2.2 i y z hi hy hz)⟩
theorem cg_E_rf (H : cg_H nv Lab A) {u : Nat} (hu : u < nv) : cg_E Lab A u u := fun _ => cg_M_rf H hu
theorem cg_E_sy (H : cg_H nv Lab A) {u v : Nat} (h : cg_E Lab A u v) : cg_E Lab A v u := fun k => cg_M_sy H (h k)
theorem cg_E_tr (H : cg_H nv Lab A) {u v w : Nat} (hu : u < nv) (hv : v < nv) (hw : w < nv) (h1 : cg_E Lab A u v) (h2 : cg_E Lab A v w) : cg_E Lab A u w := fun k => cg_M_tr H hu hv hw (h1 k) (h2 k)
theorem cg_E_lab {u v : Nat} (h : cg_E Lab A u v) : Lab u v := (h 1).1
theorem cg_E_arg {u v i x y : Nat} (h : cg_E Lab A u v) (hi : i < 8) (hx : A u i = some x) (hy : A v i = some y) : cg_E Lab A x y := fun k => (h (k + 1)).2 i x y hi hx hy
/-- the greatest -/
theorem cg_E_of (S : Nat → Nat → Prop) (h : ∀ u v, S u v → Lab u v ∧ ∀ i x y, i < 8 → A u i = some x → A v i = some y → S x y) : ∀ {u v : Nat}, S u v → cg_E Lab A u v := by
  intro u v s k
  induction k generalizing u v with
  | zero => exact trivial
  | succ k ih => exact ⟨(h u v s).1, fun i x y hi hx hy => ih ((h u v s).2 i x y hi hx hy)⟩
def cg_rep (Lab : Nat → Nat → Prop) (A : Nat → Nat → Option Nat) (k v : Nat) : Prop := ∀ u, u < v → ¬ cg_M Lab A k u v
theorem cg_min (H : cg_H nv Lab A) {k w : Nat} (hw : w < nv) : ∃ m, m ≤ w ∧ cg_M Lab A k m w ∧ cg_rep Lab A k m ∧ (∀ j, j < nv → cg_M Lab A k j w → m ≤ j) := by
  obtain ⟨m, hm, mn⟩ := pk_least (fun m => m < nv ∧ cg_M Lab A k m w) ⟨w, hw, cg_M_rf H hw⟩
  refine ⟨m, ?_, hm.2, fun u hu hM => ?_, fun j hj hM => ?_⟩
  · rcases Nat.lt_or_ge w m with z | z
    · exact absurd ⟨hw, cg_M_rf H hw⟩ (mn w z)
    · exact z
  · exact mn u hu ⟨by omega, cg_M_tr H (by omega) hm.1 hw hM hm.2⟩
  · rcases Nat.lt_or_ge j m with z | z
    · exact absurd ⟨hj, hM⟩ (mn j z)
    · exact z
theorem cg_grow (H : cg_H nv Lab A) {k u v : Nat} (hu : u < nv) (hv : v < nv) (h1 : cg_M Lab A k u v) (h2 : ¬ cg_M Lab A (k + 1) u v) : cn (cg_rep Lab A k) nv < cn (cg_rep Lab A (k + 1)) nv := by
  obtain ⟨m, hm1, hm2, hm3, hm4⟩ := cg_min H (k := k) hu
  have hw : ∃ w, w < nv ∧ cg_M Lab A k m w ∧ ¬ cg_M Lab A (k + 1) m w := by
    rcases Classical.em (cg_M Lab A (k + 1) m u) with z | z
    · refine ⟨v, hv, cg_M_tr H (by omega) hu hv hm2 h1, fun q => h2 (cg_M_tr H hu (by omega) hv (cg_M_sy H z) q)⟩
    · exact ⟨u, hu, hm2, z⟩
  obtain ⟨w, hwn, hw1, hw2⟩ := hw
  obtain ⟨r, hr1, hr2, hr3, hr4⟩ := cg_min H (k := k + 1) hwn
  have hmr : cg_M Lab A k m r := cg_M_tr H (by omega) hwn (by omega) hw1 (cg_M_sy H (cg_M_dn hr2))
  have hne : m ≠ r := fun e => hw2 (e ▸ hr2)
  have hle : m ≤ r := hm4 r (by omega) (cg_M_tr H (by omega) (by omega) hu (cg_M_sy H hmr) hm2)
  refine cn_lt (a := r) (fun z => z m (by omega) hmr) hr3 (fun j _ z u hu q => z u hu (cg_M_dn q)) (by omega)
theorem cg_sat (H : cg_H nv Lab A) (hn : nv ≤ 32) {u v : Nat} (hu : u < nv) (hv : v < nv) (h : cg_M Lab A 32 u v) : cg_E Lab A u v := by
  have key := ba_stab (N := 32) (fun k => cn (cg_rep Lab A k) nv) (fun k => ∀ u v, u < nv → v < nv → cg_M Lab A k u v → cg_M Lab A (k + 1) u v) (fun k => by
      rcases Classical.em (∀ u v, u < nv → v < nv → cg_M Lab A k u v → cg_M Lab A (k + 1) u v) with a | a
      · exact Or.inl a
      · right
        have ⟨u, hb⟩ := Classical.not_forall.mp a
        have ⟨v, hb⟩ := Classical.not_forall.mp hb
        have ⟨hu, hb⟩ := Classical.not_imp.mp hb
        have ⟨hv, hb⟩ := Classical.not_imp.mp hb
        have ⟨h1, h2⟩ := Classical.not_imp.mp hb
        exact cg_grow H hu hv h1 h2) (fun k hk u v hu hv m => ⟨m.1, fun i x y hi hx hy => hk x y (H.2.2.2.1 u i x hu hi hx) (H.2.2.2.1 v i y hv hi hy) (m.2 i x y hi hx hy)⟩) (fun k => Nat.le_trans (cn_le _ _) hn)
  refine cg_E_of (fun u v => u < nv ∧ v < nv ∧ cg_M Lab A 32 u v) (fun u v s => ?_) ⟨hu, hv, h⟩
  have q := key u v s.1 s.2.1 s.2.2
  exact ⟨q.1, fun i x y hi hx hy => ⟨H.2.2.2.1 u i x s.1 hi hx, H.2.2.2.1 v i y s.2.1 hi hy, q.2 i x y hi hx hy⟩⟩
end CG
/-! refinement, the abstract part -/
def ho_S (nv : Nat) (A : Nat → Nat → Option Nat) (Ci : Nat → Nat) (i : Nat) (S : Nat → Prop) : Prop :=
  ∀ u v, u < nv → v < nv → Ci u = Ci v → ∀ x y, A u i = some x → A v i = some y → (S x ↔ S y)
def ho_N (nv : Nat) (A : Nat → Nat → Option Nat) (Ci : Nat → Nat) (W K : Nat → Prop) (i0 : Nat) : Prop :=
  ∀ i, i < 8 → ∀ x y, x < nv → y < nv → (∀ S, ho_S nv A Ci i S → (S x ↔ S y)) → (∀ c, W c → (Ci x = c ↔ Ci y = c)) → (i0 ≤ i → (K x ↔ K y)) → Ci x = Ci y
def ho_X (Ci : Nat → Nat) (U : Nat → Prop) (c d : Nat) (Cj : Nat → Nat) (nv : Nat) : Prop :=
  ∀ u, u < nv → (Ci u = c ∧ U u → Cj u = d) ∧ (¬ (Ci u = c ∧ U u) → Cj u = Ci u)
section HO
variable {nv : Nat} {A : Nat → Nat → Option Nat} {Ci Cj : Nat → Nat} {W W' K U : Nat → Prop} {c d i0 : Nat}
theorem ho_X_bk (X : ho_X Ci U c d Cj nv) (hd : ∀ u, u < nv → Ci u ≠ d) {u v : Nat} (hu : u < nv) (hv : v < nv) (h : Cj u = Cj v) : Ci u = Ci v := by
  rcases Classical.em (Ci u = c ∧ U u) with a | a
  · rcases Classical.em (Ci v = c ∧ U v) with b | b
    · rw [a.1, b.1]
    · rw [(X u hu).1 a, (X v hv).2 b] at h
      exact absurd h.symm (hd v hv)
  · rcases Classical.em (Ci v = c ∧ U v) with b | b
    · rw [(X u hu).2 a, (X v hv).1 b] at h
      exact absurd h (hd u hu)
    · rw [(X u hu).2 a, (X v hv).2 b] at h
      exact h
theorem ho_N_split (N : ho_N nv A Ci W K i0) (X : ho_X Ci U c d Cj nv) (hd : ∀ u, u < nv → Ci u ≠ d) (hcd : c ≠ d) (hW : ∀ e, W e → W' e) (hWc : W c → W' d) (hp : W' c ∨ W' d) : ho_N nv A Cj W' K i0 := by
  intro i hi x y hx hy hS hw hK
  have bk := fun {u v : Nat} (hu : u < nv) (hv : v < nv) (h : Cj u = Cj v) => ho_X_bk X hd hu hv h
  have inC : ∀ {u : Nat}, u < nv → (Ci u = c ↔ Cj u = c ∨ Cj u = d) := by
    intro u hu
    rcases Classical.em (Ci u = c ∧ U u) with a | a
    · exact ⟨fun _ => Or.inr ((X u hu).1 a), fun _ => a.1⟩
    · rw [(X u hu).2 a]
      exact ⟨Or.inl, fun h => h.elim (fun z => z) (fun z => absurd z (hd u hu))⟩
  have ne : ∀ {u : Nat}, u < nv → Ci u ≠ c → Cj u = Ci u := fun hu h => (X _ hu).2 (fun z => h z.1)
  have e := N i hi x y hx hy (fun S hs => hS S (fun u v hu hv huv => hs u v hu hv (bk hu hv huv))) (fun k hk => by
    rcases Classical.em (k = c) with z | z
    · subst z
      have h1 := hw k (hW k hk)
      have h2 := hw d (hWc hk)
      rw [inC hx, inC hy, h1, h2]
    · have g : ∀ {u : Nat}, u < nv → (Ci u = k ↔ Cj u = k ∧ k ≠ d) := by
        intro u hu
        rcases Classical.em (Ci u = c ∧ U u) with a | a
        · rw [(X u hu).1 a, a.1]
          exact ⟨fun q => absurd q.symm z, fun q => absurd q.1.symm q.2⟩
        · rw [(X u hu).2 a]
          exact ⟨fun q => ⟨q, fun q' => hd u hu (q.trans q')⟩, fun q => q.1⟩
      rw [g hx, g hy, hw k (hW k hk)]) hK
  rcases Classical.em (Ci x = c) with z | z
  · have zy : Ci y = c := e ▸ z
    have px := (inC hx).mp z
    have py := (inC hy).mp zy
    rcases hp with w | w
    · have q := hw c w
      rcases px with a | a
      · rw [a, q.mp a]
      · rcases py with b | b
        · have := q.mpr b
          rw [a] at this
          exact absurd this.symm hcd
        · rw [a, b]
    · have q := hw d w
      rcases px with a | a
      · rcases py with b | b
        · rw [a, b]
        · have := q.mpr b
          rw [a] at this
          exact absurd this hcd
      · rw [a, q.mp a]
  · rw [ne hx z, ne hy (fun q => z (e.trans q)), e]
theorem ho_N_pop (N : ho_N nv A Ci W (fun _ => False) 8) (hW : ∀ e, W e → W' e ∨ e = c) : ho_N nv A Ci W' (fun x => Ci x = c) 0 := by
  intro i hi x y hx hy hS hw hK
  refine N i hi x y hx hy hS (fun e he => ?_) (fun z => by omega)
  rcases hW e he with z | z
  · exact hw e z
  · subst z; exact hK (Nat.zero_le _)
theorem ho_N_pos (N : ho_N nv A Ci W K i0) (hi : i0 < 8) (S : ho_S nv A Ci i0 K) : ho_N nv A Ci W K (i0 + 1) := by
  intro i hi x y hx hy hS hw hK
  refine N i hi x y hx hy hS hw (fun z => ?_)
  rcases Nat.lt_or_ge i0 i with q | q
  · exact hK q
  · have : i = i0 := by omega
    subst this
    exact hS K S
theorem ho_N_8 (N : ho_N nv A Ci W K 8) : ho_N nv A Ci W (fun _ => False) 8 :=
  fun i hi x y hx hy hS hw _ => N i hi x y hx hy hS hw (fun z => by omega)
theorem ho_N_0 (hW : ∀ u, u < nv → W (Ci u)) : ho_N nv A Ci W (fun _ => False) 8 :=
  fun _ _ x _ hx _ _ hw _ => ((hw (Ci x) (hW x hx)).mp rfl).symm
theorem ho_N_end (N : ho_N nv A Ci W (fun _ => False) 8) (hW : ∀ e, ¬ W e) (hA : ∀ u i x, u < nv → i < 8 → A u i = some x → x < nv) {u v i x y : Nat} (hu : u < nv) (hv : v < nv) (h : Ci u = Ci v) (hi : i < 8) (hx : A u i = some x) (hy : A v i = some y) : Ci x = Ci y :=
  N i hi x y (hA u i x hu hi hx) (hA v i y hv hi hy) (fun _ hs => hs u v hu hv h x y hx hy) (fun e he => absurd he (hW e)) (fun z => by omega)
end HO
end
section
/-! the partition in segments, pure -/
def nu (f : Nat → Nat) (k x : Nat) : Nat → Nat := fun j => if j = k then x else f j
theorem nu_s {f : Nat → Nat} {k x : Nat} : nu f k x k = x := if_pos rfl
theorem nu_n {f : Nat → Nat} {k x j : Nat} (h : j ≠ k) : nu f k x j = f j := if_neg h
def ho_P (nv nc : Nat) (M Lc Ci Cs Sz : Nat → Nat) : Prop :=
  (∀ p, p < nv → M p < nv ∧ Lc (M p) = p) ∧ (∀ u, u < nv → Lc u < nv ∧ M (Lc u) = u) ∧
  (∀ u, u < nv → Ci u < nc ∧ Cs (Ci u) ≤ Lc u ∧ Lc u < Cs (Ci u) + Sz (Ci u)) ∧
  (∀ c, c < nc → 0 < Sz c ∧ Cs c + Sz c ≤ nv ∧ ∀ p, Cs c ≤ p → p < Cs c + Sz c → Ci (M p) = c)
def ho_U (nv : Nat) (Lc Ci Cs Mk : Nat → Nat) (U : Nat → Prop) : Prop := ∀ v, v < nv → (U v ↔ Lc v < Cs (Ci v) + Mk (Ci v))
/-- a list of all c below nc with Q, each once -/
def ho_T (nc : Nat) (Q : Nat → Prop) (T : Nat → Nat) (tc : Nat) : Prop :=
  (∀ j, j < tc → T j < nc ∧ Q (T j)) ∧ (∀ i j, i < tc → j < tc → T i = T j → i = j) ∧ (∀ c, c < nc → Q c → ∃ j, j < tc ∧ T j = c)
theorem ho_T_le {nc tc : Nat} {Q : Nat → Prop} {T : Nat → Nat} (h : ho_T nc Q T tc) : tc ≤ nc := ba_pig T (fun i hi => (h.1 i hi).1) h.2.1
theorem ho_T_0 {nc : Nat} {Q : Nat → Prop} {T : Nat → Nat} (h : ∀ c, c < nc → ¬ Q c) : ho_T nc Q T 0 := ⟨fun j hj => by omega, fun i j hi => by omega, fun c hc q => absurd q (h c hc)⟩
theorem ho_T_cg {nc tc : Nat} {Q Q' : Nat → Prop} {T : Nat → Nat} (h : ho_T nc Q T tc) (e : ∀ c, c < nc → (Q c ↔ Q' c)) : ho_T nc Q' T tc :=
  ⟨fun j hj => ⟨(h.1 j hj).1, (e _ (h.1 j hj).1).mp (h.1 j hj).2⟩, h.2.1, fun c hc q => h.2.2 c hc ((e c hc).mpr q)⟩
theorem ho_T_new {nc tc : Nat} {Q : Nat → Prop} {T : Nat → Nat} (h : ho_T nc Q T tc) {c : Nat} (hc : c < nc) (h0 : ¬ Q c) : tc < nc ∧ ho_T nc (fun e => Q e ∨ e = c) (nu T tc c) (tc + 1) := by
  have hne : ∀ j, j < tc → T j ≠ c := fun j hj e => h0 (e ▸ (h.1 j hj).2)
  have inj : ∀ i j, i < tc + 1 → j < tc + 1 → nu T tc c i = nu T tc c j → i = j := by
    intro i j hi hj e
    rcases Classical.em (i = tc) with a | a
    · rcases Classical.em (j = tc) with b | b
      · omega
      · rw [a, nu_s, nu_n b] at e
        exact absurd e.symm (hne j (by omega))
    · rcases Classical.em (j = tc) with b | b
      · rw [b, nu_s, nu_n a] at e
        exact absurd e (hne i (by omega))
      · rw [nu_n a, nu_n b] at e
        exact h.2.1 i j (by omega) (by omega) e
  have lt : ∀ i, i < tc + 1 → nu T tc c i < nc := by
    intro i hi
    rcases Classical.em (i = tc) with a | a
    · rw [a, nu_s]; exact hc
    · rw [nu_n a]; exact (h.1 i (by omega)).1
  refine ⟨ba_pig (nu T tc c) lt inj, fun j hj => ⟨lt j hj, ?_⟩, inj, fun e he hm => ?_⟩
  · rcases Classical.em (j = tc) with a | a
    · rw [a, nu_s]; exact Or.inr rfl
    · rw [nu_n a]
      exact Or.inl (h.1 j (by omega)).2
  · rcases Classical.em (e = c) with a | a
    · exact ⟨tc, by omega, by rw [nu_s, a]⟩
    · obtain ⟨j, hj, ej⟩ := h.2.2 e he (hm.elim (fun z => z) (fun z => absurd z a))
      exact ⟨j, by omega, by rw [nu_n (by omega), ej]⟩
section HP
variable {nv nc : Nat} {M Lc Ci Cs Sz Mk : Nat → Nat} {U : Nat → Prop}
theorem ho_nc (P : ho_P nv nc M Lc Ci Cs Sz) : nc ≤ nv := by
  refine ba_pig (fun c => M (Cs c)) (fun c hc => ?_) (fun c e hc he h => ?_)
  · obtain ⟨a, b, _⟩ := P.2.2.2 c hc
    exact (P.1 (Cs c) (by omega)).1
  · obtain ⟨a, b, g⟩ := P.2.2.2 c hc
    obtain ⟨a', b', g'⟩ := P.2.2.2 e he
    have x := g (Cs c) (Nat.le_refl _) (by omega)
    have y := g' (Cs e) (Nat.le_refl _) (by omega)
    have h' : M (Cs c) = M (Cs e) := h
    rw [← x, ← y, h']
theorem ho_mark (P : ho_P nv nc M Lc Ci Cs Sz) (hU : ho_U nv Lc Ci Cs Mk U) {u : Nat} (hu : u < nv) (hn : ¬ U u) :
    Mk (Ci u) < Sz (Ci u) ∧ Cs (Ci u) + Mk (Ci u) < nv ∧ M (Cs (Ci u) + Mk (Ci u)) < nv ∧
    ho_P nv nc (nu (nu M (Cs (Ci u) + Mk (Ci u)) u) (Lc u) (M (Cs (Ci u) + Mk (Ci u)))) (nu (nu Lc u (Cs (Ci u) + Mk (Ci u))) (M (Cs (Ci u) + Mk (Ci u))) (Lc u)) Ci Cs Sz ∧
    ho_U nv (nu (nu Lc u (Cs (Ci u) + Mk (Ci u))) (M (Cs (Ci u) + Mk (Ci u))) (Lc u)) Ci Cs (nu Mk (Ci u) (Mk (Ci u) + 1)) (fun v => U v ∨ v = u) := by
  obtain ⟨P1, P2, P3, P4⟩ := P
  obtain ⟨hc, h1, h2⟩ := P3 u hu
  have h3 : ¬ Lc u < Cs (Ci u) + Mk (Ci u) := fun z => hn ((hU u hu).mpr z)
  obtain ⟨s1, s2, s3⟩ := P4 (Ci u) hc
  generalize ec : Ci u = c at *
  generalize et : Cs c + Mk c = t at *
  have ht : t < nv := by omega
  obtain ⟨ho1, ho2⟩ := P1 t ht
  have hoc : Ci (M t) = c := s3 t (by omega) (by omega)
  generalize eo : M t = o at *
  obtain ⟨hl1, hl2⟩ := P2 u hu
  have segc : ∀ e, e < nc → ∀ p, Cs e ≤ p → p < Cs e + Sz e → ∀ v, v < nv → Lc v = p → e = Ci v := by
    intro e he p hp1 hp2 v hv hl
    have := (P4 e he).2.2 p hp1 hp2
    rw [← hl, (P2 v hv).2] at this
    exact this.symm
  refine ⟨by omega, ht, ho1, ⟨?_, ?_, ?_, ?_⟩, ?_⟩
  · intro p hp
    rcases Classical.em (p = Lc u) with a | a
    · rw [a, nu_s, nu_s]; exact ⟨ho1, rfl⟩
    · rw [nu_n a]
      rcases Classical.em (p = t) with b | b
      · rw [b, nu_s]
        have : u ≠ o := by
          intro e
          rw [← e] at ho2
          omega
        rw [nu_n this, nu_s]
        exact ⟨hu, rfl⟩
      · rw [nu_n b]
        obtain ⟨q1, q2⟩ := P1 p hp
        have n1 : M p ≠ o := fun e => b (by rw [← q2, e, ho2])
        have n2 : M p ≠ u := fun e => a (by rw [← q2, e])
        rw [nu_n n1, nu_n n2]
        exact ⟨q1, q2⟩
  · intro v hv
    rcases Classical.em (v = o) with a | a
    · rw [a, nu_s, nu_s]; exact ⟨hl1, rfl⟩
    · rw [nu_n a]
      rcases Classical.em (v = u) with b | b
      · rw [b, nu_s]
        have : t ≠ Lc u := by
          intro e
          rw [e, hl2] at eo
          exact a (b.trans eo)
        rw [nu_n this, nu_s]
        exact ⟨ht, rfl⟩
      · rw [nu_n b]
        obtain ⟨q1, q2⟩ := P2 v hv
        have n1 : Lc v ≠ Lc u := fun e => b (by rw [← q2, e, hl2])
        have n2 : Lc v ≠ t := fun e => a (by rw [← q2, e, eo])
        rw [nu_n n1, nu_n n2]
        exact ⟨q1, q2⟩
  · intro v hv
    obtain ⟨q0, q1, q2⟩ := P3 v hv
    refine ⟨q0, ?_⟩
    rcases Classical.em (v = o) with a | a
    · rw [a, nu_s, hoc]; exact ⟨h1, h2⟩
    · rw [nu_n a]
      rcases Classical.em (v = u) with b | b
      · rw [b, nu_s, ec]; omega
      · rw [nu_n b]; exact ⟨q1, q2⟩
  · intro e he
    obtain ⟨q1, q2, q3⟩ := P4 e he
    refine ⟨q1, q2, fun p hp1 hp2 => ?_⟩
    rcases Classical.em (p = Lc u) with a | a
    · rw [a, nu_s, hoc]
      have := segc e he p hp1 hp2 u hu a.symm
      rw [this, ec]
    · rw [nu_n a]
      rcases Classical.em (p = t) with b | b
      · rw [b, nu_s, ec]
        have := segc e he p hp1 hp2 o ho1 (by rw [ho2, b])
        rw [this, hoc]
      · rw [nu_n b]; exact q3 p hp1 hp2
  · intro v hv
    show (U v ∨ v = u) ↔ _
    rw [hU v hv]
    rcases Classical.em (v = o) with a | a
    · subst a
      rw [nu_s, hoc, nu_s]
      rcases Classical.em (v = u) with b | b
      · subst b
        have : Lc v = t := ho2
        constructor
        · intro _; omega
        · intro _; exact Or.inr rfl
      · have : Lc u ≠ t := by
          intro e
          rw [← e, hl2] at eo
          exact b eo.symm
        constructor
        · rintro (z | z)
          · omega
          · exact absurd z b
        · intro z; omega
    · rw [nu_n a]
      rcases Classical.em (v = u) with b | b
      · subst b
        rw [nu_s, ec, nu_s]
        exact ⟨fun _ => by omega, fun _ => Or.inr rfl⟩
      · rw [nu_n b]
        obtain ⟨q1, q2⟩ := P2 v hv
        have n2 : Lc v ≠ t := fun e => a (by rw [← q2, e, eo])
        rcases Classical.em (Ci v = c) with g | g
        · rw [g, nu_s]
          constructor
          · rintro (z | z)
            · omega
            · exact absurd z b
          · intro z; exact Or.inl (by omega)
        · rw [nu_n g]
          exact ⟨fun z => z.elim (fun z => z) (fun z => absurd z b), Or.inl⟩
/-- a class cut at the front -/
theorem ho_cut (P : ho_P nv nc M Lc Ci Cs Sz) {c m : Nat} (hc : c < nc) (h0 : 0 < m) (hm : m < Sz c) {Cj : Nat → Nat} (X : ho_X Ci (fun u => Lc u < Cs c + m) c nc Cj nv) :
    nc < nv ∧ ho_P nv (nc + 1) M Lc Cj (nu (nu Cs nc (Cs c)) c (Cs c + m)) (nu (nu Sz nc m) c (Sz c - m)) := by
  have Q : ho_P nv (nc + 1) M Lc Cj (nu (nu Cs nc (Cs c)) c (Cs c + m)) (nu (nu Sz nc m) c (Sz c - m)) := by
    obtain ⟨P1, P2, P3, P4⟩ := P
    have hcd : nc ≠ c := by omega
    refine ⟨P1, P2, fun u hu => ?_, fun e he => ?_⟩
    · obtain ⟨q0, q1, q2⟩ := P3 u hu
      rcases Classical.em (Ci u = c ∧ Lc u < Cs c + m) with a | a
      · rw [(X u hu).1 a, nu_n hcd, nu_s, nu_n hcd, nu_s]
        rw [a.1] at q1 q2
        exact ⟨by omega, q1, a.2⟩
      · rw [(X u hu).2 a]
        rcases Classical.em (Ci u = c) with b | b
        · rw [b, nu_s, nu_s]
          rw [b] at q1 q2
          have : ¬ Lc u < Cs c + m := fun z => a ⟨b, z⟩
          exact ⟨by omega, by omega, by omega⟩
        · rw [nu_n b, nu_n b, nu_n (by omega), nu_n (by omega)]
          exact ⟨by omega, q1, q2⟩
    · have inv : ∀ p, p < nv → Lc (M p) = p := fun p hp => (P1 p hp).2
      obtain ⟨c1, c2, c3⟩ := P4 c hc
      rcases Classical.em (e = c) with b | b
      · subst b
        rw [nu_s, nu_s]
        refine ⟨by omega, by omega, fun p hp1 hp2 => ?_⟩
        have hp : p < nv := by omega
        rw [(X (M p) (P1 p hp).1).2 (fun z => by have q : Lc (M p) < Cs e + m := z.2; rw [inv p hp] at q; omega)]
        exact c3 p (by omega) (by omega)
      · rw [nu_n b, nu_n b]
        rcases Classical.em (e = nc) with a | a
        · rw [a, nu_s, nu_s]
          refine ⟨h0, by omega, fun p hp1 hp2 => ?_⟩
          have hp : p < nv := by omega
          exact (X (M p) (P1 p hp).1).1 ⟨c3 p (by omega) (by omega), by show Lc (M p) < Cs c + m; rw [inv p hp]; exact hp2⟩
        · rw [nu_n a, nu_n a]
          obtain ⟨e1, e2, e3⟩ := P4 e (by omega)
          refine ⟨e1, e2, fun p hp1 hp2 => ?_⟩
          have hp : p < nv := by omega
          have := e3 p hp1 hp2
          rw [(X (M p) (P1 p hp).1).2 (fun z => b (this.symm.trans z.1))]
          exact this
  exact ⟨by have := ho_nc Q; omega, Q⟩
end HP
end
section
/-! leaders, pure -/
def ld_W (nv : Nat) (D : Nat → Nat → Prop) (B : Nat → Nat) (C Sc : Nat → Prop) (w : Nat) : Prop :=
  w < nv ∧ C w ∧ Sc w ∧ ∀ s, s < nv → C s → Sc s → D (B w) (B s) ∧ (B s = B w → w ≤ s)
/-- w leads class C at block t -/
def ld_V (nv : Nat) (D : Nat → Nat → Prop) (B : Nat → Nat) (C : Nat → Prop) (t w : Nat) : Prop := ld_W nv D B C (fun s => D (B s) t) w
theorem ld_V_un {nv t w w' : Nat} {D : Nat → Nat → Prop} {B : Nat → Nat} {C : Nat → Prop} (as : ∀ a b, a < nv → b < nv → D (B a) (B b) → D (B b) (B a) → B a = B b) (h : ld_V nv D B C t w) (h' : ld_V nv D B C t w') : w = w' := by
  obtain ⟨a1, a2, a3, a4⟩ := h
  obtain ⟨b1, b2, b3, b4⟩ := h'
  obtain ⟨p, q⟩ := a4 w' b1 b2 b3
  obtain ⟨p', q'⟩ := b4 w a1 a2 a3
  have e := as w w' a1 b1 p p'
  have := q e.symm
  have := q' e
  omega
/-- the table of leaders in scope -/
def ld_A (nv nc : Nat) (D : Nat → Nat → Prop) (B Ci : Nat → Nat) (Sc : Nat → Prop) (av : Nat → Option Nat) : Prop :=
  ∀ c, c < nc → (∀ w, av c = some w → ld_W nv D B (fun s => Ci s = c) Sc w) ∧ (av c = none → ∀ s, s < nv → Ci s = c → ¬ Sc s)
def ou (f : Nat → Option Nat) (k : Nat) (x : Option Nat) : Nat → Option Nat := fun j => if j = k then x else f j
theorem ou_s {f : Nat → Option Nat} {k : Nat} {x : Option Nat} : ou f k x k = x := if_pos rfl
theorem ou_n {f : Nat → Option Nat} {k j : Nat} {x : Option Nat} (h : j ≠ k) : ou f k x j = f j := if_neg h
section LD
variable {nv nc : Nat} {D : Nat → Nat → Prop} {B Ci : Nat → Nat} {Sc : Nat → Prop} {av : Nat → Option Nat}
/-- v of block t joins the scope; its class has a leader -/
theorem ld_A_old (h : ld_A nv nc D B Ci Sc av) {v w : Nat} (hw : av (Ci v) = some w) (hD : D (B w) (B v)) (ho : B v = B w → w ≤ v) : ld_A nv nc D B Ci (fun s => Sc s ∨ s = v) av := by
  intro c hc
  refine ⟨fun x hx => ?_, fun hx s hs hsc hS => ?_⟩
  · obtain ⟨a1, a2, a3, a4⟩ := (h c hc).1 x hx
    refine ⟨a1, a2, Or.inl a3, fun s hs hsc hS => ?_⟩
    rcases hS with z | z
    · exact a4 s hs hsc z
    · subst z
      have e : x = w := by
        have hsc' : Ci s = c := hsc
        rw [hsc'] at hw
        rw [hw] at hx; cases hx; rfl
      rw [e]
      exact ⟨hD, ho⟩
  · rcases hS with z | z
    · exact (h c hc).2 hx s hs hsc z
    · subst z
      rw [hsc, hx] at hw; cases hw
/-- .. has none: v leads it -/
theorem ld_A_new (h : ld_A nv nc D B Ci Sc av) {v : Nat} (hv : v < nv) (hw : av (Ci v) = none) (hc' : Ci v < nc) (rf : D (B v) (B v)) : ld_A nv nc D B Ci (fun s => Sc s ∨ s = v) (ou av (Ci v) (some v)) := by
  intro c hc
  rcases Classical.em (c = Ci v) with e | e
  · subst e
    rw [ou_s]
    refine ⟨fun x hx => ?_, fun z => by cases z⟩
    cases hx
    refine ⟨hv, rfl, Or.inr rfl, fun s hs hsc hS => ?_⟩
    rcases hS with z | z
    · exact absurd z ((h _ hc).2 hw s hs hsc)
    · rw [z]; exact ⟨rf, fun _ => Nat.le_refl _⟩
  · rw [ou_n e]
    refine ⟨fun x hx => ?_, fun hx s hs hsc hS => ?_⟩
    · obtain ⟨a1, a2, a3, a4⟩ := (h c hc).1 x hx
      refine ⟨a1, a2, Or.inl a3, fun s hs hsc hS => ?_⟩
      rcases hS with z | z
      · exact a4 s hs hsc z
      · subst z
        exact absurd hsc.symm e
    · rcases hS with z | z
      · exact (h c hc).2 hx s hs hsc z
      · subst z; exact e hsc.symm
theorem ld_A_cg {Sc' : Nat → Prop} (h : ld_A nv nc D B Ci Sc av) (e : ∀ s, s < nv → (Sc s ↔ Sc' s)) : ld_A nv nc D B Ci Sc' av := by
  intro c hc
  refine ⟨fun x hx => ?_, fun hx s hs hsc hS => (h c hc).2 hx s hs hsc ((e s hs).mpr hS)⟩
  obtain ⟨a1, a2, a3, a4⟩ := (h c hc).1 x hx
  exact ⟨a1, a2, (e x a1).mp a3, fun s hs hsc hS => a4 s hs hsc ((e s hs).mpr hS)⟩
end LD
/-- what the reference looks for -/
def ld_S (Eq D : Nat → Nat → Prop) (B : Nat → Nat) (v w : Nat) : Prop := Eq v w ∧ D (B w) (B v) ∧ (B w = B v → w ≤ v)
def ld_t (nv : Nat) (Eq D : Nat → Nat → Prop) (B : Nat → Nat) (v w : Nat) : Prop := ld_S Eq D B v w ∧ ∀ s, s < nv → ld_S Eq D B v s → D (B w) (B s)
theorem ld_ref {nv v w : Nat} {Eq D : Nat → Nat → Prop} {B : Nat → Nat} (as : ∀ a b, a < nv → b < nv → D (B a) (B b) → D (B b) (B a) → B a = B b) (rf : ∀ v, v < nv → Eq v v ∧ D (B v) (B v)) (hv : v < nv) (h : ld_V nv D B (Eq v) (B v) w) :
    ld_t nv Eq D B v w ∧ ∀ x, x < w → ¬ ld_t nv Eq D B v x := by
  obtain ⟨a1, a2, a3, a4⟩ := h
  have hs : ld_S Eq D B v w := ⟨a2, a3, fun e => (a4 v hv (rf v hv).1 (rf v hv).2).2 e.symm⟩
  refine ⟨⟨hs, fun s hs' h => (a4 s hs' h.1 h.2.1).1⟩, fun x hx hb => ?_⟩
  have p := hb.2 w a1 hs
  obtain ⟨q1, q2⟩ := a4 x (by omega) hb.1.1 hb.1.2.1
  have := q2 (as x w (by omega) a1 p q1)
  omega
end
section
/-! running, pure -/
def rn_ev (k : Nat) (f i0 i1 l r : Int32) : Int32 :=
  if k = 0 then f else if k = 1 then (if f = 0 then i0 else i1) else if k = 3 then l + r else if k = 4 then l - r else if k = 5 then l * r
  else if k = 6 then l &&& r else if k = 7 then l ||| r else if k = 8 then l ^^^ r else if k = 9 then (if r ≤ l then 0 else 1)
  else if k = 10 then (if l = r then 1 else 0) else if k = 11 then -l else l ^^^ (-1)
def rn_g (e : Nat → Int32) : Option Nat → Int32
  | none => 0
  | some x => e x
def rn_m (f : Nat → Nat) : Option Nat → Option Nat
  | none => none
  | some x => some (f x)
/-- a block carried out: b entered from f, by the values kp, with operands Ag -/
def rn_X (nv : Nat) (K B : Nat → Nat) (L : Nat → Int32) (Ag : Nat → Nat → Option Nat) (kp : Nat → Prop) (i0 i1 : Int32) (f b : Nat) (e e' : Nat → Int32) : Prop :=
  ∀ v, v < nv → (B v = b → kp v → K v = 2 → e' v = rn_g e (Ag v f)) ∧
    (B v = b → kp v → K v ≠ 2 → e' v = rn_ev (K v) (L v) i0 i1 (rn_g e' (Ag v 0)) (rn_g e' (Ag v 1))) ∧
    (¬ (B v = b ∧ kp v) → e' v = e v)
def rn_1 (nv : Nat) (B : Nat → Nat) (Eq : Nat → Nat → Prop) (S : Nat → Prop) (e : Nat → Int32) : Prop := ∀ u v, u < nv → v < nv → Eq u v → S (B u) → S (B v) → e u = e v
def rn_2 (nv : Nat) (K B : Nat → Nat) (L : Nat → Int32) (A : Nat → Nat → Option Nat) (i0 i1 : Int32) (S : Nat → Prop) (e : Nat → Int32) : Prop :=
  ∀ v, v < nv → K v ≠ 2 → S (B v) → e v = rn_ev (K v) (L v) i0 i1 (rn_g e (A v 0)) (rn_g e (A v 1))
/-- the facts of a sealed program that a run rests on -/
def rn_H (nv : Nat) (K B : Nat → Nat) (L : Nat → Int32) (A : Nat → Nat → Option Nat) (Eq D : Nat → Nat → Prop) : Prop :=
  (∀ u v, u < nv → v < nv → Eq u v → K u = K v ∧ (K u = 2 → B u = B v) ∧ (K u ≠ 2 → L u = L v)) ∧
  (∀ u v i x, u < nv → v < nv → Eq u v → i < 8 → A u i = some x → ∃ y, A v i = some y ∧ Eq x y) ∧
  (∀ v i x, v < nv → i < 8 → A v i = some x → x < nv ∧ (K v ≠ 2 → x < v ∧ D (B x) (B v)) ∧ (K v = 2 → D (B x) i)) ∧
  (∀ u v, Eq u v → Eq v u) ∧ (∀ b, D b b) ∧ (∀ a b c, D a b → D b c → D a c) ∧ (∀ a b, a < nv → b < nv → D (B a) (B b) → D (B b) (B a) → B a = B b)
section RN
variable {nv : Nat} {K B : Nat → Nat} {L : Nat → Int32} {A : Nat → Nat → Option Nat} {Eq D : Nat → Nat → Prop} {i0 i1 : Int32} {f t : Nat} {S : Nat → Prop} {e e' : Nat → Int32}
theorem rn_none (H : rn_H nv K B L A Eq D) {u v i : Nat} (hu : u < nv) (hv : v < nv) (h : Eq u v) (hi : i < 8) (hn : A u i = none) : A v i = none := by
  cases ev : A v i with
  | none => rfl
  | some y =>
    obtain ⟨x, hx, _⟩ := H.2.1 v u i y hv hu (H.2.2.2.1 u v h) hi ev
    rw [hn] at hx; cases hx
/-- the reference's values after a step -/
theorem rn_val (H : rn_H nv K B L A Eq D) (hS : ∀ a, D a t → a ≠ t → S a) (hph : ∀ v, v < nv → B v = t → K v = 2 → f < 8 ∧ ∃ x, A v f = some x ∧ S (B x))
    (h1 : rn_1 nv B Eq S e) (h2 : rn_2 nv K B L A i0 i1 S e) (X : rn_X nv K B L A (fun _ => True) i0 i1 f t e e') :
    rn_1 nv B Eq (fun a => D a t) e' ∧ rn_2 nv K B L A i0 i1 (fun a => D a t) e' := by
  have un : ∀ v, v < nv → B v ≠ t → e' v = e v := fun v hv hb => (X v hv).2.2 (fun z => hb z.1)
  have g2 : rn_2 nv K B L A i0 i1 (fun a => D a t) e' := by
    intro v hv hk hd
    rcases Classical.em (B v = t) with b | b
    · exact (X v hv).2.1 b trivial hk
    · have ar : ∀ i, i < 8 → rn_g e' (A v i) = rn_g e (A v i) := by
        intro i hi
        cases ea : A v i with
        | none => rfl
        | some x =>
          obtain ⟨hx, hx2, _⟩ := H.2.2.1 v i x hv hi ea
          refine un x hx (fun z => ?_)
          have q := (hx2 hk).2
          exact b ((H.2.2.2.2.2.2 x v hx hv q (z.symm ▸ hd)).symm.trans z)
      rw [un v hv b, ar 0 (by omega), ar 1 (by omega)]
      exact h2 v hv hk (hS _ hd b)
  refine ⟨?_, g2⟩
  have key : ∀ m u v, u < m → u < nv → v < nv → Eq u v → D (B u) t → D (B v) t → e' u = e' v := by
    intro m
    induction m with
    | zero => intro u v h; omega
    | succ m ih =>
      intro u v hm hu hv hE du dv
      obtain ⟨k1, k2, k3⟩ := H.1 u v hu hv hE
      rcases Classical.em (K u = 2) with p | p
      · have bb := k2 p
        rcases Classical.em (B u = t) with b | b
        · obtain ⟨hf, x, hx, sx⟩ := hph u hu b p
          obtain ⟨hf', y, hy, sy⟩ := hph v hv (bb ▸ b) (k1 ▸ p)
          rw [(X u hu).1 b trivial p, (X v hv).1 (bb ▸ b) trivial (k1 ▸ p), hx, hy]
          obtain ⟨y', hy', hE'⟩ := H.2.1 u v f x hu hv hE hf hx
          rw [hy] at hy'; cases hy'
          exact h1 x y (H.2.2.1 u f x hu hf hx).1 (H.2.2.1 v f y hv hf hy).1 hE' sx sy
        · rw [un u hu b, un v hv (fun z => b (bb.trans z))]
          exact h1 u v hu hv hE (hS _ du b) (hS _ dv (fun z => b (bb.trans z)))
      · have p' : K v ≠ 2 := fun z => p (k1.trans z)
        have ar : ∀ i, i < 8 → rn_g e' (A u i) = rn_g e' (A v i) := by
          intro i hi
          cases ea : A u i with
          | none => rw [rn_none H hu hv hE hi ea]
          | some x =>
            obtain ⟨y, hy, hE'⟩ := H.2.1 u v i x hu hv hE hi ea
            rw [hy]
            obtain ⟨x1, x2, _⟩ := H.2.2.1 u i x hu hi ea
            obtain ⟨y1, y2, _⟩ := H.2.2.1 v i y hv hi hy
            exact ih x y (by have := (x2 p).1; omega) x1 y1 hE' (H.2.2.2.2.2.1 _ _ _ (x2 p).2 du) (H.2.2.2.2.2.1 _ _ _ (y2 p').2 dv)
        rw [g2 u hu p du, g2 v hv p' dv, ar 0 (by omega), ar 1 (by omega), k1, k3 p]
  exact fun u v hu hv hE du dv => key (u + 1) u v (Nat.lt_succ_self _) hu hv hE du dv
/-- operands of a form: g is the identity or the leader -/
def rn_G (nv : Nat) (B : Nat → Nat) (Eq D : Nat → Nat → Prop) (g : Nat → Nat) : Prop :=
  ∀ x, x < nv → g x < nv ∧ g (g x) = g x ∧ Eq x (g x) ∧ D (B (g x)) (B x) ∧ (B (g x) = B x → g x ≤ x)
variable {g : Nat → Nat} {ev ev' : Nat → Int32}
theorem rn_rd (H : rn_H nv K B L A Eq D) (G : rn_G nv B Eq D g) {h : Nat} (h1 : rn_1 nv B Eq (fun a => D a h) e) (R : ∀ v, v < nv → D (B v) h → g v = v → ev v = e v) {x : Nat} (hx : x < nv) (hd : D (B x) h) : ev (g x) = e x := by
  obtain ⟨a1, a2, a3, a4, a5⟩ := G x hx
  have d := H.2.2.2.2.2.1 _ _ _ a4 hd
  rw [R (g x) a1 d a2]
  exact (h1 x (g x) hx a1 a3 hd d).symm
theorem rn_env (H : rn_H nv K B L A Eq D) (G : rn_G nv B Eq D g) (hS : ∀ a, D a t → a ≠ t → S a) (hph : ∀ v, v < nv → B v = t → K v = 2 → f < 8 ∧ ∃ x, A v f = some x ∧ ev (g x) = e x)
    (R : ∀ v, v < nv → S (B v) → g v = v → ev v = e v)
    (X : rn_X nv K B L A (fun _ => True) i0 i1 f t e e') (Z : rn_X nv K B L (fun v i => rn_m g (A v i)) (fun v => g v = v) i0 i1 f t ev ev')
    (h1' : rn_1 nv B Eq (fun a => D a t) e') : ∀ v, v < nv → D (B v) t → g v = v → ev' v = e' v := by
  have key : ∀ m v, v < m → v < nv → D (B v) t → g v = v → ev' v = e' v := by
    intro m
    induction m with
    | zero => intro v h; omega
    | succ m ih =>
      intro v hm hv hd hg
      rcases Classical.em (B v = t) with b | b
      · rcases Classical.em (K v = 2) with p | p
        · obtain ⟨hf, x, hx, ex⟩ := hph v hv b p
          rw [(Z v hv).1 b hg p, (X v hv).1 b trivial p]
          show rn_g ev (rn_m g (A v f)) = rn_g e (A v f)
          rw [hx]
          exact ex
        · have ar : ∀ i, i < 8 → rn_g ev' (rn_m g (A v i)) = rn_g e' (A v i) := by
            intro i hi
            cases ea : A v i with
            | none => rfl
            | some x =>
              show ev' (g x) = e' x
              obtain ⟨x1, x2, _⟩ := H.2.2.1 v i x hv hi ea
              obtain ⟨a1, a2, a3, a4, a5⟩ := G x x1
              have dx := H.2.2.2.2.2.1 _ _ _ (x2 p).2 hd
              have d := H.2.2.2.2.2.1 _ _ _ a4 dx
              have q : ev' (g x) = e' (g x) := by
                rcases Classical.em (B (g x) = t) with c | c
                · rcases Classical.em (K (g x) = 2) with r | r
                  · obtain ⟨hf, y, hy, ey⟩ := hph (g x) a1 c r
                    rw [(Z (g x) a1).1 c a2 r, (X (g x) a1).1 c trivial r]
                    show rn_g ev (rn_m g (A (g x) f)) = rn_g e (A (g x) f)
                    rw [hy]
                    exact ey
                  · have : g x < v := by
                      have bx : B x = t := by
                        have := H.2.2.2.2.2.2 (g x) x a1 x1 a4 (by rw [c]; exact dx)
                        exact this.symm.trans c
                      have := a5 (c.trans bx.symm)
                      have := (x2 p).1
                      omega
                    exact ih (g x) (by omega) a1 d a2
                · rw [(Z (g x) a1).2.2 (fun z => c z.1), (X (g x) a1).2.2 (fun z => c z.1)]
                  exact R (g x) a1 (hS _ d c) a2
              rw [q]
              exact (h1' x (g x) x1 a1 a3 dx d).symm
          rw [(Z v hv).2.1 b hg p, (X v hv).2.1 b trivial p, ar 0 (by omega), ar 1 (by omega)]
      · rw [(Z v hv).2.2 (fun z => b z.1), (X v hv).2.2 (fun z => b z.1)]
        exact R v hv (hS _ hd b) hg
  exact fun v hv hd hg => key (v + 1) v (Nat.lt_succ_self _) hv hd hg
end RN
/-- the operations of a block, done up to v -/
def rn_O (K : Nat → Nat) (L : Nat → Int32) (Ag : Nat → Nat → Option Nat) (p : Nat → Prop) (i0 i1 : Int32) (e : Nat → Int32) (v : Nat) (e' : Nat → Int32) : Prop :=
  (∀ w, w < v → p w → e' w = rn_ev (K w) (L w) i0 i1 (rn_g e' (Ag w 0)) (rn_g e' (Ag w 1))) ∧ (∀ w, ¬ (w < v ∧ p w) → e' w = e w)
theorem rn_O_0 {K : Nat → Nat} {L : Nat → Int32} {Ag : Nat → Nat → Option Nat} {p : Nat → Prop} {i0 i1 : Int32} {e : Nat → Int32} : rn_O K L Ag p i0 i1 e 0 e := ⟨fun w hw => by omega, fun _ _ => rfl⟩
theorem rn_O_skip {K : Nat → Nat} {L : Nat → Int32} {Ag : Nat → Nat → Option Nat} {p : Nat → Prop} {i0 i1 : Int32} {e e' : Nat → Int32} {v : Nat} (h : rn_O K L Ag p i0 i1 e v e') (hp : ¬ p v) : rn_O K L Ag p i0 i1 e (v + 1) e' := by
  refine ⟨fun w hw pw => ?_, fun w hw => h.2 w (fun z => hw ⟨by omega, z.2⟩)⟩
  rcases Nat.lt_or_ge w v with z | z
  · exact h.1 w z pw
  · have : w = v := by omega
    subst this; exact absurd pw hp
theorem rn_O_step {K : Nat → Nat} {L : Nat → Int32} {Ag : Nat → Nat → Option Nat} {p : Nat → Prop} {i0 i1 : Int32} {e e' : Nat → Int32} {v : Nat} (h : rn_O K L Ag p i0 i1 e v e') (hp : p v)
    (ha : ∀ w i x, w ≤ v → p w → i < 2 → Ag w i = some x → p x → x < w) :
    rn_O K L Ag p i0 i1 e (v + 1) (upd e' v (rn_ev (K v) (L v) i0 i1 (rn_g e' (Ag v 0)) (rn_g e' (Ag v 1)))) := by
  have ar : ∀ z w i, w ≤ v → p w → i < 2 → rn_g (upd e' v z) (Ag w i) = rn_g e' (Ag w i) := by
    intro z w i hw pw hi
    cases ea : Ag w i with
    | none => rfl
    | some x =>
      refine pk_un (fun q => ?_)
      have := ha w i x hw pw hi ea (q ▸ hp)
      omega
  refine ⟨fun w hw pw => ?_, fun w hw => ?_⟩
  · rcases Nat.lt_or_ge w v with z | z
    · rw [pk_un (by omega), ar _ w 0 (by omega) pw (by omega), ar _ w 1 (by omega) pw (by omega)]
      exact h.1 w z pw
    · have : w = v := by omega
      subst this
      rw [pk_us, ar _ w 0 (by omega) pw (by omega), ar _ w 1 (by omega) pw (by omega)]
  · have : w ≠ v := fun z => hw ⟨by omega, z ▸ hp⟩
    rw [pk_un this]
    exact h.2 w (fun z => hw ⟨by omega, z.2⟩)
end
section
/-! the program as numbers -/
abbrev PT : Type := Nat × Nat × (Nat → Nat) × (Nat → Nat) × (Nat → Int32) × (Nat → Nat → Option Nat) × (Nat → Nat) × (Nat → Option Nat) × (Nat → Option Nat) × (Nat → Option Nat)
def p_b (P : PT) : Nat := P.1
def p_v (P : PT) : Nat := P.2.1
def p_K (P : PT) : Nat → Nat := P.2.2.1
def p_B (P : PT) : Nat → Nat := P.2.2.2.1
def p_L (P : PT) : Nat → Int32 := P.2.2.2.2.1
def p_A (P : PT) : Nat → Nat → Option Nat := P.2.2.2.2.2.1
def p_e (P : PT) : Nat → Nat := P.2.2.2.2.2.2.1
def p_x (P : PT) : Nat → Option Nat := P.2.2.2.2.2.2.2.1
def p_t (P : PT) : Nat → Option Nat := P.2.2.2.2.2.2.2.2.1
def p_f (P : PT) : Nat → Option Nat := P.2.2.2.2.2.2.2.2.2
def p_E (P : PT) (p b : Nat) : Prop := p < p_b P ∧ (p_t P p = some b ∨ p_f P p = some b)
def p_D (P : PT) (a b : Nat) : Prop := gr_D (p_b P) (p_E P) a b
def p_Lab (P : PT) (u v : Nat) : Prop := p_K P u = p_K P v ∧ (p_K P u = 2 → p_B P u = p_B P v) ∧ (p_K P u ≠ 2 → p_L P u = p_L P v)
def p_q (P : PT) (u v : Nat) : Prop := cg_E (p_Lab P) (p_A P) u v
def p_Wo (P : PT) (v : Nat) : Prop := p_L P v = 0 ∧ (∃ x, p_A P v 0 = some x ∧ x < v) ∧ (p_K P v ≤ 10 → ∃ y, p_A P v 1 = some y ∧ y < v) ∧ (10 < p_K P v → p_A P v 1 = none) ∧ ∀ i, 2 ≤ i → i < 8 → p_A P v i = none
/-- a value is well formed -/
def p_Wv (P : PT) (v : Nat) : Prop :=
  p_K P v ≤ 12 ∧ p_B P v < p_b P ∧ (∀ i x, i < 8 → p_A P v i = some x → x < p_v P) ∧ (p_K P v < 2 → ∀ i, i < 8 → p_A P v i = none) ∧
  (p_K P v = 2 → p_B P v ≠ 0 ∧ ∀ i x, i < 8 → p_A P v i = some x → i < p_b P) ∧
  (3 ≤ p_K P v → p_Wo P v)
def p_Wb (P : PT) (b : Nat) : Prop :=
  p_e P b ≤ 3 ∧ (∀ x, p_x P b = some x → x < p_v P) ∧ (∀ t, p_t P b = some t → 0 < t ∧ t < p_b P) ∧ (∀ t, p_f P b = some t → 0 < t ∧ t < p_b P) ∧
  (p_x P b = none ↔ ¬ (p_e P b = 2 ∨ p_e P b = 3)) ∧ (p_t P b = none ↔ ¬ (p_e P b = 1 ∨ p_e P b = 2)) ∧ (p_f P b = none ↔ p_e P b ≠ 2)
def p_W (P : PT) : Prop := 1 ≤ p_b P ∧ p_b P ≤ 8 ∧ p_v P ≤ 32 ∧ (∀ v, v < p_v P → p_Wv P v) ∧ (∀ b, b < p_b P → p_Wb P b)
/-- seal's checks hold -/
def p_S1 (P : PT) : Prop := ∀ b, b < p_b P → p_e P b ≠ 0
def p_S2 (P : PT) : Prop := gr_all (p_b P) (p_E P)
def p_S3 (P : PT) : Prop := ∀ v, v < p_v P → p_K P v = 2 → ∀ p, p < p_b P → (p_A P v p ≠ none ↔ p_E P p (p_B P v))
def p_S4 (P : PT) : Prop := (∀ v i x, v < p_v P → i < 8 → p_A P v i = some x → (p_K P v ≠ 2 → p_D P (p_B P x) (p_B P v)) ∧ (p_K P v = 2 → p_D P (p_B P x) i)) ∧
  (∀ b x, b < p_b P → p_x P b = some x → p_D P (p_B P x) b)
def p_S (P : PT) : Prop := p_S2 P ∧ p_S3 P ∧ p_S4 P
section PR
variable {P : PT}
theorem p_Elt (W : p_W P) {p b : Nat} (h : p_E P p b) : 0 < b ∧ b < p_b P := by
  obtain ⟨h1, h2⟩ := h
  obtain ⟨_, _, a, c, _⟩ := W.2.2.2.2 p h1
  exact h2.elim (a b) (c b)
theorem p_H (W : p_W P) (S : p_S3 P) : cg_H (p_v P) (p_Lab P) (p_A P) := by
  refine ⟨fun u _ => ⟨rfl, fun _ => rfl, fun _ => rfl⟩, fun u v h => ⟨h.1.symm, fun e => (h.2.1 (h.1.trans e)).symm, fun e => (h.2.2 (fun z => e (h.1.symm.trans z))).symm⟩,
    fun u v w h g => ⟨h.1.trans g.1, fun e => (h.2.1 e).trans (g.2.1 (h.1.symm.trans e)), fun e => (h.2.2 e).trans (g.2.2 (fun z => e (h.1.trans z)))⟩, fun u i x hu hi hx => (W.2.2.2.1 u hu).2.2.1 i x hi hx, ?_⟩
  intro u v i hu hv hi hL hn
  obtain ⟨u1, u2, u3, u4, u5, u6⟩ := W.2.2.2.1 u hu
  obtain ⟨v1, v2, v3, v4, v5, v6⟩ := W.2.2.2.1 v hv
  rcases Nat.lt_or_ge (p_K P u) 2 with a | a
  · exact v4 (by rw [← hL.1]; exact a) i hi
  · rcases Nat.lt_or_ge 2 (p_K P u) with b | b
    · obtain ⟨_, ⟨x, hx, _⟩, y1, y2, y3⟩ := u6 b
      obtain ⟨_, _, z1, z2, z3⟩ := v6 (by rw [← hL.1]; exact b)
      rcases Nat.lt_or_ge i 2 with c | c
      · rcases Nat.lt_or_ge i 1 with d | d
        · rw [show i = 0 by omega, hx] at hn; cases hn
        · have e : i = 1 := by omega
          subst e
          rcases Nat.lt_or_ge 10 (p_K P u) with f | f
          · exact z2 (by rw [← hL.1]; exact f)
          · obtain ⟨y, hy, _⟩ := y1 f
            rw [hy] at hn; cases hn
      · exact z3 i c hi
    · have e : p_K P u = 2 := by omega
      have e' : p_K P v = 2 := by rw [← hL.1]; exact e
      cases ev : p_A P v i with
      | none => rfl
      | some y =>
        have hib := (v5 e').2 i y hi ev
        have q := (S v hv e' i hib).mp (by rw [ev]; exact fun z => by cases z)
        rw [← hL.2.1 e] at q
        exact absurd hn ((S u hu e i hib).mpr q)
theorem p_Das (W : p_W P) (S : p_S2 P) {a b : Nat} (ha : a < p_b P) (h1 : p_D P a b) (h2 : p_D P b a) : a = b := gr_D_as (S a ha) h1 h2
theorem p_qlt (W : p_W P) (S : p_S3 P) {u v : Nat} (h : p_q P u v) : p_Lab P u v := cg_E_lab h
theorem p_RH (W : p_W P) (S : p_S P) : rn_H (p_v P) (p_K P) (p_B P) (p_L P) (p_A P) (p_q P) (p_D P) := by
  obtain ⟨S2, S3, S4⟩ := S
  have H := p_H W S3
  refine ⟨fun u v hu hv h => cg_E_lab h, fun u v i x hu hv h hi hx => ?_, fun v i x hv hi hx => ⟨(W.2.2.2.1 v hv).2.2.1 i x hi hx, fun k => ⟨?_, (S4.1 v i x hv hi hx).1 k⟩, (S4.1 v i x hv hi hx).2⟩, fun u v h => cg_E_sy H h, gr_D_rf, fun a b c => gr_D_tr, fun a b ha hb h1 h2 => p_Das W S2 (W.2.2.2.1 a ha).2.1 h1 h2⟩
  · obtain ⟨y, hy, _⟩ := cg_so H hu hv hi (cg_E_lab h) hx
    exact ⟨y, hy, cg_E_arg h hi hx hy⟩
  · obtain ⟨v1, v2, v3, v4, v5, v6⟩ := W.2.2.2.1 v hv
    rcases Nat.lt_or_ge (p_K P v) 2 with a | a
    · rw [v4 a i hi] at hx; cases hx
    · obtain ⟨_, ⟨x0, hx0, l0⟩, y1, y2, y3⟩ := v6 (by omega)
      rcases Nat.lt_or_ge i 2 with c | c
      · rcases Nat.lt_or_ge i 1 with d | d
        · rw [show i = 0 by omega, hx0] at hx; cases hx; exact l0
        · have e : i = 1 := by omega
          subst e
          rcases Nat.lt_or_ge 10 (p_K P v) with f | f
          · rw [y2 f] at hx; cases hx
          · obtain ⟨y, hy, ly⟩ := y1 f
            rw [hy] at hx; cases hx; exact ly
      · rw [y3 i c hi] at hx; cases hx
end PR
/-! the arrays of both sides show the program -/
def p_X (P : PT) (vk vb lf ar ek ev et ef : Nat → Int32) : Prop :=
  (∀ v, v < p_v P → vk v = nI (p_K P v)) ∧ (∀ v, v < p_v P → vb v = nI (p_B P v)) ∧ (∀ v, v < p_v P → lf v = p_L P v) ∧
  (∀ v i, v < p_v P → i < 8 → ar (v * 8 + i) = ba_o (p_A P v i)) ∧ (∀ b, b < p_b P → ek b = nI (p_e P b)) ∧
  (∀ b, b < p_b P → ev b = ba_o (p_x P b)) ∧ (∀ b, b < p_b P → et b = ba_o (p_t P b)) ∧ (∀ b, b < p_b P → ef b = ba_o (p_f P b))
def p_Y (P : PT) (kd bk le ri ar ek ex et ef : Nat → Int32) : Prop :=
  (∀ v, v < p_v P → kd v = nI (p_K P v)) ∧ (∀ v, v < p_v P → bk v = nI (p_B P v)) ∧ (∀ v, v < p_v P → p_K P v < 2 → le v = p_L P v) ∧
  (∀ v, v < p_v P → 3 ≤ p_K P v → le v = ba_o (p_A P v 0)) ∧ (∀ v, v < p_v P → 3 ≤ p_K P v → p_K P v ≤ 10 → ri v = ba_o (p_A P v 1)) ∧
  (∀ v i, v < p_v P → i < 8 → p_K P v = 2 → ar (v * 8 + i) = ba_o (p_A P v i)) ∧ (∀ b, b < p_b P → ek b = nI (p_e P b)) ∧
  (∀ b, b < p_b P → p_e P b = 2 ∨ p_e P b = 3 → ex b = ba_o (p_x P b)) ∧ (∀ b, b < p_b P → p_e P b = 1 ∨ p_e P b = 2 → et b = ba_o (p_t P b)) ∧ (∀ b, b < p_b P → p_e P b = 2 → ef b = ba_o (p_f P b))
end
section
/-! X: small helpers -/
section XS
variable {f_blockLimit f_valueLimit f_blockCount f_valueCount f_sealed f_classCount f_workTop f_touchedCount f_undoTop f_runState f_runForm f_here f_input0 f_input1 f_returned f_evaluated : Int32} {a_valueKind a_valueBlock a_leaf a_args a_exitKind a_exitValue a_exitTrue a_exitFalse a_predMask a_order a_orderIndex a_idom a_domMask a_firstChild a_nextSibling a_stack a_cursor a_members a_location a_classIndex a_classStart a_classSize a_classMarked a_className a_useHead a_useNext a_work a_inWork a_splitter a_touched a_leaderOf a_available a_undo a_scopeMark a_body a_bodyStart a_bodyOps a_bodyEnd a_env a_phiNew : Nat → Int32}
theorem xs_be {post : Int32 → Prop} {x : Int32} {n : Nat} (hn : n < 2 ^ 31) (hb : f_blockCount = nI n) (h0 : (∀ j, j < n → x ≠ nI j) → post 0) (h1 : ∀ j, j < n → x = nI j → post 1) : wpX_blockExists post (f_blockLimit, f_valueLimit, f_blockCount, f_valueCount, f_sealed, f_classCount, f_workTop, f_touchedCount, f_undoTop, f_runState, f_runForm, f_here, f_input0, f_input1, f_returned, f_evaluated, a_valueKind, a_valueBlock, a_leaf, a_args, a_exitKind, a_exitValue, a_exitTrue, a_exitFalse, a_predMask, a_order, a_orderIndex, a_idom, a_domMask, a_firstChild, a_nextSibling, a_stack, a_cursor, a_members, a_location, a_classIndex, a_classStart, a_classSize, a_classMarked, a_className, a_useHead, a_useNext, a_work, a_inWork, a_splitter, a_touched, a_leaderOf, a_available, a_undo, a_scopeMark, a_body, a_bodyStart, a_bodyOps, a_bodyEnd, a_env, a_phiNew) x := by
  subst hb
  rcases pk_ix x hn with h | h | ⟨j, hj, e⟩
  · exact br_t h (h0 (fun j hj e => by rw [e] at h; exact nI_pos (by omega) h))
  · have h' : ¬ x < 0 := fun z => absurd (Int32.lt_of_le_of_lt h z) (nI_pos hn)
    exact br_f h' (br_t h (h0 (fun j hj e => by rw [e, nI_leI hn (by omega)] at h; omega)))
  · subst e
    exact br_f (nI_pos (by omega)) (br_f (nI_ge hj hn) (h1 j hj rfl))
theorem xs_ve {post : Int32 → Prop} {x : Int32} {n : Nat} (hn : n < 2 ^ 31) (hb : f_valueCount = nI n) (h0 : (∀ j, j < n → x ≠ nI j) → post 0) (h1 : ∀ j, j < n → x = nI j → post 1) : wpX_valueExists post (f_blockLimit, f_valueLimit, f_blockCount, f_valueCount, f_sealed, f_classCount, f_workTop, f_touchedCount, f_undoTop, f_runState, f_runForm, f_here, f_input0, f_input1, f_returned, f_evaluated, a_valueKind, a_valueBlock, a_leaf, a_args, a_exitKind, a_exitValue, a_exitTrue, a_exitFalse, a_predMask, a_order, a_orderIndex, a_idom, a_domMask, a_firstChild, a_nextSibling, a_stack, a_cursor, a_members, a_location, a_classIndex, a_classStart, a_classSize, a_classMarked, a_className, a_useHead, a_useNext, a_work, a_inWork, a_splitter, a_touched, a_leaderOf, a_available, a_undo, a_scopeMark, a_body, a_bodyStart, a_bodyOps, a_bodyEnd, a_env, a_phiNew) x := by
  subst hb
  rcases pk_ix x hn with h | h | ⟨j, hj, e⟩
  · exact br_t h (h0 (fun j hj e => by rw [e] at h; exact nI_pos (by omega) h))
  · have h' : ¬ x < 0 := fun z => absurd (Int32.lt_of_le_of_lt h z) (nI_pos hn)
    exact br_f h' (br_t h (h0 (fun j hj e => by rw [e, nI_leI hn (by omega)] at h; omega)))
  · subst e
    exact br_f (nI_pos (by omega)) (br_f (nI_ge hj hn) (h1 j hj rfl))
theorem xs_it {post : Int32 → Prop} {x : Int32} {n : Nat} (hn : n < 2 ^ 31) (hb : f_blockCount = nI n) (h0 : (∀ j, 0 < j → j < n → x ≠ nI j) → post 0) (h1 : ∀ j, 0 < j → j < n → x = nI j → post 1) : wpX_isTarget post (f_blockLimit, f_valueLimit, f_blockCount, f_valueCount, f_sealed, f_classCount, f_workTop, f_touchedCount, f_undoTop, f_runState, f_runForm, f_here, f_input0, f_input1, f_returned, f_evaluated, a_valueKind, a_valueBlock, a_leaf, a_args, a_exitKind, a_exitValue, a_exitTrue, a_exitFalse, a_predMask, a_order, a_orderIndex, a_idom, a_domMask, a_firstChild, a_nextSibling, a_stack, a_cursor, a_members, a_location, a_classIndex, a_classStart, a_classSize, a_classMarked, a_className, a_useHead, a_useNext, a_work, a_inWork, a_splitter, a_touched, a_leaderOf, a_available, a_undo, a_scopeMark, a_body, a_bodyStart, a_bodyOps, a_bodyEnd, a_env, a_phiNew) x := by
  subst hb
  rcases pk_ix x hn with h | h | ⟨j, hj, e⟩
  · exact br_t (Int32.le_of_lt h) (h0 (fun j _ hj e => by rw [e] at h; exact nI_pos (by omega) h))
  · rcases Classical.em (x ≤ 0) with z | z
    · exact br_t z (h0 (fun j h0 hj e => by rw [e, ba_le0 (by omega)] at z; omega))
    · exact br_f z (br_t h (h0 (fun j _ hj e => by rw [e, nI_leI hn (by omega)] at h; omega)))
  · subst e
    rcases Nat.eq_zero_or_pos j with z | z
    · subst z
      exact br_t (Int32.le_refl _) (h0 (fun i hi hin e => by rw [nI_eq (by omega) (by omega)] at e; omega))
    · exact br_f (fun q => by rw [ba_le0 (by omega)] at q; omega) (br_f (nI_ge hj hn) (h1 j z hj rfl))
theorem xs_if {post : Int32 → Prop} {x : Int32} (h0 : (∀ j, j < 2 → x ≠ nI j) → post 0) (h1 : ∀ j, j < 2 → x = nI j → post 1) : wpX_isForm post (f_blockLimit, f_valueLimit, f_blockCount, f_valueCount, f_sealed, f_classCount, f_workTop, f_touchedCount, f_undoTop, f_runState, f_runForm, f_here, f_input0, f_input1, f_returned, f_evaluated, a_valueKind, a_valueBlock, a_leaf, a_args, a_exitKind, a_exitValue, a_exitTrue, a_exitFalse, a_predMask, a_order, a_orderIndex, a_idom, a_domMask, a_firstChild, a_nextSibling, a_stack, a_cursor, a_members, a_location, a_classIndex, a_classStart, a_classSize, a_classMarked, a_className, a_useHead, a_useNext, a_work, a_inWork, a_splitter, a_touched, a_leaderOf, a_available, a_undo, a_scopeMark, a_body, a_bodyStart, a_bodyOps, a_bodyEnd, a_env, a_phiNew) x := by
  refine br_c (fun e => h1 0 (by omega) e) (fun e => br_c (fun e => h1 1 (by omega) e) (fun e' => h0 (fun j hj q => ?_)))
  rcases (by omega : j = 0 ∨ j = 1) with z | z
  · subst z; exact e q
  · subst z; exact e' q
theorem xs_id {post : Int32 → Prop} {a b : Nat} (ha : a < 32) (hb : b < 8) (h0 : bt (a_domMask b) a = false → post 0) (h1 : bt (a_domMask b) a = true → post 1) : wpX_isDominator post (f_blockLimit, f_valueLimit, f_blockCount, f_valueCount, f_sealed, f_classCount, f_workTop, f_touchedCount, f_undoTop, f_runState, f_runForm, f_here, f_input0, f_input1, f_returned, f_evaluated, a_valueKind, a_valueBlock, a_leaf, a_args, a_exitKind, a_exitValue, a_exitTrue, a_exitFalse, a_predMask, a_order, a_orderIndex, a_idom, a_domMask, a_firstChild, a_nextSibling, a_stack, a_cursor, a_members, a_location, a_classIndex, a_classStart, a_classSize, a_classMarked, a_className, a_useHead, a_useNext, a_work, a_inWork, a_splitter, a_touched, a_leaderOf, a_available, a_undo, a_scopeMark, a_body, a_bodyStart, a_bodyOps, a_bodyEnd, a_env, a_phiNew) (nI a) (nI b) := by
  refine ⟨vp_in_nI hb (by omega), ?_⟩
  rw [nI_clamp (by omega)]
  exact ba_bb ha h0 h1
theorem xs_se {post : SX → Prop} {b : Nat} {k x t f : Int32} (hb : b < 8) (h : post (f_blockLimit, f_valueLimit, f_blockCount, f_valueCount, f_sealed, f_classCount, f_workTop, f_touchedCount, f_undoTop, f_runState, f_runForm, f_here, f_input0, f_input1, f_returned, f_evaluated, a_valueKind, a_valueBlock, a_leaf, a_args, upd a_exitKind b k, upd a_exitValue b x, upd a_exitTrue b t, upd a_exitFalse b f, a_predMask, a_order, a_orderIndex, a_idom, a_domMask, a_firstChild, a_nextSibling, a_stack, a_cursor, a_members, a_location, a_classIndex, a_classStart, a_classSize, a_classMarked, a_className, a_useHead, a_useNext, a_work, a_inWork, a_splitter, a_touched, a_leaderOf, a_available, a_undo, a_scopeMark, a_body, a_bodyStart, a_bodyOps, a_bodyEnd, a_env, a_phiNew)) : wpX_setExit post (f_blockLimit, f_valueLimit, f_blockCount, f_valueCount, f_sealed, f_classCount, f_workTop, f_touchedCount, f_undoTop, f_runState, f_runForm, f_here, f_input0, f_input1, f_returned, f_evaluated, a_valueKind, a_valueBlock, a_leaf, a_args, a_exitKind, a_exitValue, a_exitTrue, a_exitFalse, a_predMask, a_order, a_orderIndex, a_idom, a_domMask, a_firstChild, a_nextSibling, a_stack, a_cursor, a_members, a_location, a_classIndex, a_classStart, a_classSize, a_classMarked, a_className, a_useHead, a_useNext, a_work, a_inWork, a_splitter, a_touched, a_leaderOf, a_available, a_undo, a_scopeMark, a_body, a_bodyStart, a_bodyOps, a_bodyEnd, a_env, a_phiNew) (nI b) k x t f := by
  refine ⟨vp_in_nI hb (by omega), ba_wr b rfl (by omega) rfl ⟨vp_in_nI (by omega) (by omega), ba_wr b rfl (by omega) rfl ⟨vp_in_nI hb (by omega), ba_wr b rfl (by omega) rfl ⟨vp_in_nI hb (by omega), ba_wr b rfl (by omega) rfl h⟩⟩⟩⟩
/-- the first 8 arguments of v cleared up to i -/
def xs_cl (a : Nat → Int32) (v i : Nat) : Nat → Int32 := fun j => if v * 8 ≤ j ∧ j < v * 8 + i then -1 else a j
theorem xs_cl_0 (a : Nat → Int32) (v : Nat) : xs_cl a v 0 = a := funext fun j => if_neg (by omega)
theorem xs_cl_s (a : Nat → Int32) (v i : Nat) : upd (xs_cl a v i) (v * 8 + i) (-1) = xs_cl a v (i + 1) := by
  funext j
  unfold upd xs_cl
  by_cases h : j = v * 8 + i
  · rw [if_pos h, if_pos (by omega)]
  · rw [if_neg h]
    by_cases h2 : v * 8 ≤ j ∧ j < v * 8 + i
    · rw [if_pos h2, if_pos (by omega)]
    · rw [if_neg h2, if_neg (by omega)]
theorem xs_nv39 {post : Int32 → SX → Prop} {v : Nat} (hv : v < 32) (h : post (nI v) (f_blockLimit, f_valueLimit, f_blockCount, f_valueCount, f_sealed, f_classCount, f_workTop, f_touchedCount, f_undoTop, f_runState, f_runForm, f_here, f_input0, f_input1, f_returned, f_evaluated, a_valueKind, a_valueBlock, a_leaf, xs_cl a_args v 8, a_exitKind, a_exitValue, a_exitTrue, a_exitFalse, a_predMask, a_order, a_orderIndex, a_idom, a_domMask, a_firstChild, a_nextSibling, a_stack, a_cursor, a_members, a_location, a_classIndex, a_classStart, a_classSize, a_classMarked, a_className, a_useHead, a_useNext, a_work, a_inWork, a_splitter, a_touched, a_leaderOf, a_available, a_undo, a_scopeMark, a_body, a_bodyStart, a_bodyOps, a_bodyEnd, a_env, a_phiNew)) : ∀ n i, i ≤ 8 → 8 - i < n → wX_newValue_39 post (nI v) f_blockLimit f_valueLimit f_blockCount f_valueCount f_sealed f_classCount f_workTop f_touchedCount f_undoTop f_runState f_runForm f_here f_input0 f_input1 f_returned f_evaluated n (nI i) a_valueKind a_valueBlock a_leaf (xs_cl a_args v i) a_exitKind a_exitValue a_exitTrue a_exitFalse a_predMask a_order a_orderIndex a_idom a_domMask a_firstChild a_nextSibling a_stack a_cursor a_members a_location a_classIndex a_classStart a_classSize a_classMarked a_className a_useHead a_useNext a_work a_inWork a_splitter a_touched a_leaderOf a_available a_undo a_scopeMark a_body a_bodyStart a_bodyOps a_bodyEnd a_env a_phiNew := by
  intro n
  induction n with
  | zero => intro i _ h; omega
  | succ n ih =>
    intro i hi hn
    rw [wX_newValue_39]
    rcases Nat.lt_or_ge i 8 with z | z
    · refine br_f (nI_ge (b := 8) z (by decide)) ⟨pk_in (v * 8 + i) 512 (by omega) (ba_ix8 v i), ba_wr (v * 8 + i) (ba_ix8 v i) (by omega) rfl ?_⟩
      rw [xs_cl_s]
      exact nm_r (nI_1 i) (ih (i + 1) (by omega) (by omega))
    · have e : i = 8 := by omega
      subst e
      exact br_t (Int32.le_refl _) h
theorem xs_nv {post : Int32 → SX → Prop} {v : Nat} {b k : Int32} (hv : v < 32) (e : f_valueCount = nI v) (h : post (nI v) (f_blockLimit, f_valueLimit, f_blockCount, nI (v + 1), f_sealed, f_classCount, f_workTop, f_touchedCount, f_undoTop, f_runState, f_runForm, f_here, f_input0, f_input1, f_returned, f_evaluated, upd a_valueKind v k, upd a_valueBlock v b, upd a_leaf v 0, xs_cl a_args v 8, a_exitKind, a_exitValue, a_exitTrue, a_exitFalse, a_predMask, a_order, a_orderIndex, a_idom, a_domMask, a_firstChild, a_nextSibling, a_stack, a_cursor, a_members, a_location, a_classIndex, a_classStart, a_classSize, a_classMarked, a_className, a_useHead, a_useNext, a_work, a_inWork, a_splitter, a_touched, a_leaderOf, a_available, a_undo, a_scopeMark, a_body, a_bodyStart, a_bodyOps, a_bodyEnd, a_env, a_phiNew)) : wpX_newValue post (f_blockLimit, f_valueLimit, f_blockCount, f_valueCount, f_sealed, f_classCount, f_workTop, f_touchedCount, f_undoTop, f_runState, f_runForm, f_here, f_input0, f_input1, f_returned, f_evaluated, a_valueKind, a_valueBlock, a_leaf, a_args, a_exitKind, a_exitValue, a_exitTrue, a_exitFalse, a_predMask, a_order, a_orderIndex, a_idom, a_domMask, a_firstChild, a_nextSibling, a_stack, a_cursor, a_members, a_location, a_classIndex, a_classStart, a_classSize, a_classMarked, a_className, a_useHead, a_useNext, a_work, a_inWork, a_splitter, a_touched, a_leaderOf, a_available, a_undo, a_scopeMark, a_body, a_bodyStart, a_bodyOps, a_bodyEnd, a_env, a_phiNew) b k := by
  subst e
  refine nm_r (nI_1 v) ⟨vp_in_nI hv (by omega), ba_wr v rfl (by omega) rfl ⟨vp_in_nI hv (by omega), ba_wr v rfl (by omega) rfl ⟨vp_in_nI hv (by omega), ba_wr v rfl (by omega) rfl ⟨9, ?_⟩⟩⟩⟩
  have := xs_nv39 (a_args := a_args) hv h 9 0 (by omega) (by omega)
  rw [xs_cl_0] at this
  exact this
end XS
end
section
/-! Y: small helpers -/
section YS
variable {g_maxBlocks g_maxValues g_blocks g_values g_isSealed g_hasRun g_isDone g_runForm g_in0 g_in1 g_at g_answer g_evals : Int32} {b_kind b_block b_left b_right b_arg b_exitKind b_exitX b_exitT b_exitF b_without b_differ b_val b_fresh : Nat → Int32}
theorem ys_ib {post : Int32 → Prop} {x : Int32} {n : Nat} (hn : n < 2 ^ 31) (hb : g_blocks = nI n) (h0 : (∀ j, j < n → x ≠ nI j) → post 0) (h1 : ∀ j, j < n → x = nI j → post 1) : wpY_isBlock post (g_maxBlocks, g_maxValues, g_blocks, g_values, g_isSealed, g_hasRun, g_isDone, g_runForm, g_in0, g_in1, g_at, g_answer, g_evals, b_kind, b_block, b_left, b_right, b_arg, b_exitKind, b_exitX, b_exitT, b_exitF, b_without, b_differ, b_val, b_fresh) x := by
  subst hb
  rcases pk_ix x hn with h | h | ⟨j, hj, e⟩
  · exact br_t h (h0 (fun j hj e => by rw [e] at h; exact nI_pos (by omega) h))
  · have h' : ¬ x < 0 := fun z => absurd (Int32.lt_of_le_of_lt h z) (nI_pos hn)
    exact br_f h' (br_t h (h0 (fun j hj e => by rw [e, nI_leI hn (by omega)] at h; omega)))
  · subst e
    exact br_f (nI_pos (by omega)) (br_f (nI_ge hj hn) (h1 j hj rfl))
theorem ys_iv {post : Int32 → Prop} {x : Int32} {n : Nat} (hn : n < 2 ^ 31) (hb : g_values = nI n) (h0 : (∀ j, j < n → x ≠ nI j) → post 0) (h1 : ∀ j, j < n → x = nI j → post 1) : wpY_isValue post (g_maxBlocks, g_maxValues, g_blocks, g_values, g_isSealed, g_hasRun, g_isDone, g_runForm, g_in0, g_in1, g_at, g_answer, g_evals, b_kind, b_block, b_left, b_right, b_arg, b_exitKind, b_exitX, b_exitT, b_exitF, b_without, b_differ, b_val, b_fresh) x := by
  subst hb
  rcases pk_ix x hn with h | h | ⟨j, hj, e⟩
  · exact br_t h (h0 (fun j hj e => by rw [e] at h; exact nI_pos (by omega) h))
  · have h' : ¬ x < 0 := fun z => absurd (Int32.lt_of_le_of_lt h z) (nI_pos hn)
    exact br_f h' (br_t h (h0 (fun j hj e => by rw [e, nI_leI hn (by omega)] at h; omega)))
  · subst e
    exact br_f (nI_pos (by omega)) (br_f (nI_ge hj hn) (h1 j hj rfl))
theorem ys_if {post : Int32 → Prop} {x : Int32} (h0 : (∀ j, j < 2 → x ≠ nI j) → post 0) (h1 : ∀ j, j < 2 → x = nI j → post 1) : wpY_isForm post (g_maxBlocks, g_maxValues, g_blocks, g_values, g_isSealed, g_hasRun, g_isDone, g_runForm, g_in0, g_in1, g_at, g_answer, g_evals, b_kind, b_block, b_left, b_right, b_arg, b_exitKind, b_exitX, b_exitT, b_exitF, b_without, b_differ, b_val, b_fresh) x := by
  refine br_c (fun e => h1 0 (by omega) e) (fun e => br_c (fun e => h1 1 (by omega) e) (fun e' => h0 (fun j hj q => ?_)))
  rcases (by omega : j = 0 ∨ j = 1) with z | z
  · subst z; exact e q
  · subst z; exact e' q
theorem ys_dom {post : Int32 → Prop} {a b : Nat} (ha : a < 8) (hb : b < 32) (h0 : bt (b_without a) b = true → post 0) (h1 : bt (b_without a) b = false → post 1) : wpY_dom post (g_maxBlocks, g_maxValues, g_blocks, g_values, g_isSealed, g_hasRun, g_isDone, g_runForm, g_in0, g_in1, g_at, g_answer, g_evals, b_kind, b_block, b_left, b_right, b_arg, b_exitKind, b_exitX, b_exitT, b_exitF, b_without, b_differ, b_val, b_fresh) (nI a) (nI b) := by
  refine ⟨vp_in_nI ha (by omega), ?_⟩
  rw [nI_clamp (by omega)]
  exact ba_bb hb h1 h0
theorem ys_add56 {post : Int32 → SY → Prop} {v : Nat} (hv : v < 32) (h : post (nI v) (g_maxBlocks, g_maxValues, g_blocks, nI (v + 1), g_isSealed, g_hasRun, g_isDone, g_runForm, g_in0, g_in1, g_at, g_answer, g_evals, b_kind, b_block, b_left, b_right, xs_cl b_arg v 8, b_exitKind, b_exitX, b_exitT, b_exitF, b_without, b_differ, b_val, b_fresh)) : ∀ n i, i ≤ 8 → 8 - i < n → wY_add_56 post (nI v) g_maxBlocks g_maxValues g_blocks (nI v) g_isSealed g_hasRun g_isDone g_runForm g_in0 g_in1 g_at g_answer g_evals n (nI i) b_kind b_block b_left b_right (xs_cl b_arg v i) b_exitKind b_exitX b_exitT b_exitF b_without b_differ b_val b_fresh := by
  intro n
  induction n with
  | zero => intro i _ h; omega
  | succ n ih =>
    intro i hi hn
    rw [wY_add_56]
    rcases Nat.lt_or_ge i 8 with z | z
    · refine br_f (nI_ge (b := 8) z (by decide)) ⟨pk_in (v * 8 + i) 256 (by omega) (ba_ix8 v i), ba_wr (v * 8 + i) (ba_ix8 v i) (by omega) rfl ?_⟩
      rw [xs_cl_s]
      exact nm_r (nI_1 i) (ih (i + 1) (by omega) (by omega))
    · have e : i = 8 := by omega
      subst e
      exact br_t (Int32.le_refl _) (nm_r (nI_1 v) h)
theorem ys_add {post : Int32 → SY → Prop} {v m : Nat} {b k x y : Int32} (hv : v < 32) (hm : m < 2 ^ 31) (e : g_values = nI v) (em : g_maxValues = nI m) (h0 : m ≤ v → post (-2) (g_maxBlocks, g_maxValues, g_blocks, g_values, g_isSealed, g_hasRun, g_isDone, g_runForm, g_in0, g_in1, g_at, g_answer, g_evals, b_kind, b_block, b_left, b_right, b_arg, b_exitKind, b_exitX, b_exitT, b_exitF, b_without, b_differ, b_val, b_fresh))
    (h : v < m → post (nI v) (g_maxBlocks, g_maxValues, g_blocks, nI (v + 1), g_isSealed, g_hasRun, g_isDone, g_runForm, g_in0, g_in1, g_at, g_answer, g_evals, upd b_kind v k, upd b_block v b, upd b_left v x, upd b_right v y, xs_cl b_arg v 8, b_exitKind, b_exitX, b_exitT, b_exitF, b_without, b_differ, b_val, b_fresh)) : wpY_add post (g_maxBlocks, g_maxValues, g_blocks, g_values, g_isSealed, g_hasRun, g_isDone, g_runForm, g_in0, g_in1, g_at, g_answer, g_evals, b_kind, b_block, b_left, b_right, b_arg, b_exitKind, b_exitX, b_exitT, b_exitF, b_without, b_differ, b_val, b_fresh) b k x y := by
  subst e em
  refine pk_lt v m (fun z => ⟨vp_in_nI hv (by omega), ba_wr v rfl (by omega) rfl ⟨vp_in_nI hv (by omega), ba_wr v rfl (by omega) rfl ⟨vp_in_nI hv (by omega), ba_wr v rfl (by omega) rfl ⟨vp_in_nI hv (by omega), ba_wr v rfl (by omega) rfl ⟨9, ?_⟩⟩⟩⟩⟩) (fun z => h0 z)
  have := ys_add56 (b_arg := b_arg) hv (h z) 9 0 (by omega) (by omega)
  rw [xs_cl_0] at this
  exact this
variable {P : PT}
theorem ys_pred {post : Int32 → Prop} {p b : Nat} (W : p_W P) (hY : p_Y P b_kind b_block b_left b_right b_arg b_exitKind b_exitX b_exitT b_exitF) (hp : p < p_b P) (hb : b < p_b P) (h0 : ¬ p_E P p b → post 0) (h1 : p_E P p b → post 1) : wpY_pred post (g_maxBlocks, g_maxValues, g_blocks, g_values, g_isSealed, g_hasRun, g_isDone, g_runForm, g_in0, g_in1, g_at, g_answer, g_evals, b_kind, b_block, b_left, b_right, b_arg, b_exitKind, b_exitX, b_exitT, b_exitF, b_without, b_differ, b_val, b_fresh) (nI p) (nI b) := by
  obtain ⟨_, _, _, _, _, _, y7, _, y9, y10⟩ := hY
  obtain ⟨w1, w2, w3, w4, w5, w6, w7⟩ := W.2.2.2.2 p hp
  have hb8 := W.2.1
  have hp8 : p < 8 := by omega
  have ek := y7 p hp
  refine ⟨vp_in_nI hp8 (by omega), ?_⟩
  rw [nI_clamp (by omega), ek]
  have nt : ∀ x, p_t P p = some x → (nI x = nI b ↔ p_t P p = some b) := by
    intro x hx
    have := (w3 x hx).2
    rw [nI_eq (by omega) (by omega), hx]
    exact ⟨fun e => by rw [e], fun e => by cases e; rfl⟩
  have nf : ∀ x, p_f P p = some x → (nI x = nI b ↔ p_f P p = some b) := by
    intro x hx
    have := (w4 x hx).2
    rw [nI_eq (by omega) (by omega), hx]
    exact ⟨fun e => by rw [e], fun e => by cases e; rfl⟩
  refine pk_eq (p_e P p) 1 (fun e => ⟨vp_in_nI hp8 (by omega), ?_⟩) (fun e => ⟨vp_in_nI hp8 (by omega), pk_eq (p_e P p) 2 (fun e2 => ⟨vp_in_nI hp8 (by omega), ?_⟩) (fun e2 => ?_)⟩)
  · have et := y9 p hp (Or.inl e)
    cases ht : p_t P p with
    | none => exact absurd (Or.inl e) (w6.mp ht)
    | some x =>
      rw [et, ht]
      show (nI x = nI b → _) ∧ (¬ nI x = nI b → _)
      rw [nt x ht]
      refine br_c (fun q => h1 ⟨hp, Or.inl q⟩) (fun q => h0 (fun z => z.2.elim q (fun z => ?_)))
      rw [w7.mpr (by omega)] at z; cases z
  · have et := y9 p hp (Or.inr e2)
    have ef := y10 p hp e2
    cases ht : p_t P p with
    | none => exact absurd (Or.inr e2) (w6.mp ht)
    | some x =>
      cases hf : p_f P p with
      | none => exact absurd e2 (w7.mp hf)
      | some y =>
        rw [et, ht, ef, hf]
        show (nI x = nI b → _) ∧ (¬ nI x = nI b → _ ∧ (nI y = nI b → _) ∧ (¬ nI y = nI b → _))
        rw [nt x ht, nf y hf]
        refine br_c (fun q => h1 ⟨hp, Or.inl q⟩) (fun q => ⟨vp_in_nI hp8 (by omega), br_c (fun q' => h1 ⟨hp, Or.inr q'⟩) (fun q' => h0 (fun z => z.2.elim q q'))⟩)
  · exact h0 (fun z => z.2.elim (fun z => by rw [w6.mpr (by omega)] at z; cases z) (fun z => by rw [w7.mpr e2] at z; cases z))
end YS
end
section
/-! the depth first order, pure -/
def sm (f : Nat → Nat) : Nat → Nat
  | 0 => 0
  | n + 1 => sm f n + f n
theorem sm_le {f : Nat → Nat} {c : Nat} : ∀ {n : Nat}, (∀ b, b < n → f b ≤ c) → sm f n ≤ c * n
  | 0, _ => Nat.zero_le _
  | n + 1, h => by
    have a := sm_le (f := f) (c := c) (n := n) (fun b hb => h b (by omega))
    have b := h n (by omega)
    rw [sm, Nat.mul_succ]; omega
theorem sm_eq {f g : Nat → Nat} : ∀ {n : Nat}, (∀ b, b < n → f b = g b) → sm f n = sm g n
  | 0, _ => rfl
  | n + 1, h => by rw [sm, sm, sm_eq (n := n) (fun b hb => h b (by omega)), h n (by omega)]
theorem sm_nu {f : Nat → Nat} {b x : Nat} : ∀ {n : Nat}, b < n → sm (nu f b x) n + f b = sm f n + x
  | 0, h => by omega
  | n + 1, h => by
    rw [sm, sm]
    rcases Nat.lt_or_ge b n with z | z
    · have := sm_nu (f := f) (x := x) z
      rw [nu_n (by omega : n ≠ b)]; omega
    · have e : b = n := by omega
      subst e
      rw [nu_s, sm_eq (f := nu f b x) (g := f) (fun k hk => nu_n (by omega))]; omega
def ob_F (Vs : Nat → Prop) (st : Nat → Nat) (h b : Nat) : Prop := Vs b ∧ ∀ j, j < h → st j ≠ b
def ob_I (P : PT) (h : Nat) (st cu : Nat → Nat) (Vs : Nat → Prop) (po : Nat) (ord oi : Nat → Nat) : Prop :=
  (∀ j, j < h → st j < p_b P ∧ Vs (st j)) ∧ (∀ i j, i < h → j < h → st i = st j → i = j) ∧ (0 < h → st 0 = 0) ∧ Vs 0 ∧
  (∀ b, Vs b → b < p_b P ∧ ∃ k, gr_R (p_b P) (p_E P) (fun _ => False) k b) ∧
  (po ≤ p_b P ∧ ∀ b, ob_F Vs st h b → po ≤ oi b ∧ oi b < p_b P ∧ ord (oi b) = b) ∧
  (∀ k, po ≤ k → k < p_b P → ob_F Vs st h (ord k) ∧ oi (ord k) = k) ∧
  (∀ j, j + 1 < h → p_E P (st j) (st (j + 1))) ∧
  (∀ b, ob_F Vs st h b → b ≠ 0 → ∃ p, p_E P p b ∧ ((ob_F Vs st h p ∧ oi p < oi b) ∨ ∃ j, j < h ∧ st j = p)) ∧
  (∀ b, ob_F Vs st h b → cu b = 2) ∧
  (∀ b, b < p_b P → cu b ≤ 2 ∧ (¬ Vs b → cu b = 0) ∧ (Vs b → (1 ≤ cu b → ∀ t, p_t P b = some t → Vs t) ∧ (2 ≤ cu b → ∀ t, p_f P b = some t → Vs t)))
section OB
variable {P : PT} {h po : Nat} {st cu ord oi : Nat → Nat} {Vs : Nat → Prop}
theorem ob_h (I : ob_I P h st cu Vs po ord oi) : h ≤ p_b P := ba_pig st (fun j hj => (I.1 j hj).1) I.2.1
theorem ob_po (I : ob_I P h st cu Vs po ord oi) (e : po = 0) : ∀ b, b < p_b P → ob_F Vs st h b := by
  subst e
  refine cn_full (Nat.le_antisymm (cn_le _ _) (cn_inj (p_b P) ord _ _ (fun k hk => ?_) (fun i j hi hj q => ?_)))
  · have a := (I.2.2.2.2.2.2.1 k (Nat.zero_le _) hk).1
    exact ⟨(I.2.2.2.2.1 _ a.1).1, a⟩
  · rw [← (I.2.2.2.2.2.2.1 i (Nat.zero_le _) hi).2, ← (I.2.2.2.2.2.2.1 j (Nat.zero_le _) hj).2, q]
/-- an edge looked at, its target known or none -/
theorem ob_skip (I : ob_I P (h + 1) st cu Vs po ord oi) (hc : cu (st h) < 2) (ho : ∀ t, (if cu (st h) = 1 then p_f P (st h) else p_t P (st h)) = some t → Vs t) :
    ob_I P (h + 1) st (nu cu (st h) (cu (st h) + 1)) Vs po ord oi := by
  obtain ⟨I1, I2, I3, I4, I5, I6, I7, I8, I9, I10, I11⟩ := I
  refine ⟨I1, I2, I3, I4, I5, I6, I7, I8, I9, fun b hb => ?_, fun b hb => ?_⟩
  · rw [nu_n (fun e => hb.2 h (by omega) e.symm)]; exact I10 b hb
  · obtain ⟨c1, c2, c3⟩ := I11 b hb
    rcases Classical.em (b = st h) with e | e
    · subst e
      rw [nu_s]
      refine ⟨by omega, fun z => absurd (I1 h (by omega)).2 z, fun hv => ⟨fun _ t ht => ?_, fun z t ht => ?_⟩⟩
      · rcases Nat.eq_zero_or_pos (cu (st h)) with q | q
        · refine ho t ?_
          rw [if_neg (by omega)]; exact ht
        · exact (c3 hv).1 q t ht
      · refine ho t ?_
        rw [if_pos (by omega)]; exact ht
    · rw [nu_n e]; exact ⟨c1, c2, c3⟩
/-- an edge to a new block -/
theorem ob_push (W : p_W P) (I : ob_I P (h + 1) st cu Vs po ord oi) (hc : cu (st h) < 2) {t : Nat} (ho : (if cu (st h) = 1 then p_f P (st h) else p_t P (st h)) = some t) (hn : ¬ Vs t) :
    ob_I P (h + 2) (nu st (h + 1) t) (nu cu (st h) (cu (st h) + 1)) (fun b => Vs b ∨ b = t) po ord oi := by
  have hE : p_E P (st h) t := by
    refine ⟨(I.1 h (by omega)).1, ?_⟩
    by_cases e : cu (st h) = 1
    · rw [if_pos e] at ho; exact Or.inr ho
    · rw [if_neg e] at ho; exact Or.inl ho
  have ht := p_Elt W hE
  obtain ⟨I1, I2, I3, I4, I5, I6, I7, I8, I9, I10, I11⟩ := I
  have hst : ∀ j, j < h + 1 → st j ≠ t := fun j hj e => hn (e ▸ (I1 j hj).2)
  have hF : ∀ b, ob_F (fun b => Vs b ∨ b = t) (nu st (h + 1) t) (h + 2) b ↔ ob_F Vs st (h + 1) b := by
    intro b
    refine ⟨fun z => ⟨z.1.elim (fun z => z) (fun e => ?_), fun j hj => ?_⟩, fun z => ⟨Or.inl z.1, fun j hj => ?_⟩⟩
    · have := z.2 (h + 1) (by omega)
      rw [nu_s] at this
      exact absurd e.symm this
    · have := z.2 j (by omega)
      rw [nu_n (by omega)] at this
      exact this
    · rcases Classical.em (j = h + 1) with q | q
      · rw [q, nu_s]; exact fun e => hn (e ▸ z.1)
      · rw [nu_n q]; exact z.2 j (by omega)
  refine ⟨fun j hj => ?_, fun i j hi hj e => ?_, fun _ => ?_, Or.inl I4, fun b hb => ?_, ⟨I6.1, fun b hb => I6.2 b ((hF b).mp hb)⟩, fun k h1 h2 => ⟨(hF _).mpr (I7 k h1 h2).1, (I7 k h1 h2).2⟩, fun j hj => ?_, fun b hb h0 => ?_, fun b hb => ?_, fun b hb => ?_⟩
  · rcases Classical.em (j = h + 1) with q | q
    · rw [q, nu_s]; exact ⟨ht.2, Or.inr rfl⟩
    · rw [nu_n q]; exact ⟨(I1 j (by omega)).1, Or.inl (I1 j (by omega)).2⟩
  · rcases Classical.em (i = h + 1) with q | q
    · rcases Classical.em (j = h + 1) with r | r
      · omega
      · rw [q, nu_s, nu_n r] at e
        exact absurd e.symm (hst j (by omega))
    · rcases Classical.em (j = h + 1) with r | r
      · rw [r, nu_s, nu_n q] at e
        exact absurd e (hst i (by omega))
      · rw [nu_n q, nu_n r] at e
        exact I2 i j (by omega) (by omega) e
  · rw [nu_n (by omega)]; exact I3 (by omega)
  · rcases hb with z | z
    · exact I5 b z
    · subst z
      obtain ⟨k, hk⟩ := (I5 _ (I1 h (by omega)).2).2
      exact ⟨ht.2, k + 1, gr_st hk hE.1 ht.2 (fun z => z) hE⟩
  · rcases Classical.em (j = h) with q | q
    · rw [q, nu_s, nu_n (by omega)]; exact hE
    · rw [nu_n (by omega), nu_n (by omega)]; exact I8 j (by omega)
  · obtain ⟨p, p1, p2⟩ := I9 b ((hF b).mp hb) h0
    refine ⟨p, p1, p2.imp (fun z => ⟨(hF p).mpr z.1, z.2⟩) (fun ⟨j, j1, j2⟩ => ⟨j, by omega, by rw [nu_n (by omega)]; exact j2⟩)⟩
  · have hb' := (hF b).mp hb
    rw [nu_n (fun e => hb'.2 h (by omega) e.symm)]; exact I10 b hb'
  · obtain ⟨c1, c2, c3⟩ := I11 b hb
    rcases Classical.em (b = st h) with e | e
    · subst e
      rw [nu_s]
      refine ⟨by omega, fun z => absurd (Or.inl (I1 h (by omega)).2) z, fun _ => ⟨fun _ s hs => ?_, fun z s hs => ?_⟩⟩
      · rcases Nat.eq_zero_or_pos (cu (st h)) with q | q
        · rw [if_neg (by omega), hs] at ho
          cases ho; exact Or.inr rfl
        · exact Or.inl ((c3 (I1 h (by omega)).2).1 q s hs)
      · rw [if_pos (by omega), hs] at ho
        cases ho; exact Or.inr rfl
    · rw [nu_n e]
      refine ⟨c1, fun z => c2 (fun q => z (Or.inl q)), fun hv => ?_⟩
      rcases hv with z | z
      · exact ⟨fun q s hs => Or.inl ((c3 z).1 q s hs), fun q s hs => Or.inl ((c3 z).2 q s hs)⟩
      · subst z
        rw [c2 hn]
        exact ⟨fun q => by omega, fun q => by omega⟩
/-- the top block is done -/
theorem ob_pop (I : ob_I P (h + 1) st cu Vs po ord oi) (hc : ¬ cu (st h) < 2) : 0 < po ∧ ob_I P h st cu Vs (po - 1) (nu ord (po - 1) (st h)) (nu oi (st h) (po - 1)) := by
  have hp : 0 < po := by
    rcases Nat.eq_zero_or_pos po with e | e
    · exact absurd rfl ((ob_po I e (st h) (I.1 h (by omega)).1).2 h (by omega))
    · exact e
  refine ⟨hp, ?_⟩
  obtain ⟨I1, I2, I3, I4, I5, I6, I7, I8, I9, I10, I11⟩ := I
  obtain ⟨t1, t2⟩ := I1 h (by omega)
  have hF : ∀ b, ob_F Vs st h b ↔ ob_F Vs st (h + 1) b ∨ b = st h := by
    intro b
    refine ⟨fun z => ?_, fun z => ?_⟩
    · rcases Classical.em (b = st h) with e | e
      · exact Or.inr e
      · refine Or.inl ⟨z.1, fun j hj => ?_⟩
        rcases Classical.em (j = h) with q | q
        · rw [q]; exact fun w => e w.symm
        · exact z.2 j (by omega)
    · rcases z with z | z
      · exact ⟨z.1, fun j hj => z.2 j (by omega)⟩
      · rw [z]
        exact ⟨t2, fun j hj e => by have := I2 j h (by omega) (by omega) e; omega⟩
  have nF : ¬ ob_F Vs st (h + 1) (st h) := fun z => z.2 h (by omega) rfl
  have ne : ∀ b, ob_F Vs st (h + 1) b → b ≠ st h := fun b hb e => nF (e ▸ hb)
  refine ⟨fun j hj => I1 j (by omega), fun i j hi hj => I2 i j (by omega) (by omega), fun z => I3 (by omega), I4, I5, ⟨by have := I6.1; omega, fun b hb => ?_⟩, fun k h1 h2 => ?_, fun j hj => I8 j (by omega), fun b hb h0 => ?_, fun b hb => ?_, I11⟩
  · rcases (hF b).mp hb with z | z
    · rw [nu_n (ne b z)]
      obtain ⟨a1, a2, a3⟩ := I6.2 b z
      rw [nu_n (by omega)]
      exact ⟨by omega, a2, a3⟩
    · rw [z, nu_s, nu_s]
      have := I6.1
      exact ⟨Nat.le_refl _, by omega, rfl⟩
  · rcases Classical.em (k = po - 1) with e | e
    · rw [e, nu_s, nu_s]
      exact ⟨(hF _).mpr (Or.inr rfl), rfl⟩
    · rw [nu_n e]
      obtain ⟨a1, a2⟩ := I7 k (by omega) h2
      rw [nu_n (ne _ a1)]
      exact ⟨(hF _).mpr (Or.inl a1), a2⟩
  · rcases (hF b).mp hb with z | z
    · obtain ⟨p, p1, p2⟩ := I9 b z h0
      have hob := (I6.2 b z).1
      refine ⟨p, p1, ?_⟩
      rw [nu_n (ne b z)]
      rcases p2 with q | ⟨j, j1, j2⟩
      · rw [nu_n (ne p q.1)]
        exact Or.inl ⟨(hF p).mpr (Or.inl q.1), q.2⟩
      · rcases Classical.em (j = h) with w | w
        · left
          rw [← j2, w, nu_s]
          exact ⟨(hF _).mpr (Or.inr rfl), by omega⟩
        · exact Or.inr ⟨j, by omega, j2⟩
    · subst z
      rcases Nat.eq_zero_or_pos h with w | w
      · rw [w] at h0; exact absurd (I3 (by omega)) h0
      · have := I8 (h - 1) (by omega)
        rw [show h - 1 + 1 = h by omega] at this
        exact ⟨st (h - 1), this, Or.inr ⟨h - 1, by omega, rfl⟩⟩
  · rcases (hF b).mp hb with z | z
    · exact I10 b z
    · rw [z]
      have := (I11 _ t1).1
      omega
def ob_G (P : PT) (ord oi : Nat → Nat) : Prop := do_O (p_b P) (p_E P) oi ∧ (∀ k, k < p_b P → ord k < p_b P ∧ oi (ord k) = k) ∧ (∀ b, b < p_b P → ord (oi b) = b)
theorem ob_end (W : p_W P) (I : ob_I P 0 st cu Vs po ord oi) : (po = 0 → p_S2 P ∧ ob_G P ord oi) ∧ (po ≠ 0 → ¬ p_S2 P) := by
  have I' := I
  obtain ⟨I1, I2, I3, I4, I5, I6, I7, I8, I9, I10, I11⟩ := I
  have hF : ∀ b, Vs b → ob_F Vs st 0 b := fun b hb => ⟨hb, fun j hj => by omega⟩
  have cl : ∀ k b, gr_R (p_b P) (p_E P) (fun _ => False) k b → Vs b := by
    intro k
    induction k with
    | zero => intro b r; rw [r.1]; exact I4
    | succ k ih =>
      intro b r
      rcases r with r | ⟨_, _, p, h3, h4, h5⟩
      · exact ih b r
      · have hv := ih p h4
        have c2 := I10 p (hF p hv)
        obtain ⟨_, _, c3⟩ := I11 p h3
        exact h5.2.elim ((c3 hv).1 (by omega) b) ((c3 hv).2 (by omega) b)
  refine ⟨fun e => ?_, fun e hs => ?_⟩
  · have all := ob_po I' e
    subst e
    refine ⟨fun b hb => (I5 b (all b hb).1).2, ⟨fun b hb => (I6.2 b (all b hb)).2.1, fun b c hb hc q => ?_, ?_, fun b hb h0 => ?_⟩, fun k hk => ⟨(I5 _ (I7 k (by omega) hk).1.1).1, (I7 k (by omega) hk).2⟩, fun b hb => (I6.2 b (all b hb)).2.2⟩
    · rw [← (I6.2 b (all b hb)).2.2, ← (I6.2 c (all c hc)).2.2, q]
    · have h1 := W.1
      obtain ⟨a1, a2⟩ := I7 0 (by omega) (by omega)
      rcases Classical.em (ord 0 = 0) with q | q
      · rw [q] at a2; exact a2
      · obtain ⟨p, p1, p2⟩ := I9 (ord 0) a1 q
        rcases p2 with z | ⟨j, hj, _⟩
        · rw [a2] at z; omega
        · omega
    · obtain ⟨p, p1, p2⟩ := I9 b (all b hb) h0
      rcases p2 with z | ⟨j, hj, _⟩
      · exact ⟨p, p1.1, p1, z.2⟩
      · omega
  · have all : ∀ b, b < p_b P → ob_F Vs st 0 b := fun b hb => by
      obtain ⟨k, hk⟩ := hs b hb
      exact hF b (cl k b hk)
    have h1 := W.1
    have := ba_pig (n := p_b P) (m := p_b P - po) (fun b => oi b - po) (fun b hb => by
      obtain ⟨a1, a2, a3⟩ := I6.2 b (all b hb)
      show oi b - po < p_b P - po
      omega) (fun b c hb hc q => by
      obtain ⟨a1, a2, a3⟩ := I6.2 b (all b hb)
      obtain ⟨d1, d2, d3⟩ := I6.2 c (all c hc)
      have q' : oi b - po = oi c - po := q
      rw [← a3, ← d3, show oi b = oi c by omega])
    omega
end OB
end
section
/-! X: orderBlocks -/
theorem ba_ru {a : Nat → Int32} {f : Nat → Nat} {k x j : Nat} (h : j ≠ k → a j = nI (f j)) : upd a k (nI x) j = nI (nu f k x j) := by
  rcases Classical.em (j = k) with e | e
  · subst e; rw [pk_us, nu_s]
  · rw [pk_un e, nu_n e, h e]
section XO
variable {f_blockLimit f_valueLimit f_blockCount f_valueCount f_sealed f_classCount f_workTop f_touchedCount f_undoTop f_runState f_runForm f_here f_input0 f_input1 f_returned f_evaluated : Int32} {a_valueKind a_valueBlock a_leaf a_args a_exitKind a_exitValue a_exitTrue a_exitFalse a_predMask a_order a_orderIndex a_idom a_domMask a_firstChild a_nextSibling a_stack a_cursor a_members a_location a_classIndex a_classStart a_classSize a_classMarked a_className a_useHead a_useNext a_work a_inWork a_splitter a_touched a_leaderOf a_available a_undo a_scopeMark a_body a_bodyStart a_bodyOps a_bodyEnd a_env a_phiNew : Nat → Int32} {P : PT}
def xo_R (P : PT) (a_order a_orderIndex : Nat → Int32) (r : Int32) : Prop :=
  (r = 1 ∧ p_S2 P ∧ ∃ ord oi, ob_G P ord oi ∧ (∀ k, k < p_b P → a_order k = nI (ord k)) ∧ ∀ b, b < p_b P → a_orderIndex b = nI (oi b)) ∨ (r = 0 ∧ ¬ p_S2 P)
theorem xo_42 {post : Int32 → SX → Prop} (W : p_W P) (hX : p_X P a_valueKind a_valueBlock a_leaf a_args a_exitKind a_exitValue a_exitTrue a_exitFalse)
    (HK : ∀ (a_order a_orderIndex a_stack a_cursor : Nat → Int32) (r : Int32), xo_R P a_order a_orderIndex r → post r (f_blockLimit, f_valueLimit, f_blockCount, f_valueCount, f_sealed, f_classCount, f_workTop, f_touchedCount, f_undoTop, f_runState, f_runForm, f_here, f_input0, f_input1, f_returned, f_evaluated, a_valueKind, a_valueBlock, a_leaf, a_args, a_exitKind, a_exitValue, a_exitTrue, a_exitFalse, a_predMask, a_order, a_orderIndex, a_idom, a_domMask, a_firstChild, a_nextSibling, a_stack, a_cursor, a_members, a_location, a_classIndex, a_classStart, a_classSize, a_classMarked, a_className, a_useHead, a_useNext, a_work, a_inWork, a_splitter, a_touched, a_leaderOf, a_available, a_undo, a_scopeMark, a_body, a_bodyStart, a_bodyOps, a_bodyEnd, a_env, a_phiNew)) :
    ∀ (n h s po : Nat) (vi : Int32) (st cu ord oi : Nat → Nat) (Vs : Nat → Prop) (a_order a_orderIndex a_stack a_cursor : Nat → Int32), ob_I P h st cu Vs po ord oi → (∀ j, j < h → a_stack j = nI (st j)) → (∀ b, b < p_b P → a_cursor b = nI (cu b)) →
      (∀ k, po ≤ k → k < p_b P → a_order k = nI (ord k)) → (∀ b, ob_F Vs st h b → a_orderIndex b = nI (oi b)) → (∀ b, b < p_b P → (bt vi b = true ↔ Vs b)) → s + po = p_b P + sm cu (p_b P) → 32 - s < n →
      wX_orderBlocks_42 post f_blockLimit f_valueLimit f_blockCount f_valueCount f_sealed f_classCount f_workTop f_touchedCount f_undoTop f_runState f_runForm f_here f_input0 f_input1 f_returned f_evaluated n (nI po) vi (ba_t h) (nI s) a_valueKind a_valueBlock a_leaf a_args a_exitKind a_exitValue a_exitTrue a_exitFalse a_predMask a_order a_orderIndex a_idom a_domMask a_firstChild a_nextSibling a_stack a_cursor a_members a_location a_classIndex a_classStart a_classSize a_classMarked a_className a_useHead a_useNext a_work a_inWork a_splitter a_touched a_leaderOf a_available a_undo a_scopeMark a_body a_bodyStart a_bodyOps a_bodyEnd a_env a_phiNew := by
  intro n
  induction n with
  | zero => intro h s po vi st cu ord oi Vs a_order a_orderIndex a_stack a_cursor _ _ _ _ _ _ _ hn; omega
  | succ n ih =>
    intro h s po vi st cu ord oi Vs a_order a_orderIndex a_stack a_cursor I r1 r2 r3 r4 r5 hs hn
    have hb8 := W.2.1
    have hsm := sm_le (f := cu) (c := 2) (n := p_b P) (fun b hb => (I.2.2.2.2.2.2.2.2.2.2 b hb).1)
    have hpo := I.2.2.2.2.2.1.1
    have hh := ob_h I
    rw [wX_orderBlocks_42]
    refine br_f (nI_ge (b := 32) (by omega) (by decide)) ?_
    cases h with
    | zero =>
      refine br_t ba_n1lt ?_
      have hE := ob_end W I
      have F0 : ∀ b, Vs b → ob_F Vs st 0 b := fun b hb => ⟨hb, fun j hj => by omega⟩
      refine pk_eq po 0 (fun e => HK a_order a_orderIndex a_stack a_cursor 1 (Or.inl ⟨rfl, (hE.1 e).1, ord, oi, (hE.1 e).2, fun k hk => r3 k (by omega) hk, fun b hb => r4 b (ob_po I e b hb)⟩)) (fun e => HK a_order a_orderIndex a_stack a_cursor 0 (Or.inr ⟨rfl, hE.2 e⟩))
    | succ h =>
      have hst := (I.1 h (by omega)).1
      have hvb := (I.1 h (by omega)).2
      have hcu := I.2.2.2.2.2.2.2.2.2.2 _ hst
      have vb : vp_in (nI (st h)) 8 := vp_in_nI (by omega) (by omega)
      have wb := W.2.2.2.2 _ hst
      refine br_f (nI_pos (by omega)) ⟨vp_in_nI (by omega) (by omega), ba_rd h rfl (by omega) (r1 h (by omega)) ⟨vb, ba_rd (st h) rfl (by omega) (r2 _ hst) ?_⟩⟩
      have K : ∀ o : Option Nat, cu (st h) < 2 → o = (if cu (st h) = 1 then p_f P (st h) else p_t P (st h)) → wX_orderBlocks_136 post (wX_orderBlocks_42 post f_blockLimit f_valueLimit f_blockCount f_valueCount f_sealed f_classCount f_workTop f_touchedCount f_undoTop f_runState f_runForm f_here f_input0 f_input1 f_returned f_evaluated n) (nI po) vi (nI h) (nI s) (ba_o o) f_blockLimit f_valueLimit f_blockCount f_valueCount f_sealed f_classCount f_workTop f_touchedCount f_undoTop f_runState f_runForm f_here f_input0 f_input1 f_returned f_evaluated a_valueKind a_valueBlock a_leaf a_args a_exitKind a_exitValue a_exitTrue a_exitFalse a_predMask a_order a_orderIndex a_idom a_domMask a_firstChild a_nextSibling a_stack (upd a_cursor (st h) (nI (cu (st h) + 1))) a_members a_location a_classIndex a_classStart a_classSize a_classMarked a_className a_useHead a_useNext a_work a_inWork a_splitter a_touched a_leaderOf a_available a_undo a_scopeMark a_body a_bodyStart a_bodyOps a_bodyEnd a_env a_phiNew := by
        intro o hc ho
        have rc : ∀ b, b < p_b P → upd a_cursor (st h) (nI (cu (st h) + 1)) b = nI (nu cu (st h) (cu (st h) + 1) b) := fun b hb => ba_ru (fun _ => r2 b hb)
        have sc := sm_nu (f := cu) (x := cu (st h) + 1) hst
        have hoE : ∀ t, o = some t → p_E P (st h) t := by
          intro t ht
          refine ⟨hst, ?_⟩
          rw [ht] at ho
          by_cases e : cu (st h) = 1
          · rw [if_pos e] at ho; exact Or.inr ho.symm
          · rw [if_neg e] at ho; exact Or.inl ho.symm
        unfold wX_orderBlocks_136
        refine ba_on o rfl (fun t ht => by have := p_Elt W (hoE t ht); omega) (fun e => nm_r (nI_1 s) (ih (h + 1) (s + 1) po vi st _ ord oi Vs a_order a_orderIndex a_stack _ (ob_skip I hc (fun t ht => by rw [← ho, e] at ht; cases ht)) r1 rc r3 r4 r5 (by omega) (by omega))) (fun t ht => ?_)
        subst ht
        have htb := (p_Elt W (hoE t rfl)).2
        refine ba_bb (s := t) (by omega) (fun e => ?_) (fun e => ?_)
        · have hnv : ¬ Vs t := fun z => by rw [(r5 t htb).mpr z] at e; cases e
          have Ip := ob_push W I hc ho.symm hnv
          have hh2 := ob_h Ip
          refine nm_e (nm_r (nI_1 h) ⟨vp_in_nI (by omega) (by omega), ba_wr (h + 1) rfl (by omega) rfl (nm_r (nI_1 s) (ih (h + 2) (s + 1) po _ _ _ ord oi _ a_order a_orderIndex _ _ Ip (fun j hj => ba_ru (fun z => r1 j (by omega))) rc r3 (fun b hb => r4 b ?_) (fun b hb => ?_) (by omega) (by omega)))⟩)
          · refine ⟨hb.1.elim (fun z => z) (fun z => ?_), fun j hj => ?_⟩
            · have := hb.2 (h + 1) (by omega)
              rw [nu_s] at this
              exact absurd z.symm this
            · have := hb.2 j (by omega)
              rw [nu_n (by omega)] at this
              exact this
          · refine (ba_setT vi (by omega) (by omega)).trans ?_
            rw [r5 b hb]
        · exact nm_r (nI_1 s) (ih (h + 1) (s + 1) po vi st _ ord oi Vs a_order a_orderIndex a_stack _ (ob_skip I hc (fun t' ht => by rw [← ho] at ht; cases ht; exact (r5 t htb).mp e)) r1 rc r3 r4 r5 (by omega) (by omega))
      refine pk_lt (cu (st h)) 2 (fun hc => ⟨vb, ba_wr (st h) rfl (by omega) (nI_1 _) ⟨vb, ba_rd (st h) rfl (by omega) (hX.2.2.2.2.2.2.1 _ hst) (pk_eq (cu (st h)) 1 (fun e => ⟨vb, ba_rd (st h) rfl (by omega) (hX.2.2.2.2.2.2.2 _ hst) (K _ hc (by rw [if_pos e]))⟩) (fun e => K _ hc (by rw [if_neg e])))⟩⟩) (fun hc => ?_)
      obtain ⟨hp, Iq⟩ := ob_pop I (by omega)
      refine nm_r (sb_m1 hp) ⟨vp_in_nI (by omega) (by omega), ba_wr (po - 1) rfl (by omega) rfl ⟨vb, ba_wr (st h) rfl (by omega) rfl (nm_r (ba_tm h) (nm_r (nI_1 s) (ih h (s + 1) (po - 1) vi st cu _ _ Vs _ _ a_stack a_cursor Iq (fun j hj => r1 j (by omega)) r2 (fun k h1 h2 => ba_ru (fun z => r3 k (by omega) h2)) (fun b hb => ba_ru (fun z => r4 b ⟨hb.1, fun j hj => ?_⟩)) r5 (by omega) (by omega))))⟩⟩
      rcases Classical.em (j = h) with q | q
      · rw [q]; exact fun w => z w.symm
      · exact hb.2 j (by omega)
theorem xo_2 {post : Int32 → SX → Prop} {N : Nat} (hN : N ≤ 8) (e : f_blockCount = nI N) (K : ∀ a_cursor : Nat → Int32, (∀ j, j < N → a_cursor j = 0) → ∃ n, wX_orderBlocks_42 post f_blockLimit f_valueLimit f_blockCount f_valueCount f_sealed f_classCount f_workTop f_touchedCount f_undoTop f_runState f_runForm f_here f_input0 f_input1 f_returned f_evaluated n f_blockCount 1 0 0 a_valueKind a_valueBlock a_leaf a_args a_exitKind a_exitValue a_exitTrue a_exitFalse a_predMask a_order a_orderIndex a_idom a_domMask a_firstChild a_nextSibling (upd a_stack 0 0) a_cursor a_members a_location a_classIndex a_classStart a_classSize a_classMarked a_className a_useHead a_useNext a_work a_inWork a_splitter a_touched a_leaderOf a_available a_undo a_scopeMark a_body a_bodyStart a_bodyOps a_bodyEnd a_env a_phiNew) :
    ∀ (n i : Nat) (a_cursor : Nat → Int32), i ≤ N → N - i < n → (∀ j, j < i → a_cursor j = 0) → wX_orderBlocks_2 post f_blockLimit f_valueLimit f_blockCount f_valueCount f_sealed f_classCount f_workTop f_touchedCount f_undoTop f_runState f_runForm f_here f_input0 f_input1 f_returned f_evaluated n (nI i) a_valueKind a_valueBlock a_leaf a_args a_exitKind a_exitValue a_exitTrue a_exitFalse a_predMask a_order a_orderIndex a_idom a_domMask a_firstChild a_nextSibling a_stack a_cursor a_members a_location a_classIndex a_classStart a_classSize a_classMarked a_className a_useHead a_useNext a_work a_inWork a_splitter a_touched a_leaderOf a_available a_undo a_scopeMark a_body a_bodyStart a_bodyOps a_bodyEnd a_env a_phiNew := by
  intro n
  induction n with
  | zero => intro i _ _ h; omega
  | succ n ih =>
    intro i a_cursor hi hn hf
    rw [wX_orderBlocks_2]
    refine pk_le N i (fun h => ?_) (fun h => ⟨vp_in_nI (by omega) (by omega), ba_wr i rfl (by omega) rfl (nm_r (nI_1 i) (ih (i + 1) _ (by omega) (by omega) (ba_f1 hf)))⟩) (hx := e)
    have e : i = N := by omega
    subst e
    exact nm_e (K _ hf)
theorem xo_orderBlocks {post : Int32 → SX → Prop} (W : p_W P) (hX : p_X P a_valueKind a_valueBlock a_leaf a_args a_exitKind a_exitValue a_exitTrue a_exitFalse) (eb : f_blockCount = nI (p_b P))
    (HK : ∀ (a_order a_orderIndex a_stack a_cursor : Nat → Int32) (r : Int32), xo_R P a_order a_orderIndex r → post r (f_blockLimit, f_valueLimit, f_blockCount, f_valueCount, f_sealed, f_classCount, f_workTop, f_touchedCount, f_undoTop, f_runState, f_runForm, f_here, f_input0, f_input1, f_returned, f_evaluated, a_valueKind, a_valueBlock, a_leaf, a_args, a_exitKind, a_exitValue, a_exitTrue, a_exitFalse, a_predMask, a_order, a_orderIndex, a_idom, a_domMask, a_firstChild, a_nextSibling, a_stack, a_cursor, a_members, a_location, a_classIndex, a_classStart, a_classSize, a_classMarked, a_className, a_useHead, a_useNext, a_work, a_inWork, a_splitter, a_touched, a_leaderOf, a_available, a_undo, a_scopeMark, a_body, a_bodyStart, a_bodyOps, a_bodyEnd, a_env, a_phiNew)) : wpX_orderBlocks post (f_blockLimit, f_valueLimit, f_blockCount, f_valueCount, f_sealed, f_classCount, f_workTop, f_touchedCount, f_undoTop, f_runState, f_runForm, f_here, f_input0, f_input1, f_returned, f_evaluated, a_valueKind, a_valueBlock, a_leaf, a_args, a_exitKind, a_exitValue, a_exitTrue, a_exitFalse, a_predMask, a_order, a_orderIndex, a_idom, a_domMask, a_firstChild, a_nextSibling, a_stack, a_cursor, a_members, a_location, a_classIndex, a_classStart, a_classSize, a_classMarked, a_className, a_useHead, a_useNext, a_work, a_inWork, a_splitter, a_touched, a_leaderOf, a_available, a_undo, a_scopeMark, a_body, a_bodyStart, a_bodyOps, a_bodyEnd, a_env, a_phiNew) := by
  have hb1 := W.1
  have hb8 := W.2.1
  subst eb
  refine ⟨p_b P + 1, xo_2 hb8 rfl (fun a_cursor hcu => ?_) (p_b P + 1) 0 _ (by omega) (by omega) ba_f0⟩
  · have I0 : ob_I P 1 (fun _ => 0) (fun _ => 0) (fun b => b = 0) (p_b P) (fun _ => 0) (fun _ => 0) := by
      have nF : ∀ b, ¬ ob_F (fun b => b = 0) (fun _ => 0) 1 b := fun b z => z.2 0 (by omega) z.1.symm
      refine ⟨fun j hj => ⟨hb1, rfl⟩, fun i j hi hj _ => by omega, fun _ => rfl, rfl, fun b hb => ⟨by have hb' : b = 0 := hb; omega, 0, hb, fun z => z⟩, ⟨Nat.le_refl _, fun b hb => absurd hb (nF b)⟩, fun k h1 h2 => by omega, fun j hj => by omega, fun b hb => absurd hb (nF b), fun b hb => absurd hb (nF b), fun b hb => ⟨Nat.zero_le _, fun _ => rfl, fun _ => ⟨fun z => absurd z (Nat.not_succ_le_zero 0), fun z => absurd z (Nat.not_succ_le_zero 1)⟩⟩⟩
    refine ⟨33, xo_42 W hX HK 33 1 0 (p_b P) 1 _ _ _ _ _ a_order a_orderIndex _ _ I0 (fun j hj => ?_) (fun b hb => ?_) (fun k h1 h2 => by omega) (fun b hb => absurd hb.1.symm (hb.2 0 (by omega))) (fun b hb => ?_) ?_ (by omega)⟩
    · have e : j = 0 := by omega
      subst e; rw [pk_us]; rfl
    · rw [hcu b hb]; rfl
    · rw [ba_1 b (by omega), decide_eq_true_iff]
    · have : ∀ n, sm (fun _ => 0) n = 0 := fun n => by
        have := sm_le (f := fun _ => 0) (c := 0) (n := n) (fun _ _ => Nat.le_refl _)
        omega
      rw [this]; omega
end XO
end
section
/-! X: allExitsSet, findPredecessors, phisMatch -/
section XP
variable {f_blockLimit f_valueLimit f_blockCount f_valueCount f_sealed f_classCount f_workTop f_touchedCount f_undoTop f_runState f_runForm f_here f_input0 f_input1 f_returned f_evaluated : Int32} {a_valueKind a_valueBlock a_leaf a_args a_exitKind a_exitValue a_exitTrue a_exitFalse a_predMask a_order a_orderIndex a_idom a_domMask a_firstChild a_nextSibling a_stack a_cursor a_members a_location a_classIndex a_classStart a_classSize a_classMarked a_className a_useHead a_useNext a_work a_inWork a_splitter a_touched a_leaderOf a_available a_undo a_scopeMark a_body a_bodyStart a_bodyOps a_bodyEnd a_env a_phiNew : Nat → Int32} {P : PT}
theorem xp_all2 {post : Int32 → Prop} (W : p_W P) (hX : p_X P a_valueKind a_valueBlock a_leaf a_args a_exitKind a_exitValue a_exitTrue a_exitFalse) (eb : f_blockCount = nI (p_b P)) (h1 : p_S1 P → post 1) (h0 : ¬ p_S1 P → post 0) :
    ∀ n i, i ≤ p_b P → p_b P - i < n → (∀ b, b < i → p_e P b ≠ 0) → wX_allExitsSet_2 post f_blockLimit f_valueLimit f_blockCount f_valueCount f_sealed f_classCount f_workTop f_touchedCount f_undoTop f_runState f_runForm f_here f_input0 f_input1 f_returned f_evaluated a_valueKind a_valueBlock a_leaf a_args a_exitKind a_exitValue a_exitTrue a_exitFalse a_predMask a_order a_orderIndex a_idom a_domMask a_firstChild a_nextSibling a_stack a_cursor a_members a_location a_classIndex a_classStart a_classSize a_classMarked a_className a_useHead a_useNext a_work a_inWork a_splitter a_touched a_leaderOf a_available a_undo a_scopeMark a_body a_bodyStart a_bodyOps a_bodyEnd a_env a_phiNew n (nI i) := by
  have hb8 := W.2.1
  subst eb
  intro n
  induction n with
  | zero => intro i _ h; omega
  | succ n ih =>
    intro i hi hn hp
    rw [wX_allExitsSet_2]
    refine pk_le (p_b P) i (fun h => h1 (fun b hb => hp b (by omega))) (fun h => ⟨vp_in_nI (by omega) (by omega), ?_⟩)
    rw [nI_clamp (by omega), hX.2.2.2.2.1 i h]
    refine pk_eq (p_e P i) 0 (fun e => h0 (fun z => z i h e)) (fun e => nm_r (nI_1 i) (ih (i + 1) (by omega) (by omega) (fun b hb => ?_)))
      (ha := by have := (W.2.2.2.2 i h).1; omega)
    rcases Classical.em (b = i) with q | q
    · rw [q]; exact e
    · exact hp b (by omega)
theorem xp_all {post : Int32 → Prop} (W : p_W P) (hX : p_X P a_valueKind a_valueBlock a_leaf a_args a_exitKind a_exitValue a_exitTrue a_exitFalse) (eb : f_blockCount = nI (p_b P)) (h1 : p_S1 P → post 1) (h0 : ¬ p_S1 P → post 0) : wpX_allExitsSet post (f_blockLimit, f_valueLimit, f_blockCount, f_valueCount, f_sealed, f_classCount, f_workTop, f_touchedCount, f_undoTop, f_runState, f_runForm, f_here, f_input0, f_input1, f_returned, f_evaluated, a_valueKind, a_valueBlock, a_leaf, a_args, a_exitKind, a_exitValue, a_exitTrue, a_exitFalse, a_predMask, a_order, a_orderIndex, a_idom, a_domMask, a_firstChild, a_nextSibling, a_stack, a_cursor, a_members, a_location, a_classIndex, a_classStart, a_classSize, a_classMarked, a_className, a_useHead, a_useNext, a_work, a_inWork, a_splitter, a_touched, a_leaderOf, a_available, a_undo, a_scopeMark, a_body, a_bodyStart, a_bodyOps, a_bodyEnd, a_env, a_phiNew) :=
  ⟨p_b P + 1, xp_all2 W hX eb h1 h0 (p_b P + 1) 0 (by omega) (by omega) (fun b hb => by omega)⟩
def xp_M (N : Nat) (pm : Nat → Int32) (Q : Nat → Nat → Prop) : Prop := ∀ b, b < N → ∀ i, i < 32 → (bt (pm b) i = true ↔ Q i b)
theorem xp_M_u {N : Nat} {pm : Nat → Int32} {Q : Nat → Nat → Prop} (h : xp_M N pm Q) {t p : Nat} (hp : p < 32) (ht : t < N) : xp_M N (upd pm t (pm t ||| ((1 : Int32) <<< (nI p &&& 31)))) (fun i b => Q i b ∨ (i = p ∧ b = t)) := by
  intro b hb i hi
  rcases Classical.em (b = t) with e | e
  · subst e
    rw [pk_us, ba_setT _ hp hi, h b hb i hi]
    exact ⟨fun z => z.imp (fun z => z) (fun z => ⟨z, rfl⟩), fun z => z.imp (fun z => z) (fun z => z.1)⟩
  · rw [pk_un e, h b hb i hi]
    exact ⟨Or.inl, fun z => z.elim (fun z => z) (fun z => absurd z.2 e)⟩
theorem xp_M_cg {N : Nat} {pm : Nat → Int32} {Q Q' : Nat → Nat → Prop} (h : xp_M N pm Q) (e : ∀ i b, b < N → (Q i b ↔ Q' i b)) : xp_M N pm Q' := fun b hb i hi => (h b hb i hi).trans (e i b hb)
theorem xp_67 {post : SX → Prop} {J25 : Int32 → (Nat → Int32) → (Nat → Int32) → (Nat → Int32) → (Nat → Int32) → (Nat → Int32) → (Nat → Int32) → (Nat → Int32) → (Nat → Int32) → (Nat → Int32) → (Nat → Int32) → (Nat → Int32) → (Nat → Int32) → (Nat → Int32) → (Nat → Int32) → (Nat → Int32) → (Nat → Int32) → (Nat → Int32) → (Nat → Int32) → (Nat → Int32) → (Nat → Int32) → (Nat → Int32) → (Nat → Int32) → (Nat → Int32) → (Nat → Int32) → (Nat → Int32) → (Nat → Int32) → (Nat → Int32) → (Nat → Int32) → (Nat → Int32) → (Nat → Int32) → (Nat → Int32) → (Nat → Int32) → (Nat → Int32) → (Nat → Int32) → (Nat → Int32) → (Nat → Int32) → (Nat → Int32) → (Nat → Int32) → (Nat → Int32) → (Nat → Int32) →  Prop}
    (W : p_W P) {p : Nat} (hp : p < p_b P) (hM : xp_M (p_b P) a_predMask (fun i b => (i < p ∧ p_E P i b) ∨ (i = p ∧ p_t P p = some b)))
    (HK : ∀ a_predMask : Nat → Int32, xp_M (p_b P) a_predMask (fun i b => i < p + 1 ∧ p_E P i b) → J25 (nI (p + 1)) a_valueKind a_valueBlock a_leaf a_args a_exitKind a_exitValue a_exitTrue a_exitFalse a_predMask a_order a_orderIndex a_idom a_domMask a_firstChild a_nextSibling a_stack a_cursor a_members a_location a_classIndex a_classStart a_classSize a_classMarked a_className a_useHead a_useNext a_work a_inWork a_splitter a_touched a_leaderOf a_available a_undo a_scopeMark a_body a_bodyStart a_bodyOps a_bodyEnd a_env a_phiNew) : wX_findPredecessors_67 post J25 (nI p) (ba_o (p_f P p)) f_blockLimit f_valueLimit f_blockCount f_valueCount f_sealed f_classCount f_workTop f_touchedCount f_undoTop f_runState f_runForm f_here f_input0 f_input1 f_returned f_evaluated a_valueKind a_valueBlock a_leaf a_args a_exitKind a_exitValue a_exitTrue a_exitFalse a_predMask a_order a_orderIndex a_idom a_domMask a_firstChild a_nextSibling a_stack a_cursor a_members a_location a_classIndex a_classStart a_classSize a_classMarked a_className a_useHead a_useNext a_work a_inWork a_splitter a_touched a_leaderOf a_available a_undo a_scopeMark a_body a_bodyStart a_bodyOps a_bodyEnd a_env a_phiNew := by
  have hb8 := W.2.1
  have wb := W.2.2.2.2 p hp
  have cg : ∀ i b, ((i < p ∧ p_E P i b) ∨ (i = p ∧ p_t P p = some b)) ∨ (i = p ∧ p_f P p = some b) ↔ i < p + 1 ∧ p_E P i b := by
    intro i b
    constructor
    · rintro ((z | z) | z)
      · exact ⟨by omega, z.2⟩
      · exact ⟨by omega, by omega, Or.inl (z.1 ▸ z.2)⟩
      · exact ⟨by omega, by omega, Or.inr (z.1 ▸ z.2)⟩
    · rintro ⟨z1, z2⟩
      rcases Nat.lt_or_ge i p with q | q
      · exact Or.inl (Or.inl ⟨q, z2⟩)
      · have e : i = p := by omega
        subst e
        exact z2.2.elim (fun w => Or.inl (Or.inr ⟨rfl, w⟩)) (fun w => Or.inr ⟨rfl, w⟩)
  unfold wX_findPredecessors_67
  refine ba_on (p_f P p) rfl (fun t ht => by have := (wb.2.2.2.1 t ht).2; omega) (fun e => nm_r (nI_1 p) (HK _ (xp_M_cg hM (fun i b _ => ?_)))) (fun t ht => ?_)
  · rw [← cg i b, e]
    exact ⟨Or.inl, fun z => z.elim (fun z => z) (fun z => by cases z.2)⟩
  · have htb := (wb.2.2.2.1 t ht).2
    rw [ht]
    refine ⟨vp_in_nI (by omega) (by omega), vp_in_nI (by omega) (by omega), ba_wr t rfl (by omega) rfl (nm_r (nI_1 p) (HK _ ?_))⟩
    show xp_M (p_b P) (upd a_predMask t (a_predMask (nI t).toNatClampNeg ||| ((1 : Int32) <<< (nI p &&& 31)))) _
    rw [nI_clamp (by omega)]
    refine xp_M_cg (xp_M_u hM (by omega) htb) (fun i b _ => ?_)
    rw [← cg i b, ht]
    exact ⟨fun z => z.imp (fun z => z) (fun z => ⟨z.1, by rw [z.2]⟩), fun z => z.imp (fun z => z) (fun z => ⟨z.1, by cases z.2; rfl⟩)⟩
theorem xp_25 {post : SX → Prop} (W : p_W P) (hX : p_X P a_valueKind a_valueBlock a_leaf a_args a_exitKind a_exitValue a_exitTrue a_exitFalse) (eb : f_blockCount = nI (p_b P))
    (HK : ∀ a_predMask : Nat → Int32, xp_M (p_b P) a_predMask (p_E P) → post (f_blockLimit, f_valueLimit, f_blockCount, f_valueCount, f_sealed, f_classCount, f_workTop, f_touchedCount, f_undoTop, f_runState, f_runForm, f_here, f_input0, f_input1, f_returned, f_evaluated, a_valueKind, a_valueBlock, a_leaf, a_args, a_exitKind, a_exitValue, a_exitTrue, a_exitFalse, a_predMask, a_order, a_orderIndex, a_idom, a_domMask, a_firstChild, a_nextSibling, a_stack, a_cursor, a_members, a_location, a_classIndex, a_classStart, a_classSize, a_classMarked, a_className, a_useHead, a_useNext, a_work, a_inWork, a_splitter, a_touched, a_leaderOf, a_available, a_undo, a_scopeMark, a_body, a_bodyStart, a_bodyOps, a_bodyEnd, a_env, a_phiNew)) :
    ∀ (n p : Nat) (a_predMask : Nat → Int32), p ≤ p_b P → p_b P - p < n → xp_M (p_b P) a_predMask (fun i b => i < p ∧ p_E P i b) → wX_findPredecessors_25 post f_blockLimit f_valueLimit f_blockCount f_valueCount f_sealed f_classCount f_workTop f_touchedCount f_undoTop f_runState f_runForm f_here f_input0 f_input1 f_returned f_evaluated n (nI p) a_valueKind a_valueBlock a_leaf a_args a_exitKind a_exitValue a_exitTrue a_exitFalse a_predMask a_order a_orderIndex a_idom a_domMask a_firstChild a_nextSibling a_stack a_cursor a_members a_location a_classIndex a_classStart a_classSize a_classMarked a_className a_useHead a_useNext a_work a_inWork a_splitter a_touched a_leaderOf a_available a_undo a_scopeMark a_body a_bodyStart a_bodyOps a_bodyEnd a_env a_phiNew := by
  have hb8 := W.2.1
  subst eb
  intro n
  induction n with
  | zero => intro p _ _ h; omega
  | succ n ih =>
    intro p a_predMask hp hn hM
    rw [wX_findPredecessors_25]
    refine pk_le (p_b P) p (fun h => HK _ (xp_M_cg hM (fun i b _ => ⟨fun z => z.2, fun z => ⟨by have := z.1; omega, z⟩⟩))) (fun h => ?_)
    have wb := W.2.2.2.2 p h
    refine ⟨vp_in_nI (by omega) (by omega), ba_rd p rfl (by omega) (hX.2.2.2.2.2.2.1 p h) ⟨vp_in_nI (by omega) (by omega), ba_rd p rfl (by omega) (hX.2.2.2.2.2.2.2 p h) ?_⟩⟩
    have J : ∀ a_predMask : Nat → Int32, xp_M (p_b P) a_predMask (fun i b => i < p + 1 ∧ p_E P i b) → wX_findPredecessors_25 post f_blockLimit f_valueLimit (nI (p_b P)) f_valueCount f_sealed f_classCount f_workTop f_touchedCount f_undoTop f_runState f_runForm f_here f_input0 f_input1 f_returned f_evaluated n (nI (p + 1)) a_valueKind a_valueBlock a_leaf a_args a_exitKind a_exitValue a_exitTrue a_exitFalse a_predMask a_order a_orderIndex a_idom a_domMask a_firstChild a_nextSibling a_stack a_cursor a_members a_location a_classIndex a_classStart a_classSize a_classMarked a_className a_useHead a_useNext a_work a_inWork a_splitter a_touched a_leaderOf a_available a_undo a_scopeMark a_body a_bodyStart a_bodyOps a_bodyEnd a_env a_phiNew := fun pm hm => ih (p + 1) pm (by omega) (by omega) hm
    refine ba_on (p_t P p) rfl (fun t ht => by have := (wb.2.2.1 t ht).2; omega) (fun e => xp_67 W h (xp_M_cg hM (fun i b _ => ?_)) J) (fun t ht => ?_)
    · rw [e]
      exact ⟨Or.inl, fun z => z.elim (fun z => z) (fun z => by cases z.2)⟩
    · have htb := (wb.2.2.1 t ht).2
      rw [ht]
      refine ⟨vp_in_nI (by omega) (by omega), vp_in_nI (by omega) (by omega), ba_wr t rfl (by omega) rfl (xp_67 W h ?_ J)⟩
      show xp_M (p_b P) (upd a_predMask t (a_predMask (nI t).toNatClampNeg ||| ((1 : Int32) <<< (nI p &&& 31)))) _
      rw [nI_clamp (by omega)]
      refine xp_M_cg (xp_M_u hM (by omega) htb) (fun i b _ => ?_)
      rw [ht]
      exact ⟨fun z => z.imp (fun z => z) (fun z => ⟨z.1, by rw [z.2]⟩), fun z => z.imp (fun z => z) (fun z => ⟨z.1, by cases z.2; rfl⟩)⟩
theorem xp_2 {post : SX → Prop} {N : Nat} (hN : N ≤ 8) (e : f_blockCount = nI N) (K : ∀ a_predMask : Nat → Int32, (∀ j, j < N → a_predMask j = 0) → ∃ n, wX_findPredecessors_25 post f_blockLimit f_valueLimit f_blockCount f_valueCount f_sealed f_classCount f_workTop f_touchedCount f_undoTop f_runState f_runForm f_here f_input0 f_input1 f_returned f_evaluated n 0 a_valueKind a_valueBlock a_leaf a_args a_exitKind a_exitValue a_exitTrue a_exitFalse a_predMask a_order a_orderIndex a_idom a_domMask a_firstChild a_nextSibling a_stack a_cursor a_members a_location a_classIndex a_classStart a_classSize a_classMarked a_className a_useHead a_useNext a_work a_inWork a_splitter a_touched a_leaderOf a_available a_undo a_scopeMark a_body a_bodyStart a_bodyOps a_bodyEnd a_env a_phiNew) :
    ∀ (n i : Nat) (a_predMask : Nat → Int32), i ≤ N → N - i < n → (∀ j, j < i → a_predMask j = 0) → wX_findPredecessors_2 post f_blockLimit f_valueLimit f_blockCount f_valueCount f_sealed f_classCount f_workTop f_touchedCount f_undoTop f_runState f_runForm f_here f_input0 f_input1 f_returned f_evaluated n (nI i) a_valueKind a_valueBlock a_leaf a_args a_exitKind a_exitValue a_exitTrue a_exitFalse a_predMask a_order a_orderIndex a_idom a_domMask a_firstChild a_nextSibling a_stack a_cursor a_members a_location a_classIndex a_classStart a_classSize a_classMarked a_className a_useHead a_useNext a_work a_inWork a_splitter a_touched a_leaderOf a_available a_undo a_scopeMark a_body a_bodyStart a_bodyOps a_bodyEnd a_env a_phiNew := by
  intro n
  induction n with
  | zero => intro i _ _ h; omega
  | succ n ih =>
    intro i a_predMask hi hn hf
    rw [wX_findPredecessors_2]
    refine pk_le N i (fun h => ?_) (fun h => ⟨vp_in_nI (by omega) (by omega), ba_wr i rfl (by omega) rfl (nm_r (nI_1 i) (ih (i + 1) _ (by omega) (by omega) (ba_f1 hf)))⟩) (hx := e)
    have e : i = N := by omega
    subst e
    exact K _ hf
theorem xp_preds {post : SX → Prop} (W : p_W P) (hX : p_X P a_valueKind a_valueBlock a_leaf a_args a_exitKind a_exitValue a_exitTrue a_exitFalse) (eb : f_blockCount = nI (p_b P))
    (HK : ∀ a_predMask : Nat → Int32, xp_M (p_b P) a_predMask (p_E P) → post (f_blockLimit, f_valueLimit, f_blockCount, f_valueCount, f_sealed, f_classCount, f_workTop, f_touchedCount, f_undoTop, f_runState, f_runForm, f_here, f_input0, f_input1, f_returned, f_evaluated, a_valueKind, a_valueBlock, a_leaf, a_args, a_exitKind, a_exitValue, a_exitTrue, a_exitFalse, a_predMask, a_order, a_orderIndex, a_idom, a_domMask, a_firstChild, a_nextSibling, a_stack, a_cursor, a_members, a_location, a_classIndex, a_classStart, a_classSize, a_classMarked, a_className, a_useHead, a_useNext, a_work, a_inWork, a_splitter, a_touched, a_leaderOf, a_available, a_undo, a_scopeMark, a_body, a_bodyStart, a_bodyOps, a_bodyEnd, a_env, a_phiNew)) : wpX_findPredecessors post (f_blockLimit, f_valueLimit, f_blockCount, f_valueCount, f_sealed, f_classCount, f_workTop, f_touchedCount, f_undoTop, f_runState, f_runForm, f_here, f_input0, f_input1, f_returned, f_evaluated, a_valueKind, a_valueBlock, a_leaf, a_args, a_exitKind, a_exitValue, a_exitTrue, a_exitFalse, a_predMask, a_order, a_orderIndex, a_idom, a_domMask, a_firstChild, a_nextSibling, a_stack, a_cursor, a_members, a_location, a_classIndex, a_classStart, a_classSize, a_classMarked, a_className, a_useHead, a_useNext, a_work, a_inWork, a_splitter, a_touched, a_leaderOf, a_available, a_undo, a_scopeMark, a_body, a_bodyStart, a_bodyOps, a_bodyEnd, a_env, a_phiNew) := by
  refine ⟨p_b P + 1, xp_2 W.2.1 eb (fun a_predMask hp => ⟨p_b P + 1, xp_25 W hX eb HK (p_b P + 1) 0 _ (by omega) (by omega) (fun b hb i hi => ?_)⟩) (p_b P + 1) 0 _ (by omega) (by omega) ba_f0⟩
  rw [hp b hb, b_0]
  exact ⟨fun z => (by cases z), fun z => by have := z.1; omega⟩
def xp_c (P : PT) (v : Nat) : Prop := p_K P v = 2 → ∀ p, p < p_b P → (p_A P v p ≠ none ↔ p_E P p (p_B P v))
theorem xp_24 {post : Int32 → Prop} {J2 : Int32 → Prop} (W : p_W P) (hX : p_X P a_valueKind a_valueBlock a_leaf a_args a_exitKind a_exitValue a_exitTrue a_exitFalse) (eb : f_blockCount = nI (p_b P))
    (hM : xp_M (p_b P) a_predMask (p_E P)) {v : Nat} (hv : v < p_v P) (hk : p_K P v = 2) (h1 : xp_c P v → J2 (nI (v + 1))) (h0 : ¬ xp_c P v → post 0) :
    ∀ (n p : Nat) (x2 : Int32), p ≤ p_b P → p_b P - p < n → (∀ i, i < 32 → (bt x2 i = true ↔ i < p ∧ p_A P v i ≠ none)) → wX_phisMatch_24 post J2 (nI v) f_blockLimit f_valueLimit f_blockCount f_valueCount f_sealed f_classCount f_workTop f_touchedCount f_undoTop f_runState f_runForm f_here f_input0 f_input1 f_returned f_evaluated a_valueKind a_valueBlock a_leaf a_args a_exitKind a_exitValue a_exitTrue a_exitFalse a_predMask a_order a_orderIndex a_idom a_domMask a_firstChild a_nextSibling a_stack a_cursor a_members a_location a_classIndex a_classStart a_classSize a_classMarked a_className a_useHead a_useNext a_work a_inWork a_splitter a_touched a_leaderOf a_available a_undo a_scopeMark a_body a_bodyStart a_bodyOps a_bodyEnd a_env a_phiNew n x2 (nI p) := by
  have hb8 := W.2.1
  have hv32 := W.2.2.1
  have wv := W.2.2.2.1 v hv
  have hBv := wv.2.1
  subst eb
  intro n
  induction n with
  | zero => intro p _ _ h; omega
  | succ n ih =>
    intro p x2 hp hn hB
    rw [wX_phisMatch_24]
    refine pk_le (p_b P) p (fun h => ⟨vp_in_nI (by omega) (by omega), ?_⟩) (fun h => ⟨pk_in (v * 8 + p) 512 (by omega) (ba_ix8 v p), ?_⟩)
    · have e : p = p_b P := by omega
      subst e
      rw [nI_clamp (by omega), hX.2.1 v hv, nI_clamp (by omega)]
      refine ⟨vp_in_nI (by omega) (by omega), ?_⟩
      have key : x2 = a_predMask (p_B P v) ↔ xp_c P v := by
        constructor
        · intro e _ i hi
          rw [← hM (p_B P v) wv.2.1 i (by omega), ← e, hB i (by omega)]
          exact ⟨fun z => ⟨hi, z⟩, fun z => z.2⟩
        · intro c
          refine b_ext (fun i hi => ?_)
          have a := hB i hi
          have b := hM (p_B P v) wv.2.1 i hi
          have : bt x2 i = true ↔ bt (a_predMask (p_B P v)) i = true := by
            rw [a, b]
            constructor
            · intro z; exact (c hk i z.1).mp z.2
            · intro z; exact ⟨z.1, (c hk i z.1).mpr z⟩
          cases e1 : bt x2 i <;> cases e2 : bt (a_predMask (p_B P v)) i
          · rfl
          · rw [e1, e2] at this; exact absurd (this.mpr rfl) (by decide)
          · rw [e1, e2] at this; exact absurd (this.mp rfl) (by decide)
          · rfl
      refine br_c (fun e => nm_r (nI_1 v) (h1 (key.mp e))) (fun e => h0 (fun z => e (key.mpr z)))
    · rw [pk_cl (v * 8 + p) (ba_ix8 v p), hX.2.2.2.1 v p hv (by omega)]
      refine ba_on (p_A P v p) rfl (fun x hx => by have := wv.2.2.1 p x (by omega) hx; omega) (fun e => nm_r (nI_1 p) (ih (p + 1) x2 (by omega) (by omega) (fun i hi => ?_))) (fun x hx => nm_e (nm_r (nI_1 p) (ih (p + 1) _ (by omega) (by omega) (fun i hi => ?_))))
      · rw [hB i hi]
        refine ⟨fun z => ⟨by omega, z.2⟩, fun z => ⟨?_, z.2⟩⟩
        rcases Classical.em (i = p) with q | q
        · rw [q] at z; exact absurd e z.2
        · omega
      · rw [ba_setT x2 (by omega) hi, hB i hi]
        constructor
        · rintro (z | z)
          · exact ⟨by omega, z.2⟩
          · rw [z, hx]; exact ⟨by omega, fun z => by cases z⟩
        · rintro ⟨z1, z2⟩
          rcases Classical.em (i = p) with q | q
          · exact Or.inr q
          · exact Or.inl ⟨by omega, z2⟩
theorem xp_pm2 {post : Int32 → Prop} (W : p_W P) (hX : p_X P a_valueKind a_valueBlock a_leaf a_args a_exitKind a_exitValue a_exitTrue a_exitFalse) (eb : f_blockCount = nI (p_b P)) (ev : f_valueCount = nI (p_v P))
    (hM : xp_M (p_b P) a_predMask (p_E P)) (h1 : p_S3 P → post 1) (h0 : ¬ p_S3 P → post 0) :
    ∀ n v, v ≤ p_v P → p_v P - v < n → (∀ u, u < v → xp_c P u) → wX_phisMatch_2 post f_blockLimit f_valueLimit f_blockCount f_valueCount f_sealed f_classCount f_workTop f_touchedCount f_undoTop f_runState f_runForm f_here f_input0 f_input1 f_returned f_evaluated a_valueKind a_valueBlock a_leaf a_args a_exitKind a_exitValue a_exitTrue a_exitFalse a_predMask a_order a_orderIndex a_idom a_domMask a_firstChild a_nextSibling a_stack a_cursor a_members a_location a_classIndex a_classStart a_classSize a_classMarked a_className a_useHead a_useNext a_work a_inWork a_splitter a_touched a_leaderOf a_available a_undo a_scopeMark a_body a_bodyStart a_bodyOps a_bodyEnd a_env a_phiNew n (nI v) := by
  have hb8 := W.2.1
  have hv32 := W.2.2.1
  subst ev
  intro n
  induction n with
  | zero => intro v _ h; omega
  | succ n ih =>
    intro v hv hn hp
    rw [wX_phisMatch_2]
    refine pk_le (p_v P) v (fun h => h1 (fun u hu => hp u (by omega))) (fun h => ⟨vp_in_nI (by omega) (by omega), ?_⟩)
    rw [nI_clamp (by omega), hX.1 v h]
    have nx : xp_c P v → wX_phisMatch_2 post f_blockLimit f_valueLimit f_blockCount (nI (p_v P)) f_sealed f_classCount f_workTop f_touchedCount f_undoTop f_runState f_runForm f_here f_input0 f_input1 f_returned f_evaluated a_valueKind a_valueBlock a_leaf a_args a_exitKind a_exitValue a_exitTrue a_exitFalse a_predMask a_order a_orderIndex a_idom a_domMask a_firstChild a_nextSibling a_stack a_cursor a_members a_location a_classIndex a_classStart a_classSize a_classMarked a_className a_useHead a_useNext a_work a_inWork a_splitter a_touched a_leaderOf a_available a_undo a_scopeMark a_body a_bodyStart a_bodyOps a_bodyEnd a_env a_phiNew n (nI (v + 1)) := fun c => ih (v + 1) (by omega) (by omega) (fun u hu => by
      rcases Classical.em (u = v) with q | q
      · rw [q]; exact c
      · exact hp u (by omega))
    refine pk_eq (p_K P v) 2 (fun e => ⟨p_b P + 1, ?_⟩) (fun e => nm_r (nI_1 v) (nx (fun z => absurd z e))) (ha := by have := (W.2.2.2.1 v h).1; omega)
    exact xp_24 W hX eb hM h e nx (fun z => h0 (fun s => z (fun k => s v h k))) (p_b P + 1) 0 0 (by omega) (by omega) (fun i hi => by rw [b_0]; exact ⟨fun z => (by cases z), fun z => by have := z.1; omega⟩)
theorem xp_phis {post : Int32 → Prop} (W : p_W P) (hX : p_X P a_valueKind a_valueBlock a_leaf a_args a_exitKind a_exitValue a_exitTrue a_exitFalse) (eb : f_blockCount = nI (p_b P)) (ev : f_valueCount = nI (p_v P))
    (hM : xp_M (p_b P) a_predMask (p_E P)) (h1 : p_S3 P → post 1) (h0 : ¬ p_S3 P → post 0) : wpX_phisMatch post (f_blockLimit, f_valueLimit, f_blockCount, f_valueCount, f_sealed, f_classCount, f_workTop, f_touchedCount, f_undoTop, f_runState, f_runForm, f_here, f_input0, f_input1, f_returned, f_evaluated, a_valueKind, a_valueBlock, a_leaf, a_args, a_exitKind, a_exitValue, a_exitTrue, a_exitFalse, a_predMask, a_order, a_orderIndex, a_idom, a_domMask, a_firstChild, a_nextSibling, a_stack, a_cursor, a_members, a_location, a_classIndex, a_classStart, a_classSize, a_classMarked, a_className, a_useHead, a_useNext, a_work, a_inWork, a_splitter, a_touched, a_leaderOf, a_available, a_undo, a_scopeMark, a_body, a_bodyStart, a_bodyOps, a_bodyEnd, a_env, a_phiNew) :=
  ⟨p_v P + 1, xp_pm2 W hX eb ev hM h1 h0 (p_v P + 1) 0 (by omega) (by omega) (fun u hu => by omega)⟩
end XP
end
section
/-! X: findDominators -/
/-- the first index from k on with p -/
def ba_F (p : Nat → Prop) (n k : Nat) (o : Option Nat) : Prop :=
  (o = none → ∀ j, k ≤ j → j < n → ¬ p j) ∧ (∀ j, o = some j → k ≤ j ∧ j < n ∧ p j ∧ ∀ i, k ≤ i → i < j → ¬ p i)
theorem ba_F_dn {p : Nat → Prop} {n k : Nat} {o : Option Nat} (h : ba_F p n (k + 1) o) (hk : ¬ p k) : ba_F p n k o := by
  refine ⟨fun e j h1 h2 => ?_, fun j e => ?_⟩
  · rcases Classical.em (j = k) with q | q
    · rw [q]; exact hk
    · exact h.1 e j (by omega) h2
  · obtain ⟨a, b, c, d⟩ := h.2 j e
    refine ⟨by omega, b, c, fun i h1 h2 => ?_⟩
    rcases Classical.em (i = k) with q | q
    · rw [q]; exact hk
    · exact d i (by omega) h2
theorem ba_F_at {p : Nat → Prop} {n k : Nat} (hk : k < n) (h : p k) : ba_F p n k (some k) := ⟨fun e => (by cases e), fun j e => by cases e; exact ⟨Nat.le_refl _, hk, h, fun i h1 h2 => by omega⟩⟩
def xd_c (c : Bool) : Int32 := if c then 1 else 0
def xd_k (I ord : Nat → Nat) (b j : Nat) : Prop := 0 < j ∧ I (ord j) = b
/-- what findDominators leaves -/
def xd_R (P : PT) (ord oi : Nat → Nat) (dm fc ns : Nat → Int32) : Prop :=
  ∃ I : Nat → Nat, I 0 = 0 ∧ do_F (p_b P) (p_E P) oi I ∧ (∀ b, b < p_b P → ∀ a, a < 32 → (bt (dm b) a = true ↔ p_D P a b)) ∧
    (∀ b, b < p_b P → ∃ o, ba_F (xd_k I ord b) (p_b P) 1 o ∧ fc b = ba_o (rn_m ord o)) ∧
    (∀ j, 1 ≤ j → j < p_b P → ∃ o, ba_F (xd_k I ord (I (ord j))) (p_b P) (j + 1) o ∧ ns (ord j) = ba_o (rn_m ord o))
section XD
variable {f_blockLimit f_valueLimit f_blockCount f_valueCount f_sealed f_classCount f_workTop f_touchedCount f_undoTop f_runState f_runForm f_here f_input0 f_input1 f_returned f_evaluated : Int32} {a_valueKind a_valueBlock a_leaf a_args a_exitKind a_exitValue a_exitTrue a_exitFalse a_predMask a_order a_orderIndex a_idom a_domMask a_firstChild a_nextSibling a_stack a_cursor a_members a_location a_classIndex a_classStart a_classSize a_classMarked a_className a_useHead a_useNext a_work a_inWork a_splitter a_touched a_leaderOf a_available a_undo a_scopeMark a_body a_bodyStart a_bodyOps a_bodyEnd a_env a_phiNew : Nat → Int32} {P : PT} {ord oi : Nat → Nat} {id : Nat → Option Nat}
theorem xd_cd {post : Int32 → Prop} (W : p_W P) (G : ob_G P ord oi) (ro : ∀ b, b < p_b P → a_orderIndex b = nI (oi b)) (ri : ∀ b, b < p_b P → a_idom b = ba_o (id b)) (I : do_I (p_b P) (p_E P) oi id) {a b : Nat}
    (HK : ∀ r, do_C (p_b P) (p_E P) oi id a r → do_C (p_b P) (p_E P) oi id b r → (∀ d, gr_D (p_b P) (p_E P) d a → gr_D (p_b P) (p_E P) d b → gr_D (p_b P) (p_E P) d r) → post (nI r)) :
    ∀ n x y s, do_C (p_b P) (p_E P) oi id a x → do_C (p_b P) (p_E P) oi id b y → (∀ d, gr_D (p_b P) (p_E P) d a → gr_D (p_b P) (p_E P) d b → gr_D (p_b P) (p_E P) d x ∧ gr_D (p_b P) (p_E P) d y) →
      s + oi x + oi y ≤ 14 → 16 - s < n → wX_commonDominator_8 post f_blockLimit f_valueLimit f_blockCount f_valueCount f_sealed f_classCount f_workTop f_touchedCount f_undoTop f_runState f_runForm f_here f_input0 f_input1 f_returned f_evaluated a_valueKind a_valueBlock a_leaf a_args a_exitKind a_exitValue a_exitTrue a_exitFalse a_predMask a_order a_orderIndex a_idom a_domMask a_firstChild a_nextSibling a_stack a_cursor a_members a_location a_classIndex a_classStart a_classSize a_classMarked a_className a_useHead a_useNext a_work a_inWork a_splitter a_touched a_leaderOf a_available a_undo a_scopeMark a_body a_bodyStart a_bodyOps a_bodyEnd a_env a_phiNew n (nI x) (nI y) (nI s) := by
  have hb8 := W.2.1
  have O := G.1
  intro n
  induction n with
  | zero => intro x y s _ _ _ _ h; omega
  | succ n ih =>
    intro x y s cx cy hd hs hn
    have hx := cx.1
    have hy := cy.1
    rw [wX_commonDominator_8]
    refine br_f (nI_ge (b := 16) (by omega) (by decide)) (pk_eq x y (fun e => ?_) (fun e => ⟨vp_in_nI (by omega) (by omega), vp_in_nI (by omega) (by omega), ?_⟩))
    · subst e
      exact HK x cx cy (fun d h1 h2 => (hd d h1 h2).1)
    · rw [nI_clamp (by omega), nI_clamp (by omega), ro x hx, ro y hy]
      have ox := O.1 x hx
      have oy := O.1 y hy
      have one : oi x ≠ oi y := fun z => e (O.2.1 x y hx hy z)
      refine pk_le (oi x) (oi y) (fun h => ⟨vp_in_nI (by omega) (by omega), ?_⟩) (fun h => ⟨vp_in_nI (by omega) (by omega), ?_⟩)
      · have y0 : y ≠ 0 := fun z => by rw [z, O.2.2.1] at h one; omega
        obtain ⟨z, ez, cz, oz⟩ := do_C_st I cy y0
        refine nm_r (e' := nI z) (by rw [ri y hy, ez]; rfl) (nm_r (nI_1 s) (ih x z (s + 1) cx cz (fun d h1 h2 => ⟨(hd d h1 h2).1, do_cd O I hy y0 hx (by omega) ez (hd d h1 h2).2 (hd d h1 h2).1⟩) (by omega) (by omega)))
      · have x0 : x ≠ 0 := fun z => by rw [z, O.2.2.1] at h; omega
        obtain ⟨z, ez, cz, oz⟩ := do_C_st I cx x0
        refine nm_r (e' := nI z) (by rw [ri x hx, ez]; rfl) (nm_r (nI_1 s) (ih z y (s + 1) cz cy (fun d h1 h2 => ⟨do_cd O I hx x0 hy (by omega) ez (hd d h1 h2).1 (hd d h1 h2).2, (hd d h1 h2).2⟩) (by omega) (by omega)))
theorem xd_meet {post : Int32 → Prop} (W : p_W P) (G : ob_G P ord oi) (eb : f_blockCount = nI (p_b P)) (ro : ∀ b, b < p_b P → a_orderIndex b = nI (oi b)) (ri : ∀ b, b < p_b P → a_idom b = ba_o (id b)) (I : do_I (p_b P) (p_E P) oi id)
    (hM : xp_M (p_b P) a_predMask (p_E P)) {b : Nat} (hb : b < p_b P) (HK : ∀ best, do_M (p_b P) (p_E P) oi id b (p_b P) best → post (ba_o best)) :
    ∀ n p best, p ≤ p_b P → p_b P - p < n → do_M (p_b P) (p_E P) oi id b p best → wX_meetOfPredecessors_4 post (nI b) f_blockLimit f_valueLimit f_blockCount f_valueCount f_sealed f_classCount f_workTop f_touchedCount f_undoTop f_runState f_runForm f_here f_input0 f_input1 f_returned f_evaluated a_valueKind a_valueBlock a_leaf a_args a_exitKind a_exitValue a_exitTrue a_exitFalse a_predMask a_order a_orderIndex a_idom a_domMask a_firstChild a_nextSibling a_stack a_cursor a_members a_location a_classIndex a_classStart a_classSize a_classMarked a_className a_useHead a_useNext a_work a_inWork a_splitter a_touched a_leaderOf a_available a_undo a_scopeMark a_body a_bodyStart a_bodyOps a_bodyEnd a_env a_phiNew n (ba_o best) (nI p) := by
  have hb8 := W.2.1
  have hi8 : ∀ b x, b < p_b P → id b = some x → x < 8 := by
    intro b x hb e
    rcases Classical.em (b = 0) with z | z
    · rw [z, I.1] at e; cases e; omega
    · have := (I.2 b hb z x e).1; omega
  subst eb
  intro n
  induction n with
  | zero => intro p best _ h; omega
  | succ n ih =>
    intro p best hp hn M
    rw [wX_meetOfPredecessors_4]
    refine pk_le (p_b P) p (fun h => ?_) (fun h => ⟨vp_in_nI (by omega) (by omega), ?_⟩)
    · have e : p = p_b P := by omega
      subst e
      exact HK best M
    · rw [nI_clamp (by omega)]
      have hm := hM b hb p (by omega)
      refine ba_bb (s := p) (by omega) (fun e => nm_r (nI_1 p) (ih (p + 1) best (by omega) (by omega) (do_M_skip M (fun z => by rw [hm.mpr z] at e; cases e)))) (fun e => ⟨vp_in_nI (by omega) (by omega), ?_⟩)
      have he := hm.mp e
      rw [nI_clamp (by omega), ri p h]
      refine ba_on (id p) rfl (fun x hx => by have := hi8 p x h hx; omega) (fun e => nm_r (nI_1 p) (ih (p + 1) best (by omega) (by omega) (do_M_skip M (fun _ => e)))) (fun x hx => ?_)
      have hnn : id p ≠ none := by rw [hx]; exact fun z => by cases z
      cases best with
      | none => exact br_f ba_n1le (nm_r (nI_1 p) (ih (p + 1) (some p) (by omega) (by omega) (do_M_fst M h hnn he)))
      | some r =>
        obtain ⟨r1, r2, r3, r4⟩ := M.2 r rfl
        have o1 := G.1.1 r r1
        have o2 := G.1.1 p h
        refine br_t (nI_pos' (by omega)) ⟨17, xd_cd (a := r) (b := p) W G ro ri I (fun s c1 c2 cd => nm_r (nI_1 p) (ih (p + 1) (some s) (by omega) (by omega) (do_M_cd M h hnn he c1 c2 cd))) 17 r p 0 (do_C_rf r1 r2) (do_C_rf h hnn) (fun d h1 h2 => ⟨h1, h2⟩) (by omega) (by omega)⟩
theorem xd_62 {post : SX → Prop} {J48 : Int32 → Int32 → (Nat → Int32) → (Nat → Int32) → (Nat → Int32) → (Nat → Int32) → (Nat → Int32) → (Nat → Int32) → (Nat → Int32) → (Nat → Int32) → (Nat → Int32) → (Nat → Int32) → (Nat → Int32) → (Nat → Int32) → (Nat → Int32) → (Nat → Int32) → (Nat → Int32) → (Nat → Int32) → (Nat → Int32) → (Nat → Int32) → (Nat → Int32) → (Nat → Int32) → (Nat → Int32) → (Nat → Int32) → (Nat → Int32) → (Nat → Int32) → (Nat → Int32) → (Nat → Int32) → (Nat → Int32) → (Nat → Int32) → (Nat → Int32) → (Nat → Int32) → (Nat → Int32) → (Nat → Int32) → (Nat → Int32) → (Nat → Int32) → (Nat → Int32) → (Nat → Int32) → (Nat → Int32) → (Nat → Int32) → (Nat → Int32) → (Nat → Int32) →  Prop} (W : p_W P) (G : ob_G P ord oi) (eb : f_blockCount = nI (p_b P)) (ro : ∀ b, b < p_b P → a_orderIndex b = nI (oi b)) (rk : ∀ k, k < p_b P → a_order k = nI (ord k))
    (hM : xp_M (p_b P) a_predMask (p_E P)) {m : Nat}
    (HK : ∀ (id : Nat → Option Nat) (ch : Bool) (a_idom : Nat → Int32), (∀ b, b < p_b P → a_idom b = ba_o (id b)) → do_V (p_b P) (p_E P) oi id m (p_b P) ch → J48 (xd_c ch) (nI (m + 1)) a_valueKind a_valueBlock a_leaf a_args a_exitKind a_exitValue a_exitTrue a_exitFalse a_predMask a_order a_orderIndex a_idom a_domMask a_firstChild a_nextSibling a_stack a_cursor a_members a_location a_classIndex a_classStart a_classSize a_classMarked a_className a_useHead a_useNext a_work a_inWork a_splitter a_touched a_leaderOf a_available a_undo a_scopeMark a_body a_bodyStart a_bodyOps a_bodyEnd a_env a_phiNew) :
    ∀ (n k : Nat) (id : Nat → Option Nat) (ch : Bool) (a_idom : Nat → Int32), 1 ≤ k → k ≤ p_b P → p_b P - k < n → (∀ b, b < p_b P → a_idom b = ba_o (id b)) → do_V (p_b P) (p_E P) oi id m k ch → wX_findDominators_62 post J48 (nI m) f_blockLimit f_valueLimit f_blockCount f_valueCount f_sealed f_classCount f_workTop f_touchedCount f_undoTop f_runState f_runForm f_here f_input0 f_input1 f_returned f_evaluated n (xd_c ch) (nI k) a_valueKind a_valueBlock a_leaf a_args a_exitKind a_exitValue a_exitTrue a_exitFalse a_predMask a_order a_orderIndex a_idom a_domMask a_firstChild a_nextSibling a_stack a_cursor a_members a_location a_classIndex a_classStart a_classSize a_classMarked a_className a_useHead a_useNext a_work a_inWork a_splitter a_touched a_leaderOf a_available a_undo a_scopeMark a_body a_bodyStart a_bodyOps a_bodyEnd a_env a_phiNew := by
  have hb8 := W.2.1
  have O := G.1
  intro n
  induction n with
  | zero => intro k id ch a_idom _ _ h; omega
  | succ n ih =>
    intro k id ch a_idom h1 hk hn ri V
    rw [wX_findDominators_62]
    refine pk_le (p_b P) k (fun h => ?_) (fun h => ⟨vp_in_nI (by omega) (by omega), ba_rd k rfl (by omega) (rk k h) ?_⟩) (hx := eb)
    · have e : k = p_b P := by omega
      subst e
      exact nm_r (nI_1 m) (HK id ch a_idom ri V)
    · obtain ⟨g1, g2⟩ := G.2.1 k h
      have b0 : ord k ≠ 0 := fun z => by rw [z, O.2.2.1] at g2; omega
      have hi8 : ∀ b x, b < p_b P → id b = some x → x < 8 := by
        intro b x hb e
        rcases Classical.em (b = 0) with z | z
        · rw [z, V.1.1] at e; cases e; omega
        · have := (V.1.2 b hb z x e).1; omega
      refine ⟨p_b P + 1, xd_meet W G eb ro ri V.1 hM g1 (fun best M => ⟨vp_in_nI (by omega) (by omega), ?_⟩) (p_b P + 1) 0 none (by omega) (by omega) (do_M_0 _)⟩
      rw [nI_clamp (by omega), ri _ g1]
      obtain ⟨r, e, hr, v1, v2⟩ := do_V_step O g1 b0 (by rw [g2]; exact V) M
      rw [g2] at v1 v2
      subst e
      refine br_c (fun q => nm_r (nI_1 k) (ih (k + 1) id ch a_idom (by omega) (by omega) (by omega) ri (v1 (ba_o_inj (fun x hx => by have := hi8 _ x g1 hx; omega) (fun x hx => by cases hx; omega) q.symm)))) (fun q => ⟨vp_in_nI (by omega) (by omega), nm_e (nm_r (nI_1 k) (ih (k + 1) _ true _ (by omega) (by omega) (by omega) (fun b hb => ?_) (v2 (fun z => q (by rw [z])))))⟩)
      rcases Classical.em (b = ord k) with z | z
      · rw [z, pk_us, do_u_s]
      · rw [pk_un z, do_u_n z]; exact ri b hb
theorem xd_179 {post : SX → Prop} (W : p_W P) (G : ob_G P ord oi) (rk : ∀ k, k < p_b P → a_order k = nI (ord k)) {I : Nat → Nat} (I0 : I 0 = 0) (F : do_F (p_b P) (p_E P) oi I) (ri : ∀ b, b < p_b P → a_idom b = nI (I b))
    (HK : ∀ (a_firstChild a_nextSibling : Nat → Int32), (∀ b, b < p_b P → ∃ o, ba_F (xd_k I ord b) (p_b P) 1 o ∧ a_firstChild b = ba_o (rn_m ord o)) → (∀ j, 1 ≤ j → j < p_b P → ∃ o, ba_F (xd_k I ord (I (ord j))) (p_b P) (j + 1) o ∧ a_nextSibling (ord j) = ba_o (rn_m ord o)) → post (f_blockLimit, f_valueLimit, f_blockCount, f_valueCount, f_sealed, f_classCount, f_workTop, f_touchedCount, f_undoTop, f_runState, f_runForm, f_here, f_input0, f_input1, f_returned, f_evaluated, a_valueKind, a_valueBlock, a_leaf, a_args, a_exitKind, a_exitValue, a_exitTrue, a_exitFalse, a_predMask, a_order, a_orderIndex, a_idom, a_domMask, a_firstChild, a_nextSibling, a_stack, a_cursor, a_members, a_location, a_classIndex, a_classStart, a_classSize, a_classMarked, a_className, a_useHead, a_useNext, a_work, a_inWork, a_splitter, a_touched, a_leaderOf, a_available, a_undo, a_scopeMark, a_body, a_bodyStart, a_bodyOps, a_bodyEnd, a_env, a_phiNew)) :
    ∀ (n k : Nat) (a_firstChild a_nextSibling : Nat → Int32), k < n → k < p_b P → (∀ b, b < p_b P → ∃ o, ba_F (xd_k I ord b) (p_b P) (k + 1) o ∧ a_firstChild b = ba_o (rn_m ord o)) → (∀ j, k < j → j < p_b P → ∃ o, ba_F (xd_k I ord (I (ord j))) (p_b P) (j + 1) o ∧ a_nextSibling (ord j) = ba_o (rn_m ord o)) → wX_findDominators_179 post f_blockLimit f_valueLimit f_blockCount f_valueCount f_sealed f_classCount f_workTop f_touchedCount f_undoTop f_runState f_runForm f_here f_input0 f_input1 f_returned f_evaluated n (nI k) a_valueKind a_valueBlock a_leaf a_args a_exitKind a_exitValue a_exitTrue a_exitFalse a_predMask a_order a_orderIndex a_idom a_domMask a_firstChild a_nextSibling a_stack a_cursor a_members a_location a_classIndex a_classStart a_classSize a_classMarked a_className a_useHead a_useNext a_work a_inWork a_splitter a_touched a_leaderOf a_available a_undo a_scopeMark a_body a_bodyStart a_bodyOps a_bodyEnd a_env a_phiNew := by
  have hb8 := W.2.1
  have O := G.1
  intro n
  induction n with
  | zero => intro k _ _ h; omega
  | succ n ih =>
    intro k a_firstChild a_nextSibling hn hk hf hs
    rw [wX_findDominators_179]
    refine pk_lt k 1 (fun h => ?_) (fun h => ⟨vp_in_nI (by omega) (by omega), ba_rd k rfl (by omega) (rk k hk) ?_⟩)
    · have e : k = 0 := by omega
      subst e
      exact HK _ _ hf hs
    · obtain ⟨g1, g2⟩ := G.2.1 k hk
      have b0 : ord k ≠ 0 := fun z => by rw [z, O.2.2.1] at g2; omega
      obtain ⟨f1, f2, f3⟩ := F _ g1 b0
      obtain ⟨o, ho1, ho2⟩ := hf _ f1
      refine ⟨vp_in_nI (by omega) (by omega), ba_rd (ord k) rfl (by omega) (ri _ g1) ⟨vp_in_nI (by omega) (by omega), vp_in_nI (by omega) (by omega), ba_wr (ord k) rfl (by omega) (z' := ba_o (rn_m ord o)) (by rw [nI_clamp (by omega), ho2]) ⟨vp_in_nI (by omega) (by omega), ba_wr (I (ord k)) rfl (by omega) rfl (nm_r (sb_m1 (by omega)) (ih (k - 1) _ _ (by omega) (by omega) (fun b hb => ?_) (fun j hj1 hj2 => ?_)))⟩⟩⟩
      · rw [show k - 1 + 1 = k by omega]
        rcases Classical.em (b = I (ord k)) with z | z
        · exact ⟨some k, ba_F_at hk ⟨by omega, z.symm⟩, by rw [z, pk_us]; rfl⟩
        · obtain ⟨o', q1, q2⟩ := hf b hb
          exact ⟨o', ba_F_dn q1 (fun w => z w.2.symm), by rw [pk_un z]; exact q2⟩
      · rcases Classical.em (j = k) with z | z
        · rw [z]
          exact ⟨o, ho1, pk_us⟩
        · obtain ⟨o', q1, q2⟩ := hs j (by omega) hj2
          refine ⟨o', q1, ?_⟩
          rw [pk_un (fun w => z ?_)]
          · exact q2
          · rw [← (G.2.1 j hj2).2, ← g2, w]
theorem xd_130 {post : SX → Prop} (W : p_W P) (G : ob_G P ord oi) (eb : f_blockCount = nI (p_b P)) (rk : ∀ k, k < p_b P → a_order k = nI (ord k)) {I : Nat → Nat} (I0 : I 0 = 0) (F : do_F (p_b P) (p_E P) oi I) (ri : ∀ b, b < p_b P → a_idom b = nI (I b))
    (HK : ∀ (a_domMask : Nat → Int32), (∀ b, b < p_b P → ∀ a, a < 32 → (bt (a_domMask b) a = true ↔ p_D P a b)) → ∃ n, wX_findDominators_179 post f_blockLimit f_valueLimit f_blockCount f_valueCount f_sealed f_classCount f_workTop f_touchedCount f_undoTop f_runState f_runForm f_here f_input0 f_input1 f_returned f_evaluated n (nI (p_b P - 1)) a_valueKind a_valueBlock a_leaf a_args a_exitKind a_exitValue a_exitTrue a_exitFalse a_predMask a_order a_orderIndex a_idom a_domMask a_firstChild a_nextSibling a_stack a_cursor a_members a_location a_classIndex a_classStart a_classSize a_classMarked a_className a_useHead a_useNext a_work a_inWork a_splitter a_touched a_leaderOf a_available a_undo a_scopeMark a_body a_bodyStart a_bodyOps a_bodyEnd a_env a_phiNew) :
    ∀ (n k : Nat) (a_domMask : Nat → Int32), 1 ≤ k → k ≤ p_b P → p_b P - k < n → (∀ b, b < p_b P → oi b < k → ∀ a, a < 32 → (bt (a_domMask b) a = true ↔ p_D P a b)) → wX_findDominators_130 post f_blockLimit f_valueLimit f_blockCount f_valueCount f_sealed f_classCount f_workTop f_touchedCount f_undoTop f_runState f_runForm f_here f_input0 f_input1 f_returned f_evaluated n (nI k) a_valueKind a_valueBlock a_leaf a_args a_exitKind a_exitValue a_exitTrue a_exitFalse a_predMask a_order a_orderIndex a_idom a_domMask a_firstChild a_nextSibling a_stack a_cursor a_members a_location a_classIndex a_classStart a_classSize a_classMarked a_className a_useHead a_useNext a_work a_inWork a_splitter a_touched a_leaderOf a_available a_undo a_scopeMark a_body a_bodyStart a_bodyOps a_bodyEnd a_env a_phiNew := by
  have hb8 := W.2.1
  have hb1 := W.1
  have O := G.1
  intro n
  induction n with
  | zero => intro k a_domMask _ _ h; omega
  | succ n ih =>
    intro k a_domMask h1 hk hn hd
    rw [wX_findDominators_130]
    refine pk_le (p_b P) k (fun h => ?_) (fun h => ⟨vp_in_nI (by omega) (by omega), ba_rd k rfl (by omega) (rk k h) ?_⟩) (hx := eb)
    · refine nm_r (e' := nI (p_b P - 1)) (by rw [eb]; exact ba_s1 (by omega)) (HK a_domMask (fun b hb => hd b hb ?_))
      have := O.1 b hb; omega
    · obtain ⟨g1, g2⟩ := G.2.1 k h
      have b0 : ord k ≠ 0 := fun z => by rw [z, O.2.2.1] at g2; omega
      obtain ⟨f1, f2, f3⟩ := F _ g1 b0
      refine ⟨vp_in_nI (by omega) (by omega), ?_⟩
      rw [nI_clamp (by omega), ri _ g1, nI_clamp (by omega)]
      refine ⟨vp_in_nI (by omega) (by omega), vp_in_nI (by omega) (by omega), nm_e (nm_r (nI_1 k) (ih (k + 1) _ (by omega) (by omega) (by omega) (fun b hb hob a ha => ?_)))⟩
      rcases Classical.em (b = ord k) with z | z
      · subst z
        rw [pk_us, ba_setT _ (by omega) ha, hd _ f1 (by omega) a ha]
        refine Iff.trans ?_ (f3 a).symm
        exact Or.comm
      · rw [pk_un z]
        refine hd b hb ?_ a ha
        have : oi b ≠ k := fun w => z (by rw [← w]; exact (G.2.2 b hb).symm)
        omega
theorem xd_48 {post : SX → Prop} (W : p_W P) (G : ob_G P ord oi) (eb : f_blockCount = nI (p_b P)) (ro : ∀ b, b < p_b P → a_orderIndex b = nI (oi b)) (rk : ∀ k, k < p_b P → a_order k = nI (ord k))
    (hM : xp_M (p_b P) a_predMask (p_E P))
    (HK : ∀ (I : Nat → Nat) (a_idom : Nat → Int32), I 0 = 0 → do_F (p_b P) (p_E P) oi I → (∀ b, b < p_b P → a_idom b = nI (I b)) → ∃ n, wX_findDominators_130 post f_blockLimit f_valueLimit f_blockCount f_valueCount f_sealed f_classCount f_workTop f_touchedCount f_undoTop f_runState f_runForm f_here f_input0 f_input1 f_returned f_evaluated n 1 a_valueKind a_valueBlock a_leaf a_args a_exitKind a_exitValue a_exitTrue a_exitFalse a_predMask a_order a_orderIndex a_idom (upd a_domMask 0 1) a_firstChild a_nextSibling a_stack a_cursor a_members a_location a_classIndex a_classStart a_classSize a_classMarked a_className a_useHead a_useNext a_work a_inWork a_splitter a_touched a_leaderOf a_available a_undo a_scopeMark a_body a_bodyStart a_bodyOps a_bodyEnd a_env a_phiNew) :
    ∀ (n m : Nat) (id : Nat → Option Nat) (ch : Bool) (a_idom : Nat → Int32), m ≤ 64 → 64 - m < n → (∀ b, b < p_b P → a_idom b = ba_o (id b)) → do_H (p_b P) (p_E P) oi id m ch → wX_findDominators_48 post f_blockLimit f_valueLimit f_blockCount f_valueCount f_sealed f_classCount f_workTop f_touchedCount f_undoTop f_runState f_runForm f_here f_input0 f_input1 f_returned f_evaluated n (xd_c ch) (nI m) a_valueKind a_valueBlock a_leaf a_args a_exitKind a_exitValue a_exitTrue a_exitFalse a_predMask a_order a_orderIndex a_idom a_domMask a_firstChild a_nextSibling a_stack a_cursor a_members a_location a_classIndex a_classStart a_classSize a_classMarked a_className a_useHead a_useNext a_work a_inWork a_splitter a_touched a_leaderOf a_available a_undo a_scopeMark a_body a_bodyStart a_bodyOps a_bodyEnd a_env a_phiNew := by
  have hb8 := W.2.1
  have hb1 := W.1
  intro n
  induction n with
  | zero => intro m id ch a_idom _ h; omega
  | succ n ih =>
    intro m id ch a_idom hm hn ri H
    have out : (ch = false ∨ 64 ≤ m) → ∃ n, wX_findDominators_130 post f_blockLimit f_valueLimit f_blockCount f_valueCount f_sealed f_classCount f_workTop f_touchedCount f_undoTop f_runState f_runForm f_here f_input0 f_input1 f_returned f_evaluated n 1 a_valueKind a_valueBlock a_leaf a_args a_exitKind a_exitValue a_exitTrue a_exitFalse a_predMask a_order a_orderIndex a_idom (upd a_domMask 0 1) a_firstChild a_nextSibling a_stack a_cursor a_members a_location a_classIndex a_classStart a_classSize a_classMarked a_className a_useHead a_useNext a_work a_inWork a_splitter a_touched a_leaderOf a_available a_undo a_scopeMark a_body a_bodyStart a_bodyOps a_bodyEnd a_env a_phiNew := by
      intro q
      obtain ⟨I, i0, i1, i2⟩ := do_end (by omega) hb8 H q
      exact HK I a_idom i0 i2 (fun b hb => by rw [ri b hb, i1 b hb]; rfl)
    rw [wX_findDominators_48]
    refine pk_le 64 m (fun h => nm_e (out (Or.inr h))) (fun h => ?_)
    cases ch with
    | false => exact br_t rfl (nm_e (out (Or.inl rfl)))
    | true =>
      refine br_f (by decide) ⟨p_b P + 1, ?_⟩
      refine xd_62 W G eb ro rk hM (fun id ch a_idom ri V => ih (m + 1) id ch a_idom (by omega) (by omega) ri (do_H_out G.1 V)) (p_b P + 1) 1 id false a_idom (by omega) (by omega) (by omega) ri (do_H_in G.1 (by omega) H)
theorem xd_2 {post : SX → Prop} {N : Nat} (hN : N ≤ 8) (e : f_blockCount = nI N) (K : ∀ a_idom a_firstChild a_nextSibling : Nat → Int32, (∀ j, j < N → a_idom j = -1) → (∀ j, j < N → a_firstChild j = -1) → (∀ j, j < N → a_nextSibling j = -1) → ∃ n, wX_findDominators_48 post f_blockLimit f_valueLimit f_blockCount f_valueCount f_sealed f_classCount f_workTop f_touchedCount f_undoTop f_runState f_runForm f_here f_input0 f_input1 f_returned f_evaluated n 1 0 a_valueKind a_valueBlock a_leaf a_args a_exitKind a_exitValue a_exitTrue a_exitFalse a_predMask a_order a_orderIndex (upd a_idom 0 0) a_domMask a_firstChild a_nextSibling a_stack a_cursor a_members a_location a_classIndex a_classStart a_classSize a_classMarked a_className a_useHead a_useNext a_work a_inWork a_splitter a_touched a_leaderOf a_available a_undo a_scopeMark a_body a_bodyStart a_bodyOps a_bodyEnd a_env a_phiNew) :
    ∀ (n i : Nat) (a_idom a_firstChild a_nextSibling : Nat → Int32), i ≤ N → N - i < n → (∀ j, j < i → a_idom j = -1) → (∀ j, j < i → a_firstChild j = -1) → (∀ j, j < i → a_nextSibling j = -1) → wX_findDominators_2 post f_blockLimit f_valueLimit f_blockCount f_valueCount f_sealed f_classCount f_workTop f_touchedCount f_undoTop f_runState f_runForm f_here f_input0 f_input1 f_returned f_evaluated n (nI i) a_valueKind a_valueBlock a_leaf a_args a_exitKind a_exitValue a_exitTrue a_exitFalse a_predMask a_order a_orderIndex a_idom a_domMask a_firstChild a_nextSibling a_stack a_cursor a_members a_location a_classIndex a_classStart a_classSize a_classMarked a_className a_useHead a_useNext a_work a_inWork a_splitter a_touched a_leaderOf a_available a_undo a_scopeMark a_body a_bodyStart a_bodyOps a_bodyEnd a_env a_phiNew := by
  intro n
  induction n with
  | zero => intro i _ _ _ _ h; omega
  | succ n ih =>
    intro i a_idom a_firstChild a_nextSibling hi hn f1 f2 f3
    rw [wX_findDominators_2]
    refine pk_le N i (fun h => ?_) (fun h => ⟨vp_in_nI (by omega) (by omega), ba_wr i rfl (by omega) rfl ⟨vp_in_nI (by omega) (by omega), ba_wr i rfl (by omega) rfl ⟨vp_in_nI (by omega) (by omega), ba_wr i rfl (by omega) rfl (nm_r (nI_1 i) (ih (i + 1) _ _ _ (by omega) (by omega) (ba_f1 f1) (ba_f1 f2) (ba_f1 f3)))⟩⟩⟩) (hx := e)
    have e : i = N := by omega
    subst e
    exact nm_e (K _ _ _ f1 f2 f3)
theorem xd_doms {post : SX → Prop} (W : p_W P) (G : ob_G P ord oi) (eb : f_blockCount = nI (p_b P)) (ro : ∀ b, b < p_b P → a_orderIndex b = nI (oi b)) (rk : ∀ k, k < p_b P → a_order k = nI (ord k))
    (hM : xp_M (p_b P) a_predMask (p_E P))
    (HK : ∀ (a_idom a_domMask a_firstChild a_nextSibling : Nat → Int32), xd_R P ord oi a_domMask a_firstChild a_nextSibling → post (f_blockLimit, f_valueLimit, f_blockCount, f_valueCount, f_sealed, f_classCount, f_workTop, f_touchedCount, f_undoTop, f_runState, f_runForm, f_here, f_input0, f_input1, f_returned, f_evaluated, a_valueKind, a_valueBlock, a_leaf, a_args, a_exitKind, a_exitValue, a_exitTrue, a_exitFalse, a_predMask, a_order, a_orderIndex, a_idom, a_domMask, a_firstChild, a_nextSibling, a_stack, a_cursor, a_members, a_location, a_classIndex, a_classStart, a_classSize, a_classMarked, a_className, a_useHead, a_useNext, a_work, a_inWork, a_splitter, a_touched, a_leaderOf, a_available, a_undo, a_scopeMark, a_body, a_bodyStart, a_bodyOps, a_bodyEnd, a_env, a_phiNew)) : wpX_findDominators post (f_blockLimit, f_valueLimit, f_blockCount, f_valueCount, f_sealed, f_classCount, f_workTop, f_touchedCount, f_undoTop, f_runState, f_runForm, f_here, f_input0, f_input1, f_returned, f_evaluated, a_valueKind, a_valueBlock, a_leaf, a_args, a_exitKind, a_exitValue, a_exitTrue, a_exitFalse, a_predMask, a_order, a_orderIndex, a_idom, a_domMask, a_firstChild, a_nextSibling, a_stack, a_cursor, a_members, a_location, a_classIndex, a_classStart, a_classSize, a_classMarked, a_className, a_useHead, a_useNext, a_work, a_inWork, a_splitter, a_touched, a_leaderOf, a_available, a_undo, a_scopeMark, a_body, a_bodyStart, a_bodyOps, a_bodyEnd, a_env, a_phiNew) := by
  have hb8 := W.2.1
  have hb1 := W.1
  refine ⟨p_b P + 1, xd_2 hb8 eb (fun a_idom a_firstChild a_nextSibling f1 f2 f3 => ?_) (p_b P + 1) 0 _ _ _ (by omega) (by omega) ba_f0 ba_f0 ba_f0⟩
  · have H0 : do_H (p_b P) (p_E P) oi (fun b => if b = 0 then some 0 else none) 0 true := by
      refine ⟨⟨rfl, fun b hb h0 x hx => ?_⟩, Or.inl rfl, do_A_0, fun z => by cases z⟩
      have hx' : (if b = 0 then some 0 else none) = some x := hx
      rw [if_neg h0] at hx'; cases hx'
    refine ⟨65, xd_48 W G eb ro rk hM (fun I a_idom i0 F ri => ?_) 65 0 _ true _ (by omega) (by omega) (fun b hb => ?_) H0⟩
    · refine ⟨p_b P + 1, xd_130 W G eb rk i0 F ri (fun a_domMask hd => ?_) (p_b P + 1) 1 _ (by omega) (by omega) (by omega) (fun b hb ho a ha => ?_)⟩
      · refine ⟨p_b P, xd_179 W G rk i0 F ri (fun fc ns h1 h2 => HK _ _ _ _ ⟨I, i0, F, hd, h1, h2⟩) (p_b P) (p_b P - 1) _ _ (by omega) (by omega) (fun b hb => ⟨none, ⟨fun _ j h1 h2 => by omega, fun j z => by cases z⟩, by rw [f2 b hb]; rfl⟩) (fun j h1 h2 => by omega)⟩
      · have e : b = 0 := G.1.2.1 b 0 hb (by omega) (by rw [G.1.2.2.1]; omega)
        subst e
        rw [pk_us, ba_1 a ha, decide_eq_true_iff]
        exact ⟨fun z => by rw [z]; exact gr_D_rf 0, fun z => gr_D_to0 z⟩
    · rcases Classical.em (b = 0) with z | z
      · rw [z, pk_us]; rfl
      · rw [pk_un z, f1 b hb, if_neg z]; rfl
end XD
end
section
/-! X: usesInScope -/
section XU
variable {f_blockLimit f_valueLimit f_blockCount f_valueCount f_sealed f_classCount f_workTop f_touchedCount f_undoTop f_runState f_runForm f_here f_input0 f_input1 f_returned f_evaluated : Int32} {a_valueKind a_valueBlock a_leaf a_args a_exitKind a_exitValue a_exitTrue a_exitFalse a_predMask a_order a_orderIndex a_idom a_domMask a_firstChild a_nextSibling a_stack a_cursor a_members a_location a_classIndex a_classStart a_classSize a_classMarked a_className a_useHead a_useNext a_work a_inWork a_splitter a_touched a_leaderOf a_available a_undo a_scopeMark a_body a_bodyStart a_bodyOps a_bodyEnd a_env a_phiNew : Nat → Int32} {P : PT}
def xu_v (P : PT) (v i : Nat) : Prop := ∀ x, p_A P v i = some x → (p_K P v ≠ 2 → p_D P (p_B P x) (p_B P v)) ∧ (p_K P v = 2 → p_D P (p_B P x) i)
def xu_b (P : PT) (b : Nat) : Prop := ∀ x, p_x P b = some x → p_D P (p_B P x) b
theorem xu_S4 : p_S4 P ↔ (∀ v, v < p_v P → ∀ i, i < 8 → xu_v P v i) ∧ ∀ b, b < p_b P → xu_b P b :=
  ⟨fun h => ⟨fun v hv i hi x hx => h.1 v i x hv hi hx, fun b hb x hx => h.2 b x hb hx⟩, fun h => ⟨fun v i x hv hi hx => h.1 v hv i hi x hx, fun b x hb hx => h.2 b hb x hx⟩⟩
theorem xu_86 {post : Int32 → Prop} (W : p_W P) (hX : p_X P a_valueKind a_valueBlock a_leaf a_args a_exitKind a_exitValue a_exitTrue a_exitFalse) (eb : f_blockCount = nI (p_b P))
    (hd : ∀ b, b < p_b P → ∀ a, a < 32 → (bt (a_domMask b) a = true ↔ p_D P a b)) (hv : ∀ v, v < p_v P → ∀ i, i < 8 → xu_v P v i) (h1 : p_S4 P → post 1) (h0 : ¬ p_S4 P → post 0) :
    ∀ n b, b ≤ p_b P → p_b P - b < n → (∀ c, c < b → xu_b P c) → wX_usesInScope_86 post f_blockLimit f_valueLimit f_blockCount f_valueCount f_sealed f_classCount f_workTop f_touchedCount f_undoTop f_runState f_runForm f_here f_input0 f_input1 f_returned f_evaluated a_valueKind a_valueBlock a_leaf a_args a_exitKind a_exitValue a_exitTrue a_exitFalse a_predMask a_order a_orderIndex a_idom a_domMask a_firstChild a_nextSibling a_stack a_cursor a_members a_location a_classIndex a_classStart a_classSize a_classMarked a_className a_useHead a_useNext a_work a_inWork a_splitter a_touched a_leaderOf a_available a_undo a_scopeMark a_body a_bodyStart a_bodyOps a_bodyEnd a_env a_phiNew n (nI b) := by
  have hb8 := W.2.1
  have hv32 := W.2.2.1
  subst eb
  intro n
  induction n with
  | zero => intro b _ h; omega
  | succ n ih =>
    intro b hb hn hp
    rw [wX_usesInScope_86]
    have nx : b < p_b P → xu_b P b → wX_usesInScope_86 post f_blockLimit f_valueLimit (nI (p_b P)) f_valueCount f_sealed f_classCount f_workTop f_touchedCount f_undoTop f_runState f_runForm f_here f_input0 f_input1 f_returned f_evaluated a_valueKind a_valueBlock a_leaf a_args a_exitKind a_exitValue a_exitTrue a_exitFalse a_predMask a_order a_orderIndex a_idom a_domMask a_firstChild a_nextSibling a_stack a_cursor a_members a_location a_classIndex a_classStart a_classSize a_classMarked a_className a_useHead a_useNext a_work a_inWork a_splitter a_touched a_leaderOf a_available a_undo a_scopeMark a_body a_bodyStart a_bodyOps a_bodyEnd a_env a_phiNew n (nI (b + 1)) := fun h c => ih (b + 1) (by omega) (by omega) (fun u hu => by
      rcases Classical.em (u = b) with q | q
      · rw [q]; exact c
      · exact hp u (by omega))
    refine pk_le (p_b P) b (fun h => h1 (xu_S4.mpr ⟨hv, fun c hc => hp c (by omega)⟩)) (fun h => ⟨vp_in_nI (by omega) (by omega), ba_rd b rfl (by omega) (hX.2.2.2.2.2.1 b h) ?_⟩)
    have wb := W.2.2.2.2 b h
    refine ba_on (p_x P b) rfl (fun x hx => by have := wb.2.1 x hx; omega) (fun e => nm_r (nI_1 b) (nx h (fun x hx => by rw [e] at hx; cases hx))) (fun x hx => ?_)
    have hx' := wb.2.1 x hx
    have wx := W.2.2.2.1 x hx'
    have hBx := wx.2.1
    rw [hx]
    refine ⟨vp_in_nI (by omega) (by omega), ?_⟩
    rw [show ba_o (some x) = nI x from rfl, nI_clamp (by omega), hX.2.1 x hx']
    have hm := hd b h (p_B P x) (by omega)
    refine xs_id (by omega) (by omega) (fun e => br_t rfl (h0 (fun s => ?_))) (fun e => br_f (by decide) (nm_r (nI_1 b) (nx h (fun y hy => ?_))))
    · have := (xu_S4.mp s).2 b h x hx
      rw [hm.mpr this] at e; cases e
    · rw [hx] at hy; cases hy
      exact hm.mp e
theorem xu_55 {post J2 J12 : Int32 → Prop} {x1 : Int32} (W : p_W P) (hX : p_X P a_valueKind a_valueBlock a_leaf a_args a_exitKind a_exitValue a_exitTrue a_exitFalse)
    (hd : ∀ b, b < p_b P → ∀ a, a < 32 → (bt (a_domMask b) a = true ↔ p_D P a b)) {x s i : Nat} (hx : x < p_v P) (hs : s < p_b P) (h1 : p_D P (p_B P x) s → J12 (nI (i + 1))) (h0 : ¬ p_D P (p_B P x) s → post 0) : wX_usesInScope_55 post J2 J12 x1 (nI i) (nI x) (nI s) f_blockLimit f_valueLimit f_blockCount f_valueCount f_sealed f_classCount f_workTop f_touchedCount f_undoTop f_runState f_runForm f_here f_input0 f_input1 f_returned f_evaluated a_valueKind a_valueBlock a_leaf a_args a_exitKind a_exitValue a_exitTrue a_exitFalse a_predMask a_order a_orderIndex a_idom a_domMask a_firstChild a_nextSibling a_stack a_cursor a_members a_location a_classIndex a_classStart a_classSize a_classMarked a_className a_useHead a_useNext a_work a_inWork a_splitter a_touched a_leaderOf a_available a_undo a_scopeMark a_body a_bodyStart a_bodyOps a_bodyEnd a_env a_phiNew := by
  have hb8 := W.2.1
  have hv32 := W.2.2.1
  have wx := W.2.2.2.1 x hx
  have hBx := wx.2.1
  have hm := hd s hs (p_B P x) (by omega)
  unfold wX_usesInScope_55
  refine ⟨vp_in_nI (by omega) (by omega), ?_⟩
  rw [nI_clamp (by omega), hX.2.1 x hx]
  exact xs_id (by omega) (by omega) (fun e => br_t rfl (h0 (fun z => by rw [hm.mpr z] at e; cases e))) (fun e => br_f (by decide) (nm_r (nI_1 i) (h1 (hm.mp e))))
theorem xu_12 {post J2 : Int32 → Prop} (W : p_W P) (hX : p_X P a_valueKind a_valueBlock a_leaf a_args a_exitKind a_exitValue a_exitTrue a_exitFalse)
    (hd : ∀ b, b < p_b P → ∀ a, a < 32 → (bt (a_domMask b) a = true ↔ p_D P a b)) {v : Nat} (hv : v < p_v P) (h1 : (∀ i, i < 8 → xu_v P v i) → J2 (nI (v + 1))) (h0 : ¬ (∀ i, i < 8 → xu_v P v i) → post 0) :
    ∀ n i, i ≤ 8 → 8 - i < n → (∀ j, j < i → xu_v P v j) → wX_usesInScope_12 post J2 (nI v) f_blockLimit f_valueLimit f_blockCount f_valueCount f_sealed f_classCount f_workTop f_touchedCount f_undoTop f_runState f_runForm f_here f_input0 f_input1 f_returned f_evaluated a_valueKind a_valueBlock a_leaf a_args a_exitKind a_exitValue a_exitTrue a_exitFalse a_predMask a_order a_orderIndex a_idom a_domMask a_firstChild a_nextSibling a_stack a_cursor a_members a_location a_classIndex a_classStart a_classSize a_classMarked a_className a_useHead a_useNext a_work a_inWork a_splitter a_touched a_leaderOf a_available a_undo a_scopeMark a_body a_bodyStart a_bodyOps a_bodyEnd a_env a_phiNew n (nI i) := by
  have hb8 := W.2.1
  have hv32 := W.2.2.1
  have wv := W.2.2.2.1 v hv
  have hBv := wv.2.1
  intro n
  induction n with
  | zero => intro i _ h; omega
  | succ n ih =>
    intro i hi hn hp
    rw [wX_usesInScope_12]
    have nx : i < 8 → xu_v P v i → wX_usesInScope_12 post J2 (nI v) f_blockLimit f_valueLimit f_blockCount f_valueCount f_sealed f_classCount f_workTop f_touchedCount f_undoTop f_runState f_runForm f_here f_input0 f_input1 f_returned f_evaluated a_valueKind a_valueBlock a_leaf a_args a_exitKind a_exitValue a_exitTrue a_exitFalse a_predMask a_order a_orderIndex a_idom a_domMask a_firstChild a_nextSibling a_stack a_cursor a_members a_location a_classIndex a_classStart a_classSize a_classMarked a_className a_useHead a_useNext a_work a_inWork a_splitter a_touched a_leaderOf a_available a_undo a_scopeMark a_body a_bodyStart a_bodyOps a_bodyEnd a_env a_phiNew n (nI (i + 1)) := fun h c => ih (i + 1) (by omega) (by omega) (fun u hu => by
      rcases Classical.em (u = i) with q | q
      · rw [q]; exact c
      · exact hp u (by omega))
    refine pk_le 8 i (fun h => nm_r (nI_1 v) (h1 (fun j hj => hp j (by omega)))) (fun h => ⟨pk_in (v * 8 + i) 512 (by omega) (ba_ix8 v i), ba_rd (v * 8 + i) (ba_ix8 v i) (by omega) (hX.2.2.2.1 v i hv h) ?_⟩)
    refine ba_on (p_A P v i) rfl (fun x hx => by have := wv.2.2.1 i x h hx; omega) (fun e => nm_r (nI_1 i) (nx h (fun x hx => by rw [e] at hx; cases hx))) (fun x hx => ?_)
    have hx' := wv.2.2.1 i x h hx
    rw [hx]
    refine ⟨vp_in_nI (by omega) (by omega), ba_rd v rfl (by omega) (hX.2.1 v hv) ⟨vp_in_nI (by omega) (by omega), ?_⟩⟩
    rw [nI_clamp (by omega), hX.1 v hv]
    refine pk_eq (p_K P v) 2 (fun e => ?_) (fun e => ?_) (ha := by have := wv.1; omega)
    · refine xu_55 W hX hd hx' ((wv.2.2.2.2.1 e).2 i x h hx) (fun q => nx h (fun y hy => ?_)) (fun q => h0 (fun z => q ((z i h x hx).2 e)))
      rw [hx] at hy; cases hy
      exact ⟨fun z => absurd e z, fun _ => q⟩
    · refine xu_55 W hX hd hx' wv.2.1 (fun q => nx h (fun y hy => ?_)) (fun q => h0 (fun z => q ((z i h x hx).1 e)))
      rw [hx] at hy; cases hy
      exact ⟨fun _ => q, fun z => absurd z e⟩
theorem xu_2 {post : Int32 → Prop} (W : p_W P) (hX : p_X P a_valueKind a_valueBlock a_leaf a_args a_exitKind a_exitValue a_exitTrue a_exitFalse) (eb : f_blockCount = nI (p_b P)) (ev : f_valueCount = nI (p_v P))
    (hd : ∀ b, b < p_b P → ∀ a, a < 32 → (bt (a_domMask b) a = true ↔ p_D P a b)) (h1 : p_S4 P → post 1) (h0 : ¬ p_S4 P → post 0) :
    ∀ n v, v ≤ p_v P → p_v P - v < n → (∀ u, u < v → ∀ i, i < 8 → xu_v P u i) → wX_usesInScope_2 post f_blockLimit f_valueLimit f_blockCount f_valueCount f_sealed f_classCount f_workTop f_touchedCount f_undoTop f_runState f_runForm f_here f_input0 f_input1 f_returned f_evaluated a_valueKind a_valueBlock a_leaf a_args a_exitKind a_exitValue a_exitTrue a_exitFalse a_predMask a_order a_orderIndex a_idom a_domMask a_firstChild a_nextSibling a_stack a_cursor a_members a_location a_classIndex a_classStart a_classSize a_classMarked a_className a_useHead a_useNext a_work a_inWork a_splitter a_touched a_leaderOf a_available a_undo a_scopeMark a_body a_bodyStart a_bodyOps a_bodyEnd a_env a_phiNew n (nI v) := by
  have hb8 := W.2.1
  have hv32 := W.2.2.1
  intro n
  induction n with
  | zero => intro v _ h; omega
  | succ n ih =>
    intro v hv hn hp
    rw [wX_usesInScope_2]
    refine pk_le (p_v P) v (fun h => ⟨p_b P + 1, xu_86 W hX eb hd (fun u hu => hp u (by omega)) h1 h0 (p_b P + 1) 0 (by omega) (by omega) (fun c hc => by omega)⟩) (fun h => ⟨9, xu_12 W hX hd h (fun c => ih (v + 1) (by omega) (by omega) (fun u hu => ?_)) (fun c => h0 (fun s => c ((xu_S4.mp s).1 v h))) 9 0 (by omega) (by omega) (fun j hj => by omega)⟩) (hx := ev)
    rcases Classical.em (u = v) with q | q
    · rw [q]; exact c
    · exact hp u (by omega)
theorem xu_scope {post : Int32 → Prop} (W : p_W P) (hX : p_X P a_valueKind a_valueBlock a_leaf a_args a_exitKind a_exitValue a_exitTrue a_exitFalse) (eb : f_blockCount = nI (p_b P)) (ev : f_valueCount = nI (p_v P))
    (hd : ∀ b, b < p_b P → ∀ a, a < 32 → (bt (a_domMask b) a = true ↔ p_D P a b)) (h1 : p_S4 P → post 1) (h0 : ¬ p_S4 P → post 0) : wpX_usesInScope post (f_blockLimit, f_valueLimit, f_blockCount, f_valueCount, f_sealed, f_classCount, f_workTop, f_touchedCount, f_undoTop, f_runState, f_runForm, f_here, f_input0, f_input1, f_returned, f_evaluated, a_valueKind, a_valueBlock, a_leaf, a_args, a_exitKind, a_exitValue, a_exitTrue, a_exitFalse, a_predMask, a_order, a_orderIndex, a_idom, a_domMask, a_firstChild, a_nextSibling, a_stack, a_cursor, a_members, a_location, a_classIndex, a_classStart, a_classSize, a_classMarked, a_className, a_useHead, a_useNext, a_work, a_inWork, a_splitter, a_touched, a_leaderOf, a_available, a_undo, a_scopeMark, a_body, a_bodyStart, a_bodyOps, a_bodyEnd, a_env, a_phiNew) :=
  ⟨p_v P + 1, xu_2 W hX eb ev hd h1 h0 (p_v P + 1) 0 (by omega) (by omega) (fun u hu => by omega)⟩
end XU
end
section
/-! the first partition, pure -/
def mi_O (nv : Nat) (Lab : Nat → Nat → Prop) (v at' nc : Nat) (Ci : Nat → Option Nat) (M Lc Cs Sz : Nat → Nat) : Prop :=
  (∀ u, u < v → Ci u ≠ none) ∧
  (∀ u, u < nv → ∀ c, Ci u = some c → c < nc ∧ Lc u < at' ∧ M (Lc u) = u ∧ Cs c ≤ Lc u ∧ Lc u < Cs c + Sz c) ∧
  (∀ p, p < at' → M p < nv ∧ Lc (M p) = p ∧ Ci (M p) ≠ none) ∧
  (∀ c, c < nc → 0 < Sz c ∧ Cs c + Sz c ≤ at' ∧ ∀ p, Cs c ≤ p → p < Cs c + Sz c → Ci (M p) = some c) ∧
  (∀ u w, u < nv → w < nv → ∀ c, Ci u = some c → (Ci w = some c ↔ Lab u w)) ∧ nc ≤ v ∧ at' = cn (fun u => Ci u ≠ none) nv
def mi_J (nv : Nat) (Lab : Nat → Nat → Prop) (v at0 nc u at' : Nat) (Ci : Nat → Option Nat) (M Lc Cs Sz : Nat → Nat) : Prop :=
  (∀ u, u < v → Ci u ≠ none) ∧
  (∀ w, w < nv → ∀ c, Ci w = some c → c ≤ nc ∧ Lc w < at' ∧ M (Lc w) = w ∧ (c < nc → Cs c ≤ Lc w ∧ Lc w < Cs c + Sz c) ∧ (c = nc → at0 ≤ Lc w)) ∧
  (∀ p, p < at' → M p < nv ∧ Lc (M p) = p ∧ Ci (M p) ≠ none) ∧
  (∀ c, c < nc → 0 < Sz c ∧ Cs c + Sz c ≤ at0 ∧ ∀ p, Cs c ≤ p → p < Cs c + Sz c → Ci (M p) = some c) ∧
  (∀ p, at0 ≤ p → p < at' → Ci (M p) = some nc) ∧
  (∀ w x, w < nv → x < nv → ∀ c, c < nc → Ci w = some c → (Ci x = some c ↔ Lab w x)) ∧
  (∀ w, w < nv → (Ci w = some nc ↔ w < u ∧ Lab v w)) ∧ nc ≤ v ∧ at' = cn (fun u => Ci u ≠ none) nv ∧ at0 ≤ at' ∧ Cs nc = at0 ∧
  (∀ w, w < nv → Lab v w → Ci w = none ∨ Ci w = some nc)
section MI
variable {nv v at' at0 nc u : Nat} {Lab : Nat → Nat → Prop} {Ci : Nat → Option Nat} {M Lc Cs Sz : Nat → Nat}
theorem mi_O_0 (h : ∀ u, u < nv → Ci u = none) : mi_O nv Lab 0 0 0 Ci M Lc Cs Sz :=
  ⟨fun u hu => by omega, fun u hu c e => (by rw [h u hu] at e; cases e), fun p hp => by omega, fun c hc => by omega, fun u w hu _ c e => (by rw [h u hu] at e; cases e), Nat.le_refl _, (cn_none (fun u hu z => z (h u hu))).symm⟩
theorem mi_O_skip (h : mi_O nv Lab v at' nc Ci M Lc Cs Sz) (e : Ci v ≠ none) : mi_O nv Lab (v + 1) at' nc Ci M Lc Cs Sz := by
  obtain ⟨h1, h2, h3, h4, h5, h6, h7⟩ := h
  refine ⟨fun u hu => ?_, h2, h3, h4, h5, by omega, h7⟩
  rcases Classical.em (u = v) with q | q
  · rw [q]; exact e
  · exact h1 u (by omega)
theorem mi_at {Q : Nat → Prop} (hu : u < nv) (h : ¬ Q u) : cn Q nv < nv := by
  have := cn_lt (P := Q) (Q := fun _ => True) h trivial (N := nv) (fun _ _ _ => trivial) hu
  have := cn_le (fun _ => True) nv
  omega
theorem mi_J_in (sy : ∀ u v, Lab u v → Lab v u) (h : mi_O nv Lab v at' nc Ci M Lc Cs Sz) (hv : v < nv) (e : Ci v = none) : mi_J nv Lab v at' nc v at' Ci M Lc (nu Cs nc at') Sz := by
  obtain ⟨h1, h2, h3, h4, h5, h6, h7⟩ := h
  have np : ∀ w, w < nv → Lab v w → Ci w = none := by
    intro w hw hl
    cases ew : Ci w with
    | none => rfl
    | some c =>
      have := (h5 w v hw hv c ew).mpr (sy _ _ hl)
      rw [e] at this; cases this
  refine ⟨h1, fun w hw c ec => ?_, h3, fun c hc => ?_, fun p hp1 hp2 => by omega, fun w x hw hx c _ ec => h5 w x hw hx c ec, fun w hw => ⟨fun ec => ?_, fun z => ?_⟩, h6, h7, Nat.le_refl _, nu_s, fun w hw hl => Or.inl (np w hw hl)⟩
  · obtain ⟨a1, a2, a3, a4, a5⟩ := h2 w hw c ec
    rw [nu_n (by omega)]
    exact ⟨by omega, a2, a3, fun _ => ⟨a4, a5⟩, fun z => by omega⟩
  · rw [nu_n (by omega)]
    exact h4 c hc
  · have := (h2 w hw nc ec).1
    omega
  · exact absurd (np w hw z.2) (h1 w z.1)
theorem mi_J_skip (h : mi_J nv Lab v at0 nc u at' Ci M Lc Cs Sz) (hu : u < nv) (e : Ci u ≠ none ∨ ¬ Lab v u) : mi_J nv Lab v at0 nc (u + 1) at' Ci M Lc Cs Sz := by
  obtain ⟨h1, h2, h3, h4, h5, h6, h7, h8, h9, h10, h11, h12⟩ := h
  refine ⟨h1, h2, h3, h4, h5, h6, fun w hw => ?_, h8, h9, h10, h11, h12⟩
  rw [h7 w hw]
  refine ⟨fun z => ⟨by omega, z.2⟩, fun z => ⟨?_, z.2⟩⟩
  rcases Classical.em (w = u) with q | q
  · subst q
    rcases h12 w hw z.2 with y | y
    · rcases e with e | e
      · exact absurd y e
      · exact absurd z.2 e
    · exact ((h7 w hw).mp y).1
  · omega
theorem mi_J_take (h : mi_J nv Lab v at0 nc u at' Ci M Lc Cs Sz) (hu : u < nv) (e : Ci u = none) (hl : Lab v u) : at' < nv ∧ mi_J nv Lab v at0 nc (u + 1) (at' + 1) (ou Ci u (some nc)) (nu M at' u) (nu Lc u at') Cs Sz := by
  obtain ⟨h1, h2, h3, h4, h5, h6, h7, h8, h9, h10, h11, h12⟩ := h
  have hat : at' < nv := by
    rw [h9]
    exact mi_at (u := u) hu (fun z => z e)
  have ne : ∀ p, p < at' → M p ≠ u := fun p hp q => (h3 p hp).2.2 (q ▸ e)
  refine ⟨hat, fun w hw => ?_, fun w hw c ec => ?_, fun p hp => ?_, fun c hc => ?_, fun p hp1 hp2 => ?_, fun w x hw hx c hc ec => ?_, fun w hw => ?_, h8, ?_, by omega, h11, fun w hw hlw => ?_⟩
  · rcases Classical.em (w = u) with q | q
    · rw [q, ou_s]; exact fun z => by cases z
    · rw [ou_n q]; exact h1 w hw
  · rcases Classical.em (w = u) with q | q
    · subst q
      rw [ou_s] at ec
      cases ec
      rw [nu_s, nu_s]
      exact ⟨Nat.le_refl _, by omega, rfl, fun z => by omega, fun _ => h10⟩
    · rw [ou_n q] at ec
      obtain ⟨a1, a2, a3, a4, a5⟩ := h2 w hw c ec
      rw [nu_n q, nu_n (by omega)]
      exact ⟨a1, by omega, a3, a4, a5⟩
  · rcases Classical.em (p = at') with q | q
    · rw [q, nu_s, nu_s, ou_s]
      exact ⟨hu, rfl, fun z => by cases z⟩
    · rw [nu_n q]
      obtain ⟨a1, a2, a3⟩ := h3 p (by omega)
      rw [nu_n (ne p (by omega)), ou_n (ne p (by omega))]
      exact ⟨a1, a2, a3⟩
  · obtain ⟨a1, a2, a3⟩ := h4 c hc
    refine ⟨a1, a2, fun p hp1 hp2 => ?_⟩
    rw [nu_n (by omega), ou_n (ne p (by omega))]
    exact a3 p hp1 hp2
  · rcases Classical.em (p = at') with q | q
    · rw [q, nu_s, ou_s]
    · rw [nu_n q, ou_n (ne p (by omega))]
      exact h5 p hp1 (by omega)
  · have hcn : (some nc : Option Nat) ≠ some c := fun z => by cases z; omega
    rcases Classical.em (w = u) with q | q
    · subst q
      rw [ou_s] at ec
      exact absurd ec hcn
    · rw [ou_n q] at ec
      rcases Classical.em (x = u) with r | r
      · subst r
        rw [ou_s]
        refine ⟨fun z => absurd z hcn, fun z => ?_⟩
        have := (h6 w x hw hx c hc ec).mpr z
        rw [e] at this; cases this
      · rw [ou_n r]
        exact h6 w x hw hx c hc ec
  · rcases Classical.em (w = u) with q | q
    · subst q
      rw [ou_s]
      exact ⟨fun _ => ⟨by omega, hl⟩, fun _ => rfl⟩
    · rw [ou_n q, h7 w hw]
      exact ⟨fun z => ⟨by omega, z.2⟩, fun z => ⟨by omega, z.2⟩⟩
  · rw [h9, ← cn_add (P := fun u => Ci u ≠ none) (a := u) (fun z => z e) hu]
    refine cn_eq (fun k hk => ?_)
    rcases Classical.em (k = u) with q | q
    · rw [q, ou_s]
      exact ⟨fun _ z => (by cases z), fun _ => Or.inr rfl⟩
    · rw [ou_n q]
      exact ⟨fun z => z.elim (fun z => z) (fun z => absurd z q), Or.inl⟩
  · rcases Classical.em (w = u) with q | q
    · rw [q, ou_s]; exact Or.inr rfl
    · rw [ou_n q]; exact h12 w hw hlw
theorem mi_J_out (rf : ∀ u, u < nv → Lab u u) (tr : ∀ u v w, Lab u v → Lab v w → Lab u w) (sy : ∀ u v, Lab u v → Lab v u) (h : mi_J nv Lab v at0 nc nv at' Ci M Lc Cs Sz) (hv : v < nv) : mi_O nv Lab (v + 1) at' (nc + 1) Ci M Lc Cs (nu Sz nc (at' - at0)) := by
  obtain ⟨h1, h2, h3, h4, h5, h6, h7, h8, h9, h10, h11, h12⟩ := h
  have hcv : Ci v = some nc := (h7 v hv).mpr ⟨hv, rf v hv⟩
  refine ⟨fun w hw => ?_, fun w hw c ec => ?_, h3, fun c hc => ?_, fun w x hw hx c ec => ?_, by omega, h9⟩
  · rcases Classical.em (w = v) with q | q
    · rw [q, hcv]; exact fun z => by cases z
    · exact h1 w (by omega)
  · obtain ⟨a1, a2, a3, a4, a5⟩ := h2 w hw c ec
    refine ⟨by omega, a2, a3, ?_⟩
    rcases Classical.em (c = nc) with q | q
    · subst q
      have := a5 rfl
      rw [nu_s, h11]
      omega
    · rw [nu_n q]
      exact a4 (by omega)
  · rcases Classical.em (c = nc) with q | q
    · subst q
      obtain ⟨a1, a2, a3, a4, a5⟩ := h2 v hv c hcv
      have := a5 rfl
      rw [nu_s, h11]
      exact ⟨by omega, by omega, fun p hp1 hp2 => h5 p hp1 (by omega)⟩
    · obtain ⟨a1, a2, a3⟩ := h4 c (by omega)
      rw [nu_n q]
      exact ⟨a1, by omega, a3⟩
  · rcases Classical.em (c = nc) with q | q
    · subst q
      have hw' := ((h7 w hw).mp ec).2
      rw [h7 x hx]
      exact ⟨fun z => tr _ _ _ (sy _ _ hw') z.2, fun z => ⟨hx, tr _ _ _ hw' z⟩⟩
    · have := (h2 w hw c ec).1
      exact h6 w x hw hx c (by omega) ec
theorem mi_end (h : mi_O nv Lab nv at' nc Ci M Lc Cs Sz) : ∃ Cj : Nat → Nat, (∀ u, u < nv → Ci u = some (Cj u)) ∧ ho_P nv nc M Lc Cj Cs Sz ∧ ∀ u w, u < nv → w < nv → (Cj u = Cj w ↔ Lab u w) := by
  obtain ⟨h1, h2, h3, h4, h5, h6, h7⟩ := h
  have hc : ∀ u, u < nv → Ci u = some ((Ci u).getD 0) := by
    intro u hu
    cases e : Ci u with
    | none => exact absurd e (h1 u hu)
    | some x => rfl
  have hat : at' = nv := h7.trans (cn_all h1)
  subst hat
  refine ⟨fun u => (Ci u).getD 0, hc, ⟨fun p hp => ⟨(h3 p hp).1, (h3 p hp).2.1⟩, fun u hu => ?_, fun u hu => ?_, fun c hc' => ?_⟩, fun u w hu hw => ?_⟩
  · obtain ⟨a1, a2, a3, a4⟩ := h2 u hu _ (hc u hu)
    exact ⟨a2, a3⟩
  · obtain ⟨a1, a2, a3, a4, a5⟩ := h2 u hu _ (hc u hu)
    exact ⟨a1, a4, a5⟩
  · obtain ⟨a1, a2, a3⟩ := h4 c hc'
    refine ⟨a1, a2, fun p hp1 hp2 => ?_⟩
    show (Ci (M p)).getD 0 = c
    rw [a3 p hp1 hp2]; rfl
  · rw [← h5 u w hu hw _ (hc u hu)]
    show (Ci u).getD 0 = (Ci w).getD 0 ↔ _
    constructor
    · intro z; rw [z]; exact hc w hw
    · intro z; rw [z]; rfl
end MI
end
section
/-! X: makeInitialClasses -/
section XI
variable {f_blockLimit f_valueLimit f_blockCount f_valueCount f_sealed f_classCount f_workTop f_touchedCount f_undoTop f_runState f_runForm f_here f_input0 f_input1 f_returned f_evaluated : Int32} {a_valueKind a_valueBlock a_leaf a_args a_exitKind a_exitValue a_exitTrue a_exitFalse a_predMask a_order a_orderIndex a_idom a_domMask a_firstChild a_nextSibling a_stack a_cursor a_members a_location a_classIndex a_classStart a_classSize a_classMarked a_className a_useHead a_useNext a_work a_inWork a_splitter a_touched a_leaderOf a_available a_undo a_scopeMark a_body a_bodyStart a_bodyOps a_bodyEnd a_env a_phiNew : Nat → Int32} {P : PT}
theorem xi_same {post : Int32 → Prop} (W : p_W P) (hX : p_X P a_valueKind a_valueBlock a_leaf a_args a_exitKind a_exitValue a_exitTrue a_exitFalse) {u v : Nat} (hu : u < p_v P) (hv : v < p_v P) (h1 : p_Lab P u v → post 1) (h0 : ¬ p_Lab P u v → post 0) : wpX_sameLabel post (f_blockLimit, f_valueLimit, f_blockCount, f_valueCount, f_sealed, f_classCount, f_workTop, f_touchedCount, f_undoTop, f_runState, f_runForm, f_here, f_input0, f_input1, f_returned, f_evaluated, a_valueKind, a_valueBlock, a_leaf, a_args, a_exitKind, a_exitValue, a_exitTrue, a_exitFalse, a_predMask, a_order, a_orderIndex, a_idom, a_domMask, a_firstChild, a_nextSibling, a_stack, a_cursor, a_members, a_location, a_classIndex, a_classStart, a_classSize, a_classMarked, a_className, a_useHead, a_useNext, a_work, a_inWork, a_splitter, a_touched, a_leaderOf, a_available, a_undo, a_scopeMark, a_body, a_bodyStart, a_bodyOps, a_bodyEnd, a_env, a_phiNew) (nI u) (nI v) := by
  have hb8 := W.2.1
  have hv32 := W.2.2.1
  have wu := W.2.2.2.1 u hu
  have hBu := wu.2.1
  have wv := W.2.2.2.1 v hv
  have hBv := wv.2.1
  have vu : vp_in (nI u) 32 := vp_in_nI (by omega) (by omega)
  have vv : vp_in (nI v) 32 := vp_in_nI (by omega) (by omega)
  refine ⟨vu, ba_rd u rfl (by omega) (hX.1 u hu) ⟨vv, ?_⟩⟩
  rw [nI_clamp (by omega), nI_clamp (by omega), hX.1 v hv, hX.2.1 u hu, hX.2.1 v hv, hX.2.2.1 u hu, hX.2.2.1 v hv]
  refine pk_eq (p_K P u) (p_K P v) (fun e => pk_eq (p_K P u) 2 (fun e2 => ⟨vu, vv, pk_eq (p_B P u) (p_B P v) (fun q => h1 ⟨e, fun _ => q, fun z => absurd e2 z⟩) (fun q => h0 (fun z => q (z.2.1 e2)))⟩) (fun e2 => ⟨vu, vv, br_c (fun q => h1 ⟨e, fun z => absurd z e2, fun _ => q⟩) (fun q => h0 (fun z => q (z.2.2 e2)))⟩) (ha := by have := wu.1; omega)) (fun e => h0 (fun z => e z.1)) (ha := by have := wu.1; omega) (hb := by have := wv.1; omega)
/-- the arrays show the classes so far -/
def xi_A (nv at' nc : Nat) (Ci : Nat → Option Nat) (M Lc Cs Sz : Nat → Nat) (mb lo ci cs sz mk : Nat → Int32) : Prop :=
  (∀ u, u < nv → ci u = ba_o (Ci u)) ∧ (∀ p, p < at' → mb p = nI (M p)) ∧ (∀ u, u < nv → Ci u ≠ none → lo u = nI (Lc u)) ∧ (∀ c, c < nc → cs c = nI (Cs c)) ∧ (∀ c, c < nc → sz c = nI (Sz c)) ∧ (∀ c, c < nc → mk c = 0)
theorem xi_81 {post : SX → Prop} {J32 : Int32 → Int32 → Int32 → (Nat → Int32) → (Nat → Int32) → (Nat → Int32) → (Nat → Int32) → (Nat → Int32) → (Nat → Int32) → (Nat → Int32) → (Nat → Int32) → (Nat → Int32) → (Nat → Int32) → (Nat → Int32) → (Nat → Int32) → (Nat → Int32) → (Nat → Int32) → (Nat → Int32) → (Nat → Int32) → (Nat → Int32) → (Nat → Int32) → (Nat → Int32) → (Nat → Int32) → (Nat → Int32) → (Nat → Int32) → (Nat → Int32) → (Nat → Int32) → (Nat → Int32) → (Nat → Int32) → (Nat → Int32) → (Nat → Int32) → (Nat → Int32) → (Nat → Int32) → (Nat → Int32) → (Nat → Int32) → (Nat → Int32) → (Nat → Int32) → (Nat → Int32) → (Nat → Int32) → (Nat → Int32) → (Nat → Int32) → (Nat → Int32) → (Nat → Int32) →  Prop} (W : p_W P) (S : p_S3 P) (hX : p_X P a_valueKind a_valueBlock a_leaf a_args a_exitKind a_exitValue a_exitTrue a_exitFalse) (ev : f_valueCount = nI (p_v P)) {v at0 nc : Nat} (hv : v < p_v P) (ec : f_classCount = nI (nc + 1))
    {Cs Sz : Nat → Nat} (rcs : ∀ c, c < nc + 1 → a_classStart c = nI (Cs c)) (rsz : ∀ c, c < nc → a_classSize c = nI (Sz c)) (rmk : ∀ c, c < nc + 1 → a_classMarked c = 0)
    (HK : ∀ (at' : Nat) (Ci : Nat → Option Nat) (M Lc Sz : Nat → Nat) (a_members a_location a_classIndex a_classSize : Nat → Int32), mi_O (p_v P) (p_Lab P) (v + 1) at' (nc + 1) Ci M Lc Cs Sz → xi_A (p_v P) at' (nc + 1) Ci M Lc Cs Sz a_members a_location a_classIndex a_classStart a_classSize a_classMarked → J32 (nI at') (nI (v + 1)) (nI (nc + 1)) a_valueKind a_valueBlock a_leaf a_args a_exitKind a_exitValue a_exitTrue a_exitFalse a_predMask a_order a_orderIndex a_idom a_domMask a_firstChild a_nextSibling a_stack a_cursor a_members a_location a_classIndex a_classStart a_classSize a_classMarked a_className a_useHead a_useNext a_work a_inWork a_splitter a_touched a_leaderOf a_available a_undo a_scopeMark a_body a_bodyStart a_bodyOps a_bodyEnd a_env a_phiNew) :
    ∀ (n u at' : Nat) (Ci : Nat → Option Nat) (M Lc : Nat → Nat) (a_members a_location a_classIndex : Nat → Int32), u ≤ p_v P → p_v P - u < n → mi_J (p_v P) (p_Lab P) v at0 nc u at' Ci M Lc Cs Sz →
      (∀ u, u < p_v P → a_classIndex u = ba_o (Ci u)) → (∀ p, p < at' → a_members p = nI (M p)) → (∀ u, u < p_v P → Ci u ≠ none → a_location u = nI (Lc u)) → wX_makeInitialClasses_81 post J32 (nI v) (nI nc) f_blockLimit f_valueLimit f_blockCount f_valueCount f_sealed f_classCount f_workTop f_touchedCount f_undoTop f_runState f_runForm f_here f_input0 f_input1 f_returned f_evaluated n (nI at') (nI u) a_valueKind a_valueBlock a_leaf a_args a_exitKind a_exitValue a_exitTrue a_exitFalse a_predMask a_order a_orderIndex a_idom a_domMask a_firstChild a_nextSibling a_stack a_cursor a_members a_location a_classIndex a_classStart a_classSize a_classMarked a_className a_useHead a_useNext a_work a_inWork a_splitter a_touched a_leaderOf a_available a_undo a_scopeMark a_body a_bodyStart a_bodyOps a_bodyEnd a_env a_phiNew := by
  have hv32 := W.2.2.1
  have H := p_H W S
  intro n
  induction n with
  | zero => intro u at' Ci M Lc _ _ _ _ h; omega
  | succ n ih =>
    intro u at' Ci M Lc a_members a_location a_classIndex hu hn J r1 r2 r3
    have hnc : nc ≤ v := J.2.2.2.2.2.2.2.1
    have hC : ∀ w x, w < p_v P → Ci w = some x → x < 2 ^ 31 := fun w x hw e => by have := (J.2.1 w hw x e).1; omega
    rw [wX_makeInitialClasses_81]
    refine pk_le (p_v P) u (fun h => ⟨vp_in_nI (by omega) (by omega), vp_in_nI (by omega) (by omega), ?_⟩) (fun h => ⟨vp_in_nI (by omega) (by omega), ?_⟩) (hx := ev)
    · have e : u = p_v P := by omega
      subst e
      have O := mi_J_out H.1 H.2.2.1 H.2.1 J hv
      obtain ⟨_, _, _, _, _, _, _, _, j9, j10, j11, _⟩ := J
      have hat : at' ≤ p_v P := by rw [j9]; exact cn_le _ _
      refine ba_wr nc rfl (by omega) (z' := nI (at' - at0)) (by rw [nI_clamp (by omega), rcs nc (by omega), j11]; exact pk_sub j10) (nm_r (nI_1 v) ?_)
      rw [ec]
      refine HK at' Ci M Lc _ a_members a_location a_classIndex _ O ⟨r1, r2, r3, rcs, fun c hc => ba_ru (fun z => rsz c (by omega)), rmk⟩
    · rw [nI_clamp (by omega), r1 u h]
      refine ba_op (Ci u) rfl (fun x => hC u x h) (fun e => ?_) (fun x e => nm_r (nI_1 u) (ih (u + 1) at' Ci M Lc _ _ _ (by omega) (by omega) (mi_J_skip J h (Or.inl (by rw [e]; exact fun z => by cases z))) r1 r2 r3))
      refine xi_same W hX hv h (fun l => br_f (by decide) ?_) (fun l => br_t rfl (nm_r (nI_1 u) (ih (u + 1) at' Ci M Lc _ _ _ (by omega) (by omega) (mi_J_skip J h (Or.inr l)) r1 r2 r3)))
      obtain ⟨hat, J'⟩ := mi_J_take J h e l
      refine ⟨vp_in_nI (by omega) (by omega), nm_e ⟨vp_in_nI (by omega) (by omega), ba_wr at' rfl (by omega) rfl ⟨vp_in_nI (by omega) (by omega), nm_e (nm_r (nI_1 at') (nm_r (nI_1 u) (ih (u + 1) (at' + 1) _ _ _ _ _ _ (by omega) (by omega) J' (fun w hw => ?_) (fun p hp => ba_ru (fun z => r2 p (by omega))) (fun w hw hne => ba_ru (fun z => r3 w hw ?_)))))⟩⟩⟩
      · rcases Classical.em (w = u) with q | q
        · rw [q, pk_us, ou_s]; rfl
        · rw [pk_un q, ou_n q]; exact r1 w hw
      · rw [ou_n z] at hne; exact hne
theorem xi_32 {post : SX → Prop} (W : p_W P) (S : p_S3 P) (hX : p_X P a_valueKind a_valueBlock a_leaf a_args a_exitKind a_exitValue a_exitTrue a_exitFalse) (ev : f_valueCount = nI (p_v P))
    (HK : ∀ (nc : Nat) (Ci M Lc Cs Sz : Nat → Nat) (a_members a_location a_classIndex a_classStart a_classSize a_classMarked : Nat → Int32), ho_P (p_v P) nc M Lc Ci Cs Sz → (∀ u w, u < p_v P → w < p_v P → (Ci u = Ci w ↔ p_Lab P u w)) →
      xi_A (p_v P) (p_v P) nc (fun u => some (Ci u)) M Lc Cs Sz a_members a_location a_classIndex a_classStart a_classSize a_classMarked → post (f_blockLimit, f_valueLimit, f_blockCount, f_valueCount, f_sealed, nI nc, f_workTop, f_touchedCount, f_undoTop, f_runState, f_runForm, f_here, f_input0, f_input1, f_returned, f_evaluated, a_valueKind, a_valueBlock, a_leaf, a_args, a_exitKind, a_exitValue, a_exitTrue, a_exitFalse, a_predMask, a_order, a_orderIndex, a_idom, a_domMask, a_firstChild, a_nextSibling, a_stack, a_cursor, a_members, a_location, a_classIndex, a_classStart, a_classSize, a_classMarked, a_className, a_useHead, a_useNext, a_work, a_inWork, a_splitter, a_touched, a_leaderOf, a_available, a_undo, a_scopeMark, a_body, a_bodyStart, a_bodyOps, a_bodyEnd, a_env, a_phiNew)) :
    ∀ (n v at' nc : Nat) (Ci : Nat → Option Nat) (M Lc Cs Sz : Nat → Nat) (a_members a_location a_classIndex a_classStart a_classSize a_classMarked : Nat → Int32), v ≤ p_v P → p_v P - v < n → mi_O (p_v P) (p_Lab P) v at' nc Ci M Lc Cs Sz →
      xi_A (p_v P) at' nc Ci M Lc Cs Sz a_members a_location a_classIndex a_classStart a_classSize a_classMarked → wX_makeInitialClasses_32 post f_blockLimit f_valueLimit f_blockCount f_valueCount f_sealed f_workTop f_touchedCount f_undoTop f_runState f_runForm f_here f_input0 f_input1 f_returned f_evaluated n (nI at') (nI v) (nI nc) a_valueKind a_valueBlock a_leaf a_args a_exitKind a_exitValue a_exitTrue a_exitFalse a_predMask a_order a_orderIndex a_idom a_domMask a_firstChild a_nextSibling a_stack a_cursor a_members a_location a_classIndex a_classStart a_classSize a_classMarked a_className a_useHead a_useNext a_work a_inWork a_splitter a_touched a_leaderOf a_available a_undo a_scopeMark a_body a_bodyStart a_bodyOps a_bodyEnd a_env a_phiNew := by
  have hv32 := W.2.2.1
  have H := p_H W S
  intro n
  induction n with
  | zero => intro v at' nc Ci M Lc Cs Sz _ _ _ _ _ _ _ h; omega
  | succ n ih =>
    intro v at' nc Ci M Lc Cs Sz a_members a_location a_classIndex a_classStart a_classSize a_classMarked hv hn O R
    have hnc : nc ≤ v := O.2.2.2.2.2.1
    have hC : ∀ w x, w < p_v P → Ci w = some x → x < 2 ^ 31 := fun w x hw e => by have := (O.2.1 w hw x e).1; omega
    rw [wX_makeInitialClasses_32]
    refine pk_le (p_v P) v (fun h => ?_) (fun h => ⟨vp_in_nI (by omega) (by omega), ?_⟩) (hx := ev)
    · have e : v = p_v P := by omega
      subst e
      have hat : at' = p_v P := O.2.2.2.2.2.2.trans (cn_all O.1)
      obtain ⟨Cj, c1, c2, c3⟩ := mi_end O
      obtain ⟨q1, q2, q3, q4, q5, q6⟩ := R
      refine HK nc Cj M Lc Cs Sz _ _ _ _ _ _ c2 c3 ⟨fun u hu => by rw [q1 u hu, c1 u hu], fun p hp => q2 p (by omega), fun u hu _ => q3 u hu (by rw [c1 u hu]; exact fun z => by cases z), q4, q5, q6⟩
    · obtain ⟨q1, q2, q3, q4, q5, q6⟩ := R
      rw [nI_clamp (by omega), q1 v h]
      refine ba_op (Ci v) rfl (fun x => hC v x h) (fun e => nm_r (nI_1 nc) ⟨vp_in_nI (by omega) (by omega), ba_wr nc rfl (by omega) rfl ⟨vp_in_nI (by omega) (by omega), ba_wr nc rfl (by omega) rfl ⟨p_v P - v + 1, ?_⟩⟩⟩) (fun x e => nm_r (nI_1 v) (ih (v + 1) at' nc Ci M Lc Cs Sz _ _ _ _ _ _ (by omega) (by omega) (mi_O_skip O (by rw [e]; exact fun z => by cases z)) ⟨q1, q2, q3, q4, q5, q6⟩))
      refine xi_81 W S hX ev h rfl (Cs := nu Cs nc at') (Sz := Sz) (fun c hc => ba_ru (fun z => q4 c (by omega))) q5 (fun c hc => ?_) (fun at' Ci M Lc Sz mb lo ci sz O' R' => ih (v + 1) at' (nc + 1) Ci M Lc _ Sz _ _ _ _ _ _ (by omega) (by omega) O' R') (p_v P - v + 1) v at' Ci M Lc _ _ _ (by omega) (by omega) (mi_J_in H.2.1 O h e) q1 q2 q3
      rcases Classical.em (c = nc) with z | z
      · rw [z, pk_us]
      · rw [pk_un z]; exact q6 c (by omega)
theorem xi_9 {post : SX → Prop} {N : Nat} (hN : N ≤ 32) (e : f_valueCount = nI N) (K : ∀ a_classIndex : Nat → Int32, (∀ j, j < N → a_classIndex j = -1) → ∃ n, wX_makeInitialClasses_32 post f_blockLimit f_valueLimit f_blockCount f_valueCount f_sealed f_workTop f_touchedCount f_undoTop f_runState f_runForm f_here f_input0 f_input1 f_returned f_evaluated n 0 0 f_classCount a_valueKind a_valueBlock a_leaf a_args a_exitKind a_exitValue a_exitTrue a_exitFalse a_predMask a_order a_orderIndex a_idom a_domMask a_firstChild a_nextSibling a_stack a_cursor a_members a_location a_classIndex a_classStart a_classSize a_classMarked a_className a_useHead a_useNext a_work a_inWork a_splitter a_touched a_leaderOf a_available a_undo a_scopeMark a_body a_bodyStart a_bodyOps a_bodyEnd a_env a_phiNew) :
    ∀ (n i : Nat) (a_classIndex : Nat → Int32), i ≤ N → N - i < n → (∀ j, j < i → a_classIndex j = -1) → wX_makeInitialClasses_9 post 0 f_blockLimit f_valueLimit f_blockCount f_valueCount f_sealed f_classCount f_workTop f_touchedCount f_undoTop f_runState f_runForm f_here f_input0 f_input1 f_returned f_evaluated n (nI i) a_valueKind a_valueBlock a_leaf a_args a_exitKind a_exitValue a_exitTrue a_exitFalse a_predMask a_order a_orderIndex a_idom a_domMask a_firstChild a_nextSibling a_stack a_cursor a_members a_location a_classIndex a_classStart a_classSize a_classMarked a_className a_useHead a_useNext a_work a_inWork a_splitter a_touched a_leaderOf a_available a_undo a_scopeMark a_body a_bodyStart a_bodyOps a_bodyEnd a_env a_phiNew := by
  intro n
  induction n with
  | zero => intro i _ _ h; omega
  | succ n ih =>
    intro i a_classIndex hi hn hf
    rw [wX_makeInitialClasses_9]
    refine pk_le N i (fun h => ?_) (fun h => ⟨vp_in_nI (by omega) (by omega), ba_wr i rfl (by omega) rfl (nm_r (nI_1 i) (ih (i + 1) _ (by omega) (by omega) (ba_f1 hf)))⟩) (hx := e)
    have e : i = N := by omega
    subst e
    exact K _ hf
theorem xi_init {post : SX → Prop} (W : p_W P) (S : p_S3 P) (hX : p_X P a_valueKind a_valueBlock a_leaf a_args a_exitKind a_exitValue a_exitTrue a_exitFalse) (ev : f_valueCount = nI (p_v P))
    (HK : ∀ (nc : Nat) (Ci M Lc Cs Sz : Nat → Nat) (a_members a_location a_classIndex a_classStart a_classSize a_classMarked : Nat → Int32), ho_P (p_v P) nc M Lc Ci Cs Sz → (∀ u w, u < p_v P → w < p_v P → (Ci u = Ci w ↔ p_Lab P u w)) →
      xi_A (p_v P) (p_v P) nc (fun u => some (Ci u)) M Lc Cs Sz a_members a_location a_classIndex a_classStart a_classSize a_classMarked → post (f_blockLimit, f_valueLimit, f_blockCount, f_valueCount, f_sealed, nI nc, f_workTop, f_touchedCount, f_undoTop, f_runState, f_runForm, f_here, f_input0, f_input1, f_returned, f_evaluated, a_valueKind, a_valueBlock, a_leaf, a_args, a_exitKind, a_exitValue, a_exitTrue, a_exitFalse, a_predMask, a_order, a_orderIndex, a_idom, a_domMask, a_firstChild, a_nextSibling, a_stack, a_cursor, a_members, a_location, a_classIndex, a_classStart, a_classSize, a_classMarked, a_className, a_useHead, a_useNext, a_work, a_inWork, a_splitter, a_touched, a_leaderOf, a_available, a_undo, a_scopeMark, a_body, a_bodyStart, a_bodyOps, a_bodyEnd, a_env, a_phiNew)) : wpX_makeInitialClasses post (f_blockLimit, f_valueLimit, f_blockCount, f_valueCount, f_sealed, f_classCount, f_workTop, f_touchedCount, f_undoTop, f_runState, f_runForm, f_here, f_input0, f_input1, f_returned, f_evaluated, a_valueKind, a_valueBlock, a_leaf, a_args, a_exitKind, a_exitValue, a_exitTrue, a_exitFalse, a_predMask, a_order, a_orderIndex, a_idom, a_domMask, a_firstChild, a_nextSibling, a_stack, a_cursor, a_members, a_location, a_classIndex, a_classStart, a_classSize, a_classMarked, a_className, a_useHead, a_useNext, a_work, a_inWork, a_splitter, a_touched, a_leaderOf, a_available, a_undo, a_scopeMark, a_body, a_bodyStart, a_bodyOps, a_bodyEnd, a_env, a_phiNew) := by
  have hv32 := W.2.2.1
  exact ⟨p_v P + 1, xi_9 hv32 ev (fun a_classIndex hf => ⟨p_v P + 1, xi_32 W S hX ev HK (p_v P + 1) 0 0 0 (fun _ => none) (fun _ => 0) (fun _ => 0) (fun _ => 0) (fun _ => 0) _ _ _ _ _ _ (by omega) (by omega) (mi_O_0 (fun _ _ => rfl)) ⟨fun u hu => hf u hu, fun p hp => by omega, fun u hu z => absurd rfl z, fun c hc => by omega, fun c hc => by omega, fun c hc => by omega⟩⟩) (p_v P + 1) 0 _ (by omega) (by omega) ba_f0⟩
end XI
end
section
/-! X: makeUseLists -/
def xl_H (nv : Nat) (A : Nat → Nat → Option Nat) (v i : Nat) (uh un : Nat → Int32) : Prop :=
  (∀ x j, x < 32 → j < 8 → uh (x * 8 + j) = ba_o (ba_l (fun u => A u j = some x) (if j < i then v + 1 else v))) ∧
  (∀ u j x, u < nv → j < 8 → (u < v ∨ (u = v ∧ j < i)) → A u j = some x → un (u * 8 + j) = ba_o (ba_l (fun w => A w j = some x) u))
theorem xl_skip {nv v i : Nat} {A : Nat → Nat → Option Nat} {uh un : Nat → Int32} (h : xl_H nv A v i uh un) (e : A v i = none) : xl_H nv A v (i + 1) uh un := by
  refine ⟨fun x j hx hj => ?_, fun u j x hu hj hc ea => ?_⟩
  · rw [h.1 x j hx hj]
    rcases Classical.em (j = i) with q | q
    · subst q
      rw [if_neg (by omega), if_pos (by omega), ba_l_f (fun z => by rw [e] at z; cases z)]
    · rcases Nat.lt_or_ge j i with z | z
      · rw [if_pos z, if_pos (by omega)]
      · rw [if_neg (by omega), if_neg (by omega)]
  · refine h.2 u j x hu hj ?_ ea
    rcases hc with z | z
    · exact Or.inl z
    · rcases Classical.em (j = i) with q | q
      · rw [z.1, q, e] at ea; cases ea
      · exact Or.inr ⟨z.1, by omega⟩
theorem xl_take {nv v i x : Nat} {A : Nat → Nat → Option Nat} {uh un : Nat → Int32} (hi : i < 8) (hx : x < 32) (h : xl_H nv A v i uh un) (e : A v i = some x) : xl_H nv A v (i + 1) (upd uh (x * 8 + i) (nI v)) (upd un (v * 8 + i) (uh (x * 8 + i))) := by
  refine ⟨fun y j hy hj => ?_, fun u j y hu hj hc ea => ?_⟩
  · rcases Classical.em (y = x ∧ j = i) with q | q
    · obtain ⟨q1, q2⟩ := q
      subst q1 q2
      rw [pk_us, if_pos (by omega), ba_l_t e]
      rfl
    · rw [pk_un (by omega), h.1 y j hy hj]
      rcases Classical.em (j = i) with r | r
      · subst r
        rw [if_neg (by omega), if_pos (by omega), ba_l_f (fun z => by rw [e] at z; cases z; exact q ⟨rfl, rfl⟩)]
      · rcases Nat.lt_or_ge j i with z | z
        · rw [if_pos z, if_pos (by omega)]
        · rw [if_neg (by omega), if_neg (by omega)]
  · rcases Classical.em (u = v ∧ j = i) with q | q
    · obtain ⟨q1, q2⟩ := q
      subst q1 q2
      rw [pk_us, h.1 x j hx hj, if_neg (by omega)]
      rw [e] at ea; cases ea; rfl
    · rw [pk_un (by omega)]
      refine h.2 u j y hu hj ?_ ea
      rcases hc with z | z
      · exact Or.inl z
      · exact Or.inr ⟨z.1, by omega⟩
theorem xl_row {nv v : Nat} {A : Nat → Nat → Option Nat} {uh un : Nat → Int32} (h : xl_H nv A v 8 uh un) : xl_H nv A (v + 1) 0 uh un := by
  refine ⟨fun x j hx hj => ?_, fun u j x hu hj hc ea => h.2 u j x hu hj (by omega) ea⟩
  rw [h.1 x j hx hj, if_pos hj, if_neg (by omega)]
section XL
variable {f_blockLimit f_valueLimit f_blockCount f_valueCount f_sealed f_classCount f_workTop f_touchedCount f_undoTop f_runState f_runForm f_here f_input0 f_input1 f_returned f_evaluated : Int32} {a_valueKind a_valueBlock a_leaf a_args a_exitKind a_exitValue a_exitTrue a_exitFalse a_predMask a_order a_orderIndex a_idom a_domMask a_firstChild a_nextSibling a_stack a_cursor a_members a_location a_classIndex a_classStart a_classSize a_classMarked a_className a_useHead a_useNext a_work a_inWork a_splitter a_touched a_leaderOf a_available a_undo a_scopeMark a_body a_bodyStart a_bodyOps a_bodyEnd a_env a_phiNew : Nat → Int32} {P : PT}
theorem xl_41 {post : SX → Prop} {J31 : Int32 → (Nat → Int32) → (Nat → Int32) → (Nat → Int32) → (Nat → Int32) → (Nat → Int32) → (Nat → Int32) → (Nat → Int32) → (Nat → Int32) → (Nat → Int32) → (Nat → Int32) → (Nat → Int32) → (Nat → Int32) → (Nat → Int32) → (Nat → Int32) → (Nat → Int32) → (Nat → Int32) → (Nat → Int32) → (Nat → Int32) → (Nat → Int32) → (Nat → Int32) → (Nat → Int32) → (Nat → Int32) → (Nat → Int32) → (Nat → Int32) → (Nat → Int32) → (Nat → Int32) → (Nat → Int32) → (Nat → Int32) → (Nat → Int32) → (Nat → Int32) → (Nat → Int32) → (Nat → Int32) → (Nat → Int32) → (Nat → Int32) → (Nat → Int32) → (Nat → Int32) → (Nat → Int32) → (Nat → Int32) → (Nat → Int32) → (Nat → Int32) →  Prop} (W : p_W P) (hX : p_X P a_valueKind a_valueBlock a_leaf a_args a_exitKind a_exitValue a_exitTrue a_exitFalse) {v : Nat} (hv : v < p_v P)
    (HK : ∀ (a_useHead a_useNext : Nat → Int32), xl_H (p_v P) (p_A P) (v + 1) 0 a_useHead a_useNext → J31 (nI (v + 1)) a_valueKind a_valueBlock a_leaf a_args a_exitKind a_exitValue a_exitTrue a_exitFalse a_predMask a_order a_orderIndex a_idom a_domMask a_firstChild a_nextSibling a_stack a_cursor a_members a_location a_classIndex a_classStart a_classSize a_classMarked a_className a_useHead a_useNext a_work a_inWork a_splitter a_touched a_leaderOf a_available a_undo a_scopeMark a_body a_bodyStart a_bodyOps a_bodyEnd a_env a_phiNew) :
    ∀ (n i : Nat) (a_useHead a_useNext : Nat → Int32), i ≤ 8 → 8 - i < n → xl_H (p_v P) (p_A P) v i a_useHead a_useNext → wX_makeUseLists_41 post J31 (nI v) f_blockLimit f_valueLimit f_blockCount f_valueCount f_sealed f_classCount f_workTop f_touchedCount f_undoTop f_runState f_runForm f_here f_input0 f_input1 f_returned f_evaluated n (nI i) a_valueKind a_valueBlock a_leaf a_args a_exitKind a_exitValue a_exitTrue a_exitFalse a_predMask a_order a_orderIndex a_idom a_domMask a_firstChild a_nextSibling a_stack a_cursor a_members a_location a_classIndex a_classStart a_classSize a_classMarked a_className a_useHead a_useNext a_work a_inWork a_splitter a_touched a_leaderOf a_available a_undo a_scopeMark a_body a_bodyStart a_bodyOps a_bodyEnd a_env a_phiNew := by
  have hv32 := W.2.2.1
  have wv := W.2.2.2.1 v hv
  intro n
  induction n with
  | zero => intro i _ _ _ h; omega
  | succ n ih =>
    intro i a_useHead a_useNext hi hn H
    rw [wX_makeUseLists_41]
    refine pk_le 8 i (fun h => ?_) (fun h => ⟨pk_in (v * 8 + i) 512 (by omega) (ba_ix8 v i), ba_rd (v * 8 + i) (ba_ix8 v i) (by omega) (hX.2.2.2.1 v i hv h) ?_⟩)
    · have e : i = 8 := by omega
      subst e
      exact nm_r (nI_1 v) (HK _ _ (xl_row H))
    · refine ba_on (p_A P v i) rfl (fun x hx => by have := wv.2.2.1 i x h hx; omega) (fun e => nm_r (nI_1 i) (ih (i + 1) _ _ (by omega) (by omega) (xl_skip H e))) (fun x hx => ?_)
      have hx' := wv.2.2.1 i x h hx
      rw [hx]
      refine ⟨pk_in (x * 8 + i) 256 (by omega) (ba_ix8 x i), pk_in (v * 8 + i) 256 (by omega) (ba_ix8 v i), ba_wr (v * 8 + i) (ba_ix8 v i) (by omega) (congrArg a_useHead (pk_cl (x * 8 + i) (ba_ix8 x i))) ⟨pk_in (x * 8 + i) 256 (by omega) (ba_ix8 x i), ba_wr (x * 8 + i) (ba_ix8 x i) (by omega) rfl (nm_r (nI_1 i) (ih (i + 1) _ _ (by omega) (by omega) (xl_take h (by omega) H hx)))⟩⟩
theorem xl_31 {post : SX → Prop} (W : p_W P) (hX : p_X P a_valueKind a_valueBlock a_leaf a_args a_exitKind a_exitValue a_exitTrue a_exitFalse) (ev : f_valueCount = nI (p_v P))
    (HK : ∀ (a_useHead a_useNext : Nat → Int32), xl_H (p_v P) (p_A P) (p_v P) 0 a_useHead a_useNext → post (f_blockLimit, f_valueLimit, f_blockCount, f_valueCount, f_sealed, f_classCount, f_workTop, f_touchedCount, f_undoTop, f_runState, f_runForm, f_here, f_input0, f_input1, f_returned, f_evaluated, a_valueKind, a_valueBlock, a_leaf, a_args, a_exitKind, a_exitValue, a_exitTrue, a_exitFalse, a_predMask, a_order, a_orderIndex, a_idom, a_domMask, a_firstChild, a_nextSibling, a_stack, a_cursor, a_members, a_location, a_classIndex, a_classStart, a_classSize, a_classMarked, a_className, a_useHead, a_useNext, a_work, a_inWork, a_splitter, a_touched, a_leaderOf, a_available, a_undo, a_scopeMark, a_body, a_bodyStart, a_bodyOps, a_bodyEnd, a_env, a_phiNew)) :
    ∀ (n v : Nat) (a_useHead a_useNext : Nat → Int32), v ≤ p_v P → p_v P - v < n → xl_H (p_v P) (p_A P) v 0 a_useHead a_useNext → wX_makeUseLists_31 post f_blockLimit f_valueLimit f_blockCount f_valueCount f_sealed f_classCount f_workTop f_touchedCount f_undoTop f_runState f_runForm f_here f_input0 f_input1 f_returned f_evaluated n (nI v) a_valueKind a_valueBlock a_leaf a_args a_exitKind a_exitValue a_exitTrue a_exitFalse a_predMask a_order a_orderIndex a_idom a_domMask a_firstChild a_nextSibling a_stack a_cursor a_members a_location a_classIndex a_classStart a_classSize a_classMarked a_className a_useHead a_useNext a_work a_inWork a_splitter a_touched a_leaderOf a_available a_undo a_scopeMark a_body a_bodyStart a_bodyOps a_bodyEnd a_env a_phiNew := by
  have hv32 := W.2.2.1
  intro n
  induction n with
  | zero => intro i _ _ _ h; omega
  | succ n ih =>
    intro v a_useHead a_useNext hv hn H
    rw [wX_makeUseLists_31]
    refine pk_le (p_v P) v (fun h => ?_) (fun h => ⟨9, xl_41 W hX h (fun uh un H' => ih (v + 1) uh un (by omega) (by omega) H') 9 0 _ _ (by omega) (by omega) H⟩) (hx := ev)
    have e : v = p_v P := by omega
    subst e
    exact HK _ _ H
theorem xl_2 {post : SX → Prop} (K : ∀ a_useHead a_useNext : Nat → Int32, (∀ j, j < 256 → a_useHead j = -1) → ∃ n, wX_makeUseLists_31 post f_blockLimit f_valueLimit f_blockCount f_valueCount f_sealed f_classCount f_workTop f_touchedCount f_undoTop f_runState f_runForm f_here f_input0 f_input1 f_returned f_evaluated n 0 a_valueKind a_valueBlock a_leaf a_args a_exitKind a_exitValue a_exitTrue a_exitFalse a_predMask a_order a_orderIndex a_idom a_domMask a_firstChild a_nextSibling a_stack a_cursor a_members a_location a_classIndex a_classStart a_classSize a_classMarked a_className a_useHead a_useNext a_work a_inWork a_splitter a_touched a_leaderOf a_available a_undo a_scopeMark a_body a_bodyStart a_bodyOps a_bodyEnd a_env a_phiNew) :
    ∀ (n i : Nat) (a_useHead a_useNext : Nat → Int32), i ≤ 256 → 256 - i < n → (∀ j, j < i → a_useHead j = -1) → wX_makeUseLists_2 post f_blockLimit f_valueLimit f_blockCount f_valueCount f_sealed f_classCount f_workTop f_touchedCount f_undoTop f_runState f_runForm f_here f_input0 f_input1 f_returned f_evaluated n (nI i) a_valueKind a_valueBlock a_leaf a_args a_exitKind a_exitValue a_exitTrue a_exitFalse a_predMask a_order a_orderIndex a_idom a_domMask a_firstChild a_nextSibling a_stack a_cursor a_members a_location a_classIndex a_classStart a_classSize a_classMarked a_className a_useHead a_useNext a_work a_inWork a_splitter a_touched a_leaderOf a_available a_undo a_scopeMark a_body a_bodyStart a_bodyOps a_bodyEnd a_env a_phiNew := by
  intro n
  induction n with
  | zero => intro i _ _ _ h; omega
  | succ n ih =>
    intro i a_useHead a_useNext hi hn hf
    rw [wX_makeUseLists_2]
    refine pk_le 256 i (fun h => ?_) (fun h => ⟨vp_in_nI (by omega) (by omega), ba_wr i rfl (by omega) rfl ⟨vp_in_nI (by omega) (by omega), ba_wr i rfl (by omega) rfl (nm_r (nI_1 i) (ih (i + 1) _ _ (by omega) (by omega) (ba_f1 hf)))⟩⟩)
    have e : i = 256 := by omega
    subst e
    exact K _ _ hf
theorem xl_lists {post : SX → Prop} (W : p_W P) (hX : p_X P a_valueKind a_valueBlock a_leaf a_args a_exitKind a_exitValue a_exitTrue a_exitFalse) (ev : f_valueCount = nI (p_v P))
    (HK : ∀ (a_useHead a_useNext : Nat → Int32), xl_H (p_v P) (p_A P) (p_v P) 0 a_useHead a_useNext → post (f_blockLimit, f_valueLimit, f_blockCount, f_valueCount, f_sealed, f_classCount, f_workTop, f_touchedCount, f_undoTop, f_runState, f_runForm, f_here, f_input0, f_input1, f_returned, f_evaluated, a_valueKind, a_valueBlock, a_leaf, a_args, a_exitKind, a_exitValue, a_exitTrue, a_exitFalse, a_predMask, a_order, a_orderIndex, a_idom, a_domMask, a_firstChild, a_nextSibling, a_stack, a_cursor, a_members, a_location, a_classIndex, a_classStart, a_classSize, a_classMarked, a_className, a_useHead, a_useNext, a_work, a_inWork, a_splitter, a_touched, a_leaderOf, a_available, a_undo, a_scopeMark, a_body, a_bodyStart, a_bodyOps, a_bodyEnd, a_env, a_phiNew)) : wpX_makeUseLists post (f_blockLimit, f_valueLimit, f_blockCount, f_valueCount, f_sealed, f_classCount, f_workTop, f_touchedCount, f_undoTop, f_runState, f_runForm, f_here, f_input0, f_input1, f_returned, f_evaluated, a_valueKind, a_valueBlock, a_leaf, a_args, a_exitKind, a_exitValue, a_exitTrue, a_exitFalse, a_predMask, a_order, a_orderIndex, a_idom, a_domMask, a_firstChild, a_nextSibling, a_stack, a_cursor, a_members, a_location, a_classIndex, a_classStart, a_classSize, a_classMarked, a_className, a_useHead, a_useNext, a_work, a_inWork, a_splitter, a_touched, a_leaderOf, a_available, a_undo, a_scopeMark, a_body, a_bodyStart, a_bodyOps, a_bodyEnd, a_env, a_phiNew) := by
  refine ⟨257, xl_2 (fun a_useHead a_useNext hf => ⟨p_v P + 1, xl_31 W hX ev HK (p_v P + 1) 0 _ _ (by omega) (by omega) ⟨fun x j hx hj => ?_, fun u j x hu hj hc => by omega⟩⟩) 257 0 _ _ (by omega) (by omega) ba_f0⟩
  rw [hf _ (by omega), if_neg (by omega)]
  rfl
end XL
end
section
/-! X: marking users -/
/-- the state while users are marked: U is the marked set -/
def xr_S (nv nc : Nat) (Ci Cs Sz : Nat → Nat) (U : Nat → Prop) (tcI : Int32) (mb lo mk tt : Nat → Int32) : Prop :=
  ∃ (M Lc Mk T : Nat → Nat) (tc : Nat), ho_P nv nc M Lc Ci Cs Sz ∧ ho_U nv Lc Ci Cs Mk U ∧ ho_T nc (fun c => 0 < Mk c) T tc ∧ (∀ c, c < nc → Mk c ≤ Sz c) ∧
    (∀ p, p < nv → mb p = nI (M p)) ∧ (∀ u, u < nv → lo u = nI (Lc u)) ∧ (∀ c, c < nc → mk c = nI (Mk c)) ∧ (∀ j, j < tc → tt j = nI (T j)) ∧ tcI = nI tc
theorem xr_S_cg {nv nc : Nat} {Ci Cs Sz : Nat → Nat} {U U' : Nat → Prop} {tcI : Int32} {mb lo mk tt : Nat → Int32} (h : xr_S nv nc Ci Cs Sz U tcI mb lo mk tt) (e : ∀ u, u < nv → (U u ↔ U' u)) : xr_S nv nc Ci Cs Sz U' tcI mb lo mk tt := by
  obtain ⟨M, Lc, Mk, T, tc, h1, h2, h3⟩ := h
  exact ⟨M, Lc, Mk, T, tc, h1, fun v hv => (e v hv).symm.trans (h2 v hv), h3⟩
section XM
variable {f_blockLimit f_valueLimit f_blockCount f_valueCount f_sealed f_classCount f_workTop f_touchedCount f_undoTop f_runState f_runForm f_here f_input0 f_input1 f_returned f_evaluated : Int32} {a_valueKind a_valueBlock a_leaf a_args a_exitKind a_exitValue a_exitTrue a_exitFalse a_predMask a_order a_orderIndex a_idom a_domMask a_firstChild a_nextSibling a_stack a_cursor a_members a_location a_classIndex a_classStart a_classSize a_classMarked a_className a_useHead a_useNext a_work a_inWork a_splitter a_touched a_leaderOf a_available a_undo a_scopeMark a_body a_bodyStart a_bodyOps a_bodyEnd a_env a_phiNew : Nat → Int32} {P : PT} {nv nc : Nat} {Ci Cs Sz : Nat → Nat} {U : Nat → Prop}
theorem xr_36 {post : SX → Prop} {M Lc Mk : Nat → Nat} (hn : nv ≤ 32) (hP : ho_P nv nc M Lc Ci Cs Sz) (hU : ho_U nv Lc Ci Cs Mk U)
    (rm : ∀ p, p < nv → a_members p = nI (M p)) (rl : ∀ u, u < nv → a_location u = nI (Lc u)) (rk : ∀ c, c < nc → a_classMarked c = nI (Mk c)) (rs : ∀ c, c < nc → a_classStart c = nI (Cs c)) {u : Nat} (hu : u < nv) (hnu : ¬ U u)
    (HK : post (f_blockLimit, f_valueLimit, f_blockCount, f_valueCount, f_sealed, f_classCount, f_workTop, f_touchedCount, f_undoTop, f_runState, f_runForm, f_here, f_input0, f_input1, f_returned, f_evaluated, a_valueKind, a_valueBlock, a_leaf, a_args, a_exitKind, a_exitValue, a_exitTrue, a_exitFalse, a_predMask, a_order, a_orderIndex, a_idom, a_domMask, a_firstChild, a_nextSibling, a_stack, a_cursor, upd (upd a_members (Cs (Ci u) + Mk (Ci u)) (nI u)) (Lc u) (nI (M (Cs (Ci u) + Mk (Ci u)))), upd (upd a_location u (nI (Cs (Ci u) + Mk (Ci u)))) (M (Cs (Ci u) + Mk (Ci u))) (nI (Lc u)), a_classIndex, a_classStart, a_classSize, upd a_classMarked (Ci u) (nI (Mk (Ci u) + 1)), a_className, a_useHead, a_useNext, a_work, a_inWork, a_splitter, a_touched, a_leaderOf, a_available, a_undo, a_scopeMark, a_body, a_bodyStart, a_bodyOps, a_bodyEnd, a_env, a_phiNew)) :
    wX_mark_36 post (nI u) (nI (Ci u)) f_blockLimit f_valueLimit f_blockCount f_valueCount f_sealed f_classCount f_workTop f_touchedCount f_undoTop f_runState f_runForm f_here f_input0 f_input1 f_returned f_evaluated a_valueKind a_valueBlock a_leaf a_args a_exitKind a_exitValue a_exitTrue a_exitFalse a_predMask a_order a_orderIndex a_idom a_domMask a_firstChild a_nextSibling a_stack a_cursor a_members a_location a_classIndex a_classStart a_classSize a_classMarked a_className a_useHead a_useNext a_work a_inWork a_splitter a_touched a_leaderOf a_available a_undo a_scopeMark a_body a_bodyStart a_bodyOps a_bodyEnd a_env a_phiNew := by
  obtain ⟨q1, q2, q3, _, _⟩ := ho_mark hP hU hu hnu
  have hc := (hP.2.2.1 u hu).1
  have hnc := ho_nc hP
  have hl := (hP.2.1 u hu).1
  unfold wX_mark_36
  refine ⟨vp_in_nI (by omega) (by omega), vp_in_nI (by omega) (by omega), nm_r (e' := nI (Cs (Ci u) + Mk (Ci u))) (by rw [nI_clamp (by omega), rs _ hc, rk _ hc, nI_add]) ⟨vp_in_nI (by omega) (by omega), ba_rd u rfl (by omega) (rl u hu) ⟨vp_in_nI (by omega) (by omega), ba_rd _ rfl (by omega) (rm _ q2) ⟨vp_in_nI (by omega) (by omega), ba_wr _ rfl (by omega) rfl ⟨vp_in_nI (by omega) (by omega), ba_wr u rfl (by omega) rfl ⟨vp_in_nI (by omega) (by omega), ba_wr (Lc u) rfl (by omega) rfl ⟨vp_in_nI (by omega) (by omega), ba_wr _ rfl (by omega) rfl ⟨vp_in_nI (by omega) (by omega), vp_in_nI (by omega) (by omega), ba_wr _ rfl (by omega) (by rw [nI_clamp (by omega), rk _ hc, nI_1]) HK⟩⟩⟩⟩⟩⟩⟩⟩
theorem xr_mark {post : SX → Prop} (hn : nv ≤ 32) (ri : ∀ u, u < nv → a_classIndex u = nI (Ci u)) (rs : ∀ c, c < nc → a_classStart c = nI (Cs c)) {u : Nat} (hu : u < nv) (hnu : ¬ U u) (S : xr_S nv nc Ci Cs Sz U f_touchedCount a_members a_location a_classMarked a_touched)
    (HK : ∀ (f_touchedCount : Int32) (a_members a_location a_classMarked a_touched : Nat → Int32), xr_S nv nc Ci Cs Sz (fun v => U v ∨ v = u) f_touchedCount a_members a_location a_classMarked a_touched → post (f_blockLimit, f_valueLimit, f_blockCount, f_valueCount, f_sealed, f_classCount, f_workTop, f_touchedCount, f_undoTop, f_runState, f_runForm, f_here, f_input0, f_input1, f_returned, f_evaluated, a_valueKind, a_valueBlock, a_leaf, a_args, a_exitKind, a_exitValue, a_exitTrue, a_exitFalse, a_predMask, a_order, a_orderIndex, a_idom, a_domMask, a_firstChild, a_nextSibling, a_stack, a_cursor, a_members, a_location, a_classIndex, a_classStart, a_classSize, a_classMarked, a_className, a_useHead, a_useNext, a_work, a_inWork, a_splitter, a_touched, a_leaderOf, a_available, a_undo, a_scopeMark, a_body, a_bodyStart, a_bodyOps, a_bodyEnd, a_env, a_phiNew)) : wpX_mark post (f_blockLimit, f_valueLimit, f_blockCount, f_valueCount, f_sealed, f_classCount, f_workTop, f_touchedCount, f_undoTop, f_runState, f_runForm, f_here, f_input0, f_input1, f_returned, f_evaluated, a_valueKind, a_valueBlock, a_leaf, a_args, a_exitKind, a_exitValue, a_exitTrue, a_exitFalse, a_predMask, a_order, a_orderIndex, a_idom, a_domMask, a_firstChild, a_nextSibling, a_stack, a_cursor, a_members, a_location, a_classIndex, a_classStart, a_classSize, a_classMarked, a_className, a_useHead, a_useNext, a_work, a_inWork, a_splitter, a_touched, a_leaderOf, a_available, a_undo, a_scopeMark, a_body, a_bodyStart, a_bodyOps, a_bodyEnd, a_env, a_phiNew) (nI u) := by
  obtain ⟨M, Lc, Mk, T, tc, hP, hU, hT, hS, rm, rl, rk, rt, rc⟩ := S
  obtain ⟨q1, q2, q3, q4, q5⟩ := ho_mark hP hU hu hnu
  have hc := (hP.2.2.1 u hu).1
  have hnc := ho_nc hP
  have htc := ho_T_le hT
  have hS' : ∀ c, c < nc → nu Mk (Ci u) (Mk (Ci u) + 1) c ≤ Sz c := by
    intro c hc'
    rcases Classical.em (c = Ci u) with z | z
    · rw [z, nu_s]; omega
    · rw [nu_n z]; exact hS c hc'
  have rm' : ∀ p, p < nv → upd (upd a_members (Cs (Ci u) + Mk (Ci u)) (nI u)) (Lc u) (nI (M (Cs (Ci u) + Mk (Ci u)))) p = nI (nu (nu M (Cs (Ci u) + Mk (Ci u)) u) (Lc u) (M (Cs (Ci u) + Mk (Ci u))) p) := fun p hp => ba_ru (fun _ => ba_ru (fun _ => rm p hp))
  have rl' : ∀ v, v < nv → upd (upd a_location u (nI (Cs (Ci u) + Mk (Ci u)))) (M (Cs (Ci u) + Mk (Ci u))) (nI (Lc u)) v = nI (nu (nu Lc u (Cs (Ci u) + Mk (Ci u))) (M (Cs (Ci u) + Mk (Ci u))) (Lc u) v) := fun p hp => ba_ru (fun _ => ba_ru (fun _ => rl p hp))
  have rk' : ∀ c, c < nc → upd a_classMarked (Ci u) (nI (Mk (Ci u) + 1)) c = nI (nu Mk (Ci u) (Mk (Ci u) + 1) c) := fun p hp => ba_ru (fun _ => rk p hp)
  subst rc
  refine ⟨vp_in_nI (by omega) (by omega), ba_rd u rfl (by omega) (ri u hu) ⟨vp_in_nI (by omega) (by omega), ?_⟩⟩
  rw [nI_clamp (by omega), rk _ hc]
  have hmk := hS _ hc
  have hsz := (hP.2.2.2 _ hc).2.1
  refine pk_eq (Mk (Ci u)) 0 (fun e => ?_) (fun e => ?_)
  · obtain ⟨t1, t2⟩ := ho_T_new hT hc (by omega)
    refine ⟨vp_in_nI (by omega) (by omega), ba_wr tc rfl (by omega) rfl (nm_r (nI_1 tc) (xr_36 hn hP hU rm rl rk rs hu hnu (HK _ _ _ _ _ ⟨_, _, _, _, tc + 1, q4, q5, ho_T_cg t2 (fun c _ => ?_), hS', rm', rl', rk', fun j hj => ba_ru (fun _ => rt j (by omega)), rfl⟩)))⟩
    rcases Classical.em (c = Ci u) with z | z
    · rw [z, nu_s]; exact ⟨fun _ => by omega, fun _ => Or.inr rfl⟩
    · rw [nu_n z]; exact ⟨fun w => w.elim (fun w => w) (fun w => absurd w z), Or.inl⟩
  · refine xr_36 hn hP hU rm rl rk rs hu hnu (HK _ _ _ _ _ ⟨_, _, _, _, tc, q4, q5, ho_T_cg hT (fun c _ => ?_), hS', rm', rl', rk', rt, rfl⟩)
    rcases Classical.em (c = Ci u) with z | z
    · rw [z, nu_s]; omega
    · rw [nu_n z]
theorem xr_33 {post : SX → Prop} {J7 : Int32 → Int32 → Int32 → Int32 → Int32 → Int32 → Int32 → Int32 → Int32 → Int32 → Int32 → Int32 → Int32 → Int32 → Int32 → Int32 → Int32 →  (Nat → Int32) → (Nat → Int32) → (Nat → Int32) → (Nat → Int32) → (Nat → Int32) → (Nat → Int32) → (Nat → Int32) → (Nat → Int32) → (Nat → Int32) → (Nat → Int32) → (Nat → Int32) → (Nat → Int32) → (Nat → Int32) → (Nat → Int32) → (Nat → Int32) → (Nat → Int32) → (Nat → Int32) → (Nat → Int32) → (Nat → Int32) → (Nat → Int32) → (Nat → Int32) → (Nat → Int32) → (Nat → Int32) → (Nat → Int32) → (Nat → Int32) → (Nat → Int32) → (Nat → Int32) → (Nat → Int32) → (Nat → Int32) → (Nat → Int32) → (Nat → Int32) → (Nat → Int32) → (Nat → Int32) → (Nat → Int32) → (Nat → Int32) → (Nat → Int32) → (Nat → Int32) → (Nat → Int32) → (Nat → Int32) → (Nat → Int32) →  Prop} {x1 : Int32} (W : p_W P) (ri : ∀ u, u < p_v P → a_classIndex u = nI (Ci u)) (rs : ∀ c, c < nc → a_classStart c = nI (Cs c)) (hL : xl_H (p_v P) (p_A P) (p_v P) 0 a_useHead a_useNext)
    {i k x : Nat} (hi : i < 8) (hx : x < p_v P) (hdj : ∀ u, u < p_v P → p_A P u i = some x → ¬ U u)
    (HK : ∀ (f_touchedCount : Int32) (a_members a_location a_classMarked a_touched : Nat → Int32), xr_S (p_v P) nc Ci Cs Sz (fun v => U v ∨ p_A P v i = some x) f_touchedCount a_members a_location a_classMarked a_touched → J7 (nI (k + 1)) f_blockLimit f_valueLimit f_blockCount f_valueCount f_sealed f_classCount f_workTop f_touchedCount f_undoTop f_runState f_runForm f_here f_input0 f_input1 f_returned f_evaluated a_valueKind a_valueBlock a_leaf a_args a_exitKind a_exitValue a_exitTrue a_exitFalse a_predMask a_order a_orderIndex a_idom a_domMask a_firstChild a_nextSibling a_stack a_cursor a_members a_location a_classIndex a_classStart a_classSize a_classMarked a_className a_useHead a_useNext a_work a_inWork a_splitter a_touched a_leaderOf a_available a_undo a_scopeMark a_body a_bodyStart a_bodyOps a_bodyEnd a_env a_phiNew) :
    ∀ (n m s : Nat) (f_touchedCount : Int32) (a_members a_location a_classMarked a_touched : Nat → Int32), s + m ≤ 32 → m ≤ p_v P → 32 - s < n → xr_S (p_v P) nc Ci Cs Sz (fun v => U v ∨ (p_A P v i = some x ∧ m ≤ v)) f_touchedCount a_members a_location a_classMarked a_touched →
      wX_markUsers_33 post J7 x1 (nI i) (nI k) n (ba_o (ba_l (fun u => p_A P u i = some x) m)) (nI s) f_blockLimit f_valueLimit f_blockCount f_valueCount f_sealed f_classCount f_workTop f_touchedCount f_undoTop f_runState f_runForm f_here f_input0 f_input1 f_returned f_evaluated a_valueKind a_valueBlock a_leaf a_args a_exitKind a_exitValue a_exitTrue a_exitFalse a_predMask a_order a_orderIndex a_idom a_domMask a_firstChild a_nextSibling a_stack a_cursor a_members a_location a_classIndex a_classStart a_classSize a_classMarked a_className a_useHead a_useNext a_work a_inWork a_splitter a_touched a_leaderOf a_available a_undo a_scopeMark a_body a_bodyStart a_bodyOps a_bodyEnd a_env a_phiNew := by
  have hv32 := W.2.2.1
  intro n
  induction n with
  | zero => intro m s _ _ _ _ _ _ _ h; omega
  | succ n ih =>
    intro m s f_touchedCount a_members a_location a_classMarked a_touched hsm hm hn S
    rw [wX_markUsers_33]
    refine pk_le 32 s (fun h => nm_r (nI_1 k) (HK _ _ _ _ _ (xr_S_cg S (fun u hu => ?_)))) (fun h => ?_)
    · have e : m = 0 := by omega
      subst e
      exact ⟨fun z => z.imp (fun z => z) (fun z => z.1), fun z => z.imp (fun z => z) (fun z => ⟨z, Nat.zero_le _⟩)⟩
    · cases el : ba_l (fun u => p_A P u i = some x) m with
      | none =>
        refine br_t ba_n1lt (nm_r (nI_1 k) (HK _ _ _ _ _ (xr_S_cg S (fun u hu => ?_))))
        have := ba_l_n el
        refine ⟨fun z => z.imp (fun z => z) (fun z => z.1), fun z => z.imp (fun z => z) (fun z => ⟨z, ?_⟩)⟩
        rcases Nat.lt_or_ge u m with q | q
        · exact absurd z (this u q)
        · exact q
      | some u =>
        obtain ⟨l1, l2, l3⟩ := ba_l_s el
        refine br_f (nI_pos (by omega)) (xr_mark (u := u) (U := fun v => U v ∨ (p_A P v i = some x ∧ m ≤ v)) hv32 ri rs (by omega) (fun z => ?_) S (fun f_touchedCount a_members a_location a_classMarked a_touched S' => ⟨pk_in (u * 8 + i) 256 (by omega) (ba_ix8 u i), ba_rd (u * 8 + i) (ba_ix8 u i) (by omega) (hL.2 u i x (by omega) hi (by omega) l2) (nm_r (nI_1 s) (ih u (s + 1) _ _ _ _ _ (by omega) (by omega) (by omega) (xr_S_cg S' (fun v hv => ?_))))⟩))
        · rcases z with z | z
          · exact hdj u (by omega) l2 z
          · omega
        · constructor
          · rintro ((z | z) | z)
            · exact Or.inl z
            · exact Or.inr ⟨z.1, by omega⟩
            · rw [z]; exact Or.inr ⟨l2, Nat.le_refl _⟩
          · rintro (z | z)
            · exact Or.inl (Or.inl z)
            · rcases Classical.em (v = u) with q | q
              · exact Or.inr q
              · left; right
                refine ⟨z.1, ?_⟩
                rcases Nat.lt_or_ge v m with w | w
                · exact absurd z.1 (l3 v (by omega) w)
                · exact w
theorem xr_7 {post : SX → Prop} (W : p_W P) (ri : ∀ u, u < p_v P → a_classIndex u = nI (Ci u)) (rs : ∀ c, c < nc → a_classStart c = nI (Cs c)) (hL : xl_H (p_v P) (p_A P) (p_v P) 0 a_useHead a_useNext)
    {i cnt : Nat} {sp : Nat → Nat} (hi : i < 8) (hc : cnt ≤ p_v P) (rsp : ∀ k, k < cnt → a_splitter k = nI (sp k) ∧ sp k < p_v P) (isp : ∀ j k, j < cnt → k < cnt → sp j = sp k → j = k)
    (HK : ∀ (f_touchedCount : Int32) (a_members a_location a_classMarked a_touched : Nat → Int32), xr_S (p_v P) nc Ci Cs Sz (fun v => ∃ k, k < cnt ∧ p_A P v i = some (sp k)) f_touchedCount a_members a_location a_classMarked a_touched → post (f_blockLimit, f_valueLimit, f_blockCount, f_valueCount, f_sealed, f_classCount, f_workTop, f_touchedCount, f_undoTop, f_runState, f_runForm, f_here, f_input0, f_input1, f_returned, f_evaluated, a_valueKind, a_valueBlock, a_leaf, a_args, a_exitKind, a_exitValue, a_exitTrue, a_exitFalse, a_predMask, a_order, a_orderIndex, a_idom, a_domMask, a_firstChild, a_nextSibling, a_stack, a_cursor, a_members, a_location, a_classIndex, a_classStart, a_classSize, a_classMarked, a_className, a_useHead, a_useNext, a_work, a_inWork, a_splitter, a_touched, a_leaderOf, a_available, a_undo, a_scopeMark, a_body, a_bodyStart, a_bodyOps, a_bodyEnd, a_env, a_phiNew)) :
    ∀ (n k : Nat) (f_touchedCount : Int32) (a_members a_location a_classMarked a_touched : Nat → Int32), k ≤ cnt → cnt - k < n → xr_S (p_v P) nc Ci Cs Sz (fun v => ∃ j, j < k ∧ p_A P v i = some (sp j)) f_touchedCount a_members a_location a_classMarked a_touched →
      wX_markUsers_7 post (nI cnt) (nI i) n (nI k) f_blockLimit f_valueLimit f_blockCount f_valueCount f_sealed f_classCount f_workTop f_touchedCount f_undoTop f_runState f_runForm f_here f_input0 f_input1 f_returned f_evaluated a_valueKind a_valueBlock a_leaf a_args a_exitKind a_exitValue a_exitTrue a_exitFalse a_predMask a_order a_orderIndex a_idom a_domMask a_firstChild a_nextSibling a_stack a_cursor a_members a_location a_classIndex a_classStart a_classSize a_classMarked a_className a_useHead a_useNext a_work a_inWork a_splitter a_touched a_leaderOf a_available a_undo a_scopeMark a_body a_bodyStart a_bodyOps a_bodyEnd a_env a_phiNew := by
  have hv32 := W.2.2.1
  intro n
  induction n with
  | zero => intro k _ _ _ _ _ _ h; omega
  | succ n ih =>
    intro k f_touchedCount a_members a_location a_classMarked a_touched hk hn S
    rw [wX_markUsers_7]
    refine pk_le cnt k (fun h => ?_) (fun h => ⟨vp_in_nI (by omega) (by omega), ?_⟩)
    · have e : k = cnt := by omega
      subst e
      exact HK _ _ _ _ _ S
    · obtain ⟨s1, s2⟩ := rsp k h
      rw [nI_clamp (by omega), s1]
      refine ⟨pk_in (sp k * 8 + i) 256 (by omega) (ba_ix8 (sp k) i), ba_rd (sp k * 8 + i) (ba_ix8 (sp k) i) (by omega) (hL.1 (sp k) i (by omega) hi) ⟨33, ?_⟩⟩
      rw [if_neg (by omega)]
      refine xr_33 W ri rs hL hi s2 (U := fun v => ∃ j, j < k ∧ p_A P v i = some (sp j)) (fun u hu ea z => ?_) (fun f_touchedCount a_members a_location a_classMarked a_touched S' => ih (k + 1) _ _ _ _ _ (by omega) (by omega) (xr_S_cg S' (fun v hv => ?_))) 33 (p_v P) 0 _ _ _ _ _ (by omega) (by omega) (by omega) (xr_S_cg S (fun v hv => ⟨Or.inl, fun z => z.elim (fun z => z) (fun z => by omega)⟩))
      · obtain ⟨j, hj, ej⟩ := z
        rw [ea] at ej
        have := isp j k (by omega) h (by injection ej with q; exact q.symm)
        omega
      · constructor
        · rintro (⟨j, hj, ej⟩ | z)
          · exact ⟨j, by omega, ej⟩
          · exact ⟨k, by omega, z⟩
        · rintro ⟨j, hj, ej⟩
          rcases Classical.em (j = k) with q | q
          · rw [q] at ej; exact Or.inr ej
          · exact Or.inl ⟨j, by omega, ej⟩
theorem xr_users {post : SX → Prop} (W : p_W P) (ri : ∀ u, u < p_v P → a_classIndex u = nI (Ci u)) (rs : ∀ c, c < nc → a_classStart c = nI (Cs c)) (hL : xl_H (p_v P) (p_A P) (p_v P) 0 a_useHead a_useNext)
    {i cnt : Nat} {sp M Lc : Nat → Nat} (hi : i < 8) (hc : cnt ≤ p_v P) (rsp : ∀ k, k < cnt → a_splitter k = nI (sp k) ∧ sp k < p_v P) (isp : ∀ j k, j < cnt → k < cnt → sp j = sp k → j = k)
    (hP : ho_P (p_v P) nc M Lc Ci Cs Sz) (rm : ∀ p, p < p_v P → a_members p = nI (M p)) (rl : ∀ u, u < p_v P → a_location u = nI (Lc u)) (rk : ∀ c, c < nc → a_classMarked c = 0)
    (HK : ∀ (f_touchedCount : Int32) (a_members a_location a_classMarked a_touched : Nat → Int32), xr_S (p_v P) nc Ci Cs Sz (fun v => ∃ k, k < cnt ∧ p_A P v i = some (sp k)) f_touchedCount a_members a_location a_classMarked a_touched → post (f_blockLimit, f_valueLimit, f_blockCount, f_valueCount, f_sealed, f_classCount, f_workTop, f_touchedCount, f_undoTop, f_runState, f_runForm, f_here, f_input0, f_input1, f_returned, f_evaluated, a_valueKind, a_valueBlock, a_leaf, a_args, a_exitKind, a_exitValue, a_exitTrue, a_exitFalse, a_predMask, a_order, a_orderIndex, a_idom, a_domMask, a_firstChild, a_nextSibling, a_stack, a_cursor, a_members, a_location, a_classIndex, a_classStart, a_classSize, a_classMarked, a_className, a_useHead, a_useNext, a_work, a_inWork, a_splitter, a_touched, a_leaderOf, a_available, a_undo, a_scopeMark, a_body, a_bodyStart, a_bodyOps, a_bodyEnd, a_env, a_phiNew)) : wpX_markUsers post (f_blockLimit, f_valueLimit, f_blockCount, f_valueCount, f_sealed, f_classCount, f_workTop, f_touchedCount, f_undoTop, f_runState, f_runForm, f_here, f_input0, f_input1, f_returned, f_evaluated, a_valueKind, a_valueBlock, a_leaf, a_args, a_exitKind, a_exitValue, a_exitTrue, a_exitFalse, a_predMask, a_order, a_orderIndex, a_idom, a_domMask, a_firstChild, a_nextSibling, a_stack, a_cursor, a_members, a_location, a_classIndex, a_classStart, a_classSize, a_classMarked, a_className, a_useHead, a_useNext, a_work, a_inWork, a_splitter, a_touched, a_leaderOf, a_available, a_undo, a_scopeMark, a_body, a_bodyStart, a_bodyOps, a_bodyEnd, a_env, a_phiNew) (nI cnt) (nI i) := by
  refine ⟨cnt + 1, xr_7 W ri rs hL hi hc rsp isp HK (cnt + 1) 0 0 _ _ _ _ (by omega) (by omega) ⟨M, Lc, fun _ => 0, fun _ => 0, 0, hP, fun v hv => ⟨fun z => ?_, fun z => ?_⟩, ho_T_0 (fun c _ => Nat.lt_irrefl 0), fun c _ => Nat.zero_le _, rm, rl, rk, fun j hj => by omega, rfl⟩⟩
  · obtain ⟨j, hj, _⟩ := z
    omega
  · have := (hP.2.2.1 v hv).2.1
    have z' : Lc v < Cs (Ci v) + 0 := z
    omega
end XM
end
section
/-! X: splitting -/
/-- the state while touched classes are split: U the marked set, T the touched classes, k of them done; r pops so far; K the splitter, pending from position i0 on -/
def xr_Q (P : PT) (r i0 : Nat) (K U : Nat → Prop) (T : Nat → Nat) (tc k : Nat) (ccI wtI : Int32) (mb lo ci cs sz mk wk iw : Nat → Int32) : Prop :=
  ∃ (nc wt : Nat) (M Lc Ci Cs Sz Mk Wk : Nat → Nat), ccI = nI nc ∧ wtI = nI wt ∧ ho_P (p_v P) nc M Lc Ci Cs Sz ∧
    (∀ j, k ≤ j → j < tc → T j < nc ∧ 0 < Mk (T j) ∧ Mk (T j) ≤ Sz (T j) ∧ ∀ u, u < p_v P → Ci u = T j → (U u ↔ Lc u < Cs (T j) + Mk (T j))) ∧
    (∀ c, c < nc → (∀ j, k ≤ j → j < tc → T j ≠ c) → Mk c = 0 ∧ ∀ u w, u < p_v P → w < p_v P → Ci u = c → Ci w = c → (U u ↔ U w)) ∧
    ho_N (p_v P) (p_A P) Ci (fun c => ∃ j, j < wt ∧ Wk j = c) K i0 ∧ (∀ u w, u < p_v P → w < p_v P → p_q P u w → Ci u = Ci w) ∧ (∀ u w, u < p_v P → w < p_v P → Ci u = Ci w → p_Lab P u w) ∧
    wt + r = nc ∧ (∀ j, j < wt → Wk j < nc) ∧ (∀ i j, i < wt → j < wt → Wk i = Wk j → i = j) ∧ (∀ c, c < nc → (iw c ≠ 0 ↔ ∃ j, j < wt ∧ Wk j = c)) ∧
    (∀ p, p < p_v P → mb p = nI (M p)) ∧ (∀ u, u < p_v P → lo u = nI (Lc u)) ∧ (∀ u, u < p_v P → ci u = nI (Ci u)) ∧ (∀ c, c < nc → cs c = nI (Cs c)) ∧ (∀ c, c < nc → sz c = nI (Sz c)) ∧ (∀ c, c < nc → mk c = nI (Mk c)) ∧ (∀ j, j < wt → wk j = nI (Wk j))
section XQ
variable {f_blockLimit f_valueLimit f_blockCount f_valueCount f_sealed f_classCount f_workTop f_touchedCount f_undoTop f_runState f_runForm f_here f_input0 f_input1 f_returned f_evaluated : Int32} {a_valueKind a_valueBlock a_leaf a_args a_exitKind a_exitValue a_exitTrue a_exitFalse a_predMask a_order a_orderIndex a_idom a_domMask a_firstChild a_nextSibling a_stack a_cursor a_members a_location a_classIndex a_classStart a_classSize a_classMarked a_className a_useHead a_useNext a_work a_inWork a_splitter a_touched a_leaderOf a_available a_undo a_scopeMark a_body a_bodyStart a_bodyOps a_bodyEnd a_env a_phiNew : Nat → Int32} {P : PT}
theorem xr_push {post : SX → Prop} {wt z : Nat} (hw : wt < 32) (hz : z < 32) (e : f_workTop = nI wt) (HK : post (f_blockLimit, f_valueLimit, f_blockCount, f_valueCount, f_sealed, f_classCount, nI (wt + 1), f_touchedCount, f_undoTop, f_runState, f_runForm, f_here, f_input0, f_input1, f_returned, f_evaluated, a_valueKind, a_valueBlock, a_leaf, a_args, a_exitKind, a_exitValue, a_exitTrue, a_exitFalse, a_predMask, a_order, a_orderIndex, a_idom, a_domMask, a_firstChild, a_nextSibling, a_stack, a_cursor, a_members, a_location, a_classIndex, a_classStart, a_classSize, a_classMarked, a_className, a_useHead, a_useNext, upd a_work wt (nI z), upd a_inWork z 1, a_splitter, a_touched, a_leaderOf, a_available, a_undo, a_scopeMark, a_body, a_bodyStart, a_bodyOps, a_bodyEnd, a_env, a_phiNew)) : wpX_pushWork post (f_blockLimit, f_valueLimit, f_blockCount, f_valueCount, f_sealed, f_classCount, f_workTop, f_touchedCount, f_undoTop, f_runState, f_runForm, f_here, f_input0, f_input1, f_returned, f_evaluated, a_valueKind, a_valueBlock, a_leaf, a_args, a_exitKind, a_exitValue, a_exitTrue, a_exitFalse, a_predMask, a_order, a_orderIndex, a_idom, a_domMask, a_firstChild, a_nextSibling, a_stack, a_cursor, a_members, a_location, a_classIndex, a_classStart, a_classSize, a_classMarked, a_className, a_useHead, a_useNext, a_work, a_inWork, a_splitter, a_touched, a_leaderOf, a_available, a_undo, a_scopeMark, a_body, a_bodyStart, a_bodyOps, a_bodyEnd, a_env, a_phiNew) (nI z) := by
  subst e
  exact ⟨vp_in_nI hw (by omega), ba_wr wt rfl (by omega) rfl (nm_r (nI_1 wt) ⟨vp_in_nI hz (by omega), ba_wr z rfl (by omega) ba_vb1 HK⟩)⟩
theorem xr_71 {post : SX → Prop} {nv c d m wt cst : Nat} {Ci Lc M : Nat → Nat} (hn : nv ≤ 32) (hc : c < 32) (hd : d < 32) (hw : wt < 32) (ew : f_workTop = nI wt) (hM1 : ∀ p, p < nv → M p < nv ∧ Lc (M p) = p) (hL1 : ∀ u, u < nv → Lc u < nv ∧ M (Lc u) = u)
    (hseg : ∀ p, cst ≤ p → p < cst + m → Ci (M p) = c) (hcm : cst + m ≤ nv) (rm : ∀ p, p < nv → a_members p = nI (M p)) (es : a_classStart d = nI cst) (hcd : c ≠ d)
    (HK : ∀ (z : Nat) (a_classIndex : Nat → Int32), ((z = c ∧ a_inWork c = 0) ∨ z = d) → (∀ u, u < nv → a_classIndex u = nI (if Ci u = c ∧ Lc u < cst + m then d else Ci u)) → post (f_blockLimit, f_valueLimit, f_blockCount, f_valueCount, f_sealed, f_classCount, nI (wt + 1), f_touchedCount, f_undoTop, f_runState, f_runForm, f_here, f_input0, f_input1, f_returned, f_evaluated, a_valueKind, a_valueBlock, a_leaf, a_args, a_exitKind, a_exitValue, a_exitTrue, a_exitFalse, a_predMask, a_order, a_orderIndex, a_idom, a_domMask, a_firstChild, a_nextSibling, a_stack, a_cursor, a_members, a_location, a_classIndex, a_classStart, a_classSize, a_classMarked, a_className, a_useHead, a_useNext, upd a_work wt (nI z), upd a_inWork z 1, a_splitter, a_touched, a_leaderOf, a_available, a_undo, a_scopeMark, a_body, a_bodyStart, a_bodyOps, a_bodyEnd, a_env, a_phiNew)) :
    ∀ (n k : Nat) (a_classIndex : Nat → Int32), k ≤ m → m - k < n → (∀ u, u < nv → a_classIndex u = nI (if Ci u = c ∧ Lc u < cst + k then d else Ci u)) → wX_splitClass_71 post (nI c) (nI m) (nI d) f_blockLimit f_valueLimit f_blockCount f_valueCount f_sealed f_classCount f_workTop f_touchedCount f_undoTop f_runState f_runForm f_here f_input0 f_input1 f_returned f_evaluated n (nI k) a_valueKind a_valueBlock a_leaf a_args a_exitKind a_exitValue a_exitTrue a_exitFalse a_predMask a_order a_orderIndex a_idom a_domMask a_firstChild a_nextSibling a_stack a_cursor a_members a_location a_classIndex a_classStart a_classSize a_classMarked a_className a_useHead a_useNext a_work a_inWork a_splitter a_touched a_leaderOf a_available a_undo a_scopeMark a_body a_bodyStart a_bodyOps a_bodyEnd a_env a_phiNew := by
  intro n
  induction n with
  | zero => intro k _ _ h; omega
  | succ n ih =>
    intro k a_classIndex hk hnn ri
    rw [wX_splitClass_71]
    refine pk_le m k (fun h => ⟨vp_in_nI hc (by omega), ?_⟩) (fun h => ⟨vp_in_nI hd (by omega), ?_⟩)
    · have e : k = m := by omega
      subst e
      rw [nI_clamp (by omega)]
      have D : wX_splitClass_127 post (nI d) f_blockLimit f_valueLimit f_blockCount f_valueCount f_sealed f_classCount f_workTop f_touchedCount f_undoTop f_runState f_runForm f_here f_input0 f_input1 f_returned f_evaluated a_valueKind a_valueBlock a_leaf a_args a_exitKind a_exitValue a_exitTrue a_exitFalse a_predMask a_order a_orderIndex a_idom a_domMask a_firstChild a_nextSibling a_stack a_cursor a_members a_location a_classIndex a_classStart a_classSize a_classMarked a_className a_useHead a_useNext a_work a_inWork a_splitter a_touched a_leaderOf a_available a_undo a_scopeMark a_body a_bodyStart a_bodyOps a_bodyEnd a_env a_phiNew := by
        unfold wX_splitClass_127
        exact xr_push hw hd ew (HK d a_classIndex (Or.inr rfl) ri)
      refine br_c (fun q => ⟨vp_in_nI hd (by omega), vp_in_nI hc (by omega), br_c (fun _ => xr_push hw hc ew (HK c a_classIndex (Or.inl ⟨rfl, q⟩) ri)) (fun _ => D)⟩) (fun _ => D)
    · rw [nI_clamp (by omega), es, nI_add]
      refine ⟨vp_in_nI (by omega) (by omega), ?_⟩
      rw [nI_clamp (by omega), rm _ (by omega)]
      obtain ⟨m1, m2⟩ := hM1 (cst + k) (by omega)
      refine ⟨vp_in_nI (by omega) (by omega), ba_wr _ rfl (by omega) rfl (nm_r (nI_1 k) (ih (k + 1) _ (by omega) (by omega) (fun u hu => ?_)))⟩
      rcases Classical.em (u = M (cst + k)) with q | q
      · rw [q, pk_us, if_pos ⟨hseg _ (by omega) (by omega), by rw [m2]; omega⟩]
      · rw [pk_un q, ri u hu]
        have : Lc u ≠ cst + k := fun z => q (by rw [← z, (hL1 u hu).2])
        by_cases g : Ci u = c ∧ Lc u < cst + k
        · rw [if_pos g, if_pos ⟨g.1, by omega⟩]
        · rw [if_neg g, if_neg (fun w => g ⟨w.1, by have := w.2; omega⟩)]
theorem xr_split {post : SX → Prop} {nv nc c m wt : Nat} {M Lc Ci Cs Sz : Nat → Nat} (hn : nv ≤ 32) (hP : ho_P nv nc M Lc Ci Cs Sz) (hc : c < nc) (h0 : 0 < m) (hm : m < Sz c) (hw : wt < 32) (ew : f_workTop = nI wt) (ec : f_classCount = nI nc)
    (rm : ∀ p, p < nv → a_members p = nI (M p)) (ri : ∀ u, u < nv → a_classIndex u = nI (Ci u)) (rs : ∀ c, c < nc → a_classStart c = nI (Cs c)) (rz : ∀ c, c < nc → a_classSize c = nI (Sz c))
    (HK : ∀ (z : Nat) (Cj : Nat → Nat) (a_classIndex : Nat → Int32), ((z = c ∧ a_inWork c = 0) ∨ z = nc) → ho_X Ci (fun u => Lc u < Cs c + m) c nc Cj nv → (∀ u, u < nv → a_classIndex u = nI (Cj u)) →
      post (f_blockLimit, f_valueLimit, f_blockCount, f_valueCount, f_sealed, nI (nc + 1), nI (wt + 1), f_touchedCount, f_undoTop, f_runState, f_runForm, f_here, f_input0, f_input1, f_returned, f_evaluated, a_valueKind, a_valueBlock, a_leaf, a_args, a_exitKind, a_exitValue, a_exitTrue, a_exitFalse, a_predMask, a_order, a_orderIndex, a_idom, a_domMask, a_firstChild, a_nextSibling, a_stack, a_cursor, a_members, a_location, a_classIndex, upd (upd a_classStart nc (nI (Cs c))) c (nI (Cs c + m)), upd (upd a_classSize nc (nI m)) c (nI (Sz c - m)), upd a_classMarked nc 0, a_className, a_useHead, a_useNext, upd a_work wt (nI z), upd (upd a_inWork nc 0) z 1, a_splitter, a_touched, a_leaderOf, a_available, a_undo, a_scopeMark, a_body, a_bodyStart, a_bodyOps, a_bodyEnd, a_env, a_phiNew)) :
    wpX_splitClass post (f_blockLimit, f_valueLimit, f_blockCount, f_valueCount, f_sealed, f_classCount, f_workTop, f_touchedCount, f_undoTop, f_runState, f_runForm, f_here, f_input0, f_input1, f_returned, f_evaluated, a_valueKind, a_valueBlock, a_leaf, a_args, a_exitKind, a_exitValue, a_exitTrue, a_exitFalse, a_predMask, a_order, a_orderIndex, a_idom, a_domMask, a_firstChild, a_nextSibling, a_stack, a_cursor, a_members, a_location, a_classIndex, a_classStart, a_classSize, a_classMarked, a_className, a_useHead, a_useNext, a_work, a_inWork, a_splitter, a_touched, a_leaderOf, a_available, a_undo, a_scopeMark, a_body, a_bodyStart, a_bodyOps, a_bodyEnd, a_env, a_phiNew) (nI c) (nI m) := by
  have X0 : ho_X Ci (fun u => Lc u < Cs c + m) c nc (fun u => if Ci u = c ∧ Lc u < Cs c + m then nc else Ci u) nv := fun u hu => ⟨fun z => if_pos z, fun z => if_neg z⟩
  obtain ⟨hnc, _⟩ := ho_cut hP hc h0 hm X0
  have hcs := (hP.2.2.2 c hc)
  have hcd : c ≠ nc := by omega
  subst ec
  have v1 : vp_in (nI c) 32 := vp_in_nI (by omega) (by omega)
  have v2 : vp_in (nI nc) 32 := vp_in_nI (by omega) (by omega)
  refine nm_r (nI_1 nc) ⟨v1, v2, ba_wr nc rfl (by omega) (by rw [nI_clamp (by omega), rs c hc]) ⟨v2, ba_wr nc rfl (by omega) rfl ⟨v2, ba_wr nc rfl (by omega) rfl ⟨v2, ba_wr nc rfl (by omega) ba_vb0 ⟨v1, v1, ba_wr c rfl (by omega) (by rw [nI_clamp (by omega), pk_un hcd, rs c hc, nI_add]) ⟨v1, v1, ba_wr c rfl (by omega) (by rw [nI_clamp (by omega), pk_un hcd, rz c hc, pk_sub (by omega)]) ⟨m + 1, ?_⟩⟩⟩⟩⟩⟩⟩
  refine xr_71 (nv := nv) (cst := Cs c) (wt := wt) (Ci := Ci) (Lc := Lc) (M := M) hn (by omega) (by omega) hw ew hP.1 hP.2.1 (fun p h1 h2 => hcs.2.2 p h1 (by omega)) (by omega) rm (by rw [pk_un (by omega), pk_us]) hcd (fun z ci hz hr => HK z _ ci ?_ X0 hr) (m + 1) 0 _ (by omega) (by omega) (fun u hu => ?_)
  · rw [pk_un hcd] at hz
    exact hz
  · rw [ri u hu, if_neg (fun z => by
      have h1 := (hP.2.2.1 u hu).2.1
      rw [z.1] at h1
      have := z.2; omega)]
theorem xr_2 {post : SX → Prop} (W : p_W P) {r i0 tc : Nat} {K U : Nat → Prop} {T : Nat → Nat} (hU : ∀ u w, u < p_v P → w < p_v P → p_q P u w → (U u ↔ U w)) (rt : ∀ j, j < tc → a_touched j = nI (T j)) (ti : ∀ i j, i < tc → j < tc → T i = T j → i = j) (htc : tc ≤ 32) (et : f_touchedCount = nI tc)
    (HK : ∀ (f_classCount f_workTop : Int32) (a_classIndex a_classStart a_classSize a_classMarked a_work a_inWork : Nat → Int32), xr_Q P r i0 K U T tc tc f_classCount f_workTop a_members a_location a_classIndex a_classStart a_classSize a_classMarked a_work a_inWork → post (f_blockLimit, f_valueLimit, f_blockCount, f_valueCount, f_sealed, f_classCount, f_workTop, 0, f_undoTop, f_runState, f_runForm, f_here, f_input0, f_input1, f_returned, f_evaluated, a_valueKind, a_valueBlock, a_leaf, a_args, a_exitKind, a_exitValue, a_exitTrue, a_exitFalse, a_predMask, a_order, a_orderIndex, a_idom, a_domMask, a_firstChild, a_nextSibling, a_stack, a_cursor, a_members, a_location, a_classIndex, a_classStart, a_classSize, a_classMarked, a_className, a_useHead, a_useNext, a_work, a_inWork, a_splitter, a_touched, a_leaderOf, a_available, a_undo, a_scopeMark, a_body, a_bodyStart, a_bodyOps, a_bodyEnd, a_env, a_phiNew)) :
    ∀ (n k : Nat) (f_classCount f_workTop : Int32) (a_classIndex a_classStart a_classSize a_classMarked a_work a_inWork : Nat → Int32), k ≤ tc → tc - k < n → xr_Q P r i0 K U T tc k f_classCount f_workTop a_members a_location a_classIndex a_classStart a_classSize a_classMarked a_work a_inWork →
      wX_splitTouched_2 post n (nI k) f_blockLimit f_valueLimit f_blockCount f_valueCount f_sealed f_classCount f_workTop f_touchedCount f_undoTop f_runState f_runForm f_here f_input0 f_input1 f_returned f_evaluated a_valueKind a_valueBlock a_leaf a_args a_exitKind a_exitValue a_exitTrue a_exitFalse a_predMask a_order a_orderIndex a_idom a_domMask a_firstChild a_nextSibling a_stack a_cursor a_members a_location a_classIndex a_classStart a_classSize a_classMarked a_className a_useHead a_useNext a_work a_inWork a_splitter a_touched a_leaderOf a_available a_undo a_scopeMark a_body a_bodyStart a_bodyOps a_bodyEnd a_env a_phiNew := by
  have hv32 := W.2.2.1
  intro n
  induction n with
  | zero => intro k _ _ _ _ _ _ _ _ _ h; omega
  | succ n ih =>
    intro k f_classCount f_workTop a_classIndex a_classStart a_classSize a_classMarked a_work a_inWork hk hn Q
    rw [wX_splitTouched_2]
    refine pk_le tc k (fun h => ?_) (fun h => ⟨vp_in_nI (by omega) (by omega), ba_rd k rfl (by omega) (rt k h) ?_⟩) (hx := et)
    · have e : k = tc := by omega
      subst e
      exact HK _ _ _ _ _ _ _ _ Q
    · obtain ⟨nc, wt, M, Lc, Ci, Cs, Sz, Mk, Wk, e1, e2, hP, q1, q2, q3, q4, q5, q6, q7, q8, q9, r1, r2, r3, r4, r5, r6, r7⟩ := Q
      obtain ⟨t1, t2, t3, t4⟩ := q1 k (Nat.le_refl _) h
      have hnc := ho_nc hP
      have hseg := hP.2.2.2 _ t1
      have vc : vp_in (nI (T k)) 32 := vp_in_nI (by omega) (by omega)
      have tne : ∀ j, k + 1 ≤ j → j < tc → T j ≠ T k := fun j h1 h2 z => by have := ti j k h2 h z; omega
      refine ⟨vc, ba_rd _ rfl (by omega) (r6 _ t1) ⟨vc, ba_wr (T k) rfl (by omega) rfl ⟨vc, ?_⟩⟩⟩
      rw [nI_clamp (by omega), r5 _ t1]
      refine pk_le (Sz (T k)) (Mk (T k)) (fun g => nm_r (nI_1 k) (ih (k + 1) _ _ _ _ _ _ _ _ (by omega) (by omega) ⟨nc, wt, M, Lc, Ci, Cs, Sz, nu Mk (T k) 0, Wk, e1, e2, hP, fun j h1 h2 => ?_, fun c hc hj => ?_, q3, q4, q5, q6, q7, q8, q9, r1, r2, r3, r4, r5, fun c hc => ba_ru (fun _ => r6 c hc), r7⟩)) (fun g => ?_)
      · rw [nu_n (tne j h1 h2)]
        exact q1 j (by omega) h2
      · rcases Classical.em (c = T k) with z | z
        · subst z
          rw [nu_s]
          refine ⟨rfl, fun u w hu hw h1 h2 => ?_⟩
          rw [t4 u hu h1, t4 w hw h2]
          have a1 := hP.2.2.1 u hu
          have a2 := hP.2.2.1 w hw
          rw [h1] at a1
          rw [h2] at a2
          omega
        · rw [nu_n z]
          refine q2 c hc (fun j h1 h2 => ?_)
          rcases Classical.em (j = k) with y | y
          · rw [y]; exact fun w => z w.symm
          · exact hj j (by omega) h2
      · have hwt : wt < 32 := by
          have X0 : ho_X Ci (fun u => Lc u < Cs (T k) + Mk (T k)) (T k) nc (fun u => if Ci u = T k ∧ Lc u < Cs (T k) + Mk (T k) then nc else Ci u) (p_v P) := fun u hu => ⟨fun z => if_pos z, fun z => if_neg z⟩
          have := (ho_cut hP t1 t2 g X0).1
          omega
        refine xr_split hv32 hP t1 t2 g hwt e2 e1 r1 r3 r4 r5 (fun z Cj a_classIndex hz X rj => nm_r (nI_1 k) (ih (k + 1) _ _ _ _ _ _ _ _ (by omega) (by omega) ?_))
        obtain ⟨c1, c2⟩ := ho_cut hP t1 t2 g X
        have hcd : T k ≠ nc := by omega
        have hfr : ∀ u, u < p_v P → Ci u ≠ nc := fun u hu => by have := (hP.2.2.1 u hu).1; omega
        have hzn : z < nc + 1 := by omega
        have zW : ∀ j, j < wt → Wk j ≠ z := by
          intro j hj e
          rcases hz with hz | hz
          · rw [hz.1] at e
            exact absurd hz.2 ((q9 _ t1).mpr ⟨j, hj, e⟩)
          · have := q7 j hj; omega
        have keep : ∀ u e, u < p_v P → e ≠ T k → e ≠ nc → (Cj u = e ↔ Ci u = e) := by
          intro u e hu he hen
          rcases Classical.em (Ci u = T k ∧ Lc u < Cs (T k) + Mk (T k)) with y | y
          · rw [(X u hu).1 y, y.1]
            exact ⟨fun w => absurd w.symm hen, fun w => absurd w.symm he⟩
          · rw [(X u hu).2 y]
        refine ⟨nc + 1, wt + 1, M, Lc, Cj, _, _, nu (nu Mk (T k) 0) nc 0, nu Wk wt z, rfl, rfl, c2, fun j h1 h2 => ?_, fun c hc hj => ?_, ho_N_split q3 X hfr hcd (fun e he => ?_) (fun he => ?_) ?_, fun u w hu hw hq => ?_, fun u w hu hw hq => q5 u w hu hw (ho_X_bk X hfr hu hw hq), by omega, fun j hj => ?_, fun i j hi hj he => ?_, fun c hc => ?_, r1, r2, rj, fun c hc => ?_, fun c hc => ?_, fun c hc => ?_, fun j hj => ba_ru (fun _ => r7 j (by omega))⟩
        · obtain ⟨a1, a2, a3, a4⟩ := q1 j (by omega) h2
          have b1 := tne j h1 h2
          have b2 : T j ≠ nc := by omega
          rw [nu_n b2, nu_n b1, nu_n b1, nu_n b2, nu_n b1, nu_n b2]
          exact ⟨by omega, a2, a3, fun u hu hcu => a4 u hu ((keep u _ hu b1 b2).mp hcu)⟩
        · rcases Classical.em (c = nc) with y | y
          · subst y
            rw [nu_s]
            refine ⟨rfl, fun u w hu hw h1 h2 => ?_⟩
            have fx : ∀ u, u < p_v P → Cj u = c → U u := by
              intro u hu hcu
              rcases Classical.em (Ci u = T k ∧ Lc u < Cs (T k) + Mk (T k)) with x | x
              · exact (t4 u hu x.1).mpr x.2
              · rw [(X u hu).2 x] at hcu
                exact absurd hcu (hfr u hu)
            exact ⟨fun _ => fx w hw h2, fun _ => fx u hu h1⟩
          · rw [nu_n y]
            rcases Classical.em (c = T k) with x | x
            · subst x
              rw [nu_s]
              refine ⟨rfl, fun u w hu hw h1 h2 => ?_⟩
              have fx : ∀ u, u < p_v P → Cj u = T k → ¬ U u := by
                intro u hu hcu hUu
                rcases Classical.em (Ci u = T k ∧ Lc u < Cs (T k) + Mk (T k)) with x | x
                · rw [(X u hu).1 x] at hcu
                  exact hcd hcu.symm
                · rw [(X u hu).2 x] at hcu
                  exact x ⟨hcu, (t4 u hu hcu).mp hUu⟩
              exact ⟨fun q => absurd q (fx u hu h1), fun q => absurd q (fx w hw h2)⟩
            · rw [nu_n x]
              obtain ⟨a1, a2⟩ := q2 c (by omega) (fun j h1 h2 => by
                rcases Classical.em (j = k) with y | y
                · rw [y]; exact fun w => x w.symm
                · exact hj j (by omega) h2)
              exact ⟨a1, fun u w hu hw h1 h2 => a2 u w hu hw ((keep u _ hu x y).mp h1) ((keep w _ hw x y).mp h2)⟩
        · obtain ⟨j, hj, ej⟩ := he
          exact ⟨j, by omega, by rw [nu_n (by omega)]; exact ej⟩
        · obtain ⟨j, hj, ej⟩ := he
          rcases hz with hz | hz
          · exact absurd hz.2 ((q9 _ t1).mpr ⟨j, hj, ej⟩)
          · exact ⟨wt, by omega, by rw [nu_s]; exact hz⟩
        · rcases hz with hz | hz
          · exact Or.inl ⟨wt, by omega, by rw [nu_s]; exact hz.1⟩
          · exact Or.inr ⟨wt, by omega, by rw [nu_s]; exact hz⟩
        · have hcc := q4 u w hu hw hq
          have hUU := hU u w hu hw hq
          rcases Classical.em (Ci u = T k ∧ Lc u < Cs (T k) + Mk (T k)) with x | x
          · have xw : Ci w = T k := hcc.symm.trans x.1
            rw [(X u hu).1 x, (X w hw).1 ⟨xw, (t4 w hw xw).mp (hUU.mp ((t4 u hu x.1).mpr x.2))⟩]
          · rw [(X u hu).2 x, (X w hw).2 (fun y => x ⟨hcc.trans y.1, (t4 u hu (hcc.trans y.1)).mp (hUU.mpr ((t4 w hw y.1).mpr y.2))⟩)]
            exact hcc
        · rcases Classical.em (j = wt) with y | y
          · rw [y, nu_s]; exact hzn
          · rw [nu_n y]; have := q7 j (by omega); omega
        · rcases Classical.em (i = wt) with y | y
          · rcases Classical.em (j = wt) with x | x
            · omega
            · rw [y, nu_s, nu_n x] at he
              exact absurd he.symm (zW j (by omega))
          · rcases Classical.em (j = wt) with x | x
            · rw [x, nu_s, nu_n y] at he
              exact absurd he (zW i (by omega))
            · rw [nu_n y, nu_n x] at he
              exact q8 i j (by omega) (by omega) he
        · rcases Classical.em (c = z) with y | y
          · rw [y, pk_us]
            exact ⟨fun _ => ⟨wt, by omega, nu_s⟩, fun _ => by decide⟩
          · rw [pk_un y]
            have e3 : (∃ j, j < wt + 1 ∧ nu Wk wt z j = c) ↔ ∃ j, j < wt ∧ Wk j = c := by
              constructor
              · rintro ⟨j, hj, ej⟩
                rcases Classical.em (j = wt) with x | x
                · rw [x, nu_s] at ej; exact absurd ej.symm y
                · rw [nu_n x] at ej; exact ⟨j, by omega, ej⟩
              · rintro ⟨j, hj, ej⟩
                exact ⟨j, by omega, by rw [nu_n (by omega)]; exact ej⟩
            rw [e3]
            rcases Classical.em (c = nc) with x | x
            · rw [x, pk_us]
              exact ⟨fun w => absurd rfl w, fun ⟨j, hj, ej⟩ => by have := q7 j hj; omega⟩
            · rw [pk_un x]
              exact q9 c (by omega)
        · exact ba_ru (fun y => ba_ru (fun x => r4 c (by omega)))
        · exact ba_ru (fun y => ba_ru (fun x => r5 c (by omega)))
        · exact ba_ru (x := 0) (fun y => ba_ru (x := 0) (fun x => r6 c (by omega)))
theorem xr_touched {post : SX → Prop} (W : p_W P) {r i0 tc : Nat} {K U : Nat → Prop} {T : Nat → Nat} (hU : ∀ u w, u < p_v P → w < p_v P → p_q P u w → (U u ↔ U w)) (rt : ∀ j, j < tc → a_touched j = nI (T j)) (ti : ∀ i j, i < tc → j < tc → T i = T j → i = j) (htc : tc ≤ 32) (et : f_touchedCount = nI tc)
    (Q : xr_Q P r i0 K U T tc 0 f_classCount f_workTop a_members a_location a_classIndex a_classStart a_classSize a_classMarked a_work a_inWork)
    (HK : ∀ (f_classCount f_workTop : Int32) (a_classIndex a_classStart a_classSize a_classMarked a_work a_inWork : Nat → Int32), xr_Q P r i0 K U T tc tc f_classCount f_workTop a_members a_location a_classIndex a_classStart a_classSize a_classMarked a_work a_inWork → post (f_blockLimit, f_valueLimit, f_blockCount, f_valueCount, f_sealed, f_classCount, f_workTop, 0, f_undoTop, f_runState, f_runForm, f_here, f_input0, f_input1, f_returned, f_evaluated, a_valueKind, a_valueBlock, a_leaf, a_args, a_exitKind, a_exitValue, a_exitTrue, a_exitFalse, a_predMask, a_order, a_orderIndex, a_idom, a_domMask, a_firstChild, a_nextSibling, a_stack, a_cursor, a_members, a_location, a_classIndex, a_classStart, a_classSize, a_classMarked, a_className, a_useHead, a_useNext, a_work, a_inWork, a_splitter, a_touched, a_leaderOf, a_available, a_undo, a_scopeMark, a_body, a_bodyStart, a_bodyOps, a_bodyEnd, a_env, a_phiNew)) :
    wpX_splitTouched post (f_blockLimit, f_valueLimit, f_blockCount, f_valueCount, f_sealed, f_classCount, f_workTop, f_touchedCount, f_undoTop, f_runState, f_runForm, f_here, f_input0, f_input1, f_returned, f_evaluated, a_valueKind, a_valueBlock, a_leaf, a_args, a_exitKind, a_exitValue, a_exitTrue, a_exitFalse, a_predMask, a_order, a_orderIndex, a_idom, a_domMask, a_firstChild, a_nextSibling, a_stack, a_cursor, a_members, a_location, a_classIndex, a_classStart, a_classSize, a_classMarked, a_className, a_useHead, a_useNext, a_work, a_inWork, a_splitter, a_touched, a_leaderOf, a_available, a_undo, a_scopeMark, a_body, a_bodyStart, a_bodyOps, a_bodyEnd, a_env, a_phiNew) := ⟨tc + 1, xr_2 W hU rt ti htc et HK (tc + 1) 0 _ _ _ _ _ _ _ _ (by omega) (by omega) Q⟩
end XQ
end
section
/-! X: refineClasses -/
def xr_Z (P : PT) (r i0 : Nat) (K : Nat → Prop) (ccI wtI : Int32) (mb lo ci cs sz mk wk iw : Nat → Int32) : Prop := xr_Q P r i0 K (fun _ => False) (fun _ => 0) 0 0 ccI wtI mb lo ci cs sz mk wk iw
/-- what refineClasses leaves -/
def xr_R (P : PT) (ccI : Int32) (ci : Nat → Int32) : Prop :=
  ∃ (nc : Nat) (Ci : Nat → Nat), ccI = nI nc ∧ nc ≤ p_v P ∧ (∀ u, u < p_v P → ci u = nI (Ci u) ∧ Ci u < nc) ∧ (∀ c, c < nc → ∃ u, u < p_v P ∧ Ci u = c) ∧ (∀ u w, u < p_v P → w < p_v P → (Ci u = Ci w ↔ p_q P u w))
section XR
variable {f_blockLimit f_valueLimit f_blockCount f_valueCount f_sealed f_classCount f_workTop f_touchedCount f_undoTop f_runState f_runForm f_here f_input0 f_input1 f_returned f_evaluated : Int32} {a_valueKind a_valueBlock a_leaf a_args a_exitKind a_exitValue a_exitTrue a_exitFalse a_predMask a_order a_orderIndex a_idom a_domMask a_firstChild a_nextSibling a_stack a_cursor a_members a_location a_classIndex a_classStart a_classSize a_classMarked a_className a_useHead a_useNext a_work a_inWork a_splitter a_touched a_leaderOf a_available a_undo a_scopeMark a_body a_bodyStart a_bodyOps a_bodyEnd a_env a_phiNew : Nat → Int32} {P : PT}
theorem xr_114 {post : SX → Prop} {J28 : Int32 → Int32 → Int32 → Int32 → Int32 → Int32 → Int32 → Int32 → Int32 → Int32 → Int32 → Int32 → Int32 → Int32 → Int32 → Int32 → Int32 →  (Nat → Int32) → (Nat → Int32) → (Nat → Int32) → (Nat → Int32) → (Nat → Int32) → (Nat → Int32) → (Nat → Int32) → (Nat → Int32) → (Nat → Int32) → (Nat → Int32) → (Nat → Int32) → (Nat → Int32) → (Nat → Int32) → (Nat → Int32) → (Nat → Int32) → (Nat → Int32) → (Nat → Int32) → (Nat → Int32) → (Nat → Int32) → (Nat → Int32) → (Nat → Int32) → (Nat → Int32) → (Nat → Int32) → (Nat → Int32) → (Nat → Int32) → (Nat → Int32) → (Nat → Int32) → (Nat → Int32) → (Nat → Int32) → (Nat → Int32) → (Nat → Int32) → (Nat → Int32) → (Nat → Int32) → (Nat → Int32) → (Nat → Int32) → (Nat → Int32) → (Nat → Int32) → (Nat → Int32) → (Nat → Int32) → (Nat → Int32) →  Prop} {x1 : Nat} (W : p_W P) (S : p_S3 P) (hL : xl_H (p_v P) (p_A P) (p_v P) 0 a_useHead a_useNext) {r cnt : Nat} {sp : Nat → Nat} {K : Nat → Prop}
    (hc : cnt ≤ p_v P) (rsp : ∀ k, k < cnt → a_splitter k = nI (sp k) ∧ sp k < p_v P) (isp : ∀ j k, j < cnt → k < cnt → sp j = sp k → j = k) (hK : ∀ x, x < p_v P → (K x ↔ ∃ k, k < cnt ∧ sp k = x)) (hKq : ∀ x y, x < p_v P → y < p_v P → p_q P x y → (K x ↔ K y))
    (HK : ∀ (f_classCount f_workTop f_touchedCount : Int32) (a_members a_location a_classIndex a_classStart a_classSize a_classMarked a_work a_inWork a_touched : Nat → Int32), xr_Z P r 8 K f_classCount f_workTop a_members a_location a_classIndex a_classStart a_classSize a_classMarked a_work a_inWork → J28 (nI (x1 + 1)) f_blockLimit f_valueLimit f_blockCount f_valueCount f_sealed f_classCount f_workTop f_touchedCount f_undoTop f_runState f_runForm f_here f_input0 f_input1 f_returned f_evaluated a_valueKind a_valueBlock a_leaf a_args a_exitKind a_exitValue a_exitTrue a_exitFalse a_predMask a_order a_orderIndex a_idom a_domMask a_firstChild a_nextSibling a_stack a_cursor a_members a_location a_classIndex a_classStart a_classSize a_classMarked a_className a_useHead a_useNext a_work a_inWork a_splitter a_touched a_leaderOf a_available a_undo a_scopeMark a_body a_bodyStart a_bodyOps a_bodyEnd a_env a_phiNew) :
    ∀ (n i : Nat) (f_classCount f_workTop f_touchedCount : Int32) (a_members a_location a_classIndex a_classStart a_classSize a_classMarked a_work a_inWork a_touched : Nat → Int32), i ≤ 8 → 8 - i < n → xr_Z P r i K f_classCount f_workTop a_members a_location a_classIndex a_classStart a_classSize a_classMarked a_work a_inWork →
      wX_refineClasses_114 post J28 (nI x1) (nI cnt) n (nI i) f_blockLimit f_valueLimit f_blockCount f_valueCount f_sealed f_classCount f_workTop f_touchedCount f_undoTop f_runState f_runForm f_here f_input0 f_input1 f_returned f_evaluated a_valueKind a_valueBlock a_leaf a_args a_exitKind a_exitValue a_exitTrue a_exitFalse a_predMask a_order a_orderIndex a_idom a_domMask a_firstChild a_nextSibling a_stack a_cursor a_members a_location a_classIndex a_classStart a_classSize a_classMarked a_className a_useHead a_useNext a_work a_inWork a_splitter a_touched a_leaderOf a_available a_undo a_scopeMark a_body a_bodyStart a_bodyOps a_bodyEnd a_env a_phiNew := by
  have hv32 := W.2.2.1
  have H := p_H W S
  intro n
  induction n with
  | zero => intro i _ _ _ _ _ _ _ _ _ _ _ _ _ h; omega
  | succ n ih =>
    intro i f_classCount f_workTop f_touchedCount a_members a_location a_classIndex a_classStart a_classSize a_classMarked a_work a_inWork a_touched hi hn Z
    rw [wX_refineClasses_114]
    refine pk_le 8 i (fun h => ?_) (fun h => ?_)
    · have e : i = 8 := by omega
      subst e
      exact nm_r (nI_1 x1) (HK _ _ _ _ _ _ _ _ _ _ _ _ Z)
    · obtain ⟨nc, wt, M, Lc, Ci, Cs, Sz, Mk, Wk, e1, e2, hP, q1, q2, q3, q4, q5, q6, q7, q8, q9, r1, r2, r3, r4, r5, r6, r7⟩ := Z
      have mk0 : ∀ c, c < nc → Mk c = 0 := fun c hc => (q2 c hc (fun j _ h2 => by omega)).1
      refine xr_users (Ci := Ci) (Cs := Cs) (Sz := Sz) (nc := nc) W r3 r4 hL h hc rsp isp hP r1 r2 (fun c hc => by rw [r6 c hc, mk0 c hc]; rfl) (fun f_touchedCount a_members a_location a_classMarked a_touched XS => ?_)
      obtain ⟨M', Lc', Mk', T, tc, hP', hU, hT, hS, r1', r2', r6', rt, rc⟩ := XS
      have hnc := ho_nc hP'
      have htc := ho_T_le hT
      have Uq : ∀ u w, u < p_v P → w < p_v P → p_q P u w → ((∃ k, k < cnt ∧ p_A P u i = some (sp k)) ↔ ∃ k, k < cnt ∧ p_A P w i = some (sp k)) := by
        have half : ∀ u w, u < p_v P → w < p_v P → p_q P u w → (∃ k, k < cnt ∧ p_A P u i = some (sp k)) → ∃ k, k < cnt ∧ p_A P w i = some (sp k) := by
          rintro u w hu hw hq ⟨k, hk, ek⟩
          obtain ⟨y, hy, hyn⟩ := cg_so H hu hw h (cg_E_lab hq) ek
          have hxn := (rsp k hk).2
          have := cg_E_arg hq h ek hy
          obtain ⟨j, hj, ej⟩ := (hK y hyn).mp ((hKq _ _ hxn hyn this).mp ((hK _ hxn).mpr ⟨k, hk, rfl⟩))
          exact ⟨j, hj, by rw [hy, ej]⟩
        exact fun u w hu hw hq => ⟨half u w hu hw hq, half w u hw hu (cg_E_sy H hq)⟩
      refine xr_touched (r := r) (i0 := i) (K := K) (T := T) (tc := tc) W Uq rt hT.2.1 (by omega) rc ⟨nc, wt, M', Lc', Ci, Cs, Sz, Mk', Wk, e1, e2, hP', fun j _ hj => ?_, fun c hc hj => ?_, q3, q4, q5, q6, q7, q8, q9, r1', r2', r3, r4, r5, r6', r7⟩ (fun f_classCount f_workTop a_classIndex a_classStart a_classSize a_classMarked a_work a_inWork Q => nm_r (nI_1 i) (ih (i + 1) _ _ _ _ _ _ _ _ _ _ _ _ (by omega) (by omega) ?_))
      · obtain ⟨a1, a2⟩ := hT.1 j hj
        refine ⟨a1, a2, hS _ a1, fun u hu hcu => ?_⟩
        have := hU u hu
        rw [hcu] at this
        exact this
      · have hm0 : Mk' c = 0 := by
          rcases Nat.eq_zero_or_pos (Mk' c) with z | z
          · exact z
          · obtain ⟨j, hj', ej⟩ := hT.2.2 c hc z
            exact absurd ej (hj j (Nat.zero_le _) hj')
        refine ⟨hm0, fun u w hu hw h1 h2 => ?_⟩
        have a1 := hP'.2.2.1 u hu
        have a2 := hP'.2.2.1 w hw
        rw [hU u hu, hU w hw, h1, h2, hm0]
        rw [h1] at a1
        rw [h2] at a2
        omega
      · obtain ⟨nc, wt, M, Lc, Ci, Cs, Sz, Mk, Wk, e1, e2, hP, q1, q2, q3, q4, q5, q6, q7, q8, q9, r1, r2, r3, r4, r5, r6, r7⟩ := Q
        have stab : ho_S (p_v P) (p_A P) Ci i K := by
          intro u w hu hw hcc x y hx hy
          have := (q2 (Ci u) (hP.2.2.1 u hu).1 (fun j h1 h2 => by omega)).2 u w hu hw rfl hcc.symm
          have hxn := H.2.2.2.1 u i x hu h hx
          have hyn := H.2.2.2.1 w i y hw h hy
          rw [hK x hxn, hK y hyn]
          have f : ∀ v z, p_A P v i = some z → ((∃ k, k < cnt ∧ p_A P v i = some (sp k)) ↔ ∃ k, k < cnt ∧ sp k = z) := by
            intro v z hz
            rw [hz]
            exact ⟨fun ⟨k, hk, e⟩ => ⟨k, hk, by injection e with q; exact q.symm⟩, fun ⟨k, hk, e⟩ => ⟨k, hk, by rw [e]⟩⟩
          rw [← f u x hx, ← f w y hy]
          exact this
        exact ⟨nc, wt, M, Lc, Ci, Cs, Sz, Mk, Wk, e1, e2, hP, fun j _ h2 => by omega, fun c hc _ => ⟨(q2 c hc (fun j h1 h2 => by omega)).1, fun _ _ _ _ _ _ => Iff.rfl⟩, ho_N_pos q3 h stab, q4, q5, q6, q7, q8, q9, r1, r2, r3, r4, r5, r6, r7⟩
theorem xr_78 {post : SX → Prop} {J28 : Int32 → Int32 → Int32 → Int32 → Int32 → Int32 → Int32 → Int32 → Int32 → Int32 → Int32 → Int32 → Int32 → Int32 → Int32 → Int32 → Int32 →  (Nat → Int32) → (Nat → Int32) → (Nat → Int32) → (Nat → Int32) → (Nat → Int32) → (Nat → Int32) → (Nat → Int32) → (Nat → Int32) → (Nat → Int32) → (Nat → Int32) → (Nat → Int32) → (Nat → Int32) → (Nat → Int32) → (Nat → Int32) → (Nat → Int32) → (Nat → Int32) → (Nat → Int32) → (Nat → Int32) → (Nat → Int32) → (Nat → Int32) → (Nat → Int32) → (Nat → Int32) → (Nat → Int32) → (Nat → Int32) → (Nat → Int32) → (Nat → Int32) → (Nat → Int32) → (Nat → Int32) → (Nat → Int32) → (Nat → Int32) → (Nat → Int32) → (Nat → Int32) → (Nat → Int32) → (Nat → Int32) → (Nat → Int32) → (Nat → Int32) → (Nat → Int32) → (Nat → Int32) → (Nat → Int32) → (Nat → Int32) →  Prop} {x1 : Int32} {nv c cst m : Nat} {M : Nat → Nat} (hn : nv ≤ 32) (hc : c < 32) (hm : cst + m ≤ nv) (rm : ∀ p, p < nv → a_members p = nI (M p)) (es : a_classStart c = nI cst)
    (HK : ∀ a_splitter : Nat → Int32, (∀ k, k < m → a_splitter k = nI (M (cst + k))) → ∃ n, wX_refineClasses_114 post J28 x1 (nI m) n 0 f_blockLimit f_valueLimit f_blockCount f_valueCount f_sealed f_classCount f_workTop f_touchedCount f_undoTop f_runState f_runForm f_here f_input0 f_input1 f_returned f_evaluated a_valueKind a_valueBlock a_leaf a_args a_exitKind a_exitValue a_exitTrue a_exitFalse a_predMask a_order a_orderIndex a_idom a_domMask a_firstChild a_nextSibling a_stack a_cursor a_members a_location a_classIndex a_classStart a_classSize a_classMarked a_className a_useHead a_useNext a_work a_inWork a_splitter a_touched a_leaderOf a_available a_undo a_scopeMark a_body a_bodyStart a_bodyOps a_bodyEnd a_env a_phiNew) :
    ∀ (n k : Nat) (a_splitter : Nat → Int32), k ≤ m → m - k < n → (∀ j, j < k → a_splitter j = nI (M (cst + j))) → wX_refineClasses_78 post J28 x1 (nI c) (nI m) f_blockLimit f_valueLimit f_blockCount f_valueCount f_sealed f_classCount f_workTop f_touchedCount f_undoTop f_runState f_runForm f_here f_input0 f_input1 f_returned f_evaluated n (nI k) a_valueKind a_valueBlock a_leaf a_args a_exitKind a_exitValue a_exitTrue a_exitFalse a_predMask a_order a_orderIndex a_idom a_domMask a_firstChild a_nextSibling a_stack a_cursor a_members a_location a_classIndex a_classStart a_classSize a_classMarked a_className a_useHead a_useNext a_work a_inWork a_splitter a_touched a_leaderOf a_available a_undo a_scopeMark a_body a_bodyStart a_bodyOps a_bodyEnd a_env a_phiNew := by
  intro n
  induction n with
  | zero => intro k _ _ h; omega
  | succ n ih =>
    intro k a_splitter hk hnn hs
    rw [wX_refineClasses_78]
    refine pk_le m k (fun h => ?_) (fun h => ⟨vp_in_nI hc (by omega), ?_⟩)
    · have e : k = m := by omega
      subst e
      exact HK _ hs
    · rw [nI_clamp (by omega), es, nI_add]
      refine ⟨vp_in_nI (by omega) (by omega), vp_in_nI (by omega) (by omega), ba_wr k rfl (by omega) (by rw [nI_clamp (by omega), rm _ (by omega)]) (nm_r (nI_1 k) (ih (k + 1) _ (by omega) (by omega) (fun j hj => ?_)))⟩
      rcases Classical.em (j = k) with z | z
      · rw [z, pk_us]
      · rw [pk_un z]; exact hs j (by omega)
theorem xr_28 {post : SX → Prop} (W : p_W P) (S : p_S3 P) (hL : xl_H (p_v P) (p_A P) (p_v P) 0 a_useHead a_useNext)
    (HK : ∀ (f_classCount f_workTop f_touchedCount : Int32) (a_members a_location a_classIndex a_classStart a_classSize a_classMarked a_work a_inWork a_splitter a_touched : Nat → Int32), xr_R P f_classCount a_classIndex → post (f_blockLimit, f_valueLimit, f_blockCount, f_valueCount, f_sealed, f_classCount, f_workTop, f_touchedCount, f_undoTop, f_runState, f_runForm, f_here, f_input0, f_input1, f_returned, f_evaluated, a_valueKind, a_valueBlock, a_leaf, a_args, a_exitKind, a_exitValue, a_exitTrue, a_exitFalse, a_predMask, a_order, a_orderIndex, a_idom, a_domMask, a_firstChild, a_nextSibling, a_stack, a_cursor, a_members, a_location, a_classIndex, a_classStart, a_classSize, a_classMarked, a_className, a_useHead, a_useNext, a_work, a_inWork, a_splitter, a_touched, a_leaderOf, a_available, a_undo, a_scopeMark, a_body, a_bodyStart, a_bodyOps, a_bodyEnd, a_env, a_phiNew)) :
    ∀ (n r : Nat) (f_classCount f_workTop f_touchedCount : Int32) (a_members a_location a_classIndex a_classStart a_classSize a_classMarked a_work a_inWork a_splitter a_touched : Nat → Int32), 64 - r < n → xr_Z P r 8 (fun _ => False) f_classCount f_workTop a_members a_location a_classIndex a_classStart a_classSize a_classMarked a_work a_inWork →
      wX_refineClasses_28 post n (nI r) f_blockLimit f_valueLimit f_blockCount f_valueCount f_sealed f_classCount f_workTop f_touchedCount f_undoTop f_runState f_runForm f_here f_input0 f_input1 f_returned f_evaluated a_valueKind a_valueBlock a_leaf a_args a_exitKind a_exitValue a_exitTrue a_exitFalse a_predMask a_order a_orderIndex a_idom a_domMask a_firstChild a_nextSibling a_stack a_cursor a_members a_location a_classIndex a_classStart a_classSize a_classMarked a_className a_useHead a_useNext a_work a_inWork a_splitter a_touched a_leaderOf a_available a_undo a_scopeMark a_body a_bodyStart a_bodyOps a_bodyEnd a_env a_phiNew := by
  have hv32 := W.2.2.1
  have H := p_H W S
  intro n
  induction n with
  | zero => intro r _ _ _ _ _ _ _ _ _ _ _ _ _ h; omega
  | succ n ih =>
    intro r f_classCount f_workTop f_touchedCount a_members a_location a_classIndex a_classStart a_classSize a_classMarked a_work a_inWork a_splitter a_touched hn Z
    have Z' := Z
    obtain ⟨nc, wt, M, Lc, Ci, Cs, Sz, Mk, Wk, e1, e2, hP, q1, q2, q3, q4, q5, q6, q7, q8, q9, r1, r2, r3, r4, r5, r6, r7⟩ := Z
    have hnc := ho_nc hP
    rw [wX_refineClasses_28]
    refine br_f (nI_ge (b := 64) (by omega) (by decide)) (pk_le wt 0 (fun h => ?_) (fun h => ?_) (hx := e2))
    · refine HK _ _ _ _ _ _ _ _ _ _ _ _ _ ⟨nc, Ci, e1, hnc, fun u hu => ⟨r3 u hu, (hP.2.2.1 u hu).1⟩, fun c hc => ?_, fun u w hu hw => ⟨fun e => ?_, q4 u w hu hw⟩⟩
      · obtain ⟨a1, a2, a3⟩ := hP.2.2.2 c hc
        exact ⟨M (Cs c), (hP.1 _ (by omega)).1, a3 _ (Nat.le_refl _) (by omega)⟩
      · refine cg_E_of (fun u w => u < p_v P ∧ w < p_v P ∧ Ci u = Ci w) (fun u w s => ⟨q5 u w s.1 s.2.1 s.2.2, fun i x y hi hx hy => ⟨H.2.2.2.1 u i x s.1 hi hx, H.2.2.2.1 w i y s.2.1 hi hy, ?_⟩⟩) ⟨hu, hw, e⟩
        exact ho_N_end q3 (fun e ⟨j, hj, _⟩ => by omega) H.2.2.2.1 s.1 s.2.1 s.2.2 hi hx hy
    · have hwk := q7 (wt - 1) (by omega)
      have hseg := hP.2.2.2 _ hwk
      have vc : vp_in (nI (Wk (wt - 1))) 32 := vp_in_nI (by omega) (by omega)
      refine nm_r (e' := nI (wt - 1)) (by rw [e2]; exact ba_s1 h) ⟨vp_in_nI (by omega) (by omega), ba_rd (wt - 1) rfl (by omega) (r7 _ (by omega)) ⟨vc, ba_wr _ rfl (by omega) ba_vb0 ⟨vc, ba_rd _ rfl (by omega) (r5 _ hwk) ⟨Sz (Wk (wt - 1)) + 1, ?_⟩⟩⟩⟩
      refine xr_78 (nv := p_v P) (cst := Cs (Wk (wt - 1))) (M := M) hv32 (by omega) hseg.2.1 r1 (r4 _ hwk) (fun a_splitter hsp => ⟨9, ?_⟩) (Sz (Wk (wt - 1)) + 1) 0 a_splitter (by omega) (by omega) (fun j hj => by omega)
      refine xr_114 (r := r + 1) (K := fun x => Ci x = Wk (wt - 1)) (sp := fun k => M (Cs (Wk (wt - 1)) + k)) W S hL (by omega) (fun k hk => ⟨hsp k hk, (hP.1 _ (by omega)).1⟩) (fun j k hj hk e => ?_) (fun x hx => ⟨fun e => ?_, fun ⟨k, hk, e⟩ => ?_⟩) (fun x y hx hy hq => ?_) (fun f_classCount f_workTop f_touchedCount a_members a_location a_classIndex a_classStart a_classSize a_classMarked a_work a_inWork a_touched Z2 => ih (r + 1) _ _ _ _ _ _ _ _ _ _ _ _ _ (by omega) ?_) 9 0 _ _ _ _ _ _ _ _ _ _ _ _ (by omega) (by omega) ⟨nc, wt - 1, M, Lc, Ci, Cs, Sz, Mk, Wk, e1, rfl, hP, fun j _ h2 => by omega, q2, ho_N_pop q3 (fun e ⟨j, hj, ej⟩ => ?_), q4, q5, by omega, fun j hj => q7 j (by omega), fun i j hi hj => q8 i j (by omega) (by omega), fun c hc => ?_, r1, r2, r3, r4, r5, r6, fun j hj => r7 j (by omega)⟩
      · have e' : M (Cs (Wk (wt - 1)) + j) = M (Cs (Wk (wt - 1)) + k) := e
        have a := (hP.1 (Cs (Wk (wt - 1)) + j) (by omega)).2
        have b := (hP.1 (Cs (Wk (wt - 1)) + k) (by omega)).2
        rw [e'] at a
        omega
      · have e' : Ci x = Wk (wt - 1) := e
        have a := hP.2.2.1 x hx
        rw [e'] at a
        refine ⟨Lc x - Cs (Wk (wt - 1)), by omega, ?_⟩
        show M (Cs (Wk (wt - 1)) + (Lc x - Cs (Wk (wt - 1)))) = x
        rw [show Cs (Wk (wt - 1)) + (Lc x - Cs (Wk (wt - 1))) = Lc x by omega]
        exact (hP.2.1 x hx).2
      · have e' : M (Cs (Wk (wt - 1)) + k) = x := e
        show Ci x = _
        rw [← e']
        exact hseg.2.2 _ (by omega) (by omega)
      · show Ci x = _ ↔ Ci y = _
        rw [q4 x y hx hy hq]
      · obtain ⟨nc, wt, M, Lc, Ci, Cs, Sz, Mk, Wk, e1, e2, hP, q1, q2, q3, q4, q5, q6, q7, q8, q9, r1, r2, r3, r4, r5, r6, r7⟩ := Z2
        exact ⟨nc, wt, M, Lc, Ci, Cs, Sz, Mk, Wk, e1, e2, hP, q1, q2, ho_N_8 q3, q4, q5, q6, q7, q8, q9, r1, r2, r3, r4, r5, r6, r7⟩
      · rcases Classical.em (j = wt - 1) with z | z
        · right; rw [← ej, z]
        · exact Or.inl ⟨j, by omega, ej⟩
      · rcases Classical.em (c = Wk (wt - 1)) with z | z
        · rw [z, pk_us]
          refine ⟨fun w => absurd rfl w, fun ⟨j, hj, ej⟩ => ?_⟩
          have := q8 j (wt - 1) (by omega) (by omega) ej
          omega
        · rw [pk_un z, q9 c hc]
          constructor
          · rintro ⟨j, hj, ej⟩
            refine ⟨j, ?_, ej⟩
            rcases Classical.em (j = wt - 1) with y | y
            · rw [y] at ej; exact absurd ej.symm z
            · omega
          · rintro ⟨j, hj, ej⟩
            exact ⟨j, by omega, ej⟩
theorem xr_r7 {post : SX → Prop} {nc : Nat} (hn : nc ≤ 32) (ec : f_classCount = nI nc)
    (HK : ∀ (a_work a_inWork : Nat → Int32), (∀ j, j < nc → a_work j = nI j) → (∀ j, j < nc → a_inWork j = 1) → ∃ n, wX_refineClasses_28 post n 0 f_blockLimit f_valueLimit f_blockCount f_valueCount f_sealed f_classCount (nI nc) f_touchedCount f_undoTop f_runState f_runForm f_here f_input0 f_input1 f_returned f_evaluated a_valueKind a_valueBlock a_leaf a_args a_exitKind a_exitValue a_exitTrue a_exitFalse a_predMask a_order a_orderIndex a_idom a_domMask a_firstChild a_nextSibling a_stack a_cursor a_members a_location a_classIndex a_classStart a_classSize a_classMarked a_className a_useHead a_useNext a_work a_inWork a_splitter a_touched a_leaderOf a_available a_undo a_scopeMark a_body a_bodyStart a_bodyOps a_bodyEnd a_env a_phiNew) :
    ∀ (n c : Nat) (f_workTop : Int32) (a_work a_inWork : Nat → Int32), c ≤ nc → nc - c < n → f_workTop = nI c → (∀ j, j < c → a_work j = nI j) → (∀ j, j < c → a_inWork j = 1) → wX_refineClasses_7 post n (nI c) f_blockLimit f_valueLimit f_blockCount f_valueCount f_sealed f_classCount f_workTop f_touchedCount f_undoTop f_runState f_runForm f_here f_input0 f_input1 f_returned f_evaluated a_valueKind a_valueBlock a_leaf a_args a_exitKind a_exitValue a_exitTrue a_exitFalse a_predMask a_order a_orderIndex a_idom a_domMask a_firstChild a_nextSibling a_stack a_cursor a_members a_location a_classIndex a_classStart a_classSize a_classMarked a_className a_useHead a_useNext a_work a_inWork a_splitter a_touched a_leaderOf a_available a_undo a_scopeMark a_body a_bodyStart a_bodyOps a_bodyEnd a_env a_phiNew := by
  intro n
  induction n with
  | zero => intro c _ _ _ _ h; omega
  | succ n ih =>
    intro c f_workTop a_work a_inWork hc hnn ew h1 h2
    rw [wX_refineClasses_7]
    refine pk_le nc c (fun h => ?_) (fun h => xr_push (wt := c) (by omega) (by omega) ew (nm_r (nI_1 c) (ih (c + 1) _ _ _ (by omega) (by omega) rfl (fun j hj => ?_) (fun j hj => ?_)))) (hx := ec)
    · have e : c = nc := by omega
      subst e
      rw [ew]
      exact HK _ _ h1 h2
    · rcases Classical.em (j = c) with z | z
      · rw [z, pk_us]
      · rw [pk_un z]; exact h1 j (by omega)
    · rcases Classical.em (j = c) with z | z
      · rw [z, pk_us]
      · rw [pk_un z]; exact h2 j (by omega)
theorem xr_refine {post : SX → Prop} (W : p_W P) (S : p_S3 P) (hL : xl_H (p_v P) (p_A P) (p_v P) 0 a_useHead a_useNext) {nc : Nat} {Ci M Lc Cs Sz : Nat → Nat} (ec : f_classCount = nI nc) (hP : ho_P (p_v P) nc M Lc Ci Cs Sz) (hl : ∀ u w, u < p_v P → w < p_v P → (Ci u = Ci w ↔ p_Lab P u w))
    (R : xi_A (p_v P) (p_v P) nc (fun u => some (Ci u)) M Lc Cs Sz a_members a_location a_classIndex a_classStart a_classSize a_classMarked)
    (HK : ∀ (f_classCount f_workTop f_touchedCount : Int32) (a_members a_location a_classIndex a_classStart a_classSize a_classMarked a_work a_inWork a_splitter a_touched : Nat → Int32), xr_R P f_classCount a_classIndex → post (f_blockLimit, f_valueLimit, f_blockCount, f_valueCount, f_sealed, f_classCount, f_workTop, f_touchedCount, f_undoTop, f_runState, f_runForm, f_here, f_input0, f_input1, f_returned, f_evaluated, a_valueKind, a_valueBlock, a_leaf, a_args, a_exitKind, a_exitValue, a_exitTrue, a_exitFalse, a_predMask, a_order, a_orderIndex, a_idom, a_domMask, a_firstChild, a_nextSibling, a_stack, a_cursor, a_members, a_location, a_classIndex, a_classStart, a_classSize, a_classMarked, a_className, a_useHead, a_useNext, a_work, a_inWork, a_splitter, a_touched, a_leaderOf, a_available, a_undo, a_scopeMark, a_body, a_bodyStart, a_bodyOps, a_bodyEnd, a_env, a_phiNew)) : wpX_refineClasses post (f_blockLimit, f_valueLimit, f_blockCount, f_valueCount, f_sealed, f_classCount, f_workTop, f_touchedCount, f_undoTop, f_runState, f_runForm, f_here, f_input0, f_input1, f_returned, f_evaluated, a_valueKind, a_valueBlock, a_leaf, a_args, a_exitKind, a_exitValue, a_exitTrue, a_exitFalse, a_predMask, a_order, a_orderIndex, a_idom, a_domMask, a_firstChild, a_nextSibling, a_stack, a_cursor, a_members, a_location, a_classIndex, a_classStart, a_classSize, a_classMarked, a_className, a_useHead, a_useNext, a_work, a_inWork, a_splitter, a_touched, a_leaderOf, a_available, a_undo, a_scopeMark, a_body, a_bodyStart, a_bodyOps, a_bodyEnd, a_env, a_phiNew) := by
  have hv32 := W.2.2.1
  have hnc := ho_nc hP
  obtain ⟨q1, q2, q3, q4, q5, q6⟩ := R
  refine ⟨nc + 1, xr_r7 (by omega) ec (fun a_work a_inWork h1 h2 => ⟨65, ?_⟩) (nc + 1) 0 0 _ _ (by omega) (by omega) rfl (fun j hj => by omega) (fun j hj => by omega)⟩
  refine xr_28 W S hL HK 65 0 _ _ _ _ _ _ _ _ _ _ _ _ _ (by omega) ⟨nc, nc, M, Lc, Ci, Cs, Sz, fun _ => 0, fun j => j, ec, rfl, hP, fun j _ h2 => by omega, fun c hc _ => ⟨rfl, fun _ _ _ _ _ _ => Iff.rfl⟩, ho_N_0 (fun u hu => ⟨Ci u, (hP.2.2.1 u hu).1, rfl⟩), fun u w hu hw hq => (hl u w hu hw).mpr (cg_E_lab hq), fun u w hu hw => (hl u w hu hw).mp, rfl, fun j hj => hj, fun i j _ _ e => e, fun c hc => ?_, q2, fun u hu => q3 u hu (fun z => by cases z), q1, q4, q5, q6, h1⟩
  rw [h2 c hc]
  exact ⟨fun _ => ⟨c, hc, rfl⟩, fun _ => by decide⟩
/-- names: the least member -/
theorem xr_n7 {post : SX → Prop} {nv : Nat} {Ci : Nat → Nat} (hn : nv ≤ 32) (ri : ∀ u, u < nv → a_classIndex u = nI (Ci u)) (hC : ∀ u, u < nv → Ci u < 32)
    (HK : ∀ a_className : Nat → Int32, (∀ u, u < nv → ∃ m, m ≤ u ∧ Ci m = Ci u ∧ a_className (Ci u) = nI m ∧ ∀ w, w < m → Ci w ≠ Ci u) → post (f_blockLimit, f_valueLimit, f_blockCount, f_valueCount, f_sealed, f_classCount, f_workTop, f_touchedCount, f_undoTop, f_runState, f_runForm, f_here, f_input0, f_input1, f_returned, f_evaluated, a_valueKind, a_valueBlock, a_leaf, a_args, a_exitKind, a_exitValue, a_exitTrue, a_exitFalse, a_predMask, a_order, a_orderIndex, a_idom, a_domMask, a_firstChild, a_nextSibling, a_stack, a_cursor, a_members, a_location, a_classIndex, a_classStart, a_classSize, a_classMarked, a_className, a_useHead, a_useNext, a_work, a_inWork, a_splitter, a_touched, a_leaderOf, a_available, a_undo, a_scopeMark, a_body, a_bodyStart, a_bodyOps, a_bodyEnd, a_env, a_phiNew)) :
    ∀ (n h : Nat) (a_className : Nat → Int32), h < n → h ≤ nv → (∀ u, u < nv → h ≤ u → ∃ m, h ≤ m ∧ m ≤ u ∧ Ci m = Ci u ∧ a_className (Ci u) = nI m ∧ ∀ w, h ≤ w → w < m → Ci w ≠ Ci u) → wX_nameClasses_7 post f_blockLimit f_valueLimit f_blockCount f_valueCount f_sealed f_classCount f_workTop f_touchedCount f_undoTop f_runState f_runForm f_here f_input0 f_input1 f_returned f_evaluated n (ba_t h) a_valueKind a_valueBlock a_leaf a_args a_exitKind a_exitValue a_exitTrue a_exitFalse a_predMask a_order a_orderIndex a_idom a_domMask a_firstChild a_nextSibling a_stack a_cursor a_members a_location a_classIndex a_classStart a_classSize a_classMarked a_className a_useHead a_useNext a_work a_inWork a_splitter a_touched a_leaderOf a_available a_undo a_scopeMark a_body a_bodyStart a_bodyOps a_bodyEnd a_env a_phiNew := by
  intro n
  induction n with
  | zero => intro h _ hh; omega
  | succ n ih =>
    intro h a_className hh hnv hm
    rw [wX_nameClasses_7]
    cases h with
    | zero =>
      refine br_t ba_n1lt (HK _ (fun u hu => ?_))
      obtain ⟨m, _, a2, a3, a4, a5⟩ := hm u hu (Nat.zero_le _)
      exact ⟨m, a2, a3, a4, fun w hw => a5 w (Nat.zero_le _) hw⟩
    | succ v =>
      have hv : v < nv := by omega
      have hcv := hC v hv
      refine br_f (nI_pos (by omega)) ⟨vp_in_nI (by omega) (by omega), ?_⟩
      show vp_in (a_classIndex (nI v).toNatClampNeg) 32 ∧ ∀ y, y = upd a_className (a_classIndex (nI v).toNatClampNeg).toNatClampNeg (nI v) → _
      rw [nI_clamp (by omega), ri v hv]
      refine ⟨vp_in_nI hcv (by omega), ba_wr _ rfl (by omega) rfl (nm_r (ba_tm v) (ih v _ (by omega) (by omega) (fun u hu hvu => ?_)))⟩
      rcases Classical.em (Ci u = Ci v) with z | z
      · refine ⟨v, Nat.le_refl _, hvu, z.symm, by rw [z, pk_us], fun w h1 h2 => by omega⟩
      · have hne : v ≠ u := fun q => z (by rw [q])
        obtain ⟨m, a1, a2, a3, a4, a5⟩ := hm u hu (by omega)
        refine ⟨m, by omega, a2, a3, by rw [pk_un z]; exact a4, fun w h1 h2 => ?_⟩
        rcases Classical.em (w = v) with q | q
        · rw [q]; exact fun y => z y.symm
        · exact a5 w (by omega) h2
theorem xr_names {post : SX → Prop} {nv : Nat} {Ci : Nat → Nat} (hn : nv ≤ 32) (ev : f_valueCount = nI nv) (ri : ∀ u, u < nv → a_classIndex u = nI (Ci u)) (hC : ∀ u, u < nv → Ci u < 32)
    (HK : ∀ a_className : Nat → Int32, (∀ u, u < nv → ∃ m, m ≤ u ∧ Ci m = Ci u ∧ a_className (Ci u) = nI m ∧ ∀ w, w < m → Ci w ≠ Ci u) → post (f_blockLimit, f_valueLimit, f_blockCount, f_valueCount, f_sealed, f_classCount, f_workTop, f_touchedCount, f_undoTop, f_runState, f_runForm, f_here, f_input0, f_input1, f_returned, f_evaluated, a_valueKind, a_valueBlock, a_leaf, a_args, a_exitKind, a_exitValue, a_exitTrue, a_exitFalse, a_predMask, a_order, a_orderIndex, a_idom, a_domMask, a_firstChild, a_nextSibling, a_stack, a_cursor, a_members, a_location, a_classIndex, a_classStart, a_classSize, a_classMarked, a_className, a_useHead, a_useNext, a_work, a_inWork, a_splitter, a_touched, a_leaderOf, a_available, a_undo, a_scopeMark, a_body, a_bodyStart, a_bodyOps, a_bodyEnd, a_env, a_phiNew)) : wpX_nameClasses post (f_blockLimit, f_valueLimit, f_blockCount, f_valueCount, f_sealed, f_classCount, f_workTop, f_touchedCount, f_undoTop, f_runState, f_runForm, f_here, f_input0, f_input1, f_returned, f_evaluated, a_valueKind, a_valueBlock, a_leaf, a_args, a_exitKind, a_exitValue, a_exitTrue, a_exitFalse, a_predMask, a_order, a_orderIndex, a_idom, a_domMask, a_firstChild, a_nextSibling, a_stack, a_cursor, a_members, a_location, a_classIndex, a_classStart, a_classSize, a_classMarked, a_className, a_useHead, a_useNext, a_work, a_inWork, a_splitter, a_touched, a_leaderOf, a_available, a_undo, a_scopeMark, a_body, a_bodyStart, a_bodyOps, a_bodyEnd, a_env, a_phiNew) := by
  have e : f_valueCount - 1 = ba_t nv := by
    rw [ev]
    cases nv with
    | zero => decide
    | succ k => exact nI_pred k
  exact nm_r e ⟨nv + 1, xr_n7 hn ri hC HK (nv + 1) nv _ (by omega) (by omega) (fun u hu h => by omega)⟩
end XR
end
section
/-! X: bodies -/
def bo_p (P : PT) (kp : Nat → Prop) (b : Nat) (ph : Bool) (v : Nat) : Prop := p_B P v = b ∧ (p_K P v = 2 ↔ ph = true) ∧ kp v
/-- block b's list in a form: its place s, then PHIs, then the others -/
def bo_b (P : PT) (kp : Nat → Prop) (b s : Nat) (body : Nat → Int32) : Prop :=
  (∀ v, v < p_v P → bo_p P kp b true v → body (s + cn (bo_p P kp b true) v) = nI v) ∧
  (∀ v, v < p_v P → bo_p P kp b false v → body (s + cn (bo_p P kp b true) (p_v P) + cn (bo_p P kp b false) v) = nI v)
def bo_S (P : PT) (f : Nat) (kp : Nat → Prop) (N lim : Nat) (body bs bo be : Nat → Int32) : Prop :=
  ∀ b, b < N → ∃ s, bs (f * 8 + b) = nI s ∧ bo (f * 8 + b) = nI (s + cn (bo_p P kp b true) (p_v P)) ∧ be (f * 8 + b) = nI (s + cn (bo_p P kp b true) (p_v P) + cn (bo_p P kp b false) (p_v P)) ∧
    s + cn (bo_p P kp b true) (p_v P) + cn (bo_p P kp b false) (p_v P) ≤ lim ∧ bo_b P kp b s body
theorem bo_b_cg {P : PT} {kp : Nat → Prop} {b s lim : Nat} {body body' : Nat → Int32} (h : bo_b P kp b s body) (hl : s + cn (bo_p P kp b true) (p_v P) + cn (bo_p P kp b false) (p_v P) ≤ lim) (e : ∀ j, j < lim → body' j = body j) : bo_b P kp b s body' := by
  refine ⟨fun v hv hp => ?_, fun v hv hp => ?_⟩
  · have := cn_lt (P := fun w => bo_p P kp b true w ∧ w < v) (Q := bo_p P kp b true) (a := v) (fun z => by have := z.2; omega) hp (N := p_v P) (fun _ _ z => z.1) hv
    have e1 : cn (bo_p P kp b true) v ≤ cn (fun w => bo_p P kp b true w ∧ w < v) (p_v P) := Nat.le_trans (cn_mono (N := v) (fun k hk z => (⟨z, hk⟩ : bo_p P kp b true k ∧ k < v))) (cn_mn _ (by omega))
    rw [e _ (by omega)]
    exact h.1 v hv hp
  · have := cn_lt (P := fun w => bo_p P kp b false w ∧ w < v) (Q := bo_p P kp b false) (a := v) (fun z => by have := z.2; omega) hp (N := p_v P) (fun _ _ z => z.1) hv
    have e1 : cn (bo_p P kp b false) v ≤ cn (fun w => bo_p P kp b false w ∧ w < v) (p_v P) := Nat.le_trans (cn_mono (N := v) (fun k hk z => (⟨z, hk⟩ : bo_p P kp b false k ∧ k < v))) (cn_mn _ (by omega))
    rw [e _ (by omega)]
    exact h.2 v hv hp
theorem cn_inc {Q : Nat → Prop} {v N : Nat} (hv : v < N) (h : Q v) : cn Q v < cn Q N := by
  have := cn_mn Q (show v + 1 ≤ N by omega)
  rw [cn_t h] at this
  omega
theorem bo_S_cg {P : PT} {f N lim : Nat} {kp : Nat → Prop} {body bs bo be body' bs' bo' be' : Nat → Int32} (h : bo_S P f kp N lim body bs bo be) (hN : N ≤ 8) (e0 : ∀ j, j < lim → body' j = body j) (e1 : ∀ j, j < f * 8 + N → bs' j = bs j) (e2 : ∀ j, j < f * 8 + N → bo' j = bo j) (e3 : ∀ j, j < f * 8 + N → be' j = be j) : bo_S P f kp N lim body' bs' bo' be' := by
  intro b hb
  obtain ⟨s, h1, h2, h3, h4, h5⟩ := h b hb
  exact ⟨s, by rw [e1 _ (by omega)]; exact h1, by rw [e2 _ (by omega)]; exact h2, by rw [e3 _ (by omega)]; exact h3, h4, bo_b_cg h5 h4 e0⟩
theorem bo_at (P : PT) (kp : Nat → Prop) (b : Nat) : cn (fun v => p_B P v < b + 1 ∧ kp v) (p_v P) = cn (fun v => p_B P v < b ∧ kp v) (p_v P) + cn (bo_p P kp b true) (p_v P) + cn (bo_p P kp b false) (p_v P) := by
  rw [← cn_or (P := fun v => p_B P v < b ∧ kp v) (Q := bo_p P kp b true) (fun k _ z w => by have := z.1; have := w.1; omega)]
  rw [← cn_or (Q := bo_p P kp b false) (fun k _ z w => ?_)]
  · refine cn_eq (fun k _ => ⟨fun z => ?_, fun z => ?_⟩)
    · rcases Nat.lt_or_ge (p_B P k) b with y | y
      · exact Or.inl (Or.inl ⟨y, z.2⟩)
      · have e : p_B P k = b := by have := z.1; omega
        rcases Classical.em (p_K P k = 2) with x | x
        · exact Or.inl (Or.inr ⟨e, ⟨fun _ => rfl, fun _ => x⟩, z.2⟩)
        · exact Or.inr ⟨e, ⟨fun y => absurd y x, fun y => by cases y⟩, z.2⟩
    · rcases z with (z | z) | z
      · exact ⟨by have := z.1; omega, z.2⟩
      · exact ⟨by have := z.1; omega, z.2.2⟩
      · exact ⟨by have := z.1; omega, z.2.2⟩
  · rcases z with z | z
    · have := z.1; have := w.1; omega
    · have := z.2.1; have := w.2.1
      rcases Classical.em (p_K P k = 2) with x | x
      · have := w.2.1.mp x; cases this
      · exact x (z.2.1.mpr rfl)
section XB
variable {f_blockLimit f_valueLimit f_blockCount f_valueCount f_sealed f_classCount f_workTop f_touchedCount f_undoTop f_runState f_runForm f_here f_input0 f_input1 f_returned f_evaluated : Int32} {a_valueKind a_valueBlock a_leaf a_args a_exitKind a_exitValue a_exitTrue a_exitFalse a_predMask a_order a_orderIndex a_idom a_domMask a_firstChild a_nextSibling a_stack a_cursor a_members a_location a_classIndex a_classStart a_classSize a_classMarked a_className a_useHead a_useNext a_work a_inWork a_splitter a_touched a_leaderOf a_available a_undo a_scopeMark a_body a_bodyStart a_bodyOps a_bodyEnd a_env a_phiNew : Nat → Int32} {P : PT}
theorem xb_55 {post : Int32 → SX → Prop} {J7 : Int32 → Int32 → (Nat → Int32) → (Nat → Int32) → (Nat → Int32) → (Nat → Int32) → (Nat → Int32) → (Nat → Int32) → (Nat → Int32) → (Nat → Int32) → (Nat → Int32) → (Nat → Int32) → (Nat → Int32) → (Nat → Int32) → (Nat → Int32) → (Nat → Int32) → (Nat → Int32) → (Nat → Int32) → (Nat → Int32) → (Nat → Int32) → (Nat → Int32) → (Nat → Int32) → (Nat → Int32) → (Nat → Int32) → (Nat → Int32) → (Nat → Int32) → (Nat → Int32) → (Nat → Int32) → (Nat → Int32) → (Nat → Int32) → (Nat → Int32) → (Nat → Int32) → (Nat → Int32) → (Nat → Int32) → (Nat → Int32) → (Nat → Int32) → (Nat → Int32) → (Nat → Int32) → (Nat → Int32) → (Nat → Int32) → (Nat → Int32) → (Nat → Int32) →  Prop} {x1 : Int32} (W : p_W P) (hX : p_X P a_valueKind a_valueBlock a_leaf a_args a_exitKind a_exitValue a_exitTrue a_exitFalse) {kp : Nat → Prop} {b v at' : Nat} {ph kb pb : Bool} (hv : v < p_v P) (hb : b < 2 ^ 31) (hk : kp v ↔ kb = true) (hp : p_K P v = 2 ↔ pb = true)
    (h0 : ¬ bo_p P kp b ph v → J7 (nI at') (nI (v + 1)) a_valueKind a_valueBlock a_leaf a_args a_exitKind a_exitValue a_exitTrue a_exitFalse a_predMask a_order a_orderIndex a_idom a_domMask a_firstChild a_nextSibling a_stack a_cursor a_members a_location a_classIndex a_classStart a_classSize a_classMarked a_className a_useHead a_useNext a_work a_inWork a_splitter a_touched a_leaderOf a_available a_undo a_scopeMark a_body a_bodyStart a_bodyOps a_bodyEnd a_env a_phiNew) (h1 : bo_p P kp b ph v → at' < 64 ∧ J7 (nI (at' + 1)) (nI (v + 1)) a_valueKind a_valueBlock a_leaf a_args a_exitKind a_exitValue a_exitTrue a_exitFalse a_predMask a_order a_orderIndex a_idom a_domMask a_firstChild a_nextSibling a_stack a_cursor a_members a_location a_classIndex a_classStart a_classSize a_classMarked a_className a_useHead a_useNext a_work a_inWork a_splitter a_touched a_leaderOf a_available a_undo a_scopeMark (upd a_body at' (nI v)) a_bodyStart a_bodyOps a_bodyEnd a_env a_phiNew) : wX_appendBody_55 post J7 x1 (nI b) (xd_c ph) (nI at') (nI v) (xd_c kb) (xd_c pb) f_blockLimit f_valueLimit f_blockCount f_valueCount f_sealed f_classCount f_workTop f_touchedCount f_undoTop f_runState f_runForm f_here f_input0 f_input1 f_returned f_evaluated a_valueKind a_valueBlock a_leaf a_args a_exitKind a_exitValue a_exitTrue a_exitFalse a_predMask a_order a_orderIndex a_idom a_domMask a_firstChild a_nextSibling a_stack a_cursor a_members a_location a_classIndex a_classStart a_classSize a_classMarked a_className a_useHead a_useNext a_work a_inWork a_splitter a_touched a_leaderOf a_available a_undo a_scopeMark a_body a_bodyStart a_bodyOps a_bodyEnd a_env a_phiNew := by
  have hv32 := W.2.2.1
  have wv := W.2.2.2.1 v hv
  have hBv := wv.2.1
  have hb8 := W.2.1
  unfold wX_appendBody_55
  refine ⟨vp_in_nI (by omega) (by omega), ?_⟩
  rw [nI_clamp (by omega), hX.2.1 v hv]
  have xi : ∀ c d : Bool, xd_c c = xd_c d ↔ c = d := by decide
  have x0 : ∀ c : Bool, xd_c c = 0 ↔ c = false := by decide
  refine pk_eq (p_B P v) b (fun e => ?_) (fun e => nm_r (nI_1 v) (h0 (fun z => e z.1)))
  rw [xi, x0]
  refine br_c (fun e2 => br_c (fun e3 => nm_r (nI_1 v) (h0 (fun z => ?_))) (fun e3 => ?_)) (fun e2 => nm_r (nI_1 v) (h0 (fun z => e2 ?_)))
  · have := hk.mp z.2.2
    rw [e3] at this; cases this
  · have hkb : kb = true := by cases kb; exact absurd rfl e3; rfl
    obtain ⟨l, j⟩ := h1 ⟨e, by rw [hp, e2], hk.mpr hkb⟩
    exact ⟨vp_in_nI l (by omega), ba_wr at' rfl (by omega) rfl (nm_r (nI_1 at') (nm_r (nI_1 v) j))⟩
  · have q := z.2.1
    rw [hp] at q
    cases pb <;> cases ph
    · rfl
    · have := q.mpr rfl; cases this
    · have := q.mp rfl; cases this
    · rfl
theorem xb_7 {post : Int32 → SX → Prop} (W : p_W P) (hX : p_X P a_valueKind a_valueBlock a_leaf a_args a_exitKind a_exitValue a_exitTrue a_exitFalse) (ev : f_valueCount = nI (p_v P)) {f b fr : Nat} {ph : Bool} {kp : Nat → Prop} {lf : Nat → Nat} (hb : b < p_b P) (hf : f < 2)
    (hk : ∀ v, v < p_v P → (f = 0 ∧ kp v) ∨ (f = 1 ∧ a_leaderOf v = nI (lf v) ∧ lf v < p_v P ∧ (kp v ↔ lf v = v))) (hl : fr + cn (bo_p P kp b ph) (p_v P) ≤ 64)
    (HK : ∀ a_body' : Nat → Int32, (∀ j, j < fr → a_body' j = a_body j) → (∀ v, v < p_v P → bo_p P kp b ph v → a_body' (fr + cn (bo_p P kp b ph) v) = nI v) → post (nI (fr + cn (bo_p P kp b ph) (p_v P))) (f_blockLimit, f_valueLimit, f_blockCount, f_valueCount, f_sealed, f_classCount, f_workTop, f_touchedCount, f_undoTop, f_runState, f_runForm, f_here, f_input0, f_input1, f_returned, f_evaluated, a_valueKind, a_valueBlock, a_leaf, a_args, a_exitKind, a_exitValue, a_exitTrue, a_exitFalse, a_predMask, a_order, a_orderIndex, a_idom, a_domMask, a_firstChild, a_nextSibling, a_stack, a_cursor, a_members, a_location, a_classIndex, a_classStart, a_classSize, a_classMarked, a_className, a_useHead, a_useNext, a_work, a_inWork, a_splitter, a_touched, a_leaderOf, a_available, a_undo, a_scopeMark, a_body', a_bodyStart, a_bodyOps, a_bodyEnd, a_env, a_phiNew)) :
    ∀ (n v : Nat) (a_body' : Nat → Int32), v ≤ p_v P → p_v P - v < n → (∀ j, j < fr → a_body' j = a_body j) → (∀ w, w < v → bo_p P kp b ph w → a_body' (fr + cn (bo_p P kp b ph) w) = nI w) → wX_appendBody_7 post (nI f) (nI b) (xd_c ph) f_blockLimit f_valueLimit f_blockCount f_valueCount f_sealed f_classCount f_workTop f_touchedCount f_undoTop f_runState f_runForm f_here f_input0 f_input1 f_returned f_evaluated n (nI (fr + cn (bo_p P kp b ph) v)) (nI v) a_valueKind a_valueBlock a_leaf a_args a_exitKind a_exitValue a_exitTrue a_exitFalse a_predMask a_order a_orderIndex a_idom a_domMask a_firstChild a_nextSibling a_stack a_cursor a_members a_location a_classIndex a_classStart a_classSize a_classMarked a_className a_useHead a_useNext a_work a_inWork a_splitter a_touched a_leaderOf a_available a_undo a_scopeMark a_body' a_bodyStart a_bodyOps a_bodyEnd a_env a_phiNew := by
  have hv32 := W.2.2.1
  have hb8 := W.2.1
  intro n
  induction n with
  | zero => intro v _ _ h; omega
  | succ n ih =>
    intro v a_body' hv hn e1 e2
    rw [wX_appendBody_7]
    refine pk_le (p_v P) v (fun h => ?_) (fun h => ?_) (hx := ev)
    · have e : v = p_v P := by omega
      subst e
      exact HK _ e1 e2
    · have hKv := (W.2.2.2.1 v h).1
      have J0 : ¬ bo_p P kp b ph v → wX_appendBody_7 post (nI f) (nI b) (xd_c ph) f_blockLimit f_valueLimit f_blockCount f_valueCount f_sealed f_classCount f_workTop f_touchedCount f_undoTop f_runState f_runForm f_here f_input0 f_input1 f_returned f_evaluated n (nI (fr + cn (bo_p P kp b ph) v)) (nI (v + 1)) a_valueKind a_valueBlock a_leaf a_args a_exitKind a_exitValue a_exitTrue a_exitFalse a_predMask a_order a_orderIndex a_idom a_domMask a_firstChild a_nextSibling a_stack a_cursor a_members a_location a_classIndex a_classStart a_classSize a_classMarked a_className a_useHead a_useNext a_work a_inWork a_splitter a_touched a_leaderOf a_available a_undo a_scopeMark a_body' a_bodyStart a_bodyOps a_bodyEnd a_env a_phiNew := by
        intro q
        have := ih (v + 1) a_body' (by omega) (by omega) e1 (fun w hw hp => by
          rcases Classical.em (w = v) with z | z
          · rw [z] at hp; exact absurd hp q
          · exact e2 w (by omega) hp)
        rw [cn_f q] at this
        exact this
      have J1 : bo_p P kp b ph v → fr + cn (bo_p P kp b ph) v < 64 ∧ wX_appendBody_7 post (nI f) (nI b) (xd_c ph) f_blockLimit f_valueLimit f_blockCount f_valueCount f_sealed f_classCount f_workTop f_touchedCount f_undoTop f_runState f_runForm f_here f_input0 f_input1 f_returned f_evaluated n (nI (fr + cn (bo_p P kp b ph) v + 1)) (nI (v + 1)) a_valueKind a_valueBlock a_leaf a_args a_exitKind a_exitValue a_exitTrue a_exitFalse a_predMask a_order a_orderIndex a_idom a_domMask a_firstChild a_nextSibling a_stack a_cursor a_members a_location a_classIndex a_classStart a_classSize a_classMarked a_className a_useHead a_useNext a_work a_inWork a_splitter a_touched a_leaderOf a_available a_undo a_scopeMark (upd a_body' (fr + cn (bo_p P kp b ph) v) (nI v)) a_bodyStart a_bodyOps a_bodyEnd a_env a_phiNew := by
        intro q
        have hc := cn_inc h q
        have := ih (v + 1) (upd a_body' (fr + cn (bo_p P kp b ph) v) (nI v)) (by omega) (by omega) (fun j hj => by rw [pk_un (by omega)]; exact e1 j hj) (fun w hw hp => by
          rcases Classical.em (w = v) with z | z
          · rw [z, pk_us]
          · have := cn_inc (show w < v by omega) hp
            rw [pk_un (by omega)]; exact e2 w (by omega) hp)
        rw [cn_t q, ← Nat.add_assoc] at this
        exact ⟨by omega, this⟩
      have G : ∀ kb : Bool, (kp v ↔ kb = true) → wX_appendBody_37 post (wX_appendBody_7 post (nI f) (nI b) (xd_c ph) f_blockLimit f_valueLimit f_blockCount f_valueCount f_sealed f_classCount f_workTop f_touchedCount f_undoTop f_runState f_runForm f_here f_input0 f_input1 f_returned f_evaluated n) (nI f) (nI b) (xd_c ph) (nI (fr + cn (bo_p P kp b ph) v)) (nI v) (xd_c kb) f_blockLimit f_valueLimit f_blockCount f_valueCount f_sealed f_classCount f_workTop f_touchedCount f_undoTop f_runState f_runForm f_here f_input0 f_input1 f_returned f_evaluated a_valueKind a_valueBlock a_leaf a_args a_exitKind a_exitValue a_exitTrue a_exitFalse a_predMask a_order a_orderIndex a_idom a_domMask a_firstChild a_nextSibling a_stack a_cursor a_members a_location a_classIndex a_classStart a_classSize a_classMarked a_className a_useHead a_useNext a_work a_inWork a_splitter a_touched a_leaderOf a_available a_undo a_scopeMark a_body' a_bodyStart a_bodyOps a_bodyEnd a_env a_phiNew := by
        intro kb hkb
        unfold wX_appendBody_37
        refine ⟨vp_in_nI (by omega) (by omega), ?_⟩
        rw [nI_clamp (by omega), hX.1 v h]
        exact pk_eq (p_K P v) 2 (fun e => xb_55 (pb := true) W hX h (by omega) hkb ⟨fun _ => rfl, fun _ => e⟩ J0 J1) (fun e => xb_55 (pb := false) W hX h (by omega) hkb ⟨fun z => absurd z e, fun z => by cases z⟩ J0 J1)
      have G1 : kp v → wX_appendBody_32 post (wX_appendBody_7 post (nI f) (nI b) (xd_c ph) f_blockLimit f_valueLimit f_blockCount f_valueCount f_sealed f_classCount f_workTop f_touchedCount f_undoTop f_runState f_runForm f_here f_input0 f_input1 f_returned f_evaluated n) (nI f) (nI b) (xd_c ph) (nI (fr + cn (bo_p P kp b ph) v)) (nI v) f_blockLimit f_valueLimit f_blockCount f_valueCount f_sealed f_classCount f_workTop f_touchedCount f_undoTop f_runState f_runForm f_here f_input0 f_input1 f_returned f_evaluated a_valueKind a_valueBlock a_leaf a_args a_exitKind a_exitValue a_exitTrue a_exitFalse a_predMask a_order a_orderIndex a_idom a_domMask a_firstChild a_nextSibling a_stack a_cursor a_members a_location a_classIndex a_classStart a_classSize a_classMarked a_className a_useHead a_useNext a_work a_inWork a_splitter a_touched a_leaderOf a_available a_undo a_scopeMark a_body' a_bodyStart a_bodyOps a_bodyEnd a_env a_phiNew := by
        intro q
        unfold wX_appendBody_32
        exact G true ⟨fun _ => rfl, fun _ => q⟩
      rcases hk v h with ⟨f0, q⟩ | ⟨f1, q1, q2, q3⟩
      · refine pk_eq f 0 (fun _ => G1 q) (fun z => absurd f0 z)
      · refine pk_eq f 0 (fun z => by omega) (fun z => ⟨vp_in_nI (by omega) (by omega), ?_⟩)
        rw [nI_clamp (by omega), q1]
        exact pk_eq (lf v) v (fun e => G1 (q3.mpr e)) (fun e => G false ⟨fun z => absurd (q3.mp z) e, fun z => by cases z⟩)
theorem xb_app {post : Int32 → SX → Prop} (W : p_W P) (hX : p_X P a_valueKind a_valueBlock a_leaf a_args a_exitKind a_exitValue a_exitTrue a_exitFalse) (ev : f_valueCount = nI (p_v P)) {f b fr : Nat} {ph : Bool} {kp : Nat → Prop} {lf : Nat → Nat} (hb : b < p_b P) (hf : f < 2)
    (hk : ∀ v, v < p_v P → (f = 0 ∧ kp v) ∨ (f = 1 ∧ a_leaderOf v = nI (lf v) ∧ lf v < p_v P ∧ (kp v ↔ lf v = v))) (hl : fr + cn (bo_p P kp b ph) (p_v P) ≤ 64)
    (HK : ∀ a_body' : Nat → Int32, (∀ j, j < fr → a_body' j = a_body j) → (∀ v, v < p_v P → bo_p P kp b ph v → a_body' (fr + cn (bo_p P kp b ph) v) = nI v) → post (nI (fr + cn (bo_p P kp b ph) (p_v P))) (f_blockLimit, f_valueLimit, f_blockCount, f_valueCount, f_sealed, f_classCount, f_workTop, f_touchedCount, f_undoTop, f_runState, f_runForm, f_here, f_input0, f_input1, f_returned, f_evaluated, a_valueKind, a_valueBlock, a_leaf, a_args, a_exitKind, a_exitValue, a_exitTrue, a_exitFalse, a_predMask, a_order, a_orderIndex, a_idom, a_domMask, a_firstChild, a_nextSibling, a_stack, a_cursor, a_members, a_location, a_classIndex, a_classStart, a_classSize, a_classMarked, a_className, a_useHead, a_useNext, a_work, a_inWork, a_splitter, a_touched, a_leaderOf, a_available, a_undo, a_scopeMark, a_body', a_bodyStart, a_bodyOps, a_bodyEnd, a_env, a_phiNew)) :
    wpX_appendBody post (f_blockLimit, f_valueLimit, f_blockCount, f_valueCount, f_sealed, f_classCount, f_workTop, f_touchedCount, f_undoTop, f_runState, f_runForm, f_here, f_input0, f_input1, f_returned, f_evaluated, a_valueKind, a_valueBlock, a_leaf, a_args, a_exitKind, a_exitValue, a_exitTrue, a_exitFalse, a_predMask, a_order, a_orderIndex, a_idom, a_domMask, a_firstChild, a_nextSibling, a_stack, a_cursor, a_members, a_location, a_classIndex, a_classStart, a_classSize, a_classMarked, a_className, a_useHead, a_useNext, a_work, a_inWork, a_splitter, a_touched, a_leaderOf, a_available, a_undo, a_scopeMark, a_body, a_bodyStart, a_bodyOps, a_bodyEnd, a_env, a_phiNew) (nI f) (nI b) (xd_c ph) (nI fr) :=
  ⟨p_v P + 1, xb_7 W hX ev hb hf hk hl HK (p_v P + 1) 0 a_body (by omega) (by omega) (fun _ _ => rfl) (fun w hw => by omega)⟩
theorem xb_mk7 {post : SX → Prop} (W : p_W P) (hX : p_X P a_valueKind a_valueBlock a_leaf a_args a_exitKind a_exitValue a_exitTrue a_exitFalse) (ev : f_valueCount = nI (p_v P)) (eb : f_blockCount = nI (p_b P)) {f : Nat} {kp : Nat → Prop} {lf : Nat → Nat} (hf : f < 2)
    (hk : ∀ v, v < p_v P → (f = 0 ∧ kp v) ∨ (f = 1 ∧ a_leaderOf v = nI (lf v) ∧ lf v < p_v P ∧ (kp v ↔ lf v = v)))
    (HK : ∀ body bs bo be : Nat → Int32, (∀ j, j < f * 32 → body j = a_body j) → (∀ j, j < f * 8 → bs j = a_bodyStart j) → (∀ j, j < f * 8 → bo j = a_bodyOps j) → (∀ j, j < f * 8 → be j = a_bodyEnd j) → bo_S P f kp (p_b P) (f * 32 + 32) body bs bo be → post (f_blockLimit, f_valueLimit, f_blockCount, f_valueCount, f_sealed, f_classCount, f_workTop, f_touchedCount, f_undoTop, f_runState, f_runForm, f_here, f_input0, f_input1, f_returned, f_evaluated, a_valueKind, a_valueBlock, a_leaf, a_args, a_exitKind, a_exitValue, a_exitTrue, a_exitFalse, a_predMask, a_order, a_orderIndex, a_idom, a_domMask, a_firstChild, a_nextSibling, a_stack, a_cursor, a_members, a_location, a_classIndex, a_classStart, a_classSize, a_classMarked, a_className, a_useHead, a_useNext, a_work, a_inWork, a_splitter, a_touched, a_leaderOf, a_available, a_undo, a_scopeMark, body, bs, bo, be, a_env, a_phiNew)) :
    ∀ (n b : Nat) (body bs bo be : Nat → Int32), b ≤ p_b P → p_b P - b < n → (∀ j, j < f * 32 → body j = a_body j) → (∀ j, j < f * 8 → bs j = a_bodyStart j) → (∀ j, j < f * 8 → bo j = a_bodyOps j) → (∀ j, j < f * 8 → be j = a_bodyEnd j) →
      bo_S P f kp b (f * 32 + cn (fun v => p_B P v < b ∧ kp v) (p_v P)) body bs bo be → wX_makeBodies_7 post (nI f) n (nI (f * 32 + cn (fun v => p_B P v < b ∧ kp v) (p_v P))) (nI b) f_blockLimit f_valueLimit f_blockCount f_valueCount f_sealed f_classCount f_workTop f_touchedCount f_undoTop f_runState f_runForm f_here f_input0 f_input1 f_returned f_evaluated a_valueKind a_valueBlock a_leaf a_args a_exitKind a_exitValue a_exitTrue a_exitFalse a_predMask a_order a_orderIndex a_idom a_domMask a_firstChild a_nextSibling a_stack a_cursor a_members a_location a_classIndex a_classStart a_classSize a_classMarked a_className a_useHead a_useNext a_work a_inWork a_splitter a_touched a_leaderOf a_available a_undo a_scopeMark body bs bo be a_env a_phiNew := by
  have hv32 := W.2.2.1
  have hb8 := W.2.1
  intro n
  induction n with
  | zero => intro b _ _ _ _ _ h; omega
  | succ n ih =>
    intro b body bs bo be hb hn e0 e1 e2 e3 S
    rw [wX_makeBodies_7]
    have hle := cn_le (fun v => p_B P v < b ∧ kp v) (p_v P)
    refine pk_le (p_b P) b (fun h => ?_) (fun h => ?_) (hx := eb)
    · have e : b = p_b P := by omega
      subst e
      refine HK body bs bo be e0 e1 e2 e3 (fun c hc => ?_)
      obtain ⟨s, s1, s2, s3, s4, s5⟩ := S c hc
      exact ⟨s, s1, s2, s3, by omega, s5⟩
    · have hat := bo_at P kp b
      have hle2 := cn_le (fun v => p_B P v < b + 1 ∧ kp v) (p_v P)
      have hslot : nI f * 8 + nI b = nI (f * 8 + b) := ba_ix8 f b
      refine nm_r hslot ⟨vp_in_nI (by omega) (by omega), ba_wr _ rfl (by omega) rfl ?_⟩
      refine xb_app (ph := true) W hX ev h hf hk (by omega) (fun body1 g1 g2 => ⟨vp_in_nI (by omega) (by omega), ba_wr _ rfl (by omega) rfl ?_⟩)
      refine xb_app (ph := false) W hX ev h hf hk (by omega) (fun body2 g3 g4 => ⟨vp_in_nI (by omega) (by omega), ba_wr _ rfl (by omega) rfl (nm_r (nI_1 b) ?_)⟩)
      have R := ih (b + 1) body2 (upd bs (f * 8 + b) (nI (f * 32 + cn (fun v => p_B P v < b ∧ kp v) (p_v P)))) (upd bo (f * 8 + b) (nI (f * 32 + cn (fun v => p_B P v < b ∧ kp v) (p_v P) + cn (bo_p P kp b true) (p_v P)))) (upd be (f * 8 + b) (nI (f * 32 + cn (fun v => p_B P v < b ∧ kp v) (p_v P) + cn (bo_p P kp b true) (p_v P) + cn (bo_p P kp b false) (p_v P)))) (by omega) (by omega)
        (fun j hj => by rw [g3 j (by omega), g1 j (by omega)]; exact e0 j hj) (fun j hj => by rw [pk_un (by omega)]; exact e1 j hj) (fun j hj => by rw [pk_un (by omega)]; exact e2 j hj) (fun j hj => by rw [pk_un (by omega)]; exact e3 j hj) (fun c hc => ?_)
      · rw [show f * 32 + cn (fun v => p_B P v < b + 1 ∧ kp v) (p_v P) = f * 32 + cn (fun v => p_B P v < b ∧ kp v) (p_v P) + cn (bo_p P kp b true) (p_v P) + cn (bo_p P kp b false) (p_v P) by omega] at R
        exact R
      · rcases Classical.em (c = b) with z | z
        · subst z
          refine ⟨f * 32 + cn (fun v => p_B P v < c ∧ kp v) (p_v P), pk_us, pk_us, pk_us, by omega, fun v hv hp => ?_, g4⟩
          have := cn_inc hv hp
          rw [g3 _ (by omega)]
          exact g2 v hv hp
        · obtain ⟨s, s1, s2, s3, s4, s5⟩ := S c (by omega)
          refine ⟨s, by rw [pk_un (by omega)]; exact s1, by rw [pk_un (by omega)]; exact s2, by rw [pk_un (by omega)]; exact s3, by omega, bo_b_cg s5 s4 (fun j hj => by rw [g3 j (by omega), g1 j (by omega)])⟩
theorem xb_make {post : SX → Prop} (W : p_W P) (hX : p_X P a_valueKind a_valueBlock a_leaf a_args a_exitKind a_exitValue a_exitTrue a_exitFalse) (ev : f_valueCount = nI (p_v P)) (eb : f_blockCount = nI (p_b P)) {f : Nat} {kp : Nat → Prop} {lf : Nat → Nat} (hf : f < 2)
    (hk : ∀ v, v < p_v P → (f = 0 ∧ kp v) ∨ (f = 1 ∧ a_leaderOf v = nI (lf v) ∧ lf v < p_v P ∧ (kp v ↔ lf v = v)))
    (HK : ∀ body bs bo be : Nat → Int32, (∀ j, j < f * 32 → body j = a_body j) → (∀ j, j < f * 8 → bs j = a_bodyStart j) → (∀ j, j < f * 8 → bo j = a_bodyOps j) → (∀ j, j < f * 8 → be j = a_bodyEnd j) → bo_S P f kp (p_b P) (f * 32 + 32) body bs bo be → post (f_blockLimit, f_valueLimit, f_blockCount, f_valueCount, f_sealed, f_classCount, f_workTop, f_touchedCount, f_undoTop, f_runState, f_runForm, f_here, f_input0, f_input1, f_returned, f_evaluated, a_valueKind, a_valueBlock, a_leaf, a_args, a_exitKind, a_exitValue, a_exitTrue, a_exitFalse, a_predMask, a_order, a_orderIndex, a_idom, a_domMask, a_firstChild, a_nextSibling, a_stack, a_cursor, a_members, a_location, a_classIndex, a_classStart, a_classSize, a_classMarked, a_className, a_useHead, a_useNext, a_work, a_inWork, a_splitter, a_touched, a_leaderOf, a_available, a_undo, a_scopeMark, body, bs, bo, be, a_env, a_phiNew)) :
    wpX_makeBodies post (f_blockLimit, f_valueLimit, f_blockCount, f_valueCount, f_sealed, f_classCount, f_workTop, f_touchedCount, f_undoTop, f_runState, f_runForm, f_here, f_input0, f_input1, f_returned, f_evaluated, a_valueKind, a_valueBlock, a_leaf, a_args, a_exitKind, a_exitValue, a_exitTrue, a_exitFalse, a_predMask, a_order, a_orderIndex, a_idom, a_domMask, a_firstChild, a_nextSibling, a_stack, a_cursor, a_members, a_location, a_classIndex, a_classStart, a_classSize, a_classMarked, a_className, a_useHead, a_useNext, a_work, a_inWork, a_splitter, a_touched, a_leaderOf, a_available, a_undo, a_scopeMark, a_body, a_bodyStart, a_bodyOps, a_bodyEnd, a_env, a_phiNew) (nI f) := by
  have z : cn (fun v => p_B P v < 0 ∧ kp v) (p_v P) = 0 := cn_none (fun k _ q => by have := q.1; omega)
  refine nm_r (e' := nI (f * 32 + cn (fun v => p_B P v < 0 ∧ kp v) (p_v P))) (by rw [z, ba_m32]; rfl) ⟨p_b P + 1, xb_mk7 W hX ev eb hf hk HK (p_b P + 1) 0 a_body a_bodyStart a_bodyOps a_bodyEnd (by omega) (by omega) (fun _ _ => rfl) (fun _ _ => rfl) (fun _ _ => rfl) (fun _ _ => rfl) (fun c hc => by omega)⟩
end XB
end
section
/-! X: enterScope, leaveScope -/
/-- entering block t: Sc the values in scope so far; av0, lo0, ud0, ut0 as they were at entry -/
def xe_I (P : PT) (nc : Nat) (Ci : Nat → Nat) (t : Nat) (Sc : Nat → Prop) (av0 : Nat → Option Nat) (lo0 : Nat → Int32) (ud0 : Nat → Nat) (ut0 : Nat) (utI : Int32) (lo a_av a_ud : Nat → Int32) : Prop :=
  ∃ (av : Nat → Option Nat) (ud : Nat → Nat) (ut : Nat), ld_A (p_v P) nc (p_D P) (p_B P) Ci Sc av ∧ ho_T nc (fun c => av c ≠ none) ud ut ∧
    (∀ s, s < p_v P → p_B P s = t → Sc s → av (Ci s) ≠ none ∧ lo s = ba_o (av (Ci s))) ∧ (∀ s, s < p_v P → p_B P s ≠ t → lo s = lo0 s) ∧
    (ut0 ≤ ut ∧ ∀ j, j < ut0 → ud j = ud0 j) ∧ (∀ c, c < nc → av0 c ≠ none → av c = av0 c) ∧
    (∀ c, c < nc → a_av c = ba_o (av c)) ∧ (∀ j, j < ut → a_ud j = nI (ud j)) ∧ utI = nI ut
theorem xe_I_cg {P : PT} {nc : Nat} {Ci : Nat → Nat} {t : Nat} {Sc Sc' : Nat → Prop} {av0 : Nat → Option Nat} {lo0 : Nat → Int32} {ud0 : Nat → Nat} {ut0 : Nat} {utI : Int32} {lo a_av a_ud : Nat → Int32} (h : xe_I P nc Ci t Sc av0 lo0 ud0 ut0 utI lo a_av a_ud) (e : ∀ s, s < p_v P → (Sc s ↔ Sc' s)) : xe_I P nc Ci t Sc' av0 lo0 ud0 ut0 utI lo a_av a_ud := by
  obtain ⟨av, ud, ut, h1, h2, h3, h4⟩ := h
  exact ⟨av, ud, ut, ld_A_cg h1 e, h2, fun s hs hb hS => h3 s hs hb ((e s hs).mpr hS), h4⟩
section XE
variable {f_blockLimit f_valueLimit f_blockCount f_valueCount f_sealed f_classCount f_workTop f_touchedCount f_undoTop f_runState f_runForm f_here f_input0 f_input1 f_returned f_evaluated : Int32} {a_valueKind a_valueBlock a_leaf a_args a_exitKind a_exitValue a_exitTrue a_exitFalse a_predMask a_order a_orderIndex a_idom a_domMask a_firstChild a_nextSibling a_stack a_cursor a_members a_location a_classIndex a_classStart a_classSize a_classMarked a_className a_useHead a_useNext a_work a_inWork a_splitter a_touched a_leaderOf a_available a_undo a_scopeMark a_body a_bodyStart a_bodyOps a_bodyEnd a_env a_phiNew : Nat → Int32} {P : PT} {nc : Nat} {Ci : Nat → Nat} {av0 : Nat → Option Nat} {lo0 : Nat → Int32} {ud0 : Nat → Nat} {ut0 : Nat}
/-- one value v of block t -/
theorem xe_step (W : p_W P) (S2 : p_S2 P) (hnc : nc ≤ 32) (hC : ∀ u, u < p_v P → a_classIndex u = nI (Ci u) ∧ Ci u < nc) {t v : Nat} {Sc : Nat → Prop} (hv : v < p_v P) (hb : p_B P v = t) (hSt : ∀ s, s < p_v P → Sc s → p_D P (p_B P s) t) (hSv : ¬ Sc v) (hord : ∀ s, s < p_v P → Sc s → Ci s = Ci v → p_B P s = t → s ≤ v)
    (I : xe_I P nc Ci t Sc av0 lo0 ud0 ut0 f_undoTop a_leaderOf a_available a_undo)
    {post : SX → Prop} {J17 : Int32 → Int32 → (Nat → Int32) → (Nat → Int32) → (Nat → Int32) → (Nat → Int32) → (Nat → Int32) → (Nat → Int32) → (Nat → Int32) → (Nat → Int32) → (Nat → Int32) → (Nat → Int32) → (Nat → Int32) → (Nat → Int32) → (Nat → Int32) → (Nat → Int32) → (Nat → Int32) → (Nat → Int32) → (Nat → Int32) → (Nat → Int32) → (Nat → Int32) → (Nat → Int32) → (Nat → Int32) → (Nat → Int32) → (Nat → Int32) → (Nat → Int32) → (Nat → Int32) → (Nat → Int32) → (Nat → Int32) → (Nat → Int32) → (Nat → Int32) → (Nat → Int32) → (Nat → Int32) → (Nat → Int32) → (Nat → Int32) → (Nat → Int32) → (Nat → Int32) → (Nat → Int32) → (Nat → Int32) → (Nat → Int32) → (Nat → Int32) → (Nat → Int32) →  Prop} {x1 : Int32} {k : Nat}
    (HK : ∀ (f_undoTop : Int32) (a_leaderOf a_available a_undo : Nat → Int32), xe_I P nc Ci t (fun s => Sc s ∨ s = v) av0 lo0 ud0 ut0 f_undoTop a_leaderOf a_available a_undo → J17 (nI (k + 1)) f_undoTop a_valueKind a_valueBlock a_leaf a_args a_exitKind a_exitValue a_exitTrue a_exitFalse a_predMask a_order a_orderIndex a_idom a_domMask a_firstChild a_nextSibling a_stack a_cursor a_members a_location a_classIndex a_classStart a_classSize a_classMarked a_className a_useHead a_useNext a_work a_inWork a_splitter a_touched a_leaderOf a_available a_undo a_scopeMark a_body a_bodyStart a_bodyOps a_bodyEnd a_env a_phiNew) :
    vp_in (nI (Ci v)) 32 ∧ ((0 ≤ a_available (nI (Ci v)).toNatClampNeg → wX_enterScope_84 post J17 x1 (nI k) (nI v) (nI (Ci v)) f_blockLimit f_valueLimit f_blockCount f_valueCount f_sealed f_classCount f_workTop f_touchedCount f_undoTop f_runState f_runForm f_here f_input0 f_input1 f_returned f_evaluated a_valueKind a_valueBlock a_leaf a_args a_exitKind a_exitValue a_exitTrue a_exitFalse a_predMask a_order a_orderIndex a_idom a_domMask a_firstChild a_nextSibling a_stack a_cursor a_members a_location a_classIndex a_classStart a_classSize a_classMarked a_className a_useHead a_useNext a_work a_inWork a_splitter a_touched a_leaderOf a_available a_undo a_scopeMark a_body a_bodyStart a_bodyOps a_bodyEnd a_env a_phiNew) ∧ (¬ 0 ≤ a_available (nI (Ci v)).toNatClampNeg → vp_in (nI (Ci v)) 32 ∧ ∀ y, y = upd a_available (nI (Ci v)).toNatClampNeg (nI v) → vp_in f_undoTop 32 ∧ ∀ z, z = upd a_undo f_undoTop.toNatClampNeg (nI (Ci v)) → ∀ w, w = f_undoTop + 1 → wX_enterScope_84 post J17 x1 (nI k) (nI v) (nI (Ci v)) f_blockLimit f_valueLimit f_blockCount f_valueCount f_sealed f_classCount f_workTop f_touchedCount w f_runState f_runForm f_here f_input0 f_input1 f_returned f_evaluated a_valueKind a_valueBlock a_leaf a_args a_exitKind a_exitValue a_exitTrue a_exitFalse a_predMask a_order a_orderIndex a_idom a_domMask a_firstChild a_nextSibling a_stack a_cursor a_members a_location a_classIndex a_classStart a_classSize a_classMarked a_className a_useHead a_useNext a_work a_inWork a_splitter a_touched a_leaderOf y z a_scopeMark a_body a_bodyStart a_bodyOps a_bodyEnd a_env a_phiNew)) := by
  have hv32 := W.2.2.1
  obtain ⟨av, ud, ut, i1, i2, i3, i4, i5, i6, r1, r2, r3⟩ := I
  have hc := (hC v hv).2
  have hut := ho_T_le i2
  subst r3
  have hw : ∀ w, av (Ci v) = some w → w < p_v P := fun w e => ((i1 _ hc).1 w e).1
  refine ⟨vp_in_nI (by omega) (by omega), ?_⟩
  rw [nI_clamp (by omega), r1 _ hc]
  refine ba_op (av (Ci v)) rfl (fun w e => by have := hw w e; omega) (fun e => ⟨vp_in_nI (by omega) (by omega), nm_e ?_⟩) (fun w e => ?_)
  · obtain ⟨t1, t2⟩ := ho_T_new (c := Ci v) i2 hc (fun z => z e)
    refine ⟨vp_in_nI (by omega) (by omega), ba_wr ut rfl (by omega) rfl (nm_r (nI_1 ut) ?_)⟩
    unfold wX_enterScope_84
    refine ⟨vp_in_nI (by omega) (by omega), vp_in_nI (by omega) (by omega), ba_wr v rfl (by omega) (z' := nI v) (by rw [nI_clamp (by omega), pk_us]) (nm_r (nI_1 k) (HK _ _ _ _ ?_))⟩
    have av1 : ∀ c, c < nc → c ≠ Ci v → ou av (Ci v) (some v) c = av c := fun c _ h => ou_n h
    refine ⟨ou av (Ci v) (some v), nu ud ut (Ci v), ut + 1, ld_A_new i1 hv e hc (gr_D_rf _), ho_T_cg t2 (fun c _ => ?_), fun s hs hsb hS => ?_, fun s hs hsb => ?_, ⟨by omega, fun j hj => by rw [nu_n (by omega)]; exact i5.2 j hj⟩, fun c hc' h0 => ?_, fun c hc' => ?_, fun j hj => ba_ru (fun _ => r2 j (by omega)), rfl⟩
    · rcases Classical.em (c = Ci v) with z | z
      · rw [z, ou_s]; exact ⟨fun _ y => (by cases y), fun _ => Or.inr rfl⟩
      · rw [ou_n z]; exact ⟨fun y => y.elim (fun y => y) (fun y => absurd y z), Or.inl⟩
    · rcases Classical.em (s = v) with z | z
      · subst z
        rw [ou_s, pk_us]
        exact ⟨fun y => (by cases y), rfl⟩
      · rw [pk_un z]
        have q := i3 s hs hsb (hS.elim (fun y => y) (fun y => absurd y z))
        have : Ci s ≠ Ci v := fun y => q.1 (by rw [y]; exact e)
        rw [ou_n this]
        exact q
    · rw [pk_un (fun z => hsb (by rw [z]; exact hb))]
      exact i4 s hs hsb
    · have h1 := i6 c hc' h0
      rw [ou_n (fun z => h0 (by rw [← h1, z]; exact e))]
      exact h1
    · rcases Classical.em (c = Ci v) with z | z
      · rw [z, pk_us, ou_s]; rfl
      · rw [pk_un z, ou_n z]; exact r1 c hc'
  · unfold wX_enterScope_84
    have lw := (i1 _ hc).1 w e
    refine ⟨vp_in_nI (by omega) (by omega), vp_in_nI (by omega) (by omega), ba_wr v rfl (by omega) (z' := nI w) (by rw [nI_clamp (by omega), r1 _ hc, e]; rfl) (nm_r (nI_1 k) (HK _ _ _ _ ?_))⟩
    refine ⟨av, ud, ut, ld_A_old i1 e (by rw [hb]; exact hSt w lw.1 lw.2.2.1) (fun q => hord w lw.1 lw.2.2.1 lw.2.1 (by rw [← q]; exact hb)), i2, fun s hs hsb hS => ?_, fun s hs hsb => ?_, i5, i6, r1, r2, rfl⟩
    · rcases Classical.em (s = v) with z | z
      · subst z
        rw [pk_us, e]
        exact ⟨fun y => (by cases y), rfl⟩
      · rw [pk_un z]
        exact i3 s hs hsb (hS.elim (fun y => y) (fun y => absurd y z))
    · rw [pk_un (fun z => hsb (by rw [z]; exact hb))]
      exact i4 s hs hsb
/-- a run of body places: the values with p, in ascending order -/
theorem xe_ph {post : SX → Prop} (W : p_W P) (S2 : p_S2 P) (hnc : nc ≤ 32) (hC : ∀ u, u < p_v P → a_classIndex u = nI (Ci u) ∧ Ci u < nc) {t s0 e R : Nat} {p : Nat → Prop} {Sx : Nat → Prop} (ht : t < p_b P) (hpt : ∀ v, v < p_v P → p v → p_B P v = t) (hs0 : s0 + cn p (p_v P) ≤ e) (he : e ≤ 64) (ee : a_bodyEnd t = nI e) (hbo : ∀ v, v < p_v P → p v → a_body (s0 + cn p v) = nI v)
    (hx1 : ∀ s, s < p_v P → Sx s → p_D P (p_B P s) t ∧ ¬ p s) (hx2 : ∀ s v, s < p_v P → v < p_v P → Sx s → p v → Ci s = Ci v → p_B P s ≠ t)
    (HK : ∀ (n : Nat) (f_undoTop : Int32) (a_leaderOf a_available a_undo : Nat → Int32), R ≤ n → xe_I P nc Ci t (fun s => Sx s ∨ p s) av0 lo0 ud0 ut0 f_undoTop a_leaderOf a_available a_undo → wX_enterScope_17 post (nI t) f_blockLimit f_valueLimit f_blockCount f_valueCount f_sealed f_classCount f_workTop f_touchedCount f_runState f_runForm f_here f_input0 f_input1 f_returned f_evaluated n (nI (s0 + cn p (p_v P))) f_undoTop a_valueKind a_valueBlock a_leaf a_args a_exitKind a_exitValue a_exitTrue a_exitFalse a_predMask a_order a_orderIndex a_idom a_domMask a_firstChild a_nextSibling a_stack a_cursor a_members a_location a_classIndex a_classStart a_classSize a_classMarked a_className a_useHead a_useNext a_work a_inWork a_splitter a_touched a_leaderOf a_available a_undo a_scopeMark a_body a_bodyStart a_bodyOps a_bodyEnd a_env a_phiNew) :
    ∀ (d v n : Nat) (f_undoTop : Int32) (a_leaderOf a_available a_undo : Nat → Int32), v + d = p_v P → R + d ≤ n → xe_I P nc Ci t (fun s => Sx s ∨ (p s ∧ s < v)) av0 lo0 ud0 ut0 f_undoTop a_leaderOf a_available a_undo →
      wX_enterScope_17 post (nI t) f_blockLimit f_valueLimit f_blockCount f_valueCount f_sealed f_classCount f_workTop f_touchedCount f_runState f_runForm f_here f_input0 f_input1 f_returned f_evaluated n (nI (s0 + cn p v)) f_undoTop a_valueKind a_valueBlock a_leaf a_args a_exitKind a_exitValue a_exitTrue a_exitFalse a_predMask a_order a_orderIndex a_idom a_domMask a_firstChild a_nextSibling a_stack a_cursor a_members a_location a_classIndex a_classStart a_classSize a_classMarked a_className a_useHead a_useNext a_work a_inWork a_splitter a_touched a_leaderOf a_available a_undo a_scopeMark a_body a_bodyStart a_bodyOps a_bodyEnd a_env a_phiNew := by
  have hv32 := W.2.2.1
  have hb8 := W.2.1
  intro d
  induction d with
  | zero =>
    intro v n f_undoTop a_leaderOf a_available a_undo hv hn I
    have e : v = p_v P := by omega
    subst e
    exact HK n _ _ _ _ (by omega) (xe_I_cg I (fun s hs => ⟨fun z => z.imp (fun z => z) (fun z => z.1), fun z => z.imp (fun z => z) (fun z => ⟨z, hs⟩)⟩))
  | succ d ih =>
    intro v n f_undoTop a_leaderOf a_available a_undo hv hn I
    rcases Classical.em (p v) with pv | pv
    · have hc := cn_inc (show v < p_v P by omega) pv
      cases n with
      | zero => omega
      | succ n =>
        rw [wX_enterScope_17]
        refine ⟨vp_in_nI (by omega) (by omega), ?_⟩
        rw [nI_clamp (by omega), ee]
        refine pk_le e (s0 + cn p v) (fun h => by omega) (fun h => ⟨vp_in_nI (by omega) (by omega), ba_rd _ rfl (by omega) (hbo v (by omega) pv) ⟨vp_in_nI (by omega) (by omega), ba_rd v rfl (by omega) (hC v (by omega)).1 ?_⟩⟩)
        refine xe_step W S2 hnc hC (Sc := fun s => Sx s ∨ (p s ∧ s < v)) (by omega) (hpt v (by omega) pv) (fun s hs hS => ?_) (fun z => ?_) (fun s hs hS hcc hsb => ?_) I (fun f_undoTop a_leaderOf a_available a_undo I' => ?_)
        · rcases hS with z | z
          · exact (hx1 s hs z).1
          · rw [hpt s hs z.1]; exact gr_D_rf t
        · rcases z with z | z
          · exact (hx1 v (by omega) z).2 pv
          · have := z.2; omega
        · rcases hS with z | z
          · exact absurd hsb (hx2 s v hs (by omega) z pv hcc)
          · have := z.2; omega
        · have := ih (v + 1) n f_undoTop a_leaderOf a_available a_undo (by omega) (by omega) (xe_I_cg I' (fun s hs => ?_))
          · rw [cn_t pv] at this
            exact this
          · constructor
            · rintro ((z | z) | z)
              · exact Or.inl z
              · exact Or.inr ⟨z.1, by have := z.2; omega⟩
              · rw [z]; exact Or.inr ⟨pv, by omega⟩
            · rintro (z | z)
              · exact Or.inl (Or.inl z)
              · rcases Classical.em (s = v) with q | q
                · exact Or.inr q
                · exact Or.inl (Or.inr ⟨z.1, by have := z.2; omega⟩)
    · have := ih (v + 1) n f_undoTop a_leaderOf a_available a_undo (by omega) (by omega) (xe_I_cg I (fun s hs => ?_))
      · rw [cn_f pv] at this
        exact this
      · refine ⟨fun z => z.imp (fun z => z) (fun z => ⟨z.1, by have := z.2; omega⟩), fun z => z.imp (fun z => z) (fun z => ⟨z.1, ?_⟩)⟩
        rcases Classical.em (s = v) with q | q
        · rw [q] at z; exact absurd z.1 pv
        · have := z.2; omega
theorem xe_enter {post : SX → Prop} (W : p_W P) (S2 : p_S2 P) (hnc : nc ≤ 32) (hC : ∀ u, u < p_v P → a_classIndex u = nI (Ci u) ∧ Ci u < nc) (hL : ∀ u w, u < p_v P → w < p_v P → Ci u = Ci w → p_Lab P u w) (hB : bo_S P 0 (fun _ => True) (p_b P) 32 a_body a_bodyStart a_bodyOps a_bodyEnd)
    {t d : Nat} (ht : t < p_b P) (hd : d < 8) {S0 : Nat → Prop} (h0 : ∀ s, s < p_v P → S0 s → p_B P s ≠ t ∧ p_D P (p_B P s) t) {av : Nat → Option Nat} {ud : Nat → Nat} {ut : Nat} (hA : ld_A (p_v P) nc (p_D P) (p_B P) Ci S0 av) (hT : ho_T nc (fun c => av c ≠ none) ud ut)
    (r1 : ∀ c, c < nc → a_available c = ba_o (av c)) (r2 : ∀ j, j < ut → a_undo j = nI (ud j)) (r3 : f_undoTop = nI ut)
    (HK : ∀ (f_undoTop : Int32) (a_leaderOf' a_available a_undo : Nat → Int32), xe_I P nc Ci t (fun s => S0 s ∨ p_B P s = t) av a_leaderOf ud ut f_undoTop a_leaderOf' a_available a_undo → post (f_blockLimit, f_valueLimit, f_blockCount, f_valueCount, f_sealed, f_classCount, f_workTop, f_touchedCount, f_undoTop, f_runState, f_runForm, f_here, f_input0, f_input1, f_returned, f_evaluated, a_valueKind, a_valueBlock, a_leaf, a_args, a_exitKind, a_exitValue, a_exitTrue, a_exitFalse, a_predMask, a_order, a_orderIndex, a_idom, a_domMask, a_firstChild, a_nextSibling, a_stack, a_cursor, a_members, a_location, a_classIndex, a_classStart, a_classSize, a_classMarked, a_className, a_useHead, a_useNext, a_work, a_inWork, a_splitter, a_touched, a_leaderOf', a_available, a_undo, upd a_scopeMark d (nI ut), a_body, a_bodyStart, a_bodyOps, a_bodyEnd, a_env, a_phiNew)) :
    wpX_enterScope post (f_blockLimit, f_valueLimit, f_blockCount, f_valueCount, f_sealed, f_classCount, f_workTop, f_touchedCount, f_undoTop, f_runState, f_runForm, f_here, f_input0, f_input1, f_returned, f_evaluated, a_valueKind, a_valueBlock, a_leaf, a_args, a_exitKind, a_exitValue, a_exitTrue, a_exitFalse, a_predMask, a_order, a_orderIndex, a_idom, a_domMask, a_firstChild, a_nextSibling, a_stack, a_cursor, a_members, a_location, a_classIndex, a_classStart, a_classSize, a_classMarked, a_className, a_useHead, a_useNext, a_work, a_inWork, a_splitter, a_touched, a_leaderOf, a_available, a_undo, a_scopeMark, a_body, a_bodyStart, a_bodyOps, a_bodyEnd, a_env, a_phiNew) (nI t) (nI d) := by
  have hv32 := W.2.2.1
  have hb8 := W.2.1
  obtain ⟨s, b1, b2, b3, b4, b5, b6⟩ := hB t ht
  rw [Nat.zero_mul, Nat.zero_add] at b1 b2 b3
  subst r3
  refine ⟨vp_in_nI hd (by omega), ba_wr d rfl (by omega) rfl ⟨vp_in_nI (by omega) (by omega), ba_rd t rfl (by omega) b1 ⟨2 * p_v P + 1, ?_⟩⟩⟩
  have pt : ∀ ph v, v < p_v P → bo_p P (fun _ => True) t ph v → p_B P v = t := fun ph v _ h => h.1
  have step2 : ∀ (n : Nat) (f_undoTop : Int32) (a_leaderOf' a_available a_undo : Nat → Int32), 1 + p_v P ≤ n → xe_I P nc Ci t (fun s => S0 s ∨ bo_p P (fun _ => True) t true s) av a_leaderOf ud ut f_undoTop a_leaderOf' a_available a_undo → wX_enterScope_17 post (nI t) f_blockLimit f_valueLimit f_blockCount f_valueCount f_sealed f_classCount f_workTop f_touchedCount f_runState f_runForm f_here f_input0 f_input1 f_returned f_evaluated n (nI (s + cn (bo_p P (fun _ => True) t true) (p_v P))) f_undoTop a_valueKind a_valueBlock a_leaf a_args a_exitKind a_exitValue a_exitTrue a_exitFalse a_predMask a_order a_orderIndex a_idom a_domMask a_firstChild a_nextSibling a_stack a_cursor a_members a_location a_classIndex a_classStart a_classSize a_classMarked a_className a_useHead a_useNext a_work a_inWork a_splitter a_touched a_leaderOf' a_available a_undo (upd a_scopeMark d (nI ut)) a_body a_bodyStart a_bodyOps a_bodyEnd a_env a_phiNew := by
    intro n f_undoTop a_leaderOf' a_available a_undo hn I
    refine xe_ph (p := bo_p P (fun _ => True) t false) (Sx := fun s => S0 s ∨ bo_p P (fun _ => True) t true s) (e := s + cn (bo_p P (fun _ => True) t true) (p_v P) + cn (bo_p P (fun _ => True) t false) (p_v P)) (R := 1) (s0 := s + cn (bo_p P (fun _ => True) t true) (p_v P)) W S2 hnc hC ht (pt false) (Nat.le_refl _) (by omega) b3 b6 (fun x hx hS => ?_) (fun x v hx hv hS hp hcc hxb => ?_) (fun n f_undoTop a_leaderOf' a_available a_undo hn I => ?_) (p_v P) 0 n _ _ _ _ (by omega) hn (xe_I_cg I (fun x hx => ⟨Or.inl, fun z => z.elim (fun z => z) (fun z => by have := z.2; omega)⟩))
    · rcases hS with z | z
      · exact ⟨(h0 x hx z).2, fun w => (h0 x hx z).1 w.1⟩
      · refine ⟨by rw [z.1]; exact gr_D_rf t, fun w => ?_⟩
        have a := z.2.1.mpr rfl
        have := w.2.1.mp a
        cases this
    · rcases hS with z | z
      · exact (h0 x hx z).1 hxb
      · have a := z.2.1.mpr rfl
        have l := (hL x v hx hv hcc).1
        have := hp.2.1.mp (l.symm.trans a)
        cases this
    · cases n with
      | zero => omega
      | succ n =>
        rw [wX_enterScope_17]
        refine ⟨vp_in_nI (by omega) (by omega), ?_⟩
        rw [nI_clamp (by omega), b3]
        refine br_t (Int32.le_refl _) (HK _ _ _ _ (xe_I_cg I (fun x hx => ⟨fun z => ?_, fun z => ?_⟩)))
        · rcases z with (z | z) | z
          · exact Or.inl z
          · exact Or.inr z.1
          · exact Or.inr z.1
        · rcases z with z | z
          · exact Or.inl (Or.inl z)
          · rcases Classical.em (p_K P x = 2) with q | q
            · exact Or.inl (Or.inr ⟨z, ⟨fun _ => rfl, fun _ => q⟩, trivial⟩)
            · exact Or.inr ⟨z, ⟨fun y => absurd y q, fun y => by cases y⟩, trivial⟩
  have := xe_ph (p := bo_p P (fun _ => True) t true) (Sx := S0) (e := s + cn (bo_p P (fun _ => True) t true) (p_v P) + cn (bo_p P (fun _ => True) t false) (p_v P)) (R := 1 + p_v P) (s0 := s) W S2 hnc hC ht (pt true) (by omega) (by omega) b3 b5 (fun x hx z => ⟨(h0 x hx z).2, fun w => (h0 x hx z).1 w.1⟩) (fun x v hx hv hS hp hcc hxb => (h0 x hx hS).1 hxb) step2 (p_v P) 0 (2 * p_v P + 1) (nI ut) a_leaderOf a_available a_undo (by omega) (by omega) ⟨av, ud, ut, ld_A_cg hA (fun x hx => ⟨Or.inl, fun z => z.elim (fun z => z) (fun z => by have := z.2; omega)⟩), hT, fun x hx hxb hS => ?_, fun x hx _ => rfl, ⟨Nat.le_refl _, fun _ _ => rfl⟩, fun _ _ _ => rfl, r1, r2, rfl⟩
  · exact this
  · rcases hS with z | z
    · exact absurd hxb (h0 x hx z).1
    · have := z.2; omega
theorem xe_l14 {post : SX → Prop} {ud : Nat → Nat} {av : Nat → Option Nat} {ut mk : Nat} (hnc : nc ≤ 32) (hut : ut ≤ 32) (hmk : mk ≤ ut) (hu : ∀ j, j < ut → ud j < nc) (r2 : ∀ j, j < ut → a_undo j = nI (ud j))
    (HK : ∀ (av' : Nat → Option Nat) (a_available : Nat → Int32), (∀ c, c < nc → a_available c = ba_o (av' c)) → (∀ j, mk ≤ j → j < ut → av' (ud j) = none) → (∀ c, (∀ j, mk ≤ j → j < ut → ud j ≠ c) → av' c = av c) → post (f_blockLimit, f_valueLimit, f_blockCount, f_valueCount, f_sealed, f_classCount, f_workTop, f_touchedCount, nI mk, f_runState, f_runForm, f_here, f_input0, f_input1, f_returned, f_evaluated, a_valueKind, a_valueBlock, a_leaf, a_args, a_exitKind, a_exitValue, a_exitTrue, a_exitFalse, a_predMask, a_order, a_orderIndex, a_idom, a_domMask, a_firstChild, a_nextSibling, a_stack, a_cursor, a_members, a_location, a_classIndex, a_classStart, a_classSize, a_classMarked, a_className, a_useHead, a_useNext, a_work, a_inWork, a_splitter, a_touched, a_leaderOf, a_available, a_undo, a_scopeMark, a_body, a_bodyStart, a_bodyOps, a_bodyEnd, a_env, a_phiNew)) :
    ∀ (n k : Nat) (av' : Nat → Option Nat) (a_available : Nat → Int32), k < n → mk ≤ k → k ≤ ut → (∀ c, c < nc → a_available c = ba_o (av' c)) → (∀ j, k ≤ j → j < ut → av' (ud j) = none) → (∀ c, (∀ j, k ≤ j → j < ut → ud j ≠ c) → av' c = av c) → wX_leaveScope_14 post (nI mk) f_blockLimit f_valueLimit f_blockCount f_valueCount f_sealed f_classCount f_workTop f_touchedCount f_undoTop f_runState f_runForm f_here f_input0 f_input1 f_returned f_evaluated n (ba_t k) a_valueKind a_valueBlock a_leaf a_args a_exitKind a_exitValue a_exitTrue a_exitFalse a_predMask a_order a_orderIndex a_idom a_domMask a_firstChild a_nextSibling a_stack a_cursor a_members a_location a_classIndex a_classStart a_classSize a_classMarked a_className a_useHead a_useNext a_work a_inWork a_splitter a_touched a_leaderOf a_available a_undo a_scopeMark a_body a_bodyStart a_bodyOps a_bodyEnd a_env a_phiNew := by
  intro n
  induction n with
  | zero => intro k _ _ h; omega
  | succ n ih =>
    intro k av' a_available hn h1 h2 r1 g1 g2
    rw [wX_leaveScope_14]
    have tt : ∀ a b : Nat, a ≤ 32 → b ≤ 32 → (ba_t a < nI b ↔ a ≤ b) := by
      intro a b ha hb
      cases a with
      | zero =>
        have : (-1 : Int32) < nI b := by
          rw [Int32.lt_iff_toInt_lt, nI_toInt (by omega)]
          show (-1 : Int32).toInt < _
          have : (-1 : Int32).toInt = -1 := by decide
          omega
        exact ⟨fun _ => Nat.zero_le _, fun _ => this⟩
      | succ a =>
        show nI a < nI b ↔ _
        rw [nI_ltI (by omega) (by omega)]; omega
    refine ba_if (tt k mk (by omega) (by omega)) (fun h => ?_) (fun h => ?_)
    · have e : k = mk := by omega
      subst e
      exact HK av' _ r1 g1 g2
    · cases k with
      | zero => omega
      | succ k =>
        have hk := hu k (by omega)
        refine ⟨vp_in_nI (n := k) (by omega) (by omega), ?_⟩
        show vp_in (a_undo (nI k).toNatClampNeg) 32 ∧ ∀ y, y = upd a_available (a_undo (nI k).toNatClampNeg).toNatClampNeg (-1) → _
        rw [nI_clamp (by omega), r2 k (by omega)]
        refine ⟨vp_in_nI (by omega) (by omega), ba_wr _ rfl (by omega) rfl (nm_r (ba_tm k) (ih k (ou av' (ud k) none) _ (by omega) (by omega) (by omega) (fun c hc => ?_) (fun j hj1 hj2 => ?_) (fun c hc => ?_)))⟩
        · rcases Classical.em (c = ud k) with z | z
          · rw [z, pk_us, ou_s]; rfl
          · rw [pk_un z, ou_n z]; exact r1 c hc
        · rcases Classical.em (ud j = ud k) with z | z
          · rw [z, ou_s]
          · rw [ou_n z]
            refine g1 j ?_ hj2
            rcases Classical.em (j = k) with y | y
            · exact absurd (by rw [y]) z
            · omega
        · rw [ou_n (fun z => hc k (Nat.le_refl _) (by omega) z.symm)]
          exact g2 c (fun j h1 h2 => hc j (by omega) h2)
theorem xe_leave {post : SX → Prop} {ud : Nat → Nat} {av : Nat → Option Nat} {ut mk d : Nat} (hnc : nc ≤ 32) (hut : ut ≤ 32) (hmk : mk ≤ ut) (hd : d < 8) (hu : ∀ j, j < ut → ud j < nc) (r1 : ∀ c, c < nc → a_available c = ba_o (av c)) (r2 : ∀ j, j < ut → a_undo j = nI (ud j)) (r3 : f_undoTop = nI ut) (r4 : a_scopeMark d = nI mk)
    (HK : ∀ (av' : Nat → Option Nat) (a_available : Nat → Int32), (∀ c, c < nc → a_available c = ba_o (av' c)) → (∀ j, mk ≤ j → j < ut → av' (ud j) = none) → (∀ c, (∀ j, mk ≤ j → j < ut → ud j ≠ c) → av' c = av c) → post (f_blockLimit, f_valueLimit, f_blockCount, f_valueCount, f_sealed, f_classCount, f_workTop, f_touchedCount, nI mk, f_runState, f_runForm, f_here, f_input0, f_input1, f_returned, f_evaluated, a_valueKind, a_valueBlock, a_leaf, a_args, a_exitKind, a_exitValue, a_exitTrue, a_exitFalse, a_predMask, a_order, a_orderIndex, a_idom, a_domMask, a_firstChild, a_nextSibling, a_stack, a_cursor, a_members, a_location, a_classIndex, a_classStart, a_classSize, a_classMarked, a_className, a_useHead, a_useNext, a_work, a_inWork, a_splitter, a_touched, a_leaderOf, a_available, a_undo, a_scopeMark, a_body, a_bodyStart, a_bodyOps, a_bodyEnd, a_env, a_phiNew)) :
    wpX_leaveScope post (f_blockLimit, f_valueLimit, f_blockCount, f_valueCount, f_sealed, f_classCount, f_workTop, f_touchedCount, f_undoTop, f_runState, f_runForm, f_here, f_input0, f_input1, f_returned, f_evaluated, a_valueKind, a_valueBlock, a_leaf, a_args, a_exitKind, a_exitValue, a_exitTrue, a_exitFalse, a_predMask, a_order, a_orderIndex, a_idom, a_domMask, a_firstChild, a_nextSibling, a_stack, a_cursor, a_members, a_location, a_classIndex, a_classStart, a_classSize, a_classMarked, a_className, a_useHead, a_useNext, a_work, a_inWork, a_splitter, a_touched, a_leaderOf, a_available, a_undo, a_scopeMark, a_body, a_bodyStart, a_bodyOps, a_bodyEnd, a_env, a_phiNew) (nI d) := by
  have e : f_undoTop - 1 = ba_t ut := by
    rw [r3]
    cases ut with
    | zero => decide
    | succ k => exact nI_pred k
  exact ⟨vp_in_nI hd (by omega), ba_rd d rfl (by omega) r4 (nm_r e ⟨ut + 1, xe_l14 hnc hut hmk hu r2 HK (ut + 1) ut av _ (by omega) hmk (by omega) r1 (fun j h1 h2 => by omega) (fun _ _ => rfl)⟩)⟩
end XE
end
section
/-! X: findLeaders -/
noncomputable def fl_r (av : Nat → Option Nat) (ud : Nat → Nat) (m c : Nat) : Option Nat := @ite (Option Nat) (∃ i, i < m ∧ ud i = c) (Classical.propDecidable _) (av c) none
theorem fl_r_t {av : Nat → Option Nat} {ud : Nat → Nat} {m c : Nat} (h : ∃ i, i < m ∧ ud i = c) : fl_r av ud m c = av c := by unfold fl_r; rw [if_pos h]
theorem fl_r_f {av : Nat → Option Nat} {ud : Nat → Nat} {m c : Nat} (h : ¬ ∃ i, i < m ∧ ud i = c) : fl_r av ud m c = none := by unfold fl_r; rw [if_neg h]
theorem ld_A_av {nv nc : Nat} {D : Nat → Nat → Prop} {B Ci : Nat → Nat} {Sc : Nat → Prop} {av av' : Nat → Option Nat} (h : ld_A nv nc D B Ci Sc av) (e : ∀ c, c < nc → av' c = av c) : ld_A nv nc D B Ci Sc av' := by
  intro c hc
  rw [e c hc]
  exact h c hc
def fl_Vs (oi I q : Nat → Nat) (b : Nat) : Prop := b = 0 ∨ oi b < q (I b)
def fl_lv (sm : Nat → Nat) (ut h j : Nat) : Nat := if j + 1 < h then sm (j + 1) else ut
def fl_L (P : PT) (Ci : Nat → Nat) (lo : Nat → Int32) (s : Nat) : Prop := ∃ w, lo s = nI w ∧ ld_V (p_v P) (p_D P) (p_B P) (fun x => Ci x = Ci s) (p_B P s) w
def fl_I (P : PT) (ord oi I : Nat → Nat) (nc : Nat) (Ci : Nat → Nat) (h s : Nat) (st q : Nat → Nat) (av : Nat → Option Nat) (ud : Nat → Nat) (ut : Nat) (sm : Nat → Nat) (lo : Nat → Int32) : Prop :=
  (∀ j, j < h → st j < p_b P ∧ fl_Vs oi I q (st j) ∧ j ≤ oi (st j)) ∧
  (∀ b, b < p_b P → 1 ≤ q b ∧ (fl_Vs oi I q b → (∃ j, j < h ∧ st j = b) ∨ ba_F (xd_k I ord b) (p_b P) (q b) none)) ∧
  (∀ s, s < p_v P → fl_Vs oi I q (p_B P s) → fl_L P Ci lo s) ∧
  (∀ j, j < h → ld_A (p_v P) nc (p_D P) (p_B P) Ci (fun s => p_D P (p_B P s) (st j)) (fl_r av ud (fl_lv sm ut h j))) ∧
  ho_T nc (fun c => av c ≠ none) ud ut ∧ (∀ i j, i ≤ j → j < h → sm i ≤ sm j ∧ sm j ≤ ut) ∧
  s + 2 * cn (fun b => ¬ fl_Vs oi I q b) (p_b P) + h + 1 = 2 * p_b P
section FL
variable {P : PT} {ord oi I : Nat → Nat} {nc : Nat} {Ci : Nat → Nat} {h s : Nat} {st q : Nat → Nat} {av av' : Nat → Option Nat} {ud ud' : Nat → Nat} {ut ut' : Nat} {sm : Nat → Nat} {lo lo' : Nat → Int32}
theorem fl_leave (F : fl_I P ord oi I nc Ci (h + 1) s st q av ud ut sm lo) (hn : ba_F (xd_k I ord (st h)) (p_b P) (q (st h)) none) (g1 : ∀ j, sm h ≤ j → j < ut → av' (ud j) = none) (g2 : ∀ c, (∀ j, sm h ≤ j → j < ut → ud j ≠ c) → av' c = av c) :
    fl_I P ord oi I nc Ci h (s + 1) st q av' ud (sm h) sm lo := by
  obtain ⟨f1, f2, f3, f4, f5, f6, f7⟩ := F
  have hm := (f6 h h (Nat.le_refl _) (by omega)).2
  have same : ∀ i, i < sm h → av' (ud i) = av (ud i) := fun i hi => g2 _ (fun j h1 h2 e => by have := f5.2.1 j i h2 (by omega) e; omega)
  have non : ∀ c, c < nc → (¬ ∃ i, i < sm h ∧ ud i = c) → av' c = none := by
    intro c hc hno
    rcases Classical.em (∃ j, sm h ≤ j ∧ j < ut ∧ ud j = c) with ⟨j, h1, h2, e⟩ | z
    · rw [← e]; exact g1 j h1 h2
    · rw [g2 c (fun j h1 h2 e => z ⟨j, h1, h2, e⟩)]
      apply Classical.byContradiction
      intro y
      obtain ⟨j, hj, e⟩ := f5.2.2 c hc y
      rcases Nat.lt_or_ge j (sm h) with w | w
      · exact hno ⟨j, w, e⟩
      · exact z ⟨j, w, hj, e⟩
  refine ⟨fun j hj => f1 j (by omega), fun b hb => ⟨(f2 b hb).1, fun hv => ?_⟩, f3, fun j hj => ?_, ⟨fun j hj => ⟨(f5.1 j (by omega)).1, ?_⟩, fun i j hi hj => f5.2.1 i j (by omega) (by omega), fun c hc hne => ?_⟩, fun i j hij hj => ⟨(f6 i j hij (by omega)).1, (f6 j h (by omega) (by omega)).1⟩, by omega⟩
  · rcases (f2 b hb).2 hv with ⟨j, hj, e⟩ | z
    · rcases Classical.em (j = h) with y | y
      · right; rw [← e, y]; exact hn
      · exact Or.inl ⟨j, by omega, e⟩
    · exact Or.inr z
  · have e1 : fl_lv sm ut (h + 1) j = sm (j + 1) := if_pos (by omega)
    have e2 : fl_lv sm (sm h) h j = sm (j + 1) := by
      rcases Nat.lt_or_ge (j + 1) h with y | y
      · exact if_pos y
      · rw [show fl_lv sm (sm h) h j = sm h from if_neg (by omega), show j + 1 = h by omega]
    have := f4 j (by omega)
    rw [e1] at this
    rw [e2]
    refine ld_A_av this (fun c hc => ?_)
    rcases Classical.em (∃ i, i < sm (j + 1) ∧ ud i = c) with y | y
    · rw [fl_r_t y, fl_r_t y]
      obtain ⟨i, hi, e⟩ := y
      rw [← e]
      exact same i (by have := (f6 (j + 1) h (by omega) (by omega)).1; omega)
    · rw [fl_r_f y, fl_r_f y]
  · show av' (ud j) ≠ none
    rw [same j hj]; exact (f5.1 j (by omega)).2
  · apply Classical.byContradiction
    intro z
    exact hne (non c hc z)
theorem fl_Vs_new (G : ob_G P ord oi) {k : Nat} (hk : ba_F (xd_k I ord (st h)) (p_b P) (q (st h)) (some k)) {c : Nat} (hc : c < p_b P) : fl_Vs oi I (nu q (st h) (k + 1)) c ↔ fl_Vs oi I q c ∨ c = ord k := by
  obtain ⟨k1, k2, k3, k4⟩ := hk.2 k rfl
  have O := G.1
  rcases Classical.em (c = 0) with z | z
  · exact ⟨fun _ => Or.inl (Or.inl z), fun _ => Or.inl z⟩
  · unfold fl_Vs
    rcases Classical.em (I c = st h) with y | y
    · rw [y, nu_s]
      have hkid : xd_k I ord (st h) (oi c) := by
        refine ⟨?_, by rw [G.2.2 c hc]; exact y⟩
        rcases Nat.eq_zero_or_pos (oi c) with w | w
        · exact absurd (O.2.1 c 0 hc (by omega) (by rw [w, O.2.2.1])) z
        · exact w
      constructor
      · rintro (w | w)
        · exact absurd w z
        · rcases Nat.lt_or_ge (oi c) (q (st h)) with x | x
          · exact Or.inl (Or.inr x)
          · right
            rcases Classical.em (oi c = k) with v | v
            · rw [← v, G.2.2 c hc]
            · exact absurd hkid (k4 (oi c) x (by omega))
      · rintro ((w | w) | w)
        · exact absurd w z
        · exact Or.inr (by omega)
        · right; rw [w, (G.2.1 k k2).2]; omega
    · rw [nu_n y]
      refine ⟨Or.inl, fun w => w.elim (fun w => w) (fun w => ?_)⟩
      rw [w] at y
      exact absurd k3.2 y
theorem fl_enter (G : ob_G P ord oi) (hF : do_F (p_b P) (p_E P) oi I) (hW : p_W P) (F : fl_I P ord oi I nc Ci (h + 1) s st q av ud ut sm lo) {k : Nat} (hk : ba_F (xd_k I ord (st h)) (p_b P) (q (st h)) (some k))
    (hA : ld_A (p_v P) nc (p_D P) (p_B P) Ci (fun x => p_D P (p_B P x) (ord k)) av') (hT : ho_T nc (fun c => av' c ≠ none) ud' ut') (h3 : ∀ x, x < p_v P → p_B P x = ord k → av' (Ci x) ≠ none ∧ lo' x = ba_o (av' (Ci x))) (h4 : ∀ x, x < p_v P → p_B P x ≠ ord k → lo' x = lo x)
    (h5 : ut ≤ ut' ∧ ∀ j, j < ut → ud' j = ud j) (h6 : ∀ c, c < nc → av c ≠ none → av' c = av c) (hCi : ∀ u, u < p_v P → Ci u < nc) :
    fl_I P ord oi I nc Ci (h + 2) (s + 1) (nu st (h + 1) (ord k)) (nu q (st h) (k + 1)) av' ud' ut' (nu sm (h + 1) ut) lo' := by
  obtain ⟨k1, k2, k3, k4⟩ := hk.2 k rfl
  obtain ⟨g1, g2⟩ := G.2.1 k k2
  have O := G.1
  have vs := fun {c : Nat} (hc : c < p_b P) => fl_Vs_new (st := st) (h := h) (q := q) G hk hc
  have t0 : ord k ≠ 0 := fun z => by
    have := k3.1
    rw [z, O.2.2.1] at g2
    omega
  have nvt : ¬ fl_Vs oi I q (ord k) := by
    rintro (z | z)
    · exact t0 z
    · rw [k3.2, g2] at z; omega
  obtain ⟨f1, f2, f3, f4, f5, f6, f7⟩ := F
  obtain ⟨t1, t2, t3⟩ := f1 h (by omega)
  have hoi : oi (st h) < k := by
    have := (hF (ord k) g1 t0).2.1
    rw [k3.2, g2] at this
    exact this
  refine ⟨fun j hj => ?_, fun b hb => ⟨?_, fun hv => ?_⟩, fun x hx hv => ?_, fun j hj => ?_, hT, fun i j hij hj => ?_, ?_⟩
  · rcases Classical.em (j = h + 1) with z | z
    · rw [z, nu_s]
      exact ⟨g1, (vs g1).mpr (Or.inr rfl), by omega⟩
    · rw [nu_n z]
      obtain ⟨a1, a2, a3⟩ := f1 j (by omega)
      exact ⟨a1, (vs a1).mpr (Or.inl a2), a3⟩
  · rcases Classical.em (b = st h) with z | z
    · rw [z, nu_s]; omega
    · rw [nu_n z]; exact (f2 b hb).1
  · rcases (vs hb).mp hv with z | z
    · rcases Classical.em (b = st h) with y | y
      · exact Or.inl ⟨h, by omega, by rw [nu_n (by omega), y]⟩
      · rcases (f2 b hb).2 z with ⟨j, hj, e⟩ | w
        · exact Or.inl ⟨j, by omega, by rw [nu_n (by omega), e]⟩
        · right; rw [nu_n y]; exact w
    · exact Or.inl ⟨h + 1, by omega, by rw [nu_s, z]⟩
  · have hbx := (hW.2.2.2.1 x hx).2.1
    rcases Classical.em (p_B P x = ord k) with z | z
    · obtain ⟨a1, a2⟩ := h3 x hx z
      cases e : av' (Ci x) with
      | none => exact absurd e a1
      | some w =>
        refine ⟨w, by rw [a2, e]; rfl, ?_⟩
        have := (hA _ (hCi x hx)).1 w e
        rw [← z] at this
        exact this
    · have := f3 x hx (((vs hbx).mp hv).elim (fun y => y) (fun y => absurd y z))
      obtain ⟨w, w1, w2⟩ := this
      exact ⟨w, by rw [h4 x hx z]; exact w1, w2⟩
  · rcases Classical.em (j = h + 1) with z | z
    · rw [z, nu_s, show fl_lv (nu sm (h + 1) ut) ut' (h + 2) (h + 1) = ut' from if_neg (by omega)]
      refine ld_A_av hA (fun c hc => ?_)
      rcases Classical.em (∃ i, i < ut' ∧ ud' i = c) with y | y
      · rw [fl_r_t y]
      · rw [fl_r_f y]
        apply Eq.symm
        apply Classical.byContradiction
        intro w
        exact y (hT.2.2 c hc w)
    · rw [nu_n z, show fl_lv (nu sm (h + 1) ut) ut' (h + 2) j = nu sm (h + 1) ut (j + 1) from if_pos (by omega)]
      have hL : nu sm (h + 1) ut (j + 1) = fl_lv sm ut (h + 1) j ∧ fl_lv sm ut (h + 1) j ≤ ut := by
        rcases Classical.em (j = h) with y | y
        · rw [y, nu_s, show fl_lv sm ut (h + 1) h = ut from if_neg (by omega)]
          exact ⟨rfl, Nat.le_refl _⟩
        · rw [nu_n (by omega), show fl_lv sm ut (h + 1) j = sm (j + 1) from if_pos (by omega)]
          exact ⟨rfl, (f6 (j + 1) (j + 1) (Nat.le_refl _) (by omega)).2⟩
      rw [hL.1]
      refine ld_A_av (f4 j (by omega)) (fun c hc => ?_)
      have ex : (∃ i, i < fl_lv sm ut (h + 1) j ∧ ud' i = c) ↔ ∃ i, i < fl_lv sm ut (h + 1) j ∧ ud i = c :=
        ⟨fun ⟨i, hi, e⟩ => ⟨i, hi, by rw [← h5.2 i (by have := hL.2; omega)]; exact e⟩, fun ⟨i, hi, e⟩ => ⟨i, hi, by rw [h5.2 i (by have := hL.2; omega)]; exact e⟩⟩
      rcases Classical.em (∃ i, i < fl_lv sm ut (h + 1) j ∧ ud i = c) with y | y
      · rw [fl_r_t y, fl_r_t (ex.mpr y)]
        obtain ⟨i, hi, e⟩ := y
        refine h6 c hc ?_
        rw [← e]
        exact (f5.1 i (by have := hL.2; omega)).2
      · rw [fl_r_f y, fl_r_f (fun w => y (ex.mp w))]
  · rcases Classical.em (j = h + 1) with z | z
    · rw [z, nu_s]
      refine ⟨?_, h5.1⟩
      rcases Classical.em (i = h + 1) with y | y
      · rw [y, nu_s]; exact Nat.le_refl _
      · rw [nu_n y]; exact (f6 i i (Nat.le_refl _) (by omega)).2
    · rw [nu_n z, nu_n (by omega)]
      obtain ⟨a, b⟩ := f6 i j hij (by omega)
      exact ⟨a, by have := h5.1; omega⟩
  · have : cn (fun b => ¬ fl_Vs oi I q b) (p_b P) = cn (fun b => ¬ fl_Vs oi I (nu q (st h) (k + 1)) b) (p_b P) + 1 := by
      rw [← cn_add (P := fun b => ¬ fl_Vs oi I (nu q (st h) (k + 1)) b) (a := ord k) (fun z => z ((vs g1).mpr (Or.inr rfl))) g1]
      refine cn_eq (fun c hc => ?_)
      rw [vs hc]
      constructor
      · intro z
        rcases Classical.em (c = ord k) with y | y
        · exact Or.inr y
        · exact Or.inl (fun w => w.elim z y)
      · rintro (z | z)
        · exact fun w => z (Or.inl w)
        · rw [z]; exact nvt
    omega
theorem fl_end (G : ob_G P ord oi) (hF : do_F (p_b P) (p_E P) oi I) (hW : p_W P) (F : fl_I P ord oi I nc Ci 0 s st q av ud ut sm lo) : ∀ x, x < p_v P → fl_L P Ci lo x := by
  obtain ⟨f1, f2, f3, f4, f5, f6, f7⟩ := F
  have O := G.1
  have all : ∀ m c, oi c < m → c < p_b P → fl_Vs oi I q c := by
    intro m
    induction m with
    | zero => intro c h; omega
    | succ m ih =>
      intro c hm hc
      rcases Classical.em (c = 0) with z | z
      · exact Or.inl z
      · obtain ⟨a1, a2, a3⟩ := hF c hc z
        rcases (f2 (I c) a1).2 (ih (I c) (by omega) a1) with ⟨j, hj, _⟩ | w
        · omega
        · right
          rcases Nat.lt_or_ge (oi c) (q (I c)) with y | y
          · exact y
          · refine absurd ⟨?_, by rw [G.2.2 c hc]⟩ (w.1 rfl (oi c) y (O.1 c hc))
            rcases Nat.eq_zero_or_pos (oi c) with v | v
            · exact absurd (O.2.1 c 0 hc (by omega) (by rw [v, O.2.2.1])) z
            · exact v
  exact fun x hx => f3 x hx (all _ _ (Nat.lt_succ_self _) (hW.2.2.2.1 x hx).2.1)
end FL
section XF
variable {f_blockLimit f_valueLimit f_blockCount f_valueCount f_sealed f_classCount f_workTop f_touchedCount f_undoTop f_runState f_runForm f_here f_input0 f_input1 f_returned f_evaluated : Int32} {a_valueKind a_valueBlock a_leaf a_args a_exitKind a_exitValue a_exitTrue a_exitFalse a_predMask a_order a_orderIndex a_idom a_domMask a_firstChild a_nextSibling a_stack a_cursor a_members a_location a_classIndex a_classStart a_classSize a_classMarked a_className a_useHead a_useNext a_work a_inWork a_splitter a_touched a_leaderOf a_available a_undo a_scopeMark a_body a_bodyStart a_bodyOps a_bodyEnd a_env a_phiNew : Nat → Int32} {P : PT} {ord oi I : Nat → Nat} {nc : Nat} {Ci : Nat → Nat}
theorem xf_73 {post : SX → Prop} (W : p_W P) (S2 : p_S2 P) (G : ob_G P ord oi) (hF : do_F (p_b P) (p_E P) oi I) (hnc : nc ≤ 32) (hC : ∀ u, u < p_v P → a_classIndex u = nI (Ci u) ∧ Ci u < nc) (hL : ∀ u w, u < p_v P → w < p_v P → Ci u = Ci w → p_Lab P u w) (hB : bo_S P 0 (fun _ => True) (p_b P) 32 a_body a_bodyStart a_bodyOps a_bodyEnd)
    (hns : ∀ j, 1 ≤ j → j < p_b P → ∃ o, ba_F (xd_k I ord (I (ord j))) (p_b P) (j + 1) o ∧ a_nextSibling (ord j) = ba_o (rn_m ord o))
    (HK : ∀ (f_undoTop : Int32) (a_stack a_cursor a_leaderOf a_available a_undo a_scopeMark : Nat → Int32), (∀ x, x < p_v P → fl_L P Ci a_leaderOf x) → post (f_blockLimit, f_valueLimit, f_blockCount, f_valueCount, f_sealed, f_classCount, f_workTop, f_touchedCount, f_undoTop, f_runState, f_runForm, f_here, f_input0, f_input1, f_returned, f_evaluated, a_valueKind, a_valueBlock, a_leaf, a_args, a_exitKind, a_exitValue, a_exitTrue, a_exitFalse, a_predMask, a_order, a_orderIndex, a_idom, a_domMask, a_firstChild, a_nextSibling, a_stack, a_cursor, a_members, a_location, a_classIndex, a_classStart, a_classSize, a_classMarked, a_className, a_useHead, a_useNext, a_work, a_inWork, a_splitter, a_touched, a_leaderOf, a_available, a_undo, a_scopeMark, a_body, a_bodyStart, a_bodyOps, a_bodyEnd, a_env, a_phiNew)) :
    ∀ (n h s : Nat) (st q : Nat → Nat) (av : Nat → Option Nat) (ud : Nat → Nat) (ut : Nat) (sm : Nat → Nat) (f_undoTop : Int32) (a_stack a_cursor a_leaderOf a_available a_undo a_scopeMark : Nat → Int32), 16 - s < n → fl_I P ord oi I nc Ci h s st q av ud ut sm a_leaderOf →
      (∀ j, j < h → a_stack j = nI (st j)) → (∀ b, b < p_b P → ∃ o, ba_F (xd_k I ord b) (p_b P) (q b) o ∧ a_cursor b = ba_o (rn_m ord o)) → (∀ c, c < nc → a_available c = ba_o (av c)) → (∀ j, j < ut → a_undo j = nI (ud j)) → f_undoTop = nI ut → (∀ j, j < h → a_scopeMark j = nI (sm j)) →
      wX_findLeaders_73 post n (ba_t h) (nI s) f_blockLimit f_valueLimit f_blockCount f_valueCount f_sealed f_classCount f_workTop f_touchedCount f_undoTop f_runState f_runForm f_here f_input0 f_input1 f_returned f_evaluated a_valueKind a_valueBlock a_leaf a_args a_exitKind a_exitValue a_exitTrue a_exitFalse a_predMask a_order a_orderIndex a_idom a_domMask a_firstChild a_nextSibling a_stack a_cursor a_members a_location a_classIndex a_classStart a_classSize a_classMarked a_className a_useHead a_useNext a_work a_inWork a_splitter a_touched a_leaderOf a_available a_undo a_scopeMark a_body a_bodyStart a_bodyOps a_bodyEnd a_env a_phiNew := by
  have hv32 := W.2.2.1
  have hb8 := W.2.1
  have O := G.1
  intro n
  induction n with
  | zero => intro h s st q av ud ut sm _ _ _ _ _ _ _ hn; omega
  | succ n ih =>
    intro h s st q av ud ut sm f_undoTop a_stack a_cursor a_leaderOf a_available a_undo a_scopeMark hn F r1 r2 r3 r4 r5 r6
    have hs : s < 16 := by have := F.2.2.2.2.2.2; omega
    rw [wX_findLeaders_73]
    refine br_f (nI_ge (b := 16) hs (by decide)) ?_
    cases h with
    | zero => exact br_t ba_n1lt (HK _ _ _ _ _ _ _ (fl_end G hF W F))
    | succ h =>
      obtain ⟨t1, t2, t3⟩ := F.1 h (by omega)
      have to := O.1 _ t1
      have hut := ho_T_le F.2.2.2.2.1
      obtain ⟨o, o1, o2⟩ := r2 _ t1
      have ob : ∀ x, rn_m ord o = some x → x < p_b P := by
        intro x hx
        cases o with
        | none => cases hx
        | some k => cases hx; exact (G.2.1 k (o1.2 k rfl).2.1).1
      refine br_f (nI_pos (by omega)) ⟨vp_in_nI (by omega) (by omega), ba_rd h rfl (by omega) (r1 h (by omega)) ⟨vp_in_nI (by omega) (by omega), ba_rd _ rfl (by omega) o2 (ba_on (rn_m ord o) rfl (fun x hx => by have := ob x hx; omega) (fun e => ?_) (fun x e => ?_))⟩⟩
      · have eo : o = none := by
          cases o with
          | none => rfl
          | some k => cases e
        subst eo
        refine xe_leave (nc := nc) (av := av) (mk := sm h) hnc (by omega) (F.2.2.2.2.2.1 h h (Nat.le_refl _) (by omega)).2 (by omega) (fun j hj => (F.2.2.2.2.1.1 j hj).1) r3 r4 r5 (r6 h (by omega)) (fun av' a_available q1 q2 q3 => ?_)
        exact nm_r (ba_tm h) (nm_r (nI_1 s) (ih h (s + 1) st q av' ud (sm h) sm _ _ _ _ _ _ _ (by omega) (fl_leave F o1 q2 q3) (fun j hj => r1 j (by omega)) r2 q1 (fun j hj => r4 j (by have := (F.2.2.2.2.2.1 h h (Nat.le_refl _) (by omega)).2; omega)) rfl (fun j hj => r6 j (by omega))))
      · cases o with
        | none => cases e
        | some k =>
          obtain ⟨k1, k2, k3, k4⟩ := o1.2 k rfl
          obtain ⟨g1, g2⟩ := G.2.1 k k2
          have ex : x = ord k := by cases e; rfl
          subst ex
          have t0 : ord k ≠ 0 := fun z => by
            have := k3.1
            rw [z, O.2.2.1] at g2
            omega
          obtain ⟨fa, fb, fc⟩ := hF (ord k) g1 t0
          rw [k3.2] at fb fc
          obtain ⟨on, n1, n2⟩ := hns k k3.1 k2
          rw [k3.2] at n1
          show vp_in (nI (ord k)) 8 ∧ _
          refine ⟨vp_in_nI (by omega) (by omega), vp_in_nI (by omega) (by omega), ba_wr (st h) rfl (by omega) (z' := ba_o (rn_m ord on)) (by show a_nextSibling (nI (ord k)).toNatClampNeg = _; rw [nI_clamp (by omega), n2]) (nm_r (nI_1 h) ⟨vp_in_nI (by omega) (by omega), ba_wr (h + 1) rfl (by omega) rfl ?_⟩)⟩
          have top := F.2.2.2.1 h (by omega)
          rw [show fl_lv sm ut (h + 1) h = ut from if_neg (by omega)] at top
          have top' : ld_A (p_v P) nc (p_D P) (p_B P) Ci (fun x => p_D P (p_B P x) (st h)) av := by
            refine ld_A_av top (fun c hc => ?_)
            rcases Classical.em (∃ i, i < ut ∧ ud i = c) with y | y
            · rw [fl_r_t y]
            · rw [fl_r_f y]
              apply Classical.byContradiction
              intro w
              exact y (F.2.2.2.2.1.2.2 c hc w)
          refine xe_enter (S0 := fun x => p_D P (p_B P x) (st h)) W S2 hnc hC hL hB g1 (by omega) (fun x hx hS => ⟨fun z => ?_, (fc _).mpr (Or.inr hS)⟩) top' F.2.2.2.2.1 r3 r4 r5 (fun f_undoTop a_leaderOf' a_available a_undo XI => ?_)
          · have hS' : p_D P (p_B P x) (st h) := hS
            rw [z] at hS'
            rcases do_le O t1 hS' with y | y
            · rw [y] at fb; omega
            · omega
          · obtain ⟨av', ud', ut', i1, i2, i3, i4, i5, i6, i7, i8, i9⟩ := XI
            have sc : ∀ x, x < p_v P → ((p_D P (p_B P x) (st h) ∨ p_B P x = ord k) ↔ p_D P (p_B P x) (ord k)) := fun x _ => Or.comm.trans (fc _).symm
            have hut' := ho_T_le i2
            refine nm_r (nI_1 s) (ih (h + 2) (s + 1) _ (nu q (st h) (k + 1)) av' ud' ut' (nu sm (h + 1) ut) _ _ _ _ _ _ _ (by omega) (fl_enter G hF W F o1 (ld_A_cg i1 sc) i2 (fun x hx hb => i3 x hx hb (Or.inr hb)) i4 i5 i6 (fun u hu => (hC u hu).2)) (fun j hj => ba_ru (fun _ => r1 j (by omega))) (fun b hb => ?_) i7 i8 i9 (fun j hj => ba_ru (fun _ => r6 j (by omega))))
            rcases Classical.em (b = st h) with z | z
            · rw [z, nu_s, pk_us]
              exact ⟨on, n1, rfl⟩
            · rw [nu_n z, pk_un z]
              exact r2 b hb
theorem xf_25 {post : SX → Prop} {N : Nat} (hN : N ≤ 8) (e : f_blockCount = nI N) (K : ∀ a_cursor : Nat → Int32, (∀ j, j < N → a_cursor j = a_firstChild j) → wpX_enterScope (fun u => match u with | (f_blockLimit, f_valueLimit, f_blockCount, f_valueCount, f_sealed, f_classCount, f_workTop, f_touchedCount, f_undoTop, f_runState, f_runForm, f_here, f_input0, f_input1, f_returned, f_evaluated, a_valueKind, a_valueBlock, a_leaf, a_args, a_exitKind, a_exitValue, a_exitTrue, a_exitFalse, a_predMask, a_order, a_orderIndex, a_idom, a_domMask, a_firstChild, a_nextSibling, a_stack, a_cursor, a_members, a_location, a_classIndex, a_classStart, a_classSize, a_classMarked, a_className, a_useHead, a_useNext, a_work, a_inWork, a_splitter, a_touched, a_leaderOf, a_available, a_undo, a_scopeMark, a_body, a_bodyStart, a_bodyOps, a_bodyEnd, a_env, a_phiNew) => ∃ n73 : Nat, wX_findLeaders_73 post n73 0 0 f_blockLimit f_valueLimit f_blockCount f_valueCount f_sealed f_classCount f_workTop f_touchedCount f_undoTop f_runState f_runForm f_here f_input0 f_input1 f_returned f_evaluated a_valueKind a_valueBlock a_leaf a_args a_exitKind a_exitValue a_exitTrue a_exitFalse a_predMask a_order a_orderIndex a_idom a_domMask a_firstChild a_nextSibling a_stack a_cursor a_members a_location a_classIndex a_classStart a_classSize a_classMarked a_className a_useHead a_useNext a_work a_inWork a_splitter a_touched a_leaderOf a_available a_undo a_scopeMark a_body a_bodyStart a_bodyOps a_bodyEnd a_env a_phiNew) (f_blockLimit, f_valueLimit, f_blockCount, f_valueCount, f_sealed, f_classCount, f_workTop, f_touchedCount, 0, f_runState, f_runForm, f_here, f_input0, f_input1, f_returned, f_evaluated, a_valueKind, a_valueBlock, a_leaf, a_args, a_exitKind, a_exitValue, a_exitTrue, a_exitFalse, a_predMask, a_order, a_orderIndex, a_idom, a_domMask, a_firstChild, a_nextSibling, upd a_stack 0 0, a_cursor, a_members, a_location, a_classIndex, a_classStart, a_classSize, a_classMarked, a_className, a_useHead, a_useNext, a_work, a_inWork, a_splitter, a_touched, a_leaderOf, a_available, a_undo, a_scopeMark, a_body, a_bodyStart, a_bodyOps, a_bodyEnd, a_env, a_phiNew) 0 0) :
    ∀ (n i : Nat) (a_cursor : Nat → Int32), i ≤ N → N - i < n → (∀ j, j < i → a_cursor j = a_firstChild j) → wX_findLeaders_25 post f_blockLimit f_valueLimit f_blockCount f_valueCount f_sealed f_classCount f_workTop f_touchedCount f_undoTop f_runState f_runForm f_here f_input0 f_input1 f_returned f_evaluated n (nI i) a_valueKind a_valueBlock a_leaf a_args a_exitKind a_exitValue a_exitTrue a_exitFalse a_predMask a_order a_orderIndex a_idom a_domMask a_firstChild a_nextSibling a_stack a_cursor a_members a_location a_classIndex a_classStart a_classSize a_classMarked a_className a_useHead a_useNext a_work a_inWork a_splitter a_touched a_leaderOf a_available a_undo a_scopeMark a_body a_bodyStart a_bodyOps a_bodyEnd a_env a_phiNew := by
  intro n
  induction n with
  | zero => intro i _ _ h; omega
  | succ n ih =>
    intro i a_cursor hi hn hf
    rw [wX_findLeaders_25]
    refine pk_le N i (fun h => ?_) (fun h => ⟨vp_in_nI (by omega) (by omega), vp_in_nI (by omega) (by omega), ba_wr i rfl (by omega) (z' := a_firstChild i) (by rw [nI_clamp (by omega)]) (nm_r (nI_1 i) (ih (i + 1) _ (by omega) (by omega) (fun j hj => ?_)))⟩) (hx := e)
    · have e : i = N := by omega
      subst e
      exact nm_e (K _ hf)
    · rcases Classical.em (j = i) with z | z
      · rw [z, pk_us]
      · rw [pk_un z]; exact hf j (by omega)
theorem xf_2 {post : SX → Prop} {N : Nat} (hN : N ≤ 32) (e : f_classCount = nI N) (K : ∀ a_available : Nat → Int32, (∀ j, j < N → a_available j = -1) → ∃ n, wX_findLeaders_25 post f_blockLimit f_valueLimit f_blockCount f_valueCount f_sealed f_classCount f_workTop f_touchedCount f_undoTop f_runState f_runForm f_here f_input0 f_input1 f_returned f_evaluated n 0 a_valueKind a_valueBlock a_leaf a_args a_exitKind a_exitValue a_exitTrue a_exitFalse a_predMask a_order a_orderIndex a_idom a_domMask a_firstChild a_nextSibling a_stack a_cursor a_members a_location a_classIndex a_classStart a_classSize a_classMarked a_className a_useHead a_useNext a_work a_inWork a_splitter a_touched a_leaderOf a_available a_undo a_scopeMark a_body a_bodyStart a_bodyOps a_bodyEnd a_env a_phiNew) :
    ∀ (n i : Nat) (a_available : Nat → Int32), i ≤ N → N - i < n → (∀ j, j < i → a_available j = -1) → wX_findLeaders_2 post f_blockLimit f_valueLimit f_blockCount f_valueCount f_sealed f_classCount f_workTop f_touchedCount f_undoTop f_runState f_runForm f_here f_input0 f_input1 f_returned f_evaluated n (nI i) a_valueKind a_valueBlock a_leaf a_args a_exitKind a_exitValue a_exitTrue a_exitFalse a_predMask a_order a_orderIndex a_idom a_domMask a_firstChild a_nextSibling a_stack a_cursor a_members a_location a_classIndex a_classStart a_classSize a_classMarked a_className a_useHead a_useNext a_work a_inWork a_splitter a_touched a_leaderOf a_available a_undo a_scopeMark a_body a_bodyStart a_bodyOps a_bodyEnd a_env a_phiNew := by
  intro n
  induction n with
  | zero => intro i _ _ h; omega
  | succ n ih =>
    intro i a_available hi hn hf
    rw [wX_findLeaders_2]
    refine pk_le N i (fun h => ?_) (fun h => ⟨vp_in_nI (by omega) (by omega), ba_wr i rfl (by omega) rfl (nm_r (nI_1 i) (ih (i + 1) _ (by omega) (by omega) (ba_f1 hf)))⟩) (hx := e)
    have e : i = N := by omega
    subst e
    exact K _ hf
theorem xf_lead {post : SX → Prop} (W : p_W P) (S2 : p_S2 P) (G : ob_G P ord oi) (I0 : I 0 = 0) (hF : do_F (p_b P) (p_E P) oi I) (hnc : nc ≤ 32) (hC : ∀ u, u < p_v P → a_classIndex u = nI (Ci u) ∧ Ci u < nc) (hL : ∀ u w, u < p_v P → w < p_v P → Ci u = Ci w → p_Lab P u w) (hB : bo_S P 0 (fun _ => True) (p_b P) 32 a_body a_bodyStart a_bodyOps a_bodyEnd)
    (eb : f_blockCount = nI (p_b P)) (ec : f_classCount = nI nc) (hfc : ∀ b, b < p_b P → ∃ o, ba_F (xd_k I ord b) (p_b P) 1 o ∧ a_firstChild b = ba_o (rn_m ord o)) (hns : ∀ j, 1 ≤ j → j < p_b P → ∃ o, ba_F (xd_k I ord (I (ord j))) (p_b P) (j + 1) o ∧ a_nextSibling (ord j) = ba_o (rn_m ord o))
    (HK : ∀ (f_undoTop : Int32) (a_stack a_cursor a_leaderOf a_available a_undo a_scopeMark : Nat → Int32), (∀ x, x < p_v P → fl_L P Ci a_leaderOf x) → post (f_blockLimit, f_valueLimit, f_blockCount, f_valueCount, f_sealed, f_classCount, f_workTop, f_touchedCount, f_undoTop, f_runState, f_runForm, f_here, f_input0, f_input1, f_returned, f_evaluated, a_valueKind, a_valueBlock, a_leaf, a_args, a_exitKind, a_exitValue, a_exitTrue, a_exitFalse, a_predMask, a_order, a_orderIndex, a_idom, a_domMask, a_firstChild, a_nextSibling, a_stack, a_cursor, a_members, a_location, a_classIndex, a_classStart, a_classSize, a_classMarked, a_className, a_useHead, a_useNext, a_work, a_inWork, a_splitter, a_touched, a_leaderOf, a_available, a_undo, a_scopeMark, a_body, a_bodyStart, a_bodyOps, a_bodyEnd, a_env, a_phiNew)) : wpX_findLeaders post (f_blockLimit, f_valueLimit, f_blockCount, f_valueCount, f_sealed, f_classCount, f_workTop, f_touchedCount, f_undoTop, f_runState, f_runForm, f_here, f_input0, f_input1, f_returned, f_evaluated, a_valueKind, a_valueBlock, a_leaf, a_args, a_exitKind, a_exitValue, a_exitTrue, a_exitFalse, a_predMask, a_order, a_orderIndex, a_idom, a_domMask, a_firstChild, a_nextSibling, a_stack, a_cursor, a_members, a_location, a_classIndex, a_classStart, a_classSize, a_classMarked, a_className, a_useHead, a_useNext, a_work, a_inWork, a_splitter, a_touched, a_leaderOf, a_available, a_undo, a_scopeMark, a_body, a_bodyStart, a_bodyOps, a_bodyEnd, a_env, a_phiNew) := by
  have hv32 := W.2.2.1
  have hb8 := W.2.1
  have hb1 := W.1
  have O := G.1
  refine ⟨nc + 1, xf_2 hnc ec (fun a_available ha => ⟨p_b P + 1, xf_25 hb8 eb (fun a_cursor hc => ?_) (p_b P + 1) 0 _ (by omega) (by omega) (fun j hj => by omega)⟩) (nc + 1) 0 _ (by omega) (by omega) ba_f0⟩
  refine xe_enter (t := 0) (d := 0) (S0 := fun _ => False) (av := fun _ => none) (ud := fun _ => 0) (ut := 0) W S2 hnc hC hL hB (by omega) (by omega) (fun _ _ z => z.elim) (fun c hc => ⟨fun w z => (by cases z), fun _ _ _ _ z => z⟩) (ho_T_0 (fun c _ z => z rfl)) ha (fun j hj => by omega) rfl (fun f_undoTop a_leaderOf' a_available a_undo XI => ⟨17, ?_⟩)
  obtain ⟨av', ud', ut', i1, i2, i3, i4, i5, i6, i7, i8, i9⟩ := XI
  have v0 : ∀ c, c < p_b P → (fl_Vs oi I (fun _ => 1) c ↔ c = 0) := by
    intro c hc
    refine ⟨fun z => z.elim (fun z => z) (fun z => ?_), Or.inl⟩
    have z' : oi c < 1 := z
    exact O.2.1 c 0 hc (by omega) (by rw [O.2.2.1]; omega)
  have sc : ∀ x, x < p_v P → ((False ∨ p_B P x = 0) ↔ p_D P (p_B P x) 0) := fun x _ => ⟨fun z => z.elim False.elim (fun z => by rw [z]; exact gr_D_rf 0), fun z => Or.inr (gr_D_to0 z)⟩
  refine xf_73 W S2 G hF hnc hC hL hB hns HK 17 1 0 (fun _ => 0) (fun _ => 1) av' ud' ut' (fun _ => 0) _ _ _ _ _ _ _ (by omega) ⟨fun j hj => ⟨hb1, Or.inl rfl, by omega⟩, fun b hb => ⟨Nat.le_refl _, fun z => Or.inl ⟨0, by omega, ((v0 b hb).mp z).symm⟩⟩, fun x hx z => ?_, fun j hj => ?_, i2, fun i j _ _ => ⟨Nat.le_refl _, Nat.zero_le _⟩, ?_⟩ (fun j hj => ?_) (fun b hb => ?_) i7 i8 i9 (fun j hj => ?_)
  · have hb0 := (v0 _ (W.2.2.2.1 x hx).2.1).mp z
    obtain ⟨a1, a2⟩ := i3 x hx hb0 (Or.inr hb0)
    cases e : av' (Ci x) with
    | none => exact absurd e a1
    | some w =>
      refine ⟨w, by rw [a2, e]; rfl, ?_⟩
      have := ((ld_A_cg i1 sc) _ (hC x hx).2).1 w e
      rw [hb0]
      exact this
  · have e : j = 0 := by omega
    subst e
    rw [show fl_lv (fun _ => 0) ut' 1 0 = ut' from if_neg (by omega)]
    refine ld_A_av (ld_A_cg i1 sc) (fun c hc => ?_)
    rcases Classical.em (∃ i, i < ut' ∧ ud' i = c) with y | y
    · rw [fl_r_t y]
    · rw [fl_r_f y]
      apply Eq.symm
      apply Classical.byContradiction
      intro w
      exact y (i2.2.2 c hc w)
  · have := show cn (fun k => ¬ fl_Vs oi I (fun _ => 1) k ∨ k = 0) (p_b P) = cn (fun b => ¬ fl_Vs oi I (fun _ => 1) b) (p_b P) + 1 from cn_add (P := fun b => ¬ fl_Vs oi I (fun _ => 1) b) (a := 0) (fun z => z (Or.inl rfl)) (N := p_b P) (by omega)
    have e : cn (fun k => ¬ fl_Vs oi I (fun _ => 1) k ∨ k = 0) (p_b P) = p_b P := cn_all (fun k hk => by
      rcases Classical.em (k = 0) with z | z
      · exact Or.inr z
      · exact Or.inl (fun w => z ((v0 k hk).mp w)))
    omega
  · have e : j = 0 := by omega
    subst e; rw [pk_us]; rfl
  · obtain ⟨o, o1, o2⟩ := hfc b hb
    exact ⟨o, o1, by rw [hc b hb]; exact o2⟩
  · have e : j = 0 := by omega
    subst e; rw [pk_us]
end XF
end
section
/-! X: makeReducedOperands, seal -/
def xz_a (P : PT) (lf : Nat → Nat) (v i : Nat) (ar0 ar : Nat → Int32) : Prop :=
  (∀ w j, w < p_v P → j < 8 → (w < v ∨ (w = v ∧ j < i)) → ar (256 + w * 8 + j) = ba_o (rn_m lf (p_A P w j))) ∧ (∀ k, k < 256 → ar k = ar0 k)
def xz_e (P : PT) (lf : Nat → Nat) (b : Nat) (ev0 ev : Nat → Int32) : Prop :=
  (∀ c, c < b → ev (8 + c) = ba_o (rn_m lf (p_x P c))) ∧ (∀ k, k < 8 → ev k = ev0 k)
section XZ
variable {f_blockLimit f_valueLimit f_blockCount f_valueCount f_sealed f_classCount f_workTop f_touchedCount f_undoTop f_runState f_runForm f_here f_input0 f_input1 f_returned f_evaluated : Int32} {a_valueKind a_valueBlock a_leaf a_args a_exitKind a_exitValue a_exitTrue a_exitFalse a_predMask a_order a_orderIndex a_idom a_domMask a_firstChild a_nextSibling a_stack a_cursor a_members a_location a_classIndex a_classStart a_classSize a_classMarked a_className a_useHead a_useNext a_work a_inWork a_splitter a_touched a_leaderOf a_available a_undo a_scopeMark a_body a_bodyStart a_bodyOps a_bodyEnd a_env a_phiNew : Nat → Int32} {P : PT}
theorem xz_71 {post : SX → Prop} (W : p_W P) {lf : Nat → Nat} (hlf : ∀ x, x < p_v P → a_leaderOf x = nI (lf x) ∧ lf x < p_v P) (eb : f_blockCount = nI (p_b P)) {ev0 : Nat → Int32} (h0 : ∀ b, b < p_b P → ev0 b = ba_o (p_x P b))
    (HK : ∀ a_exitValue : Nat → Int32, xz_e P lf (p_b P) ev0 a_exitValue → post (f_blockLimit, f_valueLimit, f_blockCount, f_valueCount, f_sealed, f_classCount, f_workTop, f_touchedCount, f_undoTop, f_runState, f_runForm, f_here, f_input0, f_input1, f_returned, f_evaluated, a_valueKind, a_valueBlock, a_leaf, a_args, a_exitKind, a_exitValue, a_exitTrue, a_exitFalse, a_predMask, a_order, a_orderIndex, a_idom, a_domMask, a_firstChild, a_nextSibling, a_stack, a_cursor, a_members, a_location, a_classIndex, a_classStart, a_classSize, a_classMarked, a_className, a_useHead, a_useNext, a_work, a_inWork, a_splitter, a_touched, a_leaderOf, a_available, a_undo, a_scopeMark, a_body, a_bodyStart, a_bodyOps, a_bodyEnd, a_env, a_phiNew)) :
    ∀ (n b : Nat) (a_exitValue : Nat → Int32), b ≤ p_b P → p_b P - b < n → xz_e P lf b ev0 a_exitValue → wX_makeReducedOperands_71 post f_blockLimit f_valueLimit f_blockCount f_valueCount f_sealed f_classCount f_workTop f_touchedCount f_undoTop f_runState f_runForm f_here f_input0 f_input1 f_returned f_evaluated n (nI b) a_valueKind a_valueBlock a_leaf a_args a_exitKind a_exitValue a_exitTrue a_exitFalse a_predMask a_order a_orderIndex a_idom a_domMask a_firstChild a_nextSibling a_stack a_cursor a_members a_location a_classIndex a_classStart a_classSize a_classMarked a_className a_useHead a_useNext a_work a_inWork a_splitter a_touched a_leaderOf a_available a_undo a_scopeMark a_body a_bodyStart a_bodyOps a_bodyEnd a_env a_phiNew := by
  have hv32 := W.2.2.1
  have hb8 := W.2.1
  intro n
  induction n with
  | zero => intro b _ _ h; omega
  | succ n ih =>
    intro b a_exitValue hb hn E
    rw [wX_makeReducedOperands_71]
    refine pk_le (p_b P) b (fun h => ?_) (fun h => ⟨vp_in_nI (by omega) (by omega), ba_rd b rfl (by omega) ((E.2 b (by omega)).trans (h0 b h)) ?_⟩) (hx := eb)
    · have e : b = p_b P := by omega
      subst e
      exact HK _ E
    · have wb := W.2.2.2.2 b h
      have N : ∀ o : Option Nat, o = rn_m lf (p_x P b) → wX_makeReducedOperands_97 post (wX_makeReducedOperands_71 post f_blockLimit f_valueLimit f_blockCount f_valueCount f_sealed f_classCount f_workTop f_touchedCount f_undoTop f_runState f_runForm f_here f_input0 f_input1 f_returned f_evaluated n) (nI b) (ba_o o) f_blockLimit f_valueLimit f_blockCount f_valueCount f_sealed f_classCount f_workTop f_touchedCount f_undoTop f_runState f_runForm f_here f_input0 f_input1 f_returned f_evaluated a_valueKind a_valueBlock a_leaf a_args a_exitKind a_exitValue a_exitTrue a_exitFalse a_predMask a_order a_orderIndex a_idom a_domMask a_firstChild a_nextSibling a_stack a_cursor a_members a_location a_classIndex a_classStart a_classSize a_classMarked a_className a_useHead a_useNext a_work a_inWork a_splitter a_touched a_leaderOf a_available a_undo a_scopeMark a_body a_bodyStart a_bodyOps a_bodyEnd a_env a_phiNew := by
        intro o ho
        unfold wX_makeReducedOperands_97
        refine ⟨pk_in (8 + b) 16 (by omega) (ba_8p b), ba_wr (8 + b) (ba_8p b) (by omega) rfl (nm_r (nI_1 b) (ih (b + 1) _ (by omega) (by omega) ⟨fun c hc => ?_, fun k hk => ?_⟩))⟩
        · rcases Classical.em (c = b) with z | z
          · rw [z, pk_us, ho]
          · rw [pk_un (by omega)]; exact E.1 c (by omega)
        · rw [pk_un (by omega)]; exact E.2 k hk
      refine ba_on (p_x P b) rfl (fun x hx => by have := wb.2.1 x hx; omega) (fun e => N (p_x P b) (by rw [e]; rfl)) (fun x hx => ?_)
      have hx' := wb.2.1 x hx
      rw [hx]
      refine ⟨vp_in_nI (by omega) (by omega), ba_rd x rfl (by omega) (hlf x hx').1 (N (some (lf x)) (by rw [hx]; rfl))⟩
theorem xz_12 {post : SX → Prop} {J2 : Int32 → (Nat → Int32) → (Nat → Int32) → (Nat → Int32) → (Nat → Int32) → (Nat → Int32) → (Nat → Int32) → (Nat → Int32) → (Nat → Int32) → (Nat → Int32) → (Nat → Int32) → (Nat → Int32) → (Nat → Int32) → (Nat → Int32) → (Nat → Int32) → (Nat → Int32) → (Nat → Int32) → (Nat → Int32) → (Nat → Int32) → (Nat → Int32) → (Nat → Int32) → (Nat → Int32) → (Nat → Int32) → (Nat → Int32) → (Nat → Int32) → (Nat → Int32) → (Nat → Int32) → (Nat → Int32) → (Nat → Int32) → (Nat → Int32) → (Nat → Int32) → (Nat → Int32) → (Nat → Int32) → (Nat → Int32) → (Nat → Int32) → (Nat → Int32) → (Nat → Int32) → (Nat → Int32) → (Nat → Int32) → (Nat → Int32) → (Nat → Int32) →  Prop} (W : p_W P) {lf : Nat → Nat} (hlf : ∀ x, x < p_v P → a_leaderOf x = nI (lf x) ∧ lf x < p_v P) {ar0 : Nat → Int32} (h0 : ∀ v i, v < p_v P → i < 8 → ar0 (v * 8 + i) = ba_o (p_A P v i)) {v : Nat} (hv : v < p_v P)
    (HK : ∀ a_args : Nat → Int32, xz_a P lf (v + 1) 0 ar0 a_args → J2 (nI (v + 1)) a_valueKind a_valueBlock a_leaf a_args a_exitKind a_exitValue a_exitTrue a_exitFalse a_predMask a_order a_orderIndex a_idom a_domMask a_firstChild a_nextSibling a_stack a_cursor a_members a_location a_classIndex a_classStart a_classSize a_classMarked a_className a_useHead a_useNext a_work a_inWork a_splitter a_touched a_leaderOf a_available a_undo a_scopeMark a_body a_bodyStart a_bodyOps a_bodyEnd a_env a_phiNew) :
    ∀ (n i : Nat) (a_args : Nat → Int32), i ≤ 8 → 8 - i < n → xz_a P lf v i ar0 a_args → wX_makeReducedOperands_12 post J2 (nI v) f_blockLimit f_valueLimit f_blockCount f_valueCount f_sealed f_classCount f_workTop f_touchedCount f_undoTop f_runState f_runForm f_here f_input0 f_input1 f_returned f_evaluated n (nI i) a_valueKind a_valueBlock a_leaf a_args a_exitKind a_exitValue a_exitTrue a_exitFalse a_predMask a_order a_orderIndex a_idom a_domMask a_firstChild a_nextSibling a_stack a_cursor a_members a_location a_classIndex a_classStart a_classSize a_classMarked a_className a_useHead a_useNext a_work a_inWork a_splitter a_touched a_leaderOf a_available a_undo a_scopeMark a_body a_bodyStart a_bodyOps a_bodyEnd a_env a_phiNew := by
  have hv32 := W.2.2.1
  have wv := W.2.2.2.1 v hv
  intro n
  induction n with
  | zero => intro i _ _ h; omega
  | succ n ih =>
    intro i a_args hi hn E
    rw [wX_makeReducedOperands_12]
    refine pk_le 8 i (fun h => nm_r (nI_1 v) (HK _ ⟨fun w j hw hj hc => E.1 w j hw hj (by omega), E.2⟩)) (fun h => ⟨pk_in (v * 8 + i) 512 (by omega) (ba_ix8 v i), ba_rd (v * 8 + i) (ba_ix8 v i) (by omega) ((E.2 _ (by omega)).trans (h0 v i hv h)) ?_⟩)
    have N : ∀ o : Option Nat, o = rn_m lf (p_A P v i) → wX_makeReducedOperands_41 post J2 (wX_makeReducedOperands_12 post J2 (nI v) f_blockLimit f_valueLimit f_blockCount f_valueCount f_sealed f_classCount f_workTop f_touchedCount f_undoTop f_runState f_runForm f_here f_input0 f_input1 f_returned f_evaluated n) (nI v) (nI i) (ba_o o) f_blockLimit f_valueLimit f_blockCount f_valueCount f_sealed f_classCount f_workTop f_touchedCount f_undoTop f_runState f_runForm f_here f_input0 f_input1 f_returned f_evaluated a_valueKind a_valueBlock a_leaf a_args a_exitKind a_exitValue a_exitTrue a_exitFalse a_predMask a_order a_orderIndex a_idom a_domMask a_firstChild a_nextSibling a_stack a_cursor a_members a_location a_classIndex a_classStart a_classSize a_classMarked a_className a_useHead a_useNext a_work a_inWork a_splitter a_touched a_leaderOf a_available a_undo a_scopeMark a_body a_bodyStart a_bodyOps a_bodyEnd a_env a_phiNew := by
      intro o ho
      unfold wX_makeReducedOperands_41
      refine ⟨pk_in (256 + v * 8 + i) 512 (by omega) (ba_ixr v i), ba_wr (256 + v * 8 + i) (ba_ixr v i) (by omega) rfl (nm_r (nI_1 i) (ih (i + 1) _ (by omega) (by omega) ⟨fun w j hw hj hc => ?_, fun k hk => ?_⟩))⟩
      · rcases Classical.em (w = v ∧ j = i) with z | z
        · rw [z.1, z.2, pk_us, ho]
        · rw [pk_un (by omega)]; exact E.1 w j hw hj (by omega)
      · rw [pk_un (by omega)]; exact E.2 k hk
    refine ba_on (p_A P v i) rfl (fun x hx => by have := wv.2.2.1 i x h hx; omega) (fun e => N (p_A P v i) (by rw [e]; rfl)) (fun x hx => ?_)
    have hx' := wv.2.2.1 i x h hx
    rw [hx]
    exact ⟨vp_in_nI (by omega) (by omega), ba_rd x rfl (by omega) (hlf x hx').1 (N (some (lf x)) (by rw [hx]; rfl))⟩
theorem xz_2 {post : SX → Prop} (W : p_W P) {lf : Nat → Nat} (hlf : ∀ x, x < p_v P → a_leaderOf x = nI (lf x) ∧ lf x < p_v P) {ar0 : Nat → Int32} (h0 : ∀ v i, v < p_v P → i < 8 → ar0 (v * 8 + i) = ba_o (p_A P v i)) (ev : f_valueCount = nI (p_v P))
    (HK : ∀ a_args : Nat → Int32, xz_a P lf (p_v P) 0 ar0 a_args → ∃ n, wX_makeReducedOperands_71 post f_blockLimit f_valueLimit f_blockCount f_valueCount f_sealed f_classCount f_workTop f_touchedCount f_undoTop f_runState f_runForm f_here f_input0 f_input1 f_returned f_evaluated n 0 a_valueKind a_valueBlock a_leaf a_args a_exitKind a_exitValue a_exitTrue a_exitFalse a_predMask a_order a_orderIndex a_idom a_domMask a_firstChild a_nextSibling a_stack a_cursor a_members a_location a_classIndex a_classStart a_classSize a_classMarked a_className a_useHead a_useNext a_work a_inWork a_splitter a_touched a_leaderOf a_available a_undo a_scopeMark a_body a_bodyStart a_bodyOps a_bodyEnd a_env a_phiNew) :
    ∀ (n v : Nat) (a_args : Nat → Int32), v ≤ p_v P → p_v P - v < n → xz_a P lf v 0 ar0 a_args → wX_makeReducedOperands_2 post f_blockLimit f_valueLimit f_blockCount f_valueCount f_sealed f_classCount f_workTop f_touchedCount f_undoTop f_runState f_runForm f_here f_input0 f_input1 f_returned f_evaluated n (nI v) a_valueKind a_valueBlock a_leaf a_args a_exitKind a_exitValue a_exitTrue a_exitFalse a_predMask a_order a_orderIndex a_idom a_domMask a_firstChild a_nextSibling a_stack a_cursor a_members a_location a_classIndex a_classStart a_classSize a_classMarked a_className a_useHead a_useNext a_work a_inWork a_splitter a_touched a_leaderOf a_available a_undo a_scopeMark a_body a_bodyStart a_bodyOps a_bodyEnd a_env a_phiNew := by
  have hv32 := W.2.2.1
  intro n
  induction n with
  | zero => intro v _ _ h; omega
  | succ n ih =>
    intro v a_args hv hn E
    rw [wX_makeReducedOperands_2]
    refine pk_le (p_v P) v (fun h => ?_) (fun h => ⟨9, xz_12 W hlf h0 h (fun a_args E' => ih (v + 1) _ (by omega) (by omega) E') 9 0 _ (by omega) (by omega) E⟩) (hx := ev)
    have e : v = p_v P := by omega
    subst e
    exact HK _ E
theorem xz_red {post : SX → Prop} (W : p_W P) (hX : p_X P a_valueKind a_valueBlock a_leaf a_args a_exitKind a_exitValue a_exitTrue a_exitFalse) {lf : Nat → Nat} (hlf : ∀ x, x < p_v P → a_leaderOf x = nI (lf x) ∧ lf x < p_v P) (ev : f_valueCount = nI (p_v P)) (eb : f_blockCount = nI (p_b P))
    (HK : ∀ a_args a_exitValue : Nat → Int32, p_X P a_valueKind a_valueBlock a_leaf a_args a_exitKind a_exitValue a_exitTrue a_exitFalse → (∀ v i, v < p_v P → i < 8 → a_args (256 + v * 8 + i) = ba_o (rn_m lf (p_A P v i))) → (∀ b, b < p_b P → a_exitValue (8 + b) = ba_o (rn_m lf (p_x P b))) → post (f_blockLimit, f_valueLimit, f_blockCount, f_valueCount, f_sealed, f_classCount, f_workTop, f_touchedCount, f_undoTop, f_runState, f_runForm, f_here, f_input0, f_input1, f_returned, f_evaluated, a_valueKind, a_valueBlock, a_leaf, a_args, a_exitKind, a_exitValue, a_exitTrue, a_exitFalse, a_predMask, a_order, a_orderIndex, a_idom, a_domMask, a_firstChild, a_nextSibling, a_stack, a_cursor, a_members, a_location, a_classIndex, a_classStart, a_classSize, a_classMarked, a_className, a_useHead, a_useNext, a_work, a_inWork, a_splitter, a_touched, a_leaderOf, a_available, a_undo, a_scopeMark, a_body, a_bodyStart, a_bodyOps, a_bodyEnd, a_env, a_phiNew)) : wpX_makeReducedOperands post (f_blockLimit, f_valueLimit, f_blockCount, f_valueCount, f_sealed, f_classCount, f_workTop, f_touchedCount, f_undoTop, f_runState, f_runForm, f_here, f_input0, f_input1, f_returned, f_evaluated, a_valueKind, a_valueBlock, a_leaf, a_args, a_exitKind, a_exitValue, a_exitTrue, a_exitFalse, a_predMask, a_order, a_orderIndex, a_idom, a_domMask, a_firstChild, a_nextSibling, a_stack, a_cursor, a_members, a_location, a_classIndex, a_classStart, a_classSize, a_classMarked, a_className, a_useHead, a_useNext, a_work, a_inWork, a_splitter, a_touched, a_leaderOf, a_available, a_undo, a_scopeMark, a_body, a_bodyStart, a_bodyOps, a_bodyEnd, a_env, a_phiNew) := by
  have hv32 := W.2.2.1
  have hb8 := W.2.1
  obtain ⟨x1, x2, x3, x4, x5, x6, x7, x8⟩ := hX
  refine ⟨p_v P + 1, xz_2 W hlf x4 ev (fun a_args' EA => ⟨p_b P + 1, xz_71 W hlf eb x6 (fun a_exitValue' EE => ?_) (p_b P + 1) 0 _ (by omega) (by omega) ⟨fun c hc => by omega, fun _ _ => rfl⟩⟩) (p_v P + 1) 0 _ (by omega) (by omega) ⟨fun w j _ _ hc => by omega, fun _ _ => rfl⟩⟩
  exact HK _ _ ⟨x1, x2, x3, fun v i hv hi => by rw [EA.2 _ (by omega)]; exact x4 v i hv hi, x5, fun b hb => by rw [EE.2 _ (by omega)]; exact x6 b hb, x7, x8⟩ (fun v i hv hi => EA.1 v i hv hi (by omega)) EE.1
end XZ
theorem cn_map {Q : Nat → Prop} {N m : Nat} (f : Nat → Nat) (h : ∀ v, v < N → Q v → f v < m) (hj : ∀ v w, v < N → w < N → Q v → Q w → f v = f w → v = w) : cn Q N ≤ m := by
  have ex : ∀ r, ∃ v, r < cn Q N → v < N ∧ Q v ∧ cn Q v = r := by
    intro r
    rcases Nat.lt_or_ge r (cn Q N) with z | z
    · obtain ⟨v, a, b, c⟩ := cn_at z
      exact ⟨v, fun _ => ⟨a, b, c⟩⟩
    · exact ⟨0, fun y => by omega⟩
  have hg : ∀ r, r < cn Q N → Classical.choose (ex r) < N ∧ Q (Classical.choose (ex r)) ∧ cn Q (Classical.choose (ex r)) = r := fun r => Classical.choose_spec (ex r)
  refine ba_pig (fun r => f (Classical.choose (ex r))) (fun r hr => ?_) (fun r s hr hs e => ?_)
  · obtain ⟨a, b, _⟩ := hg r hr
    exact h _ a b
  · obtain ⟨a1, a2, a3⟩ := hg r hr
    obtain ⟨b1, b2, b3⟩ := hg s hs
    rw [← a3, ← b3, hj _ _ a1 b1 a2 b2 e]
def p_rep (P : PT) (v : Nat) : Prop := ∀ w, w < v → ¬ p_q P w v
theorem xz_count {P : PT} {nc : Nat} {Ci : Nat → Nat} (h1 : ∀ u, u < p_v P → Ci u < nc) (h2 : ∀ c, c < nc → ∃ u, u < p_v P ∧ Ci u = c) (h3 : ∀ u w, u < p_v P → w < p_v P → (Ci u = Ci w ↔ p_q P u w)) : nc = cn (p_rep P) (p_v P) := by
  apply Nat.le_antisymm
  · have ex : ∀ c, ∃ m, c < nc → m < p_v P ∧ Ci m = c ∧ p_rep P m := by
      intro c
      rcases Nat.lt_or_ge c nc with z | z
      · obtain ⟨m, hm, mn⟩ := pk_least (fun m => m < p_v P ∧ Ci m = c) (h2 c z)
        exact ⟨m, fun _ => ⟨hm.1, hm.2, fun w hw hq => mn w hw ⟨by omega, by rw [(h3 w m (by omega) hm.1).mpr hq]; exact hm.2⟩⟩⟩
      · exact ⟨0, fun y => by omega⟩
    have hg : ∀ c, c < nc → Classical.choose (ex c) < p_v P ∧ Ci (Classical.choose (ex c)) = c ∧ p_rep P (Classical.choose (ex c)) := fun c => Classical.choose_spec (ex c)
    refine cn_inj nc (fun c => Classical.choose (ex c)) _ _ (fun c hc => ⟨(hg c hc).1, (hg c hc).2.2⟩) (fun c d hc hd e => ?_)
    rw [← (hg c hc).2.1, ← (hg d hd).2.1, e]
  · refine cn_map Ci (fun v hv _ => h1 v hv) (fun v w hv hw rv rw' e => ?_)
    have q := (h3 v w hv hw).mp e
    have q' := (h3 w v hw hv).mp e.symm
    rcases Nat.lt_or_ge v w with z | z
    · exact absurd q (rw' v z)
    · rcases Nat.lt_or_ge w v with y | y
      · exact absurd q' (rv w y)
      · omega
/-- the sealed arrays of X -/
def x_S (P : PT) (lf : Nat → Nat) (ar ev dm ci cm lo body bs bo be : Nat → Int32) : Prop :=
  (∀ b, b < p_b P → ∀ a, a < 32 → (bt (dm b) a = true ↔ p_D P a b)) ∧
  (∀ v, v < p_v P → ∃ c m, c < 32 ∧ ci v = nI c ∧ cm c = nI m ∧ m ≤ v ∧ p_q P m v ∧ ∀ w, w < m → ¬ p_q P w v) ∧
  (∀ v, v < p_v P → lo v = nI (lf v) ∧ ld_V (p_v P) (p_D P) (p_B P) (p_q P v) (p_B P v) (lf v)) ∧
  (∀ v i, v < p_v P → i < 8 → ar (256 + v * 8 + i) = ba_o (rn_m lf (p_A P v i))) ∧ (∀ b, b < p_b P → ev (8 + b) = ba_o (rn_m lf (p_x P b))) ∧
  bo_S P 0 (fun _ => True) (p_b P) 32 body bs bo be ∧ bo_S P 1 (fun v => lf v = v) (p_b P) 64 body bs bo be
section XY
variable {f_blockLimit f_valueLimit f_blockCount f_valueCount f_sealed f_classCount f_workTop f_touchedCount f_undoTop f_runState f_runForm f_here f_input0 f_input1 f_returned f_evaluated : Int32} {a_valueKind a_valueBlock a_leaf a_args a_exitKind a_exitValue a_exitTrue a_exitFalse a_predMask a_order a_orderIndex a_idom a_domMask a_firstChild a_nextSibling a_stack a_cursor a_members a_location a_classIndex a_classStart a_classSize a_classMarked a_className a_useHead a_useNext a_work a_inWork a_splitter a_touched a_leaderOf a_available a_undo a_scopeMark a_body a_bodyStart a_bodyOps a_bodyEnd a_env a_phiNew : Nat → Int32} {P : PT}
theorem xz_seal {post : Int32 → SX → Prop} (W : p_W P) (hX : p_X P a_valueKind a_valueBlock a_leaf a_args a_exitKind a_exitValue a_exitTrue a_exitFalse) (eb : f_blockCount = nI (p_b P)) (ev : f_valueCount = nI (p_v P)) (es : f_sealed = 0)
    (H5 : ¬ p_S1 P → post (-5) (f_blockLimit, f_valueLimit, f_blockCount, f_valueCount, f_sealed, f_classCount, f_workTop, f_touchedCount, f_undoTop, f_runState, f_runForm, f_here, f_input0, f_input1, f_returned, f_evaluated, a_valueKind, a_valueBlock, a_leaf, a_args, a_exitKind, a_exitValue, a_exitTrue, a_exitFalse, a_predMask, a_order, a_orderIndex, a_idom, a_domMask, a_firstChild, a_nextSibling, a_stack, a_cursor, a_members, a_location, a_classIndex, a_classStart, a_classSize, a_classMarked, a_className, a_useHead, a_useNext, a_work, a_inWork, a_splitter, a_touched, a_leaderOf, a_available, a_undo, a_scopeMark, a_body, a_bodyStart, a_bodyOps, a_bodyEnd, a_env, a_phiNew))
    (H6 : p_S1 P → ¬ p_S2 P → ∀ a_order a_orderIndex a_stack a_cursor : Nat → Int32, post (-6) (f_blockLimit, f_valueLimit, f_blockCount, f_valueCount, f_sealed, f_classCount, f_workTop, f_touchedCount, f_undoTop, f_runState, f_runForm, f_here, f_input0, f_input1, f_returned, f_evaluated, a_valueKind, a_valueBlock, a_leaf, a_args, a_exitKind, a_exitValue, a_exitTrue, a_exitFalse, a_predMask, a_order, a_orderIndex, a_idom, a_domMask, a_firstChild, a_nextSibling, a_stack, a_cursor, a_members, a_location, a_classIndex, a_classStart, a_classSize, a_classMarked, a_className, a_useHead, a_useNext, a_work, a_inWork, a_splitter, a_touched, a_leaderOf, a_available, a_undo, a_scopeMark, a_body, a_bodyStart, a_bodyOps, a_bodyEnd, a_env, a_phiNew))
    (H7 : p_S1 P → p_S2 P → ¬ p_S3 P → ∀ a_predMask a_order a_orderIndex a_stack a_cursor : Nat → Int32, post (-7) (f_blockLimit, f_valueLimit, f_blockCount, f_valueCount, f_sealed, f_classCount, f_workTop, f_touchedCount, f_undoTop, f_runState, f_runForm, f_here, f_input0, f_input1, f_returned, f_evaluated, a_valueKind, a_valueBlock, a_leaf, a_args, a_exitKind, a_exitValue, a_exitTrue, a_exitFalse, a_predMask, a_order, a_orderIndex, a_idom, a_domMask, a_firstChild, a_nextSibling, a_stack, a_cursor, a_members, a_location, a_classIndex, a_classStart, a_classSize, a_classMarked, a_className, a_useHead, a_useNext, a_work, a_inWork, a_splitter, a_touched, a_leaderOf, a_available, a_undo, a_scopeMark, a_body, a_bodyStart, a_bodyOps, a_bodyEnd, a_env, a_phiNew))
    (H8 : p_S1 P → p_S2 P → p_S3 P → ¬ p_S4 P → ∀ a_predMask a_order a_orderIndex a_idom a_domMask a_firstChild a_nextSibling a_stack a_cursor : Nat → Int32, post (-8) (f_blockLimit, f_valueLimit, f_blockCount, f_valueCount, f_sealed, f_classCount, f_workTop, f_touchedCount, f_undoTop, f_runState, f_runForm, f_here, f_input0, f_input1, f_returned, f_evaluated, a_valueKind, a_valueBlock, a_leaf, a_args, a_exitKind, a_exitValue, a_exitTrue, a_exitFalse, a_predMask, a_order, a_orderIndex, a_idom, a_domMask, a_firstChild, a_nextSibling, a_stack, a_cursor, a_members, a_location, a_classIndex, a_classStart, a_classSize, a_classMarked, a_className, a_useHead, a_useNext, a_work, a_inWork, a_splitter, a_touched, a_leaderOf, a_available, a_undo, a_scopeMark, a_body, a_bodyStart, a_bodyOps, a_bodyEnd, a_env, a_phiNew))
    (H0 : p_S1 P → p_S P → ∀ (lf : Nat → Nat) (f_classCount f_workTop f_touchedCount f_undoTop : Int32) (a_args a_exitValue a_predMask a_order a_orderIndex a_idom a_domMask a_firstChild a_nextSibling a_stack a_cursor a_members a_location a_classIndex a_classStart a_classSize a_classMarked a_className a_useHead a_useNext a_work a_inWork a_splitter a_touched a_leaderOf a_available a_undo a_scopeMark a_body a_bodyStart a_bodyOps a_bodyEnd : Nat → Int32),
      p_X P a_valueKind a_valueBlock a_leaf a_args a_exitKind a_exitValue a_exitTrue a_exitFalse → x_S P lf a_args a_exitValue a_domMask a_classIndex a_className a_leaderOf a_body a_bodyStart a_bodyOps a_bodyEnd → post (nI (cn (p_rep P) (p_v P))) (f_blockLimit, f_valueLimit, f_blockCount, f_valueCount, 1, f_classCount, f_workTop, f_touchedCount, f_undoTop, 0, f_runForm, f_here, f_input0, f_input1, f_returned, f_evaluated, a_valueKind, a_valueBlock, a_leaf, a_args, a_exitKind, a_exitValue, a_exitTrue, a_exitFalse, a_predMask, a_order, a_orderIndex, a_idom, a_domMask, a_firstChild, a_nextSibling, a_stack, a_cursor, a_members, a_location, a_classIndex, a_classStart, a_classSize, a_classMarked, a_className, a_useHead, a_useNext, a_work, a_inWork, a_splitter, a_touched, a_leaderOf, a_available, a_undo, a_scopeMark, a_body, a_bodyStart, a_bodyOps, a_bodyEnd, a_env, a_phiNew)) : wpX_seal post (f_blockLimit, f_valueLimit, f_blockCount, f_valueCount, f_sealed, f_classCount, f_workTop, f_touchedCount, f_undoTop, f_runState, f_runForm, f_here, f_input0, f_input1, f_returned, f_evaluated, a_valueKind, a_valueBlock, a_leaf, a_args, a_exitKind, a_exitValue, a_exitTrue, a_exitFalse, a_predMask, a_order, a_orderIndex, a_idom, a_domMask, a_firstChild, a_nextSibling, a_stack, a_cursor, a_members, a_location, a_classIndex, a_classStart, a_classSize, a_classMarked, a_className, a_useHead, a_useNext, a_work, a_inWork, a_splitter, a_touched, a_leaderOf, a_available, a_undo, a_scopeMark, a_body, a_bodyStart, a_bodyOps, a_bodyEnd, a_env, a_phiNew) := by
  have hv32 := W.2.2.1
  refine br_t es (xp_all W hX eb (fun s1 => br_f (by decide) ?_) (fun s1 => br_t rfl (H5 s1)))
  refine xo_orderBlocks W hX eb (fun a_order a_orderIndex a_stack a_cursor r R => ?_)
  rcases R with ⟨e, s2, ord, oi, G, rk, ro⟩ | ⟨e, s2⟩
  · subst e
    refine br_f (by decide) (xp_preds W hX eb (fun a_predMask hM => xp_phis W hX eb ev hM (fun s3 => br_f (by decide) ?_) (fun s3 => br_t rfl (H7 s1 s2 s3 _ _ _ _ _))))
    refine xd_doms W G eb ro rk hM (fun a_idom a_domMask a_firstChild a_nextSibling RD => ?_)
    obtain ⟨I, i0, F, hd, hfc, hns⟩ := RD
    refine xu_scope W hX eb ev hd (fun s4 => br_f (by decide) ?_) (fun s4 => br_t rfl (H8 s1 s2 s3 s4 _ _ _ _ _ _ _ _ _))
    refine xi_init W s3 hX ev (fun nc0 Ci0 M Lc Cs Sz a_members a_location a_classIndex a_classStart a_classSize a_classMarked hP hl RA => ?_)
    refine xl_lists W hX ev (fun a_useHead a_useNext hL => ?_)
    refine xr_refine W s3 hL rfl hP hl RA (fun f_classCount f_workTop f_touchedCount a_members a_location a_classIndex a_classStart a_classSize a_classMarked a_work a_inWork a_splitter a_touched RR => ?_)
    obtain ⟨nc, Ci, ec, hnc, hC, hC2, hC3⟩ := RR
    refine xr_names hv32 ev (fun u hu => (hC u hu).1) (fun u hu => by have := (hC u hu).2; omega) (fun a_className hcm => ?_)
    refine xb_make (f := 0) (kp := fun _ => True) (lf := fun _ => 0) W hX ev eb (by omega) (fun v hv => Or.inl ⟨rfl, trivial⟩) (fun body bs bo be _ _ _ _ B0 => ?_)
    have hLab : ∀ u w, u < p_v P → w < p_v P → Ci u = Ci w → p_Lab P u w := fun u w hu hw e => cg_E_lab ((hC3 u w hu hw).mp e)
    refine xf_lead W s2 G i0 F (by omega) hC hLab B0 eb ec hfc hns (fun f_undoTop a_stack a_cursor a_leaderOf a_available a_undo a_scopeMark hlo => ?_)
    have exl : ∀ x, ∃ w, x < p_v P → a_leaderOf x = nI w ∧ ld_V (p_v P) (p_D P) (p_B P) (p_q P x) (p_B P x) w := by
      intro x
      rcases Nat.lt_or_ge x (p_v P) with hx | hx
      · obtain ⟨w, w1, w2, w3, w4, w5⟩ := hlo x hx
        refine ⟨w, fun _ => ⟨w1, w2, (hC3 x w hx w2).mp w3.symm, w4, fun s hs hq hS => w5 s hs ((hC3 s x hs hx).mpr (cg_E_sy (p_H W s3) hq)) hS⟩⟩
      · exact ⟨0, fun y => by omega⟩
    have hlf : ∀ x, x < p_v P → a_leaderOf x = nI (Classical.choose (exl x)) ∧ ld_V (p_v P) (p_D P) (p_B P) (p_q P x) (p_B P x) (Classical.choose (exl x)) := fun x => Classical.choose_spec (exl x)
    generalize elf : (fun x => Classical.choose (exl x)) = lf
    have hlf' : ∀ x, x < p_v P → a_leaderOf x = nI (lf x) ∧ ld_V (p_v P) (p_D P) (p_B P) (p_q P x) (p_B P x) (lf x) := by
      intro x hx
      rw [← elf]
      exact hlf x hx
    refine xz_red W hX (fun x hx => ⟨(hlf' x hx).1, (hlf' x hx).2.1⟩) ev eb (fun a_args a_exitValue hX' ra re => ?_)
    refine xb_make (f := 1) (kp := fun v => lf v = v) (lf := lf) W hX' ev eb (by omega) (fun v hv => Or.inr ⟨rfl, (hlf' v hv).1, (hlf' v hv).2.1, Iff.rfl⟩) (fun body' bs' bo' be' e0 e1 e2 e3 B1 => ?_)
    have enc := xz_count (fun u hu => (hC u hu).2) hC2 hC3
    rw [ec, enc]
    refine H0 s1 ⟨s2, s3, s4⟩ lf _ _ _ _ _ _ _ _ _ _ _ _ _ _ _ _ _ _ _ _ _ _ _ _ _ _ _ _ _ _ _ _ _ _ _ _ hX' ⟨hd, fun v hv => ?_, hlf', ra, re, bo_S_cg B0 W.2.1 e0 (fun j hj => e1 j (by have := W.2.1; omega)) (fun j hj => e2 j (by have := W.2.1; omega)) (fun j hj => e3 j (by have := W.2.1; omega)), B1⟩
    obtain ⟨m, m1, m2, m3, m4⟩ := hcm v hv
    exact ⟨Ci v, m, by have := (hC v hv).2; omega, (hC v hv).1, m3, m1, (hC3 m v (by omega) hv).mp m2, fun w hw hq => m4 w hw ((hC3 w v (by omega) hv).mpr hq)⟩
  · subst e
    exact br_t rfl (H6 s1 s2 _ _ _ _)
end XY
end
section
/-! Y: reach, phisMatch, scopesHold -/
def yr_I (n : Nat) (E : Nat → Nat → Prop) (g : Nat → Prop) (r b t : Nat) (m : Int32) : Prop :=
  (∀ c, c < n → gr_R n E g r c → bt m c = true) ∧ (∀ c, c < n → bt m c = true → ∃ k, gr_R n E g k c) ∧
  (∀ b' t', b' < n → t' < n → (b' < b ∨ (b' = b ∧ t' < t)) → gr_R n E g r b' → ¬ g t' → E b' t' → bt m t' = true)
section YR
variable {g_maxBlocks g_maxValues g_blocks g_values g_isSealed g_hasRun g_isDone g_runForm g_in0 g_in1 g_at g_answer g_evals : Int32} {b_kind b_block b_left b_right b_arg b_exitKind b_exitX b_exitT b_exitF b_without b_differ b_val b_fresh : Nat → Int32} {P : PT}
theorem yr_33 {post : Int32 → Prop} {J12 J21 : Int32 → Int32 → Prop} {x1 x3 : Int32} {g : Nat → Prop} (W : p_W P) (hY : p_Y P b_kind b_block b_left b_right b_arg b_exitKind b_exitX b_exitT b_exitF) (eb : g_blocks = nI (p_b P)) (hg : ∀ t, t < p_b P → (nI t = x1 ↔ g t)) {r b : Nat} (hb : b < p_b P)
    (HK : ∀ m, yr_I (p_b P) (p_E P) g r (b + 1) 0 m → J21 m (nI (b + 1))) :
    ∀ (n t : Nat) (m : Int32), t ≤ p_b P → p_b P - t < n → yr_I (p_b P) (p_E P) g r b t m → wY_reach_33 post J12 J21 x1 x3 (nI b) g_maxBlocks g_maxValues g_blocks g_values g_isSealed g_hasRun g_isDone g_runForm g_in0 g_in1 g_at g_answer g_evals b_kind b_block b_left b_right b_arg b_exitKind b_exitX b_exitT b_exitF b_without b_differ b_val b_fresh n m (nI t) := by
  have hb8 := W.2.1
  intro n
  induction n with
  | zero => intro t _ _ h; omega
  | succ n ih =>
    intro t m ht hn I
    rw [wY_reach_33]
    refine pk_le (p_b P) t (fun h => nm_r (nI_1 b) (HK m ⟨I.1, I.2.1, fun b' t' hb' ht' hc => I.2.2 b' t' hb' ht' (by omega)⟩)) (fun h => ?_) (hx := eb)
    have skip : (gr_R (p_b P) (p_E P) g r b → ¬ g t → p_E P b t → bt m t = true) → wY_reach_33 post J12 J21 x1 x3 (nI b) g_maxBlocks g_maxValues g_blocks g_values g_isSealed g_hasRun g_isDone g_runForm g_in0 g_in1 g_at g_answer g_evals b_kind b_block b_left b_right b_arg b_exitKind b_exitX b_exitT b_exitF b_without b_differ b_val b_fresh n m (nI (t + 1)) := by
      intro q
      refine ih (t + 1) m (by omega) (by omega) ⟨I.1, I.2.1, fun b' t' hb' ht' hc hR hG hE => ?_⟩
      rcases Classical.em (b' = b ∧ t' = t) with z | z
      · rw [z.2]; exact q (z.1 ▸ hR) (z.2 ▸ hG) (z.1 ▸ z.2 ▸ hE)
      · exact I.2.2 b' t' hb' ht' (by omega) hR hG hE
    refine ba_bb1 (s := b) (by omega) (fun e => ?_) (fun e => nm_r (nI_1 t) (skip (fun hR _ _ => by rw [I.1 b hb hR] at e; cases e)))
    refine ba_if (hg t h) (fun q => nm_r (nI_1 t) (skip (fun _ z => absurd q z))) (fun q => ys_pred W hY hb h (fun z => br_t rfl (nm_r (nI_1 t) (skip (fun _ _ y => absurd y z)))) (fun z => br_f (by decide) (nm_e (nm_r (nI_1 t) (ih (t + 1) _ (by omega) (by omega) ?_)))))
    refine ⟨fun c hc hR => ?_, fun c hc hm => ?_, fun b' t' hb' ht' hc hR hG hE => ?_⟩
    · rw [ba_setT m (by omega) (by omega)]; exact Or.inl (I.1 c hc hR)
    · rw [ba_setT m (by omega) (by omega)] at hm
      rcases hm with y | y
      · exact I.2.1 c hc y
      · obtain ⟨k, hk⟩ := I.2.1 b hb e
        exact ⟨k + 1, by rw [y]; exact gr_st hk hb h q z⟩
    · rw [ba_setT m (by omega) (by omega)]
      rcases Classical.em (b' = b ∧ t' = t) with y | y
      · exact Or.inr y.2
      · exact Or.inl (I.2.2 b' t' hb' ht' (by omega) hR hG hE)
theorem yr_21 {post : Int32 → Prop} {J12 : Int32 → Int32 → Prop} {x1 : Int32} {g : Nat → Prop} (W : p_W P) (hY : p_Y P b_kind b_block b_left b_right b_arg b_exitKind b_exitX b_exitT b_exitF) (eb : g_blocks = nI (p_b P)) (hg : ∀ t, t < p_b P → (nI t = x1 ↔ g t)) {r : Nat}
    (HK : ∀ m, yr_I (p_b P) (p_E P) g (r + 1) 0 0 m → J12 m (nI (r + 1))) :
    ∀ (n b : Nat) (m : Int32), b ≤ p_b P → p_b P - b < n → yr_I (p_b P) (p_E P) g r b 0 m → wY_reach_21 post J12 x1 (nI r) g_maxBlocks g_maxValues g_blocks g_values g_isSealed g_hasRun g_isDone g_runForm g_in0 g_in1 g_at g_answer g_evals b_kind b_block b_left b_right b_arg b_exitKind b_exitX b_exitT b_exitF b_without b_differ b_val b_fresh n m (nI b) := by
  have hb8 := W.2.1
  intro n
  induction n with
  | zero => intro b _ _ h; omega
  | succ n ih =>
    intro b m hb hn I
    rw [wY_reach_21]
    refine pk_le (p_b P) b (fun h => nm_r (nI_1 r) (HK m ⟨fun c hc hR => ?_, I.2.1, fun b' t' _ _ hc => by omega⟩)) (fun h => ⟨p_b P + 1, yr_33 W hY eb hg h (fun m' I' => ih (b + 1) m' (by omega) (by omega) I') (p_b P + 1) 0 m (by omega) (by omega) I⟩) (hx := eb)
    rcases hR with z | ⟨h1, h2, p, h3, h4, h5⟩
    · exact I.1 c hc z
    · exact I.2.2 p c h3 hc (Or.inl (by omega)) h4 h2 h5
theorem yr_12 {post : Int32 → Prop} {x1 : Int32} {g : Nat → Prop} (W : p_W P) (hY : p_Y P b_kind b_block b_left b_right b_arg b_exitKind b_exitX b_exitT b_exitF) (eb : g_blocks = nI (p_b P)) (hg : ∀ t, t < p_b P → (nI t = x1 ↔ g t))
    (HK : ∀ m, (∀ c, c < p_b P → (bt m c = true ↔ ∃ k, gr_R (p_b P) (p_E P) g k c)) → post m) :
    ∀ (n r : Nat) (m : Int32), r ≤ 8 → 8 - r < n → yr_I (p_b P) (p_E P) g r 0 0 m → wY_reach_12 post x1 g_maxBlocks g_maxValues g_blocks g_values g_isSealed g_hasRun g_isDone g_runForm g_in0 g_in1 g_at g_answer g_evals b_kind b_block b_left b_right b_arg b_exitKind b_exitX b_exitT b_exitF b_without b_differ b_val b_fresh n m (nI r) := by
  have hb8 := W.2.1
  have hb1 := W.1
  intro n
  induction n with
  | zero => intro b _ _ h; omega
  | succ n ih =>
    intro r m hr hn I
    rw [wY_reach_12]
    refine pk_le 8 r (fun h => HK m (fun c hc => ⟨I.2.1 c hc, fun ⟨k, hk⟩ => I.1 c hc (gr_mono (by omega) (gr_sat (by omega) hk))⟩)) (fun h => ⟨p_b P + 1, yr_21 W hY eb hg (fun m' I' => ih (r + 1) m' (by omega) (by omega) I') (p_b P + 1) 0 m (by omega) (by omega) I⟩)
theorem yr_reach {post : Int32 → Prop} {x1 : Int32} {g : Nat → Prop} (W : p_W P) (hY : p_Y P b_kind b_block b_left b_right b_arg b_exitKind b_exitX b_exitT b_exitF) (eb : g_blocks = nI (p_b P)) (hg : ∀ t, t < p_b P → (nI t = x1 ↔ g t))
    (HK : ∀ m, (∀ c, c < p_b P → (bt m c = true ↔ ∃ k, gr_R (p_b P) (p_E P) g k c)) → post m) : wpY_reach post (g_maxBlocks, g_maxValues, g_blocks, g_values, g_isSealed, g_hasRun, g_isDone, g_runForm, g_in0, g_in1, g_at, g_answer, g_evals, b_kind, b_block, b_left, b_right, b_arg, b_exitKind, b_exitX, b_exitT, b_exitF, b_without, b_differ, b_val, b_fresh) x1 := by
  have hb8 := W.2.1
  have hb1 := W.1
  have h0 := hg 0 (by omega)
  refine br_c (fun e => ⟨9, yr_12 W hY eb hg HK 9 0 0 (by omega) (by omega) ⟨fun c hc hR => absurd (h0.mp e.symm) hR.2, fun c hc z => (by rw [b_0] at z; cases z), fun b' t' _ _ hc => by omega⟩⟩) (fun e => ⟨9, yr_12 W hY eb hg HK 9 0 1 (by omega) (by omega) ⟨fun c hc hR => ?_, fun c hc z => ?_, fun b' t' _ _ hc => by omega⟩⟩)
  · rw [ba_1 c (by omega), decide_eq_true_iff]; exact hR.1
  · rw [ba_1 c (by omega), decide_eq_true_iff] at z
    exact ⟨0, z, fun y => e (h0.mpr y).symm⟩
theorem yr_pm12 {post J2 : Int32 → Prop} (W : p_W P) (hY : p_Y P b_kind b_block b_left b_right b_arg b_exitKind b_exitX b_exitT b_exitF) (eb : g_blocks = nI (p_b P)) {v : Nat} (hv : v < p_v P) (h1 : xp_c P v → J2 (nI (v + 1))) (h0 : ¬ xp_c P v → post 0) :
    ∀ (n p : Nat), p ≤ p_b P → p_b P - p < n → (∀ q, q < p → p_K P v = 2 → (p_A P v q ≠ none ↔ p_E P q (p_B P v))) → wY_phisMatch_12 post J2 (nI v) g_maxBlocks g_maxValues g_blocks g_values g_isSealed g_hasRun g_isDone g_runForm g_in0 g_in1 g_at g_answer g_evals b_kind b_block b_left b_right b_arg b_exitKind b_exitX b_exitT b_exitF b_without b_differ b_val b_fresh n (nI p) := by
  have hb8 := W.2.1
  have hv32 := W.2.2.1
  have wv := W.2.2.2.1 v hv
  have hBv := wv.2.1
  have hKv := wv.1
  intro n
  induction n with
  | zero => intro p _ h; omega
  | succ n ih =>
    intro p hp hn I
    rw [wY_phisMatch_12]
    refine pk_le (p_b P) p (fun h => nm_r (nI_1 v) (h1 (fun k q hq => I q (by omega) k))) (fun h => ⟨vp_in_nI (by omega) (by omega), ?_⟩) (hx := eb)
    have nx : (p_K P v = 2 → (p_A P v p ≠ none ↔ p_E P p (p_B P v))) → wY_phisMatch_12 post J2 (nI v) g_maxBlocks g_maxValues g_blocks g_values g_isSealed g_hasRun g_isDone g_runForm g_in0 g_in1 g_at g_answer g_evals b_kind b_block b_left b_right b_arg b_exitKind b_exitX b_exitT b_exitF b_without b_differ b_val b_fresh n (nI (p + 1)) := fun c => ih (p + 1) (by omega) (by omega) (fun q hq k => by
      rcases Classical.em (q = p) with z | z
      · rw [z]; exact c k
      · exact I q (by omega) k)
    rw [nI_clamp (by omega), hY.1 v hv]
    refine pk_eq (p_K P v) 2 (fun e => ⟨pk_in (v * 8 + p) 256 (by omega) (ba_ix8 v p), ?_⟩) (fun e => nm_r (nI_1 p) (nx (fun z => absurd z e)))
    rw [pk_cl (v * 8 + p) (ba_ix8 v p), hY.2.2.2.2.2.1 v p hv (by omega) e]
    have ax : ∀ x, p_A P v p = some x → x < 2 ^ 31 := fun x hx => by have := wv.2.2.1 p x (by omega) hx; omega
    have K5 : ∀ z : Bool, (p_A P v p ≠ none ↔ z = true) → wY_phisMatch_50 post J2 (wY_phisMatch_12 post J2 (nI v) g_maxBlocks g_maxValues g_blocks g_values g_isSealed g_hasRun g_isDone g_runForm g_in0 g_in1 g_at g_answer g_evals b_kind b_block b_left b_right b_arg b_exitKind b_exitX b_exitT b_exitF b_without b_differ b_val b_fresh n) (nI v) (nI p) (xd_c z) g_maxBlocks g_maxValues g_blocks g_values g_isSealed g_hasRun g_isDone g_runForm g_in0 g_in1 g_at g_answer g_evals b_kind b_block b_left b_right b_arg b_exitKind b_exitX b_exitT b_exitF b_without b_differ b_val b_fresh := by
      intro z hz
      unfold wY_phisMatch_50
      refine ⟨vp_in_nI (by omega) (by omega), ?_⟩
      rw [nI_clamp (by omega), hY.2.1 v hv]
      refine ys_pred W hY h hBv (fun q => ?_) (fun q => ?_)
      · cases z with
        | true => exact br_f (by decide) (h0 (fun c => q ((c e p h).mp (hz.mpr rfl))))
        | false => exact br_t rfl (nm_r (nI_1 p) (nx (fun _ => ⟨fun y => by (have := hz.mp y; cases this), fun y => absurd y q⟩)))
      · cases z with
        | true => exact br_t rfl (nm_r (nI_1 p) (nx (fun _ => ⟨fun _ => q, fun _ => hz.mpr rfl⟩)))
        | false => exact br_f (by decide) (h0 (fun c => by (have := hz.mp ((c e p h).mpr q); cases this)))
    cases ea : p_A P v p with
    | none => exact br_t rfl (K5 false (by rw [ea]; exact ⟨fun z => absurd rfl z, fun z => by cases z⟩))
    | some x => exact br_f (ba_ne1 (ax x ea)) (K5 true (by rw [ea]; exact ⟨fun _ => rfl, fun _ z => by cases z⟩))
theorem yr_pm2 {post : Int32 → Prop} (W : p_W P) (hY : p_Y P b_kind b_block b_left b_right b_arg b_exitKind b_exitX b_exitT b_exitF) (eb : g_blocks = nI (p_b P)) (ev : g_values = nI (p_v P)) (h1 : p_S3 P → post 1) (h0 : ¬ p_S3 P → post 0) :
    ∀ n v, v ≤ p_v P → p_v P - v < n → (∀ u, u < v → xp_c P u) → wY_phisMatch_2 post g_maxBlocks g_maxValues g_blocks g_values g_isSealed g_hasRun g_isDone g_runForm g_in0 g_in1 g_at g_answer g_evals b_kind b_block b_left b_right b_arg b_exitKind b_exitX b_exitT b_exitF b_without b_differ b_val b_fresh n (nI v) := by
  have hv32 := W.2.2.1
  intro n
  induction n with
  | zero => intro v _ h; omega
  | succ n ih =>
    intro v hv hn hp
    rw [wY_phisMatch_2]
    refine pk_le (p_v P) v (fun h => h1 (fun u hu => hp u (by omega))) (fun h => ⟨p_b P + 1, yr_pm12 W hY eb h (fun c => ih (v + 1) (by omega) (by omega) (fun u hu => ?_)) (fun c => h0 (fun s => c (fun k => s v h k))) (p_b P + 1) 0 (by omega) (by omega) (fun q hq => by omega)⟩) (hx := ev)
    rcases Classical.em (u = v) with q | q
    · rw [q]; exact c
    · exact hp u (by omega)
theorem yr_phis {post : Int32 → Prop} (W : p_W P) (hY : p_Y P b_kind b_block b_left b_right b_arg b_exitKind b_exitX b_exitT b_exitF) (eb : g_blocks = nI (p_b P)) (ev : g_values = nI (p_v P)) (h1 : p_S3 P → post 1) (h0 : ¬ p_S3 P → post 0) : wpY_phisMatch post (g_maxBlocks, g_maxValues, g_blocks, g_values, g_isSealed, g_hasRun, g_isDone, g_runForm, g_in0, g_in1, g_at, g_answer, g_evals, b_kind, b_block, b_left, b_right, b_arg, b_exitKind, b_exitX, b_exitT, b_exitF, b_without, b_differ, b_val, b_fresh) :=
  ⟨p_v P + 1, yr_pm2 W hY eb ev h1 h0 (p_v P + 1) 0 (by omega) (by omega) (fun u hu => by omega)⟩
/-- dom, with the table right -/
theorem yr_dom {post : Int32 → Prop} (W : p_W P) (hw : ∀ a b, a < p_b P → b < p_b P → (bt (b_without a) b = false ↔ p_D P a b)) {a b : Nat} (ha : a < p_b P) (hb : b < p_b P) (h1 : p_D P a b → post 1) (h0 : ¬ p_D P a b → post 0) : wpY_dom post (g_maxBlocks, g_maxValues, g_blocks, g_values, g_isSealed, g_hasRun, g_isDone, g_runForm, g_in0, g_in1, g_at, g_answer, g_evals, b_kind, b_block, b_left, b_right, b_arg, b_exitKind, b_exitX, b_exitT, b_exitF, b_without, b_differ, b_val, b_fresh) (nI a) (nI b) := by
  have hb8 := W.2.1
  refine ys_dom (by omega) (by omega) (fun e => h0 (fun z => ?_)) (fun e => h1 ((hw a b ha hb).mp e))
  rw [(hw a b ha hb).mpr z] at e; cases e
theorem yr_188 {post J160 : Int32 → Prop} (W : p_W P) (hY : p_Y P b_kind b_block b_left b_right b_arg b_exitKind b_exitX b_exitT b_exitF) (hw : ∀ a b, a < p_b P → b < p_b P → (bt (b_without a) b = false ↔ p_D P a b)) {b : Nat} (hb : b < p_b P) (hk : p_e P b = 2 ∨ p_e P b = 3)
    (h1 : xu_b P b → J160 (nI (b + 1))) (h0 : ¬ xu_b P b → post 0) : wY_scopesHold_188 post J160 (nI b) g_maxBlocks g_maxValues g_blocks g_values g_isSealed g_hasRun g_isDone g_runForm g_in0 g_in1 g_at g_answer g_evals b_kind b_block b_left b_right b_arg b_exitKind b_exitX b_exitT b_exitF b_without b_differ b_val b_fresh := by
  have hb8 := W.2.1
  have hv32 := W.2.2.1
  have wb := W.2.2.2.2 b hb
  unfold wY_scopesHold_188
  refine ⟨vp_in_nI (by omega) (by omega), ?_⟩
  rw [nI_clamp (by omega), hY.2.2.2.2.2.2.2.1 b hb hk]
  cases ex : p_x P b with
  | none => exact absurd hk (wb.2.2.2.2.1.mp ex)
  | some x =>
    have hx := wb.2.1 x ex
    have wx := W.2.2.2.1 x hx
    have hBx := wx.2.1
    refine ⟨vp_in_nI (n := x) (by omega) (by omega), ?_⟩
    rw [show ba_o (some x) = nI x from rfl, nI_clamp (by omega), hY.2.1 x hx]
    refine yr_dom W hw hBx hb (fun d => br_f (by decide) (nm_r (nI_1 b) (h1 (fun y hy => ?_)))) (fun d => br_t rfl (h0 (fun z => d (z x ex))))
    rw [ex] at hy; cases hy; exact d
theorem yr_160 {post : Int32 → Prop} (W : p_W P) (hY : p_Y P b_kind b_block b_left b_right b_arg b_exitKind b_exitX b_exitT b_exitF) (eb : g_blocks = nI (p_b P)) (hw : ∀ a b, a < p_b P → b < p_b P → (bt (b_without a) b = false ↔ p_D P a b)) (hv : ∀ v, v < p_v P → ∀ i, i < 8 → xu_v P v i)
    (h1 : p_S4 P → post 1) (h0 : ¬ p_S4 P → post 0) : ∀ n b, b ≤ p_b P → p_b P - b < n → (∀ c, c < b → xu_b P c) → wY_scopesHold_160 post g_maxBlocks g_maxValues g_blocks g_values g_isSealed g_hasRun g_isDone g_runForm g_in0 g_in1 g_at g_answer g_evals b_kind b_block b_left b_right b_arg b_exitKind b_exitX b_exitT b_exitF b_without b_differ b_val b_fresh n (nI b) := by
  have hb8 := W.2.1
  intro n
  induction n with
  | zero => intro b _ h; omega
  | succ n ih =>
    intro b hb hn hp
    rw [wY_scopesHold_160]
    have nx : b < p_b P → xu_b P b → wY_scopesHold_160 post g_maxBlocks g_maxValues g_blocks g_values g_isSealed g_hasRun g_isDone g_runForm g_in0 g_in1 g_at g_answer g_evals b_kind b_block b_left b_right b_arg b_exitKind b_exitX b_exitT b_exitF b_without b_differ b_val b_fresh n (nI (b + 1)) := fun h c => ih (b + 1) (by omega) (by omega) (fun u hu => by
      rcases Classical.em (u = b) with q | q
      · rw [q]; exact c
      · exact hp u (by omega))
    refine pk_le (p_b P) b (fun h => h1 (xu_S4.mpr ⟨hv, fun c hc => hp c (by omega)⟩)) (fun h => ⟨vp_in_nI (by omega) (by omega), ?_⟩) (hx := eb)
    have wb := W.2.2.2.2 b h
    have hKb := wb.1
    have no : ¬ xu_b P b → post 0 := fun z => h0 (fun s => z ((xu_S4.mp s).2 b h))
    rw [nI_clamp (by omega), hY.2.2.2.2.2.2.1 b h]
    refine pk_eq (p_e P b) 2 (fun e => yr_188 W hY hw h (Or.inl e) (nx h) no) (fun e => ⟨vp_in_nI (by omega) (by omega), pk_eq (p_e P b) 3 (fun e2 => yr_188 W hY hw h (Or.inr e2) (nx h) no) (fun e2 => nm_r (nI_1 b) (nx h (fun x hx => ?_)))⟩)
    rw [wb.2.2.2.2.1.mpr (by omega)] at hx; cases hx
theorem yr_95 {post J2 : Int32 → Prop} (W : p_W P) (hY : p_Y P b_kind b_block b_left b_right b_arg b_exitKind b_exitX b_exitT b_exitF) (eb : g_blocks = nI (p_b P)) (hw : ∀ a b, a < p_b P → b < p_b P → (bt (b_without a) b = false ↔ p_D P a b)) {v : Nat} (hv : v < p_v P)
    (h1 : (p_K P v = 2 → ∀ i, i < p_b P → xu_v P v i) → J2 (nI (v + 1))) (h0 : ¬ (p_K P v = 2 → ∀ i, i < p_b P → xu_v P v i) → post 0) :
    ∀ (n p : Nat), p ≤ p_b P → p_b P - p < n → (p_K P v = 2 → ∀ i, i < p → xu_v P v i) → wY_scopesHold_95 post J2 (nI v) g_maxBlocks g_maxValues g_blocks g_values g_isSealed g_hasRun g_isDone g_runForm g_in0 g_in1 g_at g_answer g_evals b_kind b_block b_left b_right b_arg b_exitKind b_exitX b_exitT b_exitF b_without b_differ b_val b_fresh n (nI p) := by
  have hb8 := W.2.1
  have hv32 := W.2.2.1
  have wv := W.2.2.2.1 v hv
  have hKv := wv.1
  intro n
  induction n with
  | zero => intro p _ h; omega
  | succ n ih =>
    intro p hp hn I
    rw [wY_scopesHold_95]
    have nx : p < p_b P → (p_K P v = 2 → xu_v P v p) → wY_scopesHold_95 post J2 (nI v) g_maxBlocks g_maxValues g_blocks g_values g_isSealed g_hasRun g_isDone g_runForm g_in0 g_in1 g_at g_answer g_evals b_kind b_block b_left b_right b_arg b_exitKind b_exitX b_exitT b_exitF b_without b_differ b_val b_fresh n (nI (p + 1)) := fun h c => ih (p + 1) (by omega) (by omega) (fun k i hi => by
      rcases Classical.em (i = p) with z | z
      · rw [z]; exact c k
      · exact I k i (by omega))
    refine pk_le (p_b P) p (fun h => nm_r (nI_1 v) (h1 (fun k i hi => I k i (by omega)))) (fun h => ⟨pk_in (v * 8 + p) 256 (by omega) (ba_ix8 v p), ?_⟩) (hx := eb)
    rcases Classical.em (p_K P v = 2) with e | e
    · refine ba_rd (v * 8 + p) (ba_ix8 v p) (by omega) (hY.2.2.2.2.2.1 v p hv (by omega) e) ⟨vp_in_nI (by omega) (by omega), ?_⟩
      rw [nI_clamp (by omega), hY.1 v hv]
      refine pk_eq (p_K P v) 2 (fun _ => ?_) (fun z => absurd e z)
      cases ea : p_A P v p with
      | none => exact br_t rfl (nm_r (nI_1 p) (nx h (fun _ x hx => by rw [ea] at hx; cases hx)))
      | some x =>
        have hx := wv.2.2.1 p x (by omega) ea
        have wx := W.2.2.2.1 x hx
        have hBx := wx.2.1
        refine br_f (ba_ne1 (a := x) (by omega)) ⟨vp_in_nI (n := x) (by omega) (by omega), ?_⟩
        rw [show ba_o (some x) = nI x from rfl, nI_clamp (by omega), hY.2.1 x hx]
        refine yr_dom W hw hBx h (fun d => br_f (by decide) (nm_r (nI_1 p) (nx h (fun _ y hy => ?_)))) (fun d => br_t rfl (h0 (fun z => d ((z e p h x ea).2 e))))
        rw [ea] at hy; cases hy
        exact ⟨fun z => absurd e z, fun _ => d⟩
    · intro x3 _
      refine ⟨vp_in_nI (by omega) (by omega), ?_⟩
      rw [nI_clamp (by omega), hY.1 v hv]
      exact pk_eq (p_K P v) 2 (fun z => absurd z e) (fun _ => nm_r (nI_1 p) (nx h (fun z => absurd z e)))
theorem yr_2 {post : Int32 → Prop} (W : p_W P) (hY : p_Y P b_kind b_block b_left b_right b_arg b_exitKind b_exitX b_exitT b_exitF) (eb : g_blocks = nI (p_b P)) (ev : g_values = nI (p_v P)) (hw : ∀ a b, a < p_b P → b < p_b P → (bt (b_without a) b = false ↔ p_D P a b))
    (h1 : p_S4 P → post 1) (h0 : ¬ p_S4 P → post 0) : ∀ n v, v ≤ p_v P → p_v P - v < n → (∀ u, u < v → ∀ i, i < 8 → xu_v P u i) → wY_scopesHold_2 post g_maxBlocks g_maxValues g_blocks g_values g_isSealed g_hasRun g_isDone g_runForm g_in0 g_in1 g_at g_answer g_evals b_kind b_block b_left b_right b_arg b_exitKind b_exitX b_exitT b_exitF b_without b_differ b_val b_fresh n (nI v) := by
  have hb8 := W.2.1
  have hv32 := W.2.2.1
  intro n
  induction n with
  | zero => intro v _ h; omega
  | succ n ih =>
    intro v hv hn hp
    rw [wY_scopesHold_2]
    refine pk_le (p_v P) v (fun h => ⟨p_b P + 1, yr_160 W hY eb hw (fun u hu => hp u (by omega)) h1 h0 (p_b P + 1) 0 (by omega) (by omega) (fun c hc => by omega)⟩) (fun h => ⟨vp_in_nI (by omega) (by omega), ?_⟩) (hx := ev)
    have wv := W.2.2.2.1 v h
    have hBv := wv.2.1
    have hKv := wv.1
    have nx : (∀ i, i < 8 → xu_v P v i) → wY_scopesHold_2 post g_maxBlocks g_maxValues g_blocks g_values g_isSealed g_hasRun g_isDone g_runForm g_in0 g_in1 g_at g_answer g_evals b_kind b_block b_left b_right b_arg b_exitKind b_exitX b_exitT b_exitF b_without b_differ b_val b_fresh n (nI (v + 1)) := fun c => ih (v + 1) (by omega) (by omega) (fun u hu => by
      rcases Classical.em (u = v) with q | q
      · rw [q]; exact c
      · exact hp u (by omega))
    have no : ¬ (∀ i, i < 8 → xu_v P v i) → post 0 := fun z => h0 (fun s => z ((xu_S4.mp s).1 v h))
    have V32 : vp_in (nI v) 32 := vp_in_nI (by omega) (by omega)
    have A95 : (p_K P v ≠ 2 → ∀ i, i < 8 → xu_v P v i) → ∃ n95, wY_scopesHold_95 post (wY_scopesHold_2 post g_maxBlocks g_maxValues g_blocks g_values g_isSealed g_hasRun g_isDone g_runForm g_in0 g_in1 g_at g_answer g_evals b_kind b_block b_left b_right b_arg b_exitKind b_exitX b_exitT b_exitF b_without b_differ b_val b_fresh n) (nI v) g_maxBlocks g_maxValues g_blocks g_values g_isSealed g_hasRun g_isDone g_runForm g_in0 g_in1 g_at g_answer g_evals b_kind b_block b_left b_right b_arg b_exitKind b_exitX b_exitT b_exitF b_without b_differ b_val b_fresh n95 0 := by
      intro c
      refine ⟨p_b P + 1, yr_95 W hY eb hw h (fun q => nx (fun i hi => ?_)) (fun q => no (fun z => q (fun k i hi => z i (by omega)))) (p_b P + 1) 0 (by omega) (by omega) (fun _ i hi => by omega)⟩
      rcases Classical.em (p_K P v = 2) with e | e
      · intro x hx
        exact q e i ((wv.2.2.2.2.1 e).2 i x hi hx) x hx
      · exact c e i hi
    rw [nI_clamp (by omega), hY.1 v h, hY.2.1 v h]
    refine pk_lt (p_K P v) 3 (fun e => ?_) (fun e => ⟨V32, ?_⟩)
    · unfold wY_scopesHold_46
      refine ⟨V32, ?_⟩
      rw [nI_clamp (by omega), hY.1 v h]
      refine pk_lt (p_K P v) 3 (fun _ => A95 (fun k i hi x hx => ?_)) (fun z => by omega)
      rw [wv.2.2.2.1 (by omega) i hi] at hx; cases hx
    · obtain ⟨_, ⟨x0, ex0, lx0⟩, hy, hyn, hrest⟩ := wv.2.2.2.2.2 e
      have hx0 : x0 < p_v P := by omega
      have hB0 := (W.2.2.2.1 x0 hx0).2.1
      rw [hY.2.2.2.1 v h e, ex0]
      refine ⟨vp_in_nI (n := x0) (by omega) (by omega), V32, ?_⟩
      rw [show ba_o (some x0) = nI x0 from rfl, nI_clamp (by omega), hY.2.1 x0 hx0]
      refine yr_dom W hw hB0 hBv (fun d => br_f (by decide) ?_) (fun d => br_t rfl (no (fun z => d ((z 0 (by omega) x0 ex0).1 (by omega)))))
      unfold wY_scopesHold_46
      refine ⟨V32, ?_⟩
      rw [nI_clamp (by omega), hY.1 v h, hY.2.1 v h]
      refine pk_lt (p_K P v) 3 (fun z => by omega) (fun _ => ⟨V32, pk_lt 10 (p_K P v) (fun e2 => A95 (fun k i hi x hx => ?_)) (fun e2 => ⟨V32, ?_⟩)⟩)
      · rcases Classical.em (i = 0) with z | z
        · rw [z, ex0] at hx; cases hx
          exact ⟨fun _ => d, fun y => absurd y k⟩
        · rcases Classical.em (i = 1) with y | y
          · rw [y, hyn e2] at hx; cases hx
          · rw [hrest i (by omega) hi] at hx; cases hx
      · obtain ⟨x1, ex1, lx1⟩ := hy e2
        have hx1 : x1 < p_v P := by omega
        have hB1 := (W.2.2.2.1 x1 hx1).2.1
        rw [hY.2.2.2.2.1 v h e e2, ex1]
        refine ⟨vp_in_nI (n := x1) (by omega) (by omega), V32, ?_⟩
        rw [show ba_o (some x1) = nI x1 from rfl, nI_clamp (by omega), hY.2.1 x1 hx1]
        refine yr_dom W hw hB1 hBv (fun d1 => br_f (by decide) (A95 (fun k i hi x hx => ?_))) (fun d1 => br_t rfl (no (fun z => d1 ((z 1 (by omega) x1 ex1).1 (by omega)))))
        rcases Classical.em (i = 0) with z | z
        · rw [z, ex0] at hx; cases hx
          exact ⟨fun _ => d, fun y => absurd y k⟩
        · rcases Classical.em (i = 1) with y | y
          · rw [y, ex1] at hx; cases hx
            exact ⟨fun _ => d1, fun y => absurd y k⟩
          · rw [hrest i (by omega) hi] at hx; cases hx
theorem yr_scope {post : Int32 → Prop} (W : p_W P) (hY : p_Y P b_kind b_block b_left b_right b_arg b_exitKind b_exitX b_exitT b_exitF) (eb : g_blocks = nI (p_b P)) (ev : g_values = nI (p_v P)) (hw : ∀ a b, a < p_b P → b < p_b P → (bt (b_without a) b = false ↔ p_D P a b))
    (h1 : p_S4 P → post 1) (h0 : ¬ p_S4 P → post 0) : wpY_scopesHold post (g_maxBlocks, g_maxValues, g_blocks, g_values, g_isSealed, g_hasRun, g_isDone, g_runForm, g_in0, g_in1, g_at, g_answer, g_evals, b_kind, b_block, b_left, b_right, b_arg, b_exitKind, b_exitX, b_exitT, b_exitF, b_without, b_differ, b_val, b_fresh) :=
  ⟨p_v P + 1, yr_2 W hY eb ev hw h1 h0 (p_v P + 1) 0 (by omega) (by omega) (fun u hu => by omega)⟩
end YR
end
section
/-! Y: findClasses, className, leaderOf -/
def yc_c (P : PT) (df : Nat → Int32) (u v : Nat) : Prop := ¬ p_Lab P u v ∨ ∃ i x y, i < 8 ∧ p_A P u i = some x ∧ p_A P v i = some y ∧ df (x * 32 + y) ≠ 0
section YC
variable {g_maxBlocks g_maxValues g_blocks g_values g_isSealed g_hasRun g_isDone g_runForm g_in0 g_in1 g_at g_answer g_evals : Int32} {b_kind b_block b_left b_right b_arg b_exitKind b_exitX b_exitT b_exitF b_without b_differ b_val b_fresh : Nat → Int32} {P : PT}
theorem yc_86 {post : Int32 → Prop} (W : p_W P) (S : p_S3 P) (hY : p_Y P b_kind b_block b_left b_right b_arg b_exitKind b_exitX b_exitT b_exitF) (eb : g_blocks = nI (p_b P)) {u v : Nat} (hu : u < p_v P) (hv : v < p_v P) (hL : p_Lab P u v) (hk : p_K P u = 2) (h1 : yc_c P b_differ u v → post 1) (h0 : ¬ yc_c P b_differ u v → post 0) :
    ∀ n p, p ≤ p_b P → p_b P - p < n → (∀ i x y, i < p → p_A P u i = some x → p_A P v i = some y → b_differ (x * 32 + y) = 0) → wY_clash_86 post (nI u) (nI v) g_maxBlocks g_maxValues g_blocks g_values g_isSealed g_hasRun g_isDone g_runForm g_in0 g_in1 g_at g_answer g_evals b_kind b_block b_left b_right b_arg b_exitKind b_exitX b_exitT b_exitF b_without b_differ b_val b_fresh n (nI p) := by
  have hb8 := W.2.1
  have hv32 := W.2.2.1
  have wu := W.2.2.2.1 u hu
  have wv := W.2.2.2.1 v hv
  have hBu := wu.2.1
  have hkv : p_K P v = 2 := hL.1.symm.trans hk
  intro n
  induction n with
  | zero => intro p _ h; omega
  | succ n ih =>
    intro p hp hn I
    rw [wY_clash_86]
    refine pk_le (p_b P) p (fun h => h0 (fun z => ?_)) (fun h => ⟨vp_in_nI (by omega) (by omega), ?_⟩) (hx := eb)
    · rcases z with z | ⟨i, x, y, hi, ex, ey, hd⟩
      · exact z hL
      · have := (wu.2.2.2.2.1 hk).2 i x hi ex
        exact hd (I i x y (by omega) ex ey)
    · rw [nI_clamp (by omega), hY.2.1 u hu]
      have nx : (∀ x y, p_A P u p = some x → p_A P v p = some y → b_differ (x * 32 + y) = 0) → wY_clash_86 post (nI u) (nI v) g_maxBlocks g_maxValues g_blocks g_values g_isSealed g_hasRun g_isDone g_runForm g_in0 g_in1 g_at g_answer g_evals b_kind b_block b_left b_right b_arg b_exitKind b_exitX b_exitT b_exitF b_without b_differ b_val b_fresh n (nI (p + 1)) := fun c => ih (p + 1) (by omega) (by omega) (fun i x y hi ex ey => by
        rcases Classical.em (i = p) with z | z
        · rw [z] at ex ey; exact c x y ex ey
        · exact I i x y (by omega) ex ey)
      refine ys_pred W hY h hBu (fun q => br_t rfl (nm_r (nI_1 p) (nx (fun x y ex _ => ?_)))) (fun q => br_f (by decide) ⟨pk_in (u * 8 + p) 256 (by omega) (ba_ix8 u p), pk_in (v * 8 + p) 256 (by omega) (ba_ix8 v p), ?_⟩)
      · exact absurd ((S u hu hk p h).mp (by rw [ex]; exact fun z => by cases z)) q
      · rw [pk_cl (u * 8 + p) (ba_ix8 u p), pk_cl (v * 8 + p) (ba_ix8 v p), hY.2.2.2.2.2.1 u p hu (by omega) hk, hY.2.2.2.2.2.1 v p hv (by omega) hkv]
        cases ex : p_A P u p with
        | none => exact absurd ex ((S u hu hk p h).mpr q)
        | some x =>
          cases ey : p_A P v p with
          | none => exact absurd ey ((S v hv hkv p h).mpr (by rw [← hL.2.1 hk]; exact q))
          | some y =>
            have hx := wu.2.2.1 p x (by omega) ex
            have hy := wv.2.2.1 p y (by omega) ey
            rw [show ba_o (some x) * 32 + ba_o (some y) = nI (x * 32 + y) from ba_ix32 x y]
            refine ⟨vp_in_nI (by omega) (by omega), ?_⟩
            rw [nI_clamp (by omega)]
            refine br_c (fun e => nm_r (nI_1 p) (nx (fun x' y' ex' ey' => ?_))) (fun e => h1 (Or.inr ⟨p, x, y, by omega, ex, ey, e⟩))
            rw [ex] at ex'; rw [ey] at ey'
            cases ex'; cases ey'; exact e
theorem yc_clash {post : Int32 → Prop} (W : p_W P) (S : p_S3 P) (hY : p_Y P b_kind b_block b_left b_right b_arg b_exitKind b_exitX b_exitT b_exitF) (eb : g_blocks = nI (p_b P)) {u v : Nat} (hu : u < p_v P) (hv : v < p_v P) (h1 : yc_c P b_differ u v → post 1) (h0 : ¬ yc_c P b_differ u v → post 0) : wpY_clash post (g_maxBlocks, g_maxValues, g_blocks, g_values, g_isSealed, g_hasRun, g_isDone, g_runForm, g_in0, g_in1, g_at, g_answer, g_evals, b_kind, b_block, b_left, b_right, b_arg, b_exitKind, b_exitX, b_exitT, b_exitF, b_without, b_differ, b_val, b_fresh) (nI u) (nI v) := by
  have hb8 := W.2.1
  have hv32 := W.2.2.1
  have wu := W.2.2.2.1 u hu
  have wv := W.2.2.2.1 v hv
  have hBu := wu.2.1
  have hBv := wv.2.1
  have hKu := wu.1
  have hKv := wv.1
  have Vu : vp_in (nI u) 32 := vp_in_nI (by omega) (by omega)
  have Vv : vp_in (nI v) 32 := vp_in_nI (by omega) (by omega)
  refine ⟨Vu, Vv, ?_⟩
  rw [nI_clamp (by omega), nI_clamp (by omega), hY.1 u hu, hY.1 v hv, hY.2.1 u hu, hY.2.1 v hv]
  have leaf : p_K P u = p_K P v → p_K P u < 2 → wY_clash_36 post (nI u) (nI v) g_maxBlocks g_maxValues g_blocks g_values g_isSealed g_hasRun g_isDone g_runForm g_in0 g_in1 g_at g_answer g_evals b_kind b_block b_left b_right b_arg b_exitKind b_exitX b_exitT b_exitF b_without b_differ b_val b_fresh := by
    intro e l
    unfold wY_clash_36
    refine ⟨Vu, Vv, ?_⟩
    rw [nI_clamp (by omega), nI_clamp (by omega), hY.2.2.1 u hu l, hY.2.2.1 v hv (by omega)]
    refine br_c (fun q => h0 (fun z => ?_)) (fun q => h1 (Or.inl (fun z => q (z.2.2 (by omega)))))
    rcases z with z | ⟨i, x, y, hi, ex, ey, hd⟩
    · exact z ⟨e, fun w => by omega, fun _ => q⟩
    · rw [wu.2.2.2.1 l i hi] at ex; cases ex
  refine pk_eq (p_K P u) (p_K P v) (fun e => ⟨Vu, pk_eq (p_K P u) 0 (fun e0 => leaf e (by omega)) (fun e0 => ⟨Vu, pk_eq (p_K P u) 1 (fun e1 => leaf e (by omega)) (fun e1 => ⟨Vu, pk_eq (p_K P u) 2 (fun e2 => ⟨Vu, Vv, pk_eq (p_B P u) (p_B P v) (fun eB => ⟨p_b P + 1, yc_86 W S hY eb hu hv ⟨e, fun _ => eB, fun z => absurd e2 z⟩ e2 h1 h0 (p_b P + 1) 0 (by omega) (by omega) (fun i x y hi => by omega)⟩) (fun eB => h1 (Or.inl (fun z => eB (z.2.1 e2))))⟩) (fun e2 => ⟨Vu, Vv, ?_⟩)⟩)⟩)⟩) (fun e => h1 (Or.inl (fun z => e z.1)))
  have e3u : 3 ≤ p_K P u := by omega
  have e3v : 3 ≤ p_K P v := by omega
  have hWu := wu.2.2.2.2.2 e3u
  have hWv := wv.2.2.2.2.2 e3v
  obtain ⟨x0, ex0, lx0⟩ := hWu.2.1
  obtain ⟨y0, ey0, ly0⟩ := hWv.2.1
  have hL : p_Lab P u v := ⟨e, fun z => absurd z e2, fun _ => hWu.1.trans hWv.1.symm⟩
  rw [hY.2.2.2.1 u hu e3u, hY.2.2.2.1 v hv e3v, ex0, ey0, show ba_o (some x0) * 32 + ba_o (some y0) = nI (x0 * 32 + y0) from ba_ix32 x0 y0]
  refine ⟨vp_in_nI (by omega) (by omega), ?_⟩
  rw [nI_clamp (by omega)]
  refine br_c (fun d0 => ⟨Vu, pk_lt 10 (p_K P u) (fun g => h0 (fun z => ?_)) (fun g => ⟨Vu, Vv, ?_⟩)⟩) (fun d0 => h1 (Or.inr ⟨0, x0, y0, by omega, ex0, ey0, d0⟩))
  · rcases z with z | ⟨i, x, y, hi, ex, ey, hd⟩
    · exact z hL
    · rcases Classical.em (i = 0) with w | w
      · rw [w] at ex ey
        rw [ex0] at ex; rw [ey0] at ey
        cases ex; cases ey; exact hd d0
      · rcases Classical.em (i = 1) with w1 | w1
        · rw [w1, hWu.2.2.2.1 g] at ex; cases ex
        · rw [hWu.2.2.2.2 i (by omega) hi] at ex; cases ex
  · have gv : p_K P v ≤ 10 := by omega
    obtain ⟨x1, ex1, lx1⟩ := hWu.2.2.1 g
    obtain ⟨y1, ey1, ly1⟩ := hWv.2.2.1 gv
    rw [hY.2.2.2.2.1 u hu e3u g, hY.2.2.2.2.1 v hv e3v gv, ex1, ey1, show ba_o (some x1) * 32 + ba_o (some y1) = nI (x1 * 32 + y1) from ba_ix32 x1 y1]
    refine ⟨vp_in_nI (by omega) (by omega), ?_⟩
    rw [nI_clamp (by omega)]
    refine br_c (fun d1 => h0 (fun z => ?_)) (fun d1 => h1 (Or.inr ⟨1, x1, y1, by omega, ex1, ey1, d1⟩))
    rcases z with z | ⟨i, x, y, hi, ex, ey, hd⟩
    · exact z hL
    · rcases Classical.em (i = 0) with w | w
      · rw [w] at ex ey
        rw [ex0] at ex; rw [ey0] at ey
        cases ex; cases ey; exact hd d0
      · rcases Classical.em (i = 1) with w1 | w1
        · rw [w1] at ex ey
          rw [ex1] at ex; rw [ey1] at ey
          cases ex; cases ey; exact hd d1
        · rw [hWu.2.2.2.2 i (by omega) hi] at ex; cases ex
def yf_I (P : PT) (r u v : Nat) (df : Nat → Int32) : Prop :=
  (∀ a b, a < p_v P → b < p_v P → df (a * 32 + b) ≠ 0 → ¬ p_q P a b) ∧ (∀ a b, a < p_v P → b < p_v P → ¬ cg_M (p_Lab P) (p_A P) r a b → df (a * 32 + b) ≠ 0) ∧
  (∀ a b, a < p_v P → b < p_v P → (a < u ∨ (a = u ∧ b < v)) → ¬ cg_M (p_Lab P) (p_A P) (r + 1) a b → df (a * 32 + b) ≠ 0)
theorem yf_42 {post : SY → Prop} {J24 J32 : Int32 → (Nat → Int32) → (Nat → Int32) → (Nat → Int32) → (Nat → Int32) → (Nat → Int32) → (Nat → Int32) → (Nat → Int32) → (Nat → Int32) → (Nat → Int32) → (Nat → Int32) → (Nat → Int32) → (Nat → Int32) → (Nat → Int32) →  Prop} {x1 : Int32} (W : p_W P) (S : p_S3 P) (hY : p_Y P b_kind b_block b_left b_right b_arg b_exitKind b_exitX b_exitT b_exitF) (eb : g_blocks = nI (p_b P)) (ev : g_values = nI (p_v P)) {r u : Nat} (hu : u < p_v P)
    (HK : ∀ b_differ : Nat → Int32, yf_I P r (u + 1) 0 b_differ → J32 (nI (u + 1)) b_kind b_block b_left b_right b_arg b_exitKind b_exitX b_exitT b_exitF b_without b_differ b_val b_fresh) :
    ∀ (n v : Nat) (b_differ : Nat → Int32), v ≤ p_v P → p_v P - v < n → yf_I P r u v b_differ → wY_findClasses_42 post J24 J32 x1 (nI u) g_maxBlocks g_maxValues g_blocks g_values g_isSealed g_hasRun g_isDone g_runForm g_in0 g_in1 g_at g_answer g_evals n (nI v) b_kind b_block b_left b_right b_arg b_exitKind b_exitX b_exitT b_exitF b_without b_differ b_val b_fresh := by
  have hv32 := W.2.2.1
  have H := p_H W S
  intro n
  induction n with
  | zero => intro v _ _ h; omega
  | succ n ih =>
    intro v b_differ hv hn I
    rw [wY_findClasses_42]
    refine pk_le (p_v P) v (fun h => nm_r (nI_1 u) (HK _ ⟨I.1, I.2.1, fun a b ha hb hc => I.2.2 a b ha hb (by omega)⟩)) (fun h => ⟨pk_in (u * 32 + v) 1024 (by omega) (ba_ix32 u v), ?_⟩) (hx := ev)
    rw [pk_cl (u * 32 + v) (ba_ix32 u v)]
    have skip : (¬ cg_M (p_Lab P) (p_A P) (r + 1) u v → b_differ (u * 32 + v) ≠ 0) → wY_findClasses_42 post J24 J32 x1 (nI u) g_maxBlocks g_maxValues g_blocks g_values g_isSealed g_hasRun g_isDone g_runForm g_in0 g_in1 g_at g_answer g_evals n (nI (v + 1)) b_kind b_block b_left b_right b_arg b_exitKind b_exitX b_exitT b_exitF b_without b_differ b_val b_fresh := by
      intro q
      refine ih (v + 1) _ (by omega) (by omega) ⟨I.1, I.2.1, fun a b ha hb hc => ?_⟩
      rcases Classical.em (a = u ∧ b = v) with z | z
      · rw [z.1, z.2]; exact q
      · exact I.2.2 a b ha hb (by omega)
    refine br_c (fun e => yc_clash W S hY eb hu h (fun c => br_f (by decide) ?_) (fun c => br_t rfl (nm_r (nI_1 v) (skip (fun z => ?_))))) (fun e => nm_r (nI_1 v) (skip (fun _ => e)))
    · refine ⟨pk_in (u * 32 + v) 1024 (by omega) (ba_ix32 u v), nm_r (e' := upd b_differ (u * 32 + v) 1) (by rw [ba_vb1]) (nm_r (nI_1 v) (ih (v + 1) _ (by omega) (by omega) ⟨fun a b ha hb hd => ?_, fun a b ha hb hm => ?_, fun a b ha hb hc hm => ?_⟩))⟩
      · rcases Classical.em (a = u ∧ b = v) with z | z
        · rw [z.1, z.2]
          intro q
          rcases c with c | ⟨i, x, y, hi, ex, ey, hd'⟩
          · exact c (cg_E_lab q)
          · exact I.1 x y (H.2.2.2.1 u i x hu hi ex) (H.2.2.2.1 v i y h hi ey) hd' (cg_E_arg q hi ex ey)
        · rw [pk_un (by omega)] at hd
          exact I.1 a b ha hb hd
      · rcases Classical.em (a = u ∧ b = v) with z | z
        · rw [z.1, z.2, pk_us]; decide
        · rw [pk_un (by omega)]; exact I.2.1 a b ha hb hm
      · rcases Classical.em (a = u ∧ b = v) with z | z
        · rw [z.1, z.2, pk_us]; decide
        · rw [pk_un (by omega)]; exact I.2.2 a b ha hb (by omega) hm
    · exfalso
      apply z
      refine ⟨Classical.byContradiction (fun w => c (Or.inl w)), fun i x y hi ex ey => Classical.byContradiction (fun w => c (Or.inr ⟨i, x, y, hi, ex, ey, I.2.1 x y (H.2.2.2.1 u i x hu hi ex) (H.2.2.2.1 v i y h hi ey) w⟩))⟩
theorem yf_32 {post : SY → Prop} {J24 : Int32 → (Nat → Int32) → (Nat → Int32) → (Nat → Int32) → (Nat → Int32) → (Nat → Int32) → (Nat → Int32) → (Nat → Int32) → (Nat → Int32) → (Nat → Int32) → (Nat → Int32) → (Nat → Int32) → (Nat → Int32) → (Nat → Int32) →  Prop} (W : p_W P) (S : p_S3 P) (hY : p_Y P b_kind b_block b_left b_right b_arg b_exitKind b_exitX b_exitT b_exitF) (eb : g_blocks = nI (p_b P)) (ev : g_values = nI (p_v P)) {r : Nat}
    (HK : ∀ b_differ : Nat → Int32, yf_I P (r + 1) 0 0 b_differ → J24 (nI (r + 1)) b_kind b_block b_left b_right b_arg b_exitKind b_exitX b_exitT b_exitF b_without b_differ b_val b_fresh) :
    ∀ (n u : Nat) (b_differ : Nat → Int32), u ≤ p_v P → p_v P - u < n → yf_I P r u 0 b_differ → wY_findClasses_32 post J24 (nI r) g_maxBlocks g_maxValues g_blocks g_values g_isSealed g_hasRun g_isDone g_runForm g_in0 g_in1 g_at g_answer g_evals n (nI u) b_kind b_block b_left b_right b_arg b_exitKind b_exitX b_exitT b_exitF b_without b_differ b_val b_fresh := by
  have hv32 := W.2.2.1
  intro n
  induction n with
  | zero => intro u _ _ h; omega
  | succ n ih =>
    intro u b_differ hu hn I
    rw [wY_findClasses_32]
    exact pk_le (p_v P) u (fun h => nm_r (nI_1 r) (HK _ ⟨I.1, fun a b ha hb => I.2.2 a b ha hb (Or.inl (by omega)), fun a b _ _ hc => by omega⟩)) (fun h => ⟨p_v P + 1, yf_42 W S hY eb ev h (fun df I' => ih (u + 1) df (by omega) (by omega) I') (p_v P + 1) 0 _ (by omega) (by omega) I⟩) (hx := ev)
theorem yf_24 {post : SY → Prop} (W : p_W P) (S : p_S3 P) (hY : p_Y P b_kind b_block b_left b_right b_arg b_exitKind b_exitX b_exitT b_exitF) (eb : g_blocks = nI (p_b P)) (ev : g_values = nI (p_v P))
    (HK : ∀ b_differ : Nat → Int32, (∀ u v, u < p_v P → v < p_v P → (b_differ (u * 32 + v) = 0 ↔ p_q P u v)) → post (g_maxBlocks, g_maxValues, g_blocks, g_values, g_isSealed, g_hasRun, g_isDone, g_runForm, g_in0, g_in1, g_at, g_answer, g_evals, b_kind, b_block, b_left, b_right, b_arg, b_exitKind, b_exitX, b_exitT, b_exitF, b_without, b_differ, b_val, b_fresh)) :
    ∀ (n r : Nat) (b_differ : Nat → Int32), r ≤ 32 → 32 - r < n → yf_I P r 0 0 b_differ → wY_findClasses_24 post g_maxBlocks g_maxValues g_blocks g_values g_isSealed g_hasRun g_isDone g_runForm g_in0 g_in1 g_at g_answer g_evals n (nI r) b_kind b_block b_left b_right b_arg b_exitKind b_exitX b_exitT b_exitF b_without b_differ b_val b_fresh := by
  have hv32 := W.2.2.1
  have H := p_H W S
  intro n
  induction n with
  | zero => intro r _ _ h; omega
  | succ n ih =>
    intro r b_differ hr hn I
    rw [wY_findClasses_24]
    refine pk_le 32 r (fun h => HK _ (fun u v hu hv => ?_)) (fun h => ⟨p_v P + 1, yf_32 W S hY eb ev (fun df I' => ih (r + 1) df (by omega) (by omega) I') (p_v P + 1) 0 _ (by omega) (by omega) I⟩)
    have e : r = 32 := by omega
    subst e
    constructor
    · intro z
      exact cg_sat H hv32 hu hv (Classical.byContradiction (fun w => I.2.1 u v hu hv w z))
    · intro z
      exact Classical.byContradiction (fun w => I.1 u v hu hv w z)
theorem yf_2 {post : SY → Prop} (K : ∀ b_differ : Nat → Int32, (∀ j, j < 1024 → b_differ j = 0) → ∃ n, wY_findClasses_24 post g_maxBlocks g_maxValues g_blocks g_values g_isSealed g_hasRun g_isDone g_runForm g_in0 g_in1 g_at g_answer g_evals n 0 b_kind b_block b_left b_right b_arg b_exitKind b_exitX b_exitT b_exitF b_without b_differ b_val b_fresh) :
    ∀ (n i : Nat) (b_differ : Nat → Int32), i ≤ 1024 → 1024 - i < n → (∀ j, j < i → b_differ j = 0) → wY_findClasses_2 post g_maxBlocks g_maxValues g_blocks g_values g_isSealed g_hasRun g_isDone g_runForm g_in0 g_in1 g_at g_answer g_evals n (nI i) b_kind b_block b_left b_right b_arg b_exitKind b_exitX b_exitT b_exitF b_without b_differ b_val b_fresh := by
  intro n
  induction n with
  | zero => intro i _ _ h; omega
  | succ n ih =>
    intro i b_differ hi hn hf
    rw [wY_findClasses_2]
    refine pk_le 1024 i (fun h => ?_) (fun h => ⟨vp_in_nI (by omega) (by omega), ba_wr i rfl (by omega) ba_vb0 (nm_r (nI_1 i) (ih (i + 1) _ (by omega) (by omega) (ba_f1 hf)))⟩)
    have e : i = 1024 := by omega
    subst e
    exact K _ hf
theorem yf_classes {post : SY → Prop} (W : p_W P) (S : p_S3 P) (hY : p_Y P b_kind b_block b_left b_right b_arg b_exitKind b_exitX b_exitT b_exitF) (eb : g_blocks = nI (p_b P)) (ev : g_values = nI (p_v P))
    (HK : ∀ b_differ : Nat → Int32, (∀ u v, u < p_v P → v < p_v P → (b_differ (u * 32 + v) = 0 ↔ p_q P u v)) → post (g_maxBlocks, g_maxValues, g_blocks, g_values, g_isSealed, g_hasRun, g_isDone, g_runForm, g_in0, g_in1, g_at, g_answer, g_evals, b_kind, b_block, b_left, b_right, b_arg, b_exitKind, b_exitX, b_exitT, b_exitF, b_without, b_differ, b_val, b_fresh)) : wpY_findClasses post (g_maxBlocks, g_maxValues, g_blocks, g_values, g_isSealed, g_hasRun, g_isDone, g_runForm, g_in0, g_in1, g_at, g_answer, g_evals, b_kind, b_block, b_left, b_right, b_arg, b_exitKind, b_exitX, b_exitT, b_exitF, b_without, b_differ, b_val, b_fresh) := by
  have hv32 := W.2.2.1
  refine ⟨1025, yf_2 (fun b_differ hf => ⟨33, yf_24 W S hY eb ev HK 33 0 _ (by omega) (by omega) ⟨fun a b ha hb hd => absurd (hf _ (by omega)) hd, fun a b _ _ hm => absurd trivial hm, fun a b _ _ hc => by omega⟩⟩) 1025 0 _ (by omega) (by omega) ba_f0⟩
theorem yk_name2 {post : Int32 → Prop} (W : p_W P) (hq : ∀ u v, u < p_v P → v < p_v P → (b_differ (u * 32 + v) = 0 ↔ p_q P u v)) {v : Nat} (hv : v < p_v P) (rf : p_q P v v) (HK : ∀ m, m ≤ v → p_q P m v → (∀ w, w < m → ¬ p_q P w v) → post (nI m)) :
    ∀ n u, u ≤ v → v - u < n → (∀ w, w < u → ¬ p_q P w v) → wY_className_2 post (nI v) g_maxBlocks g_maxValues g_blocks g_values g_isSealed g_hasRun g_isDone g_runForm g_in0 g_in1 g_at g_answer g_evals b_kind b_block b_left b_right b_arg b_exitKind b_exitX b_exitT b_exitF b_without b_differ b_val b_fresh n (nI u) := by
  have hv32 := W.2.2.1
  intro n
  induction n with
  | zero => intro u _ h; omega
  | succ n ih =>
    intro u hu hn I
    rw [wY_className_2]
    refine pk_le v u (fun h => HK v (Nat.le_refl _) rf (fun w hw => I w (by omega))) (fun h => ⟨pk_in (u * 32 + v) 1024 (by omega) (ba_ix32 u v), ?_⟩)
    rw [pk_cl (u * 32 + v) (ba_ix32 u v)]
    refine ba_if (hq u v (by omega) hv) (fun e => HK u (by omega) e I) (fun e => nm_r (nI_1 u) (ih (u + 1) (by omega) (by omega) (fun w hw => ?_)))
    rcases Classical.em (w = u) with z | z
    · rw [z]; exact e
    · exact I w (by omega)
theorem yk_name {post : Int32 → Prop} (W : p_W P) (hq : ∀ u v, u < p_v P → v < p_v P → (b_differ (u * 32 + v) = 0 ↔ p_q P u v)) {v : Nat} (hv : v < p_v P) (rf : p_q P v v) (HK : ∀ m, m ≤ v → p_q P m v → (∀ w, w < m → ¬ p_q P w v) → post (nI m)) : wpY_className post (g_maxBlocks, g_maxValues, g_blocks, g_values, g_isSealed, g_hasRun, g_isDone, g_runForm, g_in0, g_in1, g_at, g_answer, g_evals, b_kind, b_block, b_left, b_right, b_arg, b_exitKind, b_exitX, b_exitT, b_exitF, b_without, b_differ, b_val, b_fresh) (nI v) :=
  ⟨v + 1, yk_name2 W hq hv rf HK (v + 1) 0 (by omega) (by omega) (fun w hw => by omega)⟩
theorem yk_inS {post : Int32 → Prop} (W : p_W P) (hY : p_Y P b_kind b_block b_left b_right b_arg b_exitKind b_exitX b_exitT b_exitF) (hw : ∀ a b, a < p_b P → b < p_b P → (bt (b_without a) b = false ↔ p_D P a b)) (hq : ∀ u v, u < p_v P → v < p_v P → (b_differ (u * 32 + v) = 0 ↔ p_q P u v)) {v w : Nat} (hv : v < p_v P) (hww : w < p_v P)
    (h1 : ld_S (p_q P) (p_D P) (p_B P) v w → post 1) (h0 : ¬ ld_S (p_q P) (p_D P) (p_B P) v w → post 0) : wpY_inS post (g_maxBlocks, g_maxValues, g_blocks, g_values, g_isSealed, g_hasRun, g_isDone, g_runForm, g_in0, g_in1, g_at, g_answer, g_evals, b_kind, b_block, b_left, b_right, b_arg, b_exitKind, b_exitX, b_exitT, b_exitF, b_without, b_differ, b_val, b_fresh) (nI v) (nI w) := by
  have hb8 := W.2.1
  have hv32 := W.2.2.1
  have hBv := (W.2.2.2.1 v hv).2.1
  have hBw := (W.2.2.2.1 w hww).2.1
  have Vv : vp_in (nI v) 32 := vp_in_nI (by omega) (by omega)
  have Vw : vp_in (nI w) 32 := vp_in_nI (by omega) (by omega)
  refine ⟨pk_in (v * 32 + w) 1024 (by omega) (ba_ix32 v w), ?_⟩
  rw [pk_cl (v * 32 + w) (ba_ix32 v w), nI_clamp (by omega), nI_clamp (by omega), hY.2.1 v hv, hY.2.1 w hww]
  refine ba_if (hq v w hv hww) (fun e => ⟨Vw, Vv, pk_eq (p_B P w) (p_B P v) (fun eB => pk_lt v w (fun l => h0 (fun z => ?_)) (fun l => h1 ⟨e, by rw [eB]; exact gr_D_rf _, fun _ => l⟩)) (fun eB => ⟨Vw, Vv, yr_dom W hw hBw hBv (fun d => ⟨rfl, h1 ⟨e, d, fun z => absurd z eB⟩⟩) (fun d => ⟨rfl, h0 (fun z => d z.2.1)⟩)⟩)⟩) (fun e => h0 (fun z => e z.1))
  have := z.2.2 eB
  omega
theorem yk_20 {post J2 : Int32 → Prop} (W : p_W P) (hY : p_Y P b_kind b_block b_left b_right b_arg b_exitKind b_exitX b_exitT b_exitF) (ev : g_values = nI (p_v P)) (hw : ∀ a b, a < p_b P → b < p_b P → (bt (b_without a) b = false ↔ p_D P a b)) (hq : ∀ u v, u < p_v P → v < p_v P → (b_differ (u * 32 + v) = 0 ↔ p_q P u v)) {v w : Nat} (hv : v < p_v P) (hww : w < p_v P)
    (h1 : ld_t (p_v P) (p_q P) (p_D P) (p_B P) v w → post (nI w)) (h0 : ¬ ld_t (p_v P) (p_q P) (p_D P) (p_B P) v w → J2 (nI (w + 1))) :
    ∀ (n s : Nat) (c : Bool), s ≤ p_v P → p_v P - s < n → (c = true → ld_S (p_q P) (p_D P) (p_B P) v w ∧ ∀ x, x < s → ld_S (p_q P) (p_D P) (p_B P) v x → p_D P (p_B P w) (p_B P x)) → (c = false → ¬ ld_t (p_v P) (p_q P) (p_D P) (p_B P) v w) → wY_leaderOf_20 post J2 (nI v) (nI w) g_maxBlocks g_maxValues g_blocks g_values g_isSealed g_hasRun g_isDone g_runForm g_in0 g_in1 g_at g_answer g_evals b_kind b_block b_left b_right b_arg b_exitKind b_exitX b_exitT b_exitF b_without b_differ b_val b_fresh n (xd_c c) (nI s) := by
  have hb8 := W.2.1
  have hv32 := W.2.2.1
  have hBw := (W.2.2.2.1 w hww).2.1
  intro n
  induction n with
  | zero => intro s _ _ h; omega
  | succ n ih =>
    intro s c hs hn I1 I0
    rw [wY_leaderOf_20]
    have fin0 : c = false → wY_leaderOf_71 post J2 (nI v) (nI w) (xd_c c) g_maxBlocks g_maxValues g_blocks g_values g_isSealed g_hasRun g_isDone g_runForm g_in0 g_in1 g_at g_answer g_evals b_kind b_block b_left b_right b_arg b_exitKind b_exitX b_exitT b_exitF b_without b_differ b_val b_fresh := by
      intro e
      unfold wY_leaderOf_71
      rw [e]
      exact br_t rfl (nm_r (nI_1 w) (h0 (I0 e)))
    refine pk_le (p_v P) s (fun h => ?_) (fun h => ?_) (hx := ev)
    · cases c with
      | false => exact fin0 rfl
      | true =>
        unfold wY_leaderOf_71
        exact br_f (by decide) (h1 ⟨(I1 rfl).1, fun x hx hS => (I1 rfl).2 x (by omega) hS⟩)
    · cases c with
      | false => exact br_t rfl (fin0 rfl)
      | true =>
        obtain ⟨a1, a2⟩ := I1 rfl
        have hBs := (W.2.2.2.1 s h).2.1
        refine br_f (by decide) (yk_inS W hY hw hq hv h (fun z => br_f (by decide) ⟨vp_in_nI (by omega) (by omega), vp_in_nI (by omega) (by omega), ?_⟩) (fun z => br_t rfl (nm_r (nI_1 s) (ih (s + 1) true (by omega) (by omega) (fun _ => ⟨a1, fun x hx hS => ?_⟩) (fun y => by cases y)))))
        · rw [nI_clamp (by omega), nI_clamp (by omega), hY.2.1 w hww, hY.2.1 s h]
          refine yr_dom W hw hBw hBs (fun d => br_f (by decide) (nm_r (nI_1 s) (ih (s + 1) true (by omega) (by omega) (fun _ => ⟨a1, fun x hx hS => ?_⟩) (fun y => by cases y)))) (fun d => br_t rfl (nm_r (nI_1 s) (ih (s + 1) false (by omega) (by omega) (fun y => by cases y) (fun _ y => d (y.2 s h z)))))
          rcases Classical.em (x = s) with q | q
          · rw [q]; exact d
          · exact a2 x (by omega) hS
        · rcases Classical.em (x = s) with q | q
          · rw [q] at hS; exact absurd hS z
          · exact a2 x (by omega) hS
theorem yk_2 {post : Int32 → Prop} (W : p_W P) (hY : p_Y P b_kind b_block b_left b_right b_arg b_exitKind b_exitX b_exitT b_exitF) (ev : g_values = nI (p_v P)) (hw : ∀ a b, a < p_b P → b < p_b P → (bt (b_without a) b = false ↔ p_D P a b)) (hq : ∀ u v, u < p_v P → v < p_v P → (b_differ (u * 32 + v) = 0 ↔ p_q P u v)) {v l : Nat} (hv : v < p_v P) (hl : l < p_v P)
    (g1 : ld_t (p_v P) (p_q P) (p_D P) (p_B P) v l) (g2 : ∀ x, x < l → ¬ ld_t (p_v P) (p_q P) (p_D P) (p_B P) v x) (HK : post (nI l)) :
    ∀ n w, w ≤ l → l - w < n → wY_leaderOf_2 post (nI v) g_maxBlocks g_maxValues g_blocks g_values g_isSealed g_hasRun g_isDone g_runForm g_in0 g_in1 g_at g_answer g_evals b_kind b_block b_left b_right b_arg b_exitKind b_exitX b_exitT b_exitF b_without b_differ b_val b_fresh n (nI w) := by
  have hv32 := W.2.2.1
  intro n
  induction n with
  | zero => intro w _ h; omega
  | succ n ih =>
    intro w hwl hn
    rw [wY_leaderOf_2]
    refine pk_le (p_v P) w (fun h => by omega) (fun h => ?_) (hx := ev)
    have nx : ¬ ld_t (p_v P) (p_q P) (p_D P) (p_B P) v w → wY_leaderOf_2 post (nI v) g_maxBlocks g_maxValues g_blocks g_values g_isSealed g_hasRun g_isDone g_runForm g_in0 g_in1 g_at g_answer g_evals b_kind b_block b_left b_right b_arg b_exitKind b_exitX b_exitT b_exitF b_without b_differ b_val b_fresh n (nI (w + 1)) := by
      intro z
      refine ih (w + 1) ?_ ?_
      · rcases Classical.em (w = l) with q | q
        · rw [q] at z; exact absurd g1 z
        · omega
      · rcases Classical.em (w = l) with q | q
        · rw [q] at z; exact absurd g1 z
        · omega
    have yes : ld_t (p_v P) (p_q P) (p_D P) (p_B P) v w → post (nI w) := by
      intro z
      have : w = l := by
        rcases Nat.lt_or_ge w l with q | q
        · exact absurd z (g2 w q)
        · omega
      rw [this]; exact HK
    refine yk_inS W hY hw hq hv h (fun z => ⟨p_v P + 1, ?_⟩) (fun z => ⟨p_v P + 1, ?_⟩)
    · exact yk_20 W hY ev hw hq hv h yes nx (p_v P + 1) 0 true (by omega) (by omega) (fun _ => ⟨z, fun x hx => by omega⟩) (fun y => by cases y)
    · exact yk_20 W hY ev hw hq hv h yes nx (p_v P + 1) 0 false (by omega) (by omega) (fun y => by cases y) (fun _ y => z y.1)
theorem yk_lead {post : Int32 → Prop} (W : p_W P) (S : p_S P) (hY : p_Y P b_kind b_block b_left b_right b_arg b_exitKind b_exitX b_exitT b_exitF) (ev : g_values = nI (p_v P)) (hw : ∀ a b, a < p_b P → b < p_b P → (bt (b_without a) b = false ↔ p_D P a b)) (hq : ∀ u v, u < p_v P → v < p_v P → (b_differ (u * 32 + v) = 0 ↔ p_q P u v)) {v l : Nat} (hv : v < p_v P)
    (hl : ld_V (p_v P) (p_D P) (p_B P) (p_q P v) (p_B P v) l) (HK : post (nI l)) : wpY_leaderOf post (g_maxBlocks, g_maxValues, g_blocks, g_values, g_isSealed, g_hasRun, g_isDone, g_runForm, g_in0, g_in1, g_at, g_answer, g_evals, b_kind, b_block, b_left, b_right, b_arg, b_exitKind, b_exitX, b_exitT, b_exitF, b_without, b_differ, b_val, b_fresh) (nI v) := by
  obtain ⟨g1, g2⟩ := ld_ref (fun a b ha hb h1 h2 => p_Das W S.1 (W.2.2.2.1 a ha).2.1 h1 h2) (fun v hv => ⟨cg_E_rf (p_H W S.2.1) hv, gr_D_rf _⟩) hv hl
  exact ⟨l + 1, yk_2 W hY ev hw hq hv hl.1 g1 g2 HK (l + 1) 0 (by omega) (by omega)⟩
end YC
end
section
/-! Y: seal -/
def y_S (P : PT) (wo df : Nat → Int32) : Prop := (∀ a b, a < p_b P → b < p_b P → (bt (wo a) b = false ↔ p_D P a b)) ∧ (∀ u v, u < p_v P → v < p_v P → (df (u * 32 + v) = 0 ↔ p_q P u v))
section YZ
variable {g_maxBlocks g_maxValues g_blocks g_values g_isSealed g_hasRun g_isDone g_runForm g_in0 g_in1 g_at g_answer g_evals : Int32} {b_kind b_block b_left b_right b_arg b_exitKind b_exitX b_exitT b_exitF b_without b_differ b_val b_fresh : Nat → Int32} {P : PT}
theorem yz_135 {post : Int32 → SY → Prop} (W : p_W P) (S : p_S3 P) (ev : g_values = nI (p_v P)) (hq : ∀ u v, u < p_v P → v < p_v P → (b_differ (u * 32 + v) = 0 ↔ p_q P u v)) (HK : post (nI (cn (p_rep P) (p_v P))) (g_maxBlocks, g_maxValues, g_blocks, g_values, g_isSealed, g_hasRun, g_isDone, g_runForm, g_in0, g_in1, g_at, g_answer, g_evals, b_kind, b_block, b_left, b_right, b_arg, b_exitKind, b_exitX, b_exitT, b_exitF, b_without, b_differ, b_val, b_fresh)) :
    ∀ n v, v ≤ p_v P → p_v P - v < n → wY_seal_135 post g_maxBlocks g_maxValues g_blocks g_values g_isSealed g_hasRun g_isDone g_runForm g_in0 g_in1 g_at g_answer g_evals b_kind b_block b_left b_right b_arg b_exitKind b_exitX b_exitT b_exitF b_without b_differ b_val b_fresh n (nI (cn (p_rep P) v)) (nI v) := by
  have hv32 := W.2.2.1
  intro n
  induction n with
  | zero => intro v _ h; omega
  | succ n ih =>
    intro v hv hn
    rw [wY_seal_135]
    refine pk_le (p_v P) v (fun h => ?_) (fun h => yk_name W hq h (cg_E_rf (p_H W S) h) (fun m m1 m2 m3 => ?_)) (hx := ev)
    · have e : v = p_v P := by omega
      subst e
      exact HK
    · refine pk_eq m v (fun e => nm_r (e' := nI (cn (p_rep P) (v + 1))) ?_ (nm_r (nI_1 v) (ih (v + 1) (by omega) (by omega)))) (fun e => nm_r (nI_1 v) ?_)
      · subst e
        rw [cn_t (show p_rep P m from m3), nI_1]
      · have := ih (v + 1) (by omega) (by omega)
        rw [cn_f (show ¬ p_rep P v from fun z => z m (by omega) m2)] at this
        exact this
theorem yz_82 {post : Int32 → SY → Prop} (W : p_W P) (S1 : p_S1 P) (S2 : p_S2 P) (S3 : p_S3 P) (hY : p_Y P b_kind b_block b_left b_right b_arg b_exitKind b_exitX b_exitT b_exitF) (eb : g_blocks = nI (p_b P)) (ev : g_values = nI (p_v P))
    (H8 : ¬ p_S4 P → ∀ b_without : Nat → Int32, post (-8) (g_maxBlocks, g_maxValues, g_blocks, g_values, g_isSealed, g_hasRun, g_isDone, g_runForm, g_in0, g_in1, g_at, g_answer, g_evals, b_kind, b_block, b_left, b_right, b_arg, b_exitKind, b_exitX, b_exitT, b_exitF, b_without, b_differ, b_val, b_fresh)) (H0 : p_S4 P → ∀ b_without b_differ : Nat → Int32, y_S P b_without b_differ → post (nI (cn (p_rep P) (p_v P))) (g_maxBlocks, g_maxValues, g_blocks, g_values, 1, 0, g_isDone, g_runForm, g_in0, g_in1, g_at, g_answer, g_evals, b_kind, b_block, b_left, b_right, b_arg, b_exitKind, b_exitX, b_exitT, b_exitF, b_without, b_differ, b_val, b_fresh)) :
    ∀ (n b : Nat) (b_without : Nat → Int32), b ≤ p_b P → p_b P - b < n → (∀ a c, a < b → c < p_b P → (bt (b_without a) c = false ↔ p_D P a c)) → wY_seal_82 post g_maxBlocks g_maxValues g_blocks g_values g_isSealed g_hasRun g_isDone g_runForm g_in0 g_in1 g_at g_answer g_evals n (nI b) b_kind b_block b_left b_right b_arg b_exitKind b_exitX b_exitT b_exitF b_without b_differ b_val b_fresh := by
  have hb8 := W.2.1
  have hv32 := W.2.2.1
  intro n
  induction n with
  | zero => intro b _ _ h; omega
  | succ n ih =>
    intro b b_without hb hn I
    rw [wY_seal_82]
    refine pk_le (p_b P) b (fun h => ?_) (fun h => ?_) (hx := eb)
    · have hw : ∀ a c, a < p_b P → c < p_b P → (bt (b_without a) c = false ↔ p_D P a c) := fun a c ha hc => I a c (by omega) hc
      refine yr_scope W hY eb ev hw (fun s4 => br_f (by decide) (yf_classes W S3 hY eb ev (fun b_differ hq => ⟨p_v P + 1, ?_⟩))) (fun s4 => br_t rfl (H8 s4 _))
      exact yz_135 W S3 ev hq (H0 s4 _ _ ⟨hw, hq⟩) (p_v P + 1) 0 (by omega) (by omega)
    · refine yr_reach (g := fun x => x = b) W hY eb (fun t ht => by rw [nI_eq (by omega) (by omega)]) (fun m hm => ⟨vp_in_nI (by omega) (by omega), ba_wr b rfl (by omega) rfl (nm_r (nI_1 b) (ih (b + 1) _ (by omega) (by omega) (fun a c ha hc => ?_)))⟩)
      rcases Classical.em (a = b) with z | z
      · rw [z, pk_us]
        have := hm c hc
        constructor
        · intro e k hk
          rw [this.mpr ⟨k, hk⟩] at e; cases e
        · intro d
          cases e : bt m c with
          | false => rfl
          | true =>
            obtain ⟨k, hk⟩ := this.mp e
            exact absurd hk (d k)
      · rw [pk_un z]; exact I a c (by omega) hc
theorem yz_45 {post : Int32 → SY → Prop} (W : p_W P) (S1 : p_S1 P) (hY : p_Y P b_kind b_block b_left b_right b_arg b_exitKind b_exitX b_exitT b_exitF) (eb : g_blocks = nI (p_b P)) (ev : g_values = nI (p_v P)) {m : Int32} (hm : ∀ c, c < p_b P → (bt m c = true ↔ ∃ k, gr_R (p_b P) (p_E P) (fun _ => False) k c))
    (H6 : ¬ p_S2 P → post (-6) (g_maxBlocks, g_maxValues, g_blocks, g_values, g_isSealed, g_hasRun, g_isDone, g_runForm, g_in0, g_in1, g_at, g_answer, g_evals, b_kind, b_block, b_left, b_right, b_arg, b_exitKind, b_exitX, b_exitT, b_exitF, b_without, b_differ, b_val, b_fresh)) (H7 : p_S2 P → ¬ p_S3 P → post (-7) (g_maxBlocks, g_maxValues, g_blocks, g_values, g_isSealed, g_hasRun, g_isDone, g_runForm, g_in0, g_in1, g_at, g_answer, g_evals, b_kind, b_block, b_left, b_right, b_arg, b_exitKind, b_exitX, b_exitT, b_exitF, b_without, b_differ, b_val, b_fresh))
    (H8 : p_S2 P → p_S3 P → ¬ p_S4 P → ∀ b_without : Nat → Int32, post (-8) (g_maxBlocks, g_maxValues, g_blocks, g_values, g_isSealed, g_hasRun, g_isDone, g_runForm, g_in0, g_in1, g_at, g_answer, g_evals, b_kind, b_block, b_left, b_right, b_arg, b_exitKind, b_exitX, b_exitT, b_exitF, b_without, b_differ, b_val, b_fresh)) (H0 : p_S P → ∀ b_without b_differ : Nat → Int32, y_S P b_without b_differ → post (nI (cn (p_rep P) (p_v P))) (g_maxBlocks, g_maxValues, g_blocks, g_values, 1, 0, g_isDone, g_runForm, g_in0, g_in1, g_at, g_answer, g_evals, b_kind, b_block, b_left, b_right, b_arg, b_exitKind, b_exitX, b_exitT, b_exitF, b_without, b_differ, b_val, b_fresh)) :
    ∀ (n b : Nat), b ≤ p_b P → p_b P - b < n → (∀ c, c < b → ∃ k, gr_R (p_b P) (p_E P) (fun _ => False) k c) → wY_seal_45 post m g_maxBlocks g_maxValues g_blocks g_values g_isSealed g_hasRun g_isDone g_runForm g_in0 g_in1 g_at g_answer g_evals b_kind b_block b_left b_right b_arg b_exitKind b_exitX b_exitT b_exitF b_without b_differ b_val b_fresh n (nI b) := by
  have hb8 := W.2.1
  intro n
  induction n with
  | zero => intro b _ h; omega
  | succ n ih =>
    intro b hb hn I
    rw [wY_seal_45]
    refine pk_le (p_b P) b (fun h => ?_) (fun h => ?_) (hx := eb)
    · have s2 : p_S2 P := fun c hc => I c (by omega)
      refine yr_phis W hY eb ev (fun s3 => br_f (by decide) ⟨p_b P + 1, ?_⟩) (fun s3 => br_t rfl (H7 s2 s3))
      exact yz_82 W S1 s2 s3 hY eb ev (fun s4 => H8 s2 s3 s4) (fun s4 => H0 ⟨s2, s3, s4⟩) (p_b P + 1) 0 _ (by omega) (by omega) (fun a c ha => by omega)
    · refine ba_bb (s := b) (by omega) (fun e => H6 (fun s => ?_)) (fun e => nm_r (nI_1 b) (ih (b + 1) (by omega) (by omega) (fun c hc => ?_)))
      · rw [(hm b h).mpr (s b h)] at e; cases e
      · rcases Classical.em (c = b) with z | z
        · rw [z]; exact (hm b h).mp e
        · exact I c (by omega)
theorem yz_11 {post : Int32 → SY → Prop} (W : p_W P) (hY : p_Y P b_kind b_block b_left b_right b_arg b_exitKind b_exitX b_exitT b_exitF) (eb : g_blocks = nI (p_b P)) (ev : g_values = nI (p_v P))
    (H5 : ¬ p_S1 P → post (-5) (g_maxBlocks, g_maxValues, g_blocks, g_values, g_isSealed, g_hasRun, g_isDone, g_runForm, g_in0, g_in1, g_at, g_answer, g_evals, b_kind, b_block, b_left, b_right, b_arg, b_exitKind, b_exitX, b_exitT, b_exitF, b_without, b_differ, b_val, b_fresh)) (H6 : p_S1 P → ¬ p_S2 P → post (-6) (g_maxBlocks, g_maxValues, g_blocks, g_values, g_isSealed, g_hasRun, g_isDone, g_runForm, g_in0, g_in1, g_at, g_answer, g_evals, b_kind, b_block, b_left, b_right, b_arg, b_exitKind, b_exitX, b_exitT, b_exitF, b_without, b_differ, b_val, b_fresh)) (H7 : p_S1 P → p_S2 P → ¬ p_S3 P → post (-7) (g_maxBlocks, g_maxValues, g_blocks, g_values, g_isSealed, g_hasRun, g_isDone, g_runForm, g_in0, g_in1, g_at, g_answer, g_evals, b_kind, b_block, b_left, b_right, b_arg, b_exitKind, b_exitX, b_exitT, b_exitF, b_without, b_differ, b_val, b_fresh))
    (H8 : p_S1 P → p_S2 P → p_S3 P → ¬ p_S4 P → ∀ b_without : Nat → Int32, post (-8) (g_maxBlocks, g_maxValues, g_blocks, g_values, g_isSealed, g_hasRun, g_isDone, g_runForm, g_in0, g_in1, g_at, g_answer, g_evals, b_kind, b_block, b_left, b_right, b_arg, b_exitKind, b_exitX, b_exitT, b_exitF, b_without, b_differ, b_val, b_fresh)) (H0 : p_S1 P → p_S P → ∀ b_without b_differ : Nat → Int32, y_S P b_without b_differ → post (nI (cn (p_rep P) (p_v P))) (g_maxBlocks, g_maxValues, g_blocks, g_values, 1, 0, g_isDone, g_runForm, g_in0, g_in1, g_at, g_answer, g_evals, b_kind, b_block, b_left, b_right, b_arg, b_exitKind, b_exitX, b_exitT, b_exitF, b_without, b_differ, b_val, b_fresh)) :
    ∀ (n b : Nat), b ≤ p_b P → p_b P - b < n → (∀ c, c < b → p_e P c ≠ 0) → wY_seal_11 post g_maxBlocks g_maxValues g_blocks g_values g_isSealed g_hasRun g_isDone g_runForm g_in0 g_in1 g_at g_answer g_evals b_kind b_block b_left b_right b_arg b_exitKind b_exitX b_exitT b_exitF b_without b_differ b_val b_fresh n (nI b) := by
  have hb8 := W.2.1
  intro n
  induction n with
  | zero => intro b _ h; omega
  | succ n ih =>
    intro b hb hn I
    rw [wY_seal_11]
    refine pk_le (p_b P) b (fun h => ?_) (fun h => ⟨vp_in_nI (by omega) (by omega), ?_⟩) (hx := eb)
    · have s1 : p_S1 P := fun c hc => I c (by omega)
      refine yr_reach (g := fun _ => False) W hY eb (fun t ht => ⟨fun z => absurd z (ba_ne1 (by omega)), fun z => z.elim⟩) (fun m hm => ⟨p_b P + 1, ?_⟩)
      exact yz_45 W s1 hY eb ev hm (H6 s1) (H7 s1) (H8 s1) (H0 s1) (p_b P + 1) 0 (by omega) (by omega) (fun c hc => by omega)
    · have hK := (W.2.2.2.2 b h).1
      rw [nI_clamp (by omega), hY.2.2.2.2.2.2.1 b h]
      refine pk_eq (p_e P b) 0 (fun e => H5 (fun s => s b h e)) (fun e => nm_r (nI_1 b) (ih (b + 1) (by omega) (by omega) (fun c hc => ?_)))
      rcases Classical.em (c = b) with z | z
      · rw [z]; exact e
      · exact I c (by omega)
theorem yz_seal {post : Int32 → SY → Prop} (W : p_W P) (hY : p_Y P b_kind b_block b_left b_right b_arg b_exitKind b_exitX b_exitT b_exitF) (eb : g_blocks = nI (p_b P)) (ev : g_values = nI (p_v P)) (es : g_isSealed = 0)
    (H5 : ¬ p_S1 P → post (-5) (g_maxBlocks, g_maxValues, g_blocks, g_values, g_isSealed, g_hasRun, g_isDone, g_runForm, g_in0, g_in1, g_at, g_answer, g_evals, b_kind, b_block, b_left, b_right, b_arg, b_exitKind, b_exitX, b_exitT, b_exitF, b_without, b_differ, b_val, b_fresh)) (H6 : p_S1 P → ¬ p_S2 P → post (-6) (g_maxBlocks, g_maxValues, g_blocks, g_values, g_isSealed, g_hasRun, g_isDone, g_runForm, g_in0, g_in1, g_at, g_answer, g_evals, b_kind, b_block, b_left, b_right, b_arg, b_exitKind, b_exitX, b_exitT, b_exitF, b_without, b_differ, b_val, b_fresh)) (H7 : p_S1 P → p_S2 P → ¬ p_S3 P → post (-7) (g_maxBlocks, g_maxValues, g_blocks, g_values, g_isSealed, g_hasRun, g_isDone, g_runForm, g_in0, g_in1, g_at, g_answer, g_evals, b_kind, b_block, b_left, b_right, b_arg, b_exitKind, b_exitX, b_exitT, b_exitF, b_without, b_differ, b_val, b_fresh))
    (H8 : p_S1 P → p_S2 P → p_S3 P → ¬ p_S4 P → ∀ b_without : Nat → Int32, post (-8) (g_maxBlocks, g_maxValues, g_blocks, g_values, g_isSealed, g_hasRun, g_isDone, g_runForm, g_in0, g_in1, g_at, g_answer, g_evals, b_kind, b_block, b_left, b_right, b_arg, b_exitKind, b_exitX, b_exitT, b_exitF, b_without, b_differ, b_val, b_fresh)) (H0 : p_S1 P → p_S P → ∀ b_without b_differ : Nat → Int32, y_S P b_without b_differ → post (nI (cn (p_rep P) (p_v P))) (g_maxBlocks, g_maxValues, g_blocks, g_values, 1, 0, g_isDone, g_runForm, g_in0, g_in1, g_at, g_answer, g_evals, b_kind, b_block, b_left, b_right, b_arg, b_exitKind, b_exitX, b_exitT, b_exitF, b_without, b_differ, b_val, b_fresh)) : wpY_seal post (g_maxBlocks, g_maxValues, g_blocks, g_values, g_isSealed, g_hasRun, g_isDone, g_runForm, g_in0, g_in1, g_at, g_answer, g_evals, b_kind, b_block, b_left, b_right, b_arg, b_exitKind, b_exitX, b_exitT, b_exitF, b_without, b_differ, b_val, b_fresh) :=
  br_t es ⟨p_b P + 1, yz_11 W hY eb ev H5 H6 H7 H8 H0 (p_b P + 1) 0 (by omega) (by omega) (fun c hc => by omega)⟩
end YZ
end
section
/-! X: running a block -/
theorem rn_m_id (o : Option Nat) : rn_m (fun x => x) o = o := by cases o <;> rfl
/-- the form f (operands by g) in X's arrays -/
def xq_F (P : PT) (f : Nat) (g : Nat → Nat) (ar ev body bs bo be : Nat → Int32) : Prop :=
  f < 2 ∧ (∀ x, x < p_v P → g x < p_v P) ∧ (∀ v i, v < p_v P → i < 8 → ar (f * 256 + v * 8 + i) = ba_o (rn_m g (p_A P v i))) ∧ (∀ b, b < p_b P → ev (f * 8 + b) = ba_o (rn_m g (p_x P b))) ∧
  bo_S P f (fun v => g v = v) (p_b P) 64 body bs bo be ∧ (∀ w i x, w < p_v P → p_K P w ≠ 2 → i < 8 → rn_m g (p_A P w i) = some x → p_B P x = p_B P w → x < w)
theorem xq_mlt {P : PT} {g : Nat → Nat} (W : p_W P) (hg : ∀ x, x < p_v P → g x < p_v P) {v i x : Nat} (hv : v < p_v P) (hi : i < 8) (h : rn_m g (p_A P v i) = some x) : x < p_v P := by
  cases ea : p_A P v i with
  | none => rw [ea] at h; cases h
  | some y => rw [ea] at h; cases h; exact hg y ((W.2.2.2.1 v hv).2.2.1 i y hi ea)
section XRUN
variable {f_blockLimit f_valueLimit f_blockCount f_valueCount f_sealed f_classCount f_workTop f_touchedCount f_undoTop f_runState f_runForm f_here f_input0 f_input1 f_returned f_evaluated : Int32} {a_valueKind a_valueBlock a_leaf a_args a_exitKind a_exitValue a_exitTrue a_exitFalse a_predMask a_order a_orderIndex a_idom a_domMask a_firstChild a_nextSibling a_stack a_cursor a_members a_location a_classIndex a_classStart a_classSize a_classMarked a_className a_useHead a_useNext a_work a_inWork a_splitter a_touched a_leaderOf a_available a_undo a_scopeMark a_body a_bodyStart a_bodyOps a_bodyEnd a_env a_phiNew : Nat → Int32} {P : PT} {f : Nat} {g : Nat → Nat}
theorem xq_arg {post : Int32 → Prop} (W : p_W P) (F : xq_F P f g a_args a_exitValue a_body a_bodyStart a_bodyOps a_bodyEnd) (ef : f_runForm = nI f) {v i : Nat} (hv : v < p_v P) (hi : i < 8) (HK : post (rn_g a_env (rn_m g (p_A P v i)))) : wpX_argument post (f_blockLimit, f_valueLimit, f_blockCount, f_valueCount, f_sealed, f_classCount, f_workTop, f_touchedCount, f_undoTop, f_runState, f_runForm, f_here, f_input0, f_input1, f_returned, f_evaluated, a_valueKind, a_valueBlock, a_leaf, a_args, a_exitKind, a_exitValue, a_exitTrue, a_exitFalse, a_predMask, a_order, a_orderIndex, a_idom, a_domMask, a_firstChild, a_nextSibling, a_stack, a_cursor, a_members, a_location, a_classIndex, a_classStart, a_classSize, a_classMarked, a_className, a_useHead, a_useNext, a_work, a_inWork, a_splitter, a_touched, a_leaderOf, a_available, a_undo, a_scopeMark, a_body, a_bodyStart, a_bodyOps, a_bodyEnd, a_env, a_phiNew) (nI v) (nI i) := by
  have hv32 := W.2.2.1
  have hf := F.1
  subst ef
  refine ⟨pk_in (f * 256 + v * 8 + i) 512 (by omega) (ba_ixf f v i), ba_rd (f * 256 + v * 8 + i) (ba_ixf f v i) (by omega) (F.2.2.1 v i hv hi) ?_⟩
  have hb : ∀ x, rn_m g (p_A P v i) = some x → x < p_v P := fun x => xq_mlt W F.2.1 hv hi
  cases eo : rn_m g (p_A P v i) with
  | none => rw [eo] at HK; exact br_f ba_n1le HK
  | some x =>
    have := hb x eo
    rw [eo] at HK
    refine br_t (nI_pos' (n := x) (by omega)) ⟨vp_in_nI (n := x) (by omega) (by omega), ?_⟩
    rw [show ba_o (some x) = nI x from rfl, nI_clamp (by omega)]
    exact HK
theorem xq_eval {post : Int32 → Prop} (W : p_W P) (hX : p_X P a_valueKind a_valueBlock a_leaf a_args a_exitKind a_exitValue a_exitTrue a_exitFalse) (F : xq_F P f g a_args a_exitValue a_body a_bodyStart a_bodyOps a_bodyEnd) (ef : f_runForm = nI f) {v : Nat} (hv : v < p_v P) (hk : p_K P v ≠ 2)
    (HK : post (rn_ev (p_K P v) (p_L P v) f_input0 f_input1 (rn_g a_env (rn_m g (p_A P v 0))) (rn_g a_env (rn_m g (p_A P v 1))))) : wpX_evaluate post (f_blockLimit, f_valueLimit, f_blockCount, f_valueCount, f_sealed, f_classCount, f_workTop, f_touchedCount, f_undoTop, f_runState, f_runForm, f_here, f_input0, f_input1, f_returned, f_evaluated, a_valueKind, a_valueBlock, a_leaf, a_args, a_exitKind, a_exitValue, a_exitTrue, a_exitFalse, a_predMask, a_order, a_orderIndex, a_idom, a_domMask, a_firstChild, a_nextSibling, a_stack, a_cursor, a_members, a_location, a_classIndex, a_classStart, a_classSize, a_classMarked, a_className, a_useHead, a_useNext, a_work, a_inWork, a_splitter, a_touched, a_leaderOf, a_available, a_undo, a_scopeMark, a_body, a_bodyStart, a_bodyOps, a_bodyEnd, a_env, a_phiNew) (nI v) := by
  have hv32 := W.2.2.1
  have hK := (W.2.2.2.1 v hv).1
  have V : vp_in (nI v) 32 := vp_in_nI (by omega) (by omega)
  unfold wpX_evaluate
  refine xq_arg (i := 0) W F ef hv (by omega) ?_
  refine xq_arg (i := 1) W F ef hv (by omega) ?_
  refine ⟨V, ba_rd v rfl (by omega) (hX.1 v hv) ?_⟩
  generalize rn_g a_env (rn_m g (p_A P v 0)) = l at *
  generalize rn_g a_env (rn_m g (p_A P v 1)) = r at *
  rw [nI_clamp (by omega), hX.2.2.1 v hv]
  refine br_f (nI_pos (by omega)) (br_f (nI_nlt (b := p_K P v) (a := 12) hK (by omega)) ?_)
  generalize p_K P v = k at *
  refine pk_eq k 0 (fun e => ⟨V, by subst e; exact HK⟩) (fun e0 => pk_eq k 1 (fun e => ⟨V, ?_⟩) (fun e1 => pk_eq k 2 (fun e => absurd e hk) (fun e2 => pk_eq k 3 (fun e => by subst e; exact HK) (fun e3 => pk_eq k 4 (fun e => by subst e; exact HK) (fun e4 => pk_eq k 5 (fun e => by subst e; exact HK) (fun e5 => pk_eq k 6 (fun e => by subst e; exact HK) (fun e6 => pk_eq k 7 (fun e => by subst e; exact HK) (fun e7 => pk_eq k 8 (fun e => by subst e; exact HK) (fun e8 => pk_eq k 9 (fun e => ?_) (fun e9 => pk_eq k 10 (fun e => ?_) (fun e10 => pk_eq k 11 (fun e => by subst e; exact HK) (fun e11 => pk_eq k 12 (fun e => by subst e; exact HK) (fun e12 => trivial)))))))))))))
  · subst e
    have HK' : post (if p_L P v = 0 then f_input0 else f_input1) := HK
    refine br_c (fun q => ?_) (fun q => ?_)
    · rw [if_pos q] at HK'; exact HK'
    · rw [if_neg q] at HK'; exact HK'
  · subst e
    have HK' : post (if r ≤ l then 0 else 1) := HK
    refine br_c (fun q => ?_) (fun q => ?_)
    · rw [if_pos q] at HK'; exact HK'
    · rw [if_neg q] at HK'; exact HK'
  · subst e
    have HK' : post (if l = r then 1 else 0) := HK
    refine br_c (fun q => ?_) (fun q => ?_)
    · rw [if_pos q] at HK'; exact HK'
    · rw [if_neg q] at HK'; exact HK'
theorem xq_o17 {post : SX → Prop} (W : p_W P) (hX : p_X P a_valueKind a_valueBlock a_leaf a_args a_exitKind a_exitValue a_exitTrue a_exitFalse) (F : xq_F P f g a_args a_exitValue a_body a_bodyStart a_bodyOps a_bodyEnd) (ef : f_runForm = nI f) {b s : Nat} (hb : b < p_b P) {e0 : Nat → Int32}
    (eo : a_bodyOps (f * 8 + b) = nI s) (ee : a_bodyEnd (f * 8 + b) = nI (s + cn (bo_p P (fun v => g v = v) b false) (p_v P))) (hl : s + cn (bo_p P (fun v => g v = v) b false) (p_v P) ≤ 64) (hbo : ∀ v, v < p_v P → bo_p P (fun v => g v = v) b false v → a_body (s + cn (bo_p P (fun v => g v = v) b false) v) = nI v)
    (HK : ∀ a_env : Nat → Int32, rn_O (p_K P) (p_L P) (fun v i => rn_m g (p_A P v i)) (fun v => v < p_v P ∧ bo_p P (fun v => g v = v) b false v) f_input0 f_input1 e0 (p_v P) a_env → post (f_blockLimit, f_valueLimit, f_blockCount, f_valueCount, f_sealed, f_classCount, f_workTop, f_touchedCount, f_undoTop, f_runState, f_runForm, f_here, f_input0, f_input1, f_returned, f_evaluated + nI (cn (bo_p P (fun v => g v = v) b false) (p_v P)), a_valueKind, a_valueBlock, a_leaf, a_args, a_exitKind, a_exitValue, a_exitTrue, a_exitFalse, a_predMask, a_order, a_orderIndex, a_idom, a_domMask, a_firstChild, a_nextSibling, a_stack, a_cursor, a_members, a_location, a_classIndex, a_classStart, a_classSize, a_classMarked, a_className, a_useHead, a_useNext, a_work, a_inWork, a_splitter, a_touched, a_leaderOf, a_available, a_undo, a_scopeMark, a_body, a_bodyStart, a_bodyOps, a_bodyEnd, a_env, a_phiNew)) :
    ∀ (d v n : Nat) (a_env : Nat → Int32), v + d = p_v P → d < n → rn_O (p_K P) (p_L P) (fun v i => rn_m g (p_A P v i)) (fun v => v < p_v P ∧ bo_p P (fun v => g v = v) b false v) f_input0 f_input1 e0 v a_env →
      wX_runOperations_17 post (nI (f * 8 + b)) f_blockLimit f_valueLimit f_blockCount f_valueCount f_sealed f_classCount f_workTop f_touchedCount f_undoTop f_runState f_runForm f_here f_input0 f_input1 f_returned f_evaluated n (nI (s + cn (bo_p P (fun v => g v = v) b false) v)) a_valueKind a_valueBlock a_leaf a_args a_exitKind a_exitValue a_exitTrue a_exitFalse a_predMask a_order a_orderIndex a_idom a_domMask a_firstChild a_nextSibling a_stack a_cursor a_members a_location a_classIndex a_classStart a_classSize a_classMarked a_className a_useHead a_useNext a_work a_inWork a_splitter a_touched a_leaderOf a_available a_undo a_scopeMark a_body a_bodyStart a_bodyOps a_bodyEnd a_env a_phiNew := by
  have hv32 := W.2.2.1
  have hb8 := W.2.1
  have hf := F.1
  have V : vp_in (nI (f * 8 + b)) 16 := vp_in_nI (by omega) (by omega)
  intro d
  induction d with
  | zero =>
    intro v n a_env hv hn O
    have e : v = p_v P := by omega
    subst e
    cases n with
    | zero => omega
    | succ n =>
      rw [wX_runOperations_17]
      refine ⟨V, ?_⟩
      rw [nI_clamp (by omega), ee, eo]
      refine br_t (Int32.le_refl _) ⟨V, V, nm_r (e' := f_evaluated + nI (cn (bo_p P (fun v => g v = v) b false) (p_v P))) ?_ (HK _ O)⟩
      rw [pk_sub (by omega), Nat.add_sub_cancel_left]
  | succ d ih =>
    intro v n a_env hv hn O
    have hvl : v < p_v P := by omega
    rcases Classical.em (bo_p P (fun v => g v = v) b false v) with pv | pv
    · have hc := cn_inc hvl pv
      have hk : p_K P v ≠ 2 := fun z => by have := pv.2.1.mp z; cases this
      cases n with
      | zero => omega
      | succ n =>
        rw [wX_runOperations_17]
        refine ⟨V, ?_⟩
        rw [nI_clamp (by omega), ee]
        refine pk_le (s + cn (bo_p P (fun v => g v = v) b false) (p_v P)) (s + cn (bo_p P (fun v => g v = v) b false) v) (fun h => by omega) (fun h => ⟨vp_in_nI (by omega) (by omega), ba_rd _ rfl (by omega) (hbo v hvl pv) ?_⟩)
        refine xq_eval W hX F ef hvl hk ⟨vp_in_nI (by omega) (by omega), ba_wr v rfl (by omega) rfl (nm_r (nI_1 _) ?_)⟩
        have := ih (v + 1) n _ (by omega) (by omega) (rn_O_step O ⟨hvl, pv⟩ (fun w i x hw pw hi ea px => F.2.2.2.2.2 w i x (by omega) (fun z => by have := pw.2.2.1.mp z; cases this) (by omega) ea (px.2.1.trans pw.2.1.symm)))
        rw [cn_t pv] at this
        exact this
    · have := ih (v + 1) n a_env (by omega) (by omega) (rn_O_skip O (fun z => pv z.2))
      rw [cn_f pv] at this
      exact this
theorem xq_ops {post : SX → Prop} (W : p_W P) (hX : p_X P a_valueKind a_valueBlock a_leaf a_args a_exitKind a_exitValue a_exitTrue a_exitFalse) (F : xq_F P f g a_args a_exitValue a_body a_bodyStart a_bodyOps a_bodyEnd) (ef : f_runForm = nI f) {b : Nat} (hb : b < p_b P)
    (HK : ∀ a_env' : Nat → Int32, rn_O (p_K P) (p_L P) (fun v i => rn_m g (p_A P v i)) (fun v => v < p_v P ∧ bo_p P (fun v => g v = v) b false v) f_input0 f_input1 a_env (p_v P) a_env' → post (f_blockLimit, f_valueLimit, f_blockCount, f_valueCount, f_sealed, f_classCount, f_workTop, f_touchedCount, f_undoTop, f_runState, f_runForm, f_here, f_input0, f_input1, f_returned, f_evaluated + nI (cn (bo_p P (fun v => g v = v) b false) (p_v P)), a_valueKind, a_valueBlock, a_leaf, a_args, a_exitKind, a_exitValue, a_exitTrue, a_exitFalse, a_predMask, a_order, a_orderIndex, a_idom, a_domMask, a_firstChild, a_nextSibling, a_stack, a_cursor, a_members, a_location, a_classIndex, a_classStart, a_classSize, a_classMarked, a_className, a_useHead, a_useNext, a_work, a_inWork, a_splitter, a_touched, a_leaderOf, a_available, a_undo, a_scopeMark, a_body, a_bodyStart, a_bodyOps, a_bodyEnd, a_env', a_phiNew)) : wpX_runOperations post (f_blockLimit, f_valueLimit, f_blockCount, f_valueCount, f_sealed, f_classCount, f_workTop, f_touchedCount, f_undoTop, f_runState, f_runForm, f_here, f_input0, f_input1, f_returned, f_evaluated, a_valueKind, a_valueBlock, a_leaf, a_args, a_exitKind, a_exitValue, a_exitTrue, a_exitFalse, a_predMask, a_order, a_orderIndex, a_idom, a_domMask, a_firstChild, a_nextSibling, a_stack, a_cursor, a_members, a_location, a_classIndex, a_classStart, a_classSize, a_classMarked, a_className, a_useHead, a_useNext, a_work, a_inWork, a_splitter, a_touched, a_leaderOf, a_available, a_undo, a_scopeMark, a_body, a_bodyStart, a_bodyOps, a_bodyEnd, a_env, a_phiNew) (nI b) := by
  have hf := F.1
  have hb8 := W.2.1
  obtain ⟨s, s1, s2, s3, s4, s5, s6⟩ := F.2.2.2.2.1 b hb
  have hslot : f_runForm * 8 + nI b = nI (f * 8 + b) := by rw [ef]; exact ba_ix8 f b
  refine nm_r hslot ⟨vp_in_nI (by omega) (by omega), ba_rd _ rfl (by omega) s2 ⟨p_v P + 1, ?_⟩⟩
  exact xq_o17 W hX F ef hb s2 s3 s4 s6 HK (p_v P) 0 (p_v P + 1) a_env (by omega) (by omega) rn_O_0
theorem xq_p66 {post : SX → Prop} (W : p_W P) (F : xq_F P f g a_args a_exitValue a_body a_bodyStart a_bodyOps a_bodyEnd) {b s : Nat} (hb : b < p_b P) {e0 : Nat → Int32}
    (es : a_bodyStart (f * 8 + b) = nI s) (ee : a_bodyOps (f * 8 + b) = nI (s + cn (bo_p P (fun v => g v = v) b true) (p_v P))) (hl : s + cn (bo_p P (fun v => g v = v) b true) (p_v P) ≤ 64) (hbo : ∀ v, v < p_v P → bo_p P (fun v => g v = v) b true v → a_body (s + cn (bo_p P (fun v => g v = v) b true) v) = nI v)
    (HK : ∀ a_env : Nat → Int32, (∀ w, w < p_v P → bo_p P (fun v => g v = v) b true w → a_env w = a_phiNew w) → (∀ w, ¬ (w < p_v P ∧ bo_p P (fun v => g v = v) b true w) → a_env w = e0 w) → post (f_blockLimit, f_valueLimit, f_blockCount, f_valueCount, f_sealed, f_classCount, f_workTop, f_touchedCount, f_undoTop, f_runState, f_runForm, f_here, f_input0, f_input1, f_returned, f_evaluated + nI (cn (bo_p P (fun v => g v = v) b true) (p_v P)), a_valueKind, a_valueBlock, a_leaf, a_args, a_exitKind, a_exitValue, a_exitTrue, a_exitFalse, a_predMask, a_order, a_orderIndex, a_idom, a_domMask, a_firstChild, a_nextSibling, a_stack, a_cursor, a_members, a_location, a_classIndex, a_classStart, a_classSize, a_classMarked, a_className, a_useHead, a_useNext, a_work, a_inWork, a_splitter, a_touched, a_leaderOf, a_available, a_undo, a_scopeMark, a_body, a_bodyStart, a_bodyOps, a_bodyEnd, a_env, a_phiNew)) :
    ∀ (d v n : Nat) (a_env : Nat → Int32), v + d = p_v P → d < n → (∀ w, w < v → bo_p P (fun v => g v = v) b true w → a_env w = a_phiNew w) → (∀ w, ¬ (w < v ∧ bo_p P (fun v => g v = v) b true w) → a_env w = e0 w) →
      wX_movePhis_66 post (nI (f * 8 + b)) f_blockLimit f_valueLimit f_blockCount f_valueCount f_sealed f_classCount f_workTop f_touchedCount f_undoTop f_runState f_runForm f_here f_input0 f_input1 f_returned f_evaluated n (nI (s + cn (bo_p P (fun v => g v = v) b true) v)) a_valueKind a_valueBlock a_leaf a_args a_exitKind a_exitValue a_exitTrue a_exitFalse a_predMask a_order a_orderIndex a_idom a_domMask a_firstChild a_nextSibling a_stack a_cursor a_members a_location a_classIndex a_classStart a_classSize a_classMarked a_className a_useHead a_useNext a_work a_inWork a_splitter a_touched a_leaderOf a_available a_undo a_scopeMark a_body a_bodyStart a_bodyOps a_bodyEnd a_env a_phiNew := by
  have hv32 := W.2.2.1
  have hb8 := W.2.1
  have hf := F.1
  have V : vp_in (nI (f * 8 + b)) 16 := vp_in_nI (by omega) (by omega)
  intro d
  induction d with
  | zero =>
    intro v n a_env hv hn i1 i2
    have e : v = p_v P := by omega
    subst e
    cases n with
    | zero => omega
    | succ n =>
      rw [wX_movePhis_66]
      refine ⟨V, ?_⟩
      rw [nI_clamp (by omega), ee, es]
      refine br_t (Int32.le_refl _) ⟨V, V, nm_r (e' := f_evaluated + nI (cn (bo_p P (fun v => g v = v) b true) (p_v P))) ?_ (HK _ i1 i2)⟩
      rw [pk_sub (by omega), Nat.add_sub_cancel_left]
  | succ d ih =>
    intro v n a_env hv hn i1 i2
    have hvl : v < p_v P := by omega
    rcases Classical.em (bo_p P (fun v => g v = v) b true v) with pv | pv
    · have hc := cn_inc hvl pv
      cases n with
      | zero => omega
      | succ n =>
        rw [wX_movePhis_66]
        refine ⟨V, ?_⟩
        rw [nI_clamp (by omega), ee]
        refine pk_le (s + cn (bo_p P (fun v => g v = v) b true) (p_v P)) (s + cn (bo_p P (fun v => g v = v) b true) v) (fun h => by omega) (fun h => ⟨vp_in_nI (by omega) (by omega), ba_rd _ rfl (by omega) (hbo v hvl pv) ⟨vp_in_nI (by omega) (by omega), vp_in_nI (by omega) (by omega), ba_wr v rfl (by omega) (z' := a_phiNew v) (by rw [nI_clamp (by omega)]) (nm_r (nI_1 _) ?_)⟩⟩)
        have := ih (v + 1) n (upd a_env v (a_phiNew v)) (by omega) (by omega) (fun w hw pw => ?_) (fun w hw => ?_)
        · rw [cn_t pv] at this
          exact this
        · rcases Classical.em (w = v) with z | z
          · rw [z, pk_us]
          · rw [pk_un z]; exact i1 w (by omega) pw
        · have hne : w ≠ v := fun z => hw ⟨by omega, by rw [z]; exact pv⟩
          rw [pk_un hne]
          exact i2 w (fun z => hw ⟨by omega, z.2⟩)
    · have := ih (v + 1) n a_env (by omega) (by omega) (fun w hw pw => i1 w (by
        rcases Classical.em (w = v) with z | z
        · rw [z] at pw; exact absurd pw pv
        · omega) pw) (fun w hw => i2 w (fun z => hw ⟨by omega, z.2⟩))
      rw [cn_f pv] at this
      exact this
theorem xq_p18 {post : SX → Prop} (W : p_W P) (F : xq_F P f g a_args a_exitValue a_body a_bodyStart a_bodyOps a_bodyEnd) (ef : f_runForm = nI f) {b s h : Nat} (hb : b < p_b P) (hh : h < p_b P)
    (es : a_bodyStart (f * 8 + b) = nI s) (ee : a_bodyOps (f * 8 + b) = nI (s + cn (bo_p P (fun v => g v = v) b true) (p_v P))) (hl : s + cn (bo_p P (fun v => g v = v) b true) (p_v P) ≤ 64) (hbo : ∀ v, v < p_v P → bo_p P (fun v => g v = v) b true v → a_body (s + cn (bo_p P (fun v => g v = v) b true) v) = nI v)
    (HK : ∀ a_phiNew : Nat → Int32, (∀ w, w < p_v P → bo_p P (fun v => g v = v) b true w → a_phiNew w = rn_g a_env (rn_m g (p_A P w h))) → ∃ n, wX_movePhis_66 post (nI (f * 8 + b)) f_blockLimit f_valueLimit f_blockCount f_valueCount f_sealed f_classCount f_workTop f_touchedCount f_undoTop f_runState f_runForm f_here f_input0 f_input1 f_returned f_evaluated n (nI s) a_valueKind a_valueBlock a_leaf a_args a_exitKind a_exitValue a_exitTrue a_exitFalse a_predMask a_order a_orderIndex a_idom a_domMask a_firstChild a_nextSibling a_stack a_cursor a_members a_location a_classIndex a_classStart a_classSize a_classMarked a_className a_useHead a_useNext a_work a_inWork a_splitter a_touched a_leaderOf a_available a_undo a_scopeMark a_body a_bodyStart a_bodyOps a_bodyEnd a_env a_phiNew) :
    ∀ (d v n : Nat) (a_phiNew : Nat → Int32), v + d = p_v P → d < n → (∀ w, w < v → bo_p P (fun v => g v = v) b true w → a_phiNew w = rn_g a_env (rn_m g (p_A P w h))) →
      wX_movePhis_18 post (nI h) (nI (f * 8 + b)) f_blockLimit f_valueLimit f_blockCount f_valueCount f_sealed f_classCount f_workTop f_touchedCount f_undoTop f_runState f_runForm f_here f_input0 f_input1 f_returned f_evaluated n (nI (s + cn (bo_p P (fun v => g v = v) b true) v)) a_valueKind a_valueBlock a_leaf a_args a_exitKind a_exitValue a_exitTrue a_exitFalse a_predMask a_order a_orderIndex a_idom a_domMask a_firstChild a_nextSibling a_stack a_cursor a_members a_location a_classIndex a_classStart a_classSize a_classMarked a_className a_useHead a_useNext a_work a_inWork a_splitter a_touched a_leaderOf a_available a_undo a_scopeMark a_body a_bodyStart a_bodyOps a_bodyEnd a_env a_phiNew := by
  have hv32 := W.2.2.1
  have hb8 := W.2.1
  have hf := F.1
  have V : vp_in (nI (f * 8 + b)) 16 := vp_in_nI (by omega) (by omega)
  intro d
  induction d with
  | zero =>
    intro v n a_phiNew hv hn i1
    have e : v = p_v P := by omega
    subst e
    cases n with
    | zero => omega
    | succ n =>
      rw [wX_movePhis_18]
      refine ⟨V, ?_⟩
      rw [nI_clamp (by omega), ee, es]
      exact br_t (Int32.le_refl _) ⟨V, nm_e (HK _ i1)⟩
  | succ d ih =>
    intro v n a_phiNew hv hn i1
    have hvl : v < p_v P := by omega
    rcases Classical.em (bo_p P (fun v => g v = v) b true v) with pv | pv
    · have hc := cn_inc hvl pv
      cases n with
      | zero => omega
      | succ n =>
        rw [wX_movePhis_18]
        refine ⟨V, ?_⟩
        rw [nI_clamp (by omega), ee]
        refine pk_le (s + cn (bo_p P (fun v => g v = v) b true) (p_v P)) (s + cn (bo_p P (fun v => g v = v) b true) v) (fun h => by omega) (fun h' => ⟨vp_in_nI (by omega) (by omega), ba_rd _ rfl (by omega) (hbo v hvl pv) ?_⟩)
        refine xq_arg W F ef hvl (by omega) ⟨vp_in_nI (by omega) (by omega), ba_wr v rfl (by omega) rfl (nm_r (nI_1 _) ?_)⟩
        have := ih (v + 1) n (upd a_phiNew v (rn_g a_env (rn_m g (p_A P v h)))) (by omega) (by omega) (fun w hw pw => ?_)
        · rw [cn_t pv] at this
          exact this
        · rcases Classical.em (w = v) with z | z
          · rw [z, pk_us]
          · rw [pk_un z]; exact i1 w (by omega) pw
    · have := ih (v + 1) n a_phiNew (by omega) (by omega) (fun w hw pw => i1 w (by
        rcases Classical.em (w = v) with z | z
        · rw [z] at pw; exact absurd pw pv
        · omega) pw)
      rw [cn_f pv] at this
      exact this
theorem xq_phis {post : SX → Prop} (W : p_W P) (F : xq_F P f g a_args a_exitValue a_body a_bodyStart a_bodyOps a_bodyEnd) (ef : f_runForm = nI f) {b h : Nat} (hb : b < p_b P) (hh : h < p_b P)
    (HK : ∀ a_env' a_phiNew : Nat → Int32, (∀ w, w < p_v P → bo_p P (fun v => g v = v) b true w → a_env' w = rn_g a_env (rn_m g (p_A P w h))) → (∀ w, ¬ (w < p_v P ∧ bo_p P (fun v => g v = v) b true w) → a_env' w = a_env w) → post (f_blockLimit, f_valueLimit, f_blockCount, f_valueCount, f_sealed, f_classCount, f_workTop, f_touchedCount, f_undoTop, f_runState, f_runForm, f_here, f_input0, f_input1, f_returned, f_evaluated + nI (cn (bo_p P (fun v => g v = v) b true) (p_v P)), a_valueKind, a_valueBlock, a_leaf, a_args, a_exitKind, a_exitValue, a_exitTrue, a_exitFalse, a_predMask, a_order, a_orderIndex, a_idom, a_domMask, a_firstChild, a_nextSibling, a_stack, a_cursor, a_members, a_location, a_classIndex, a_classStart, a_classSize, a_classMarked, a_className, a_useHead, a_useNext, a_work, a_inWork, a_splitter, a_touched, a_leaderOf, a_available, a_undo, a_scopeMark, a_body, a_bodyStart, a_bodyOps, a_bodyEnd, a_env', a_phiNew)) : wpX_movePhis post (f_blockLimit, f_valueLimit, f_blockCount, f_valueCount, f_sealed, f_classCount, f_workTop, f_touchedCount, f_undoTop, f_runState, f_runForm, f_here, f_input0, f_input1, f_returned, f_evaluated, a_valueKind, a_valueBlock, a_leaf, a_args, a_exitKind, a_exitValue, a_exitTrue, a_exitFalse, a_predMask, a_order, a_orderIndex, a_idom, a_domMask, a_firstChild, a_nextSibling, a_stack, a_cursor, a_members, a_location, a_classIndex, a_classStart, a_classSize, a_classMarked, a_className, a_useHead, a_useNext, a_work, a_inWork, a_splitter, a_touched, a_leaderOf, a_available, a_undo, a_scopeMark, a_body, a_bodyStart, a_bodyOps, a_bodyEnd, a_env, a_phiNew) (nI h) (nI b) := by
  have hf := F.1
  have hb8 := W.2.1
  obtain ⟨s, s1, s2, s3, s4, s5, s6⟩ := F.2.2.2.2.1 b hb
  have hslot : f_runForm * 8 + nI b = nI (f * 8 + b) := by rw [ef]; exact ba_ix8 f b
  refine nm_r hslot ⟨vp_in_nI (by omega) (by omega), ba_rd _ rfl (by omega) s1 ⟨p_v P + 1, ?_⟩⟩
  refine xq_p18 W F ef hb hh s1 s2 (by omega) s5 (fun a_phiNew hp => ⟨p_v P + 1, ?_⟩) (p_v P) 0 (p_v P + 1) a_phiNew (by omega) (by omega) (fun w hw => by omega)
  exact xq_p66 W F hb s1 s2 (by omega) s5 (fun a_env' i1 i2 => HK _ _ (fun w hw pw => (i1 w hw pw).trans (hp w hw pw)) i2) (p_v P) 0 (p_v P + 1) a_env (by omega) (by omega) (fun w hw => by omega) (fun _ _ => rfl)
theorem xq_cnt (P : PT) (kp : Nat → Prop) (b : Nat) : cn (fun v => p_B P v = b ∧ kp v) (p_v P) = cn (bo_p P kp b true) (p_v P) + cn (bo_p P kp b false) (p_v P) := by
  rw [← cn_or (P := bo_p P kp b true) (Q := bo_p P kp b false) (fun k _ z w => by (have := w.2.1.mp (z.2.1.mpr rfl); cases this))]
  refine cn_eq (fun k _ => ⟨fun z => ?_, fun z => z.elim (fun z => ⟨z.1, z.2.2⟩) (fun z => ⟨z.1, z.2.2⟩)⟩)
  rcases Classical.em (p_K P k = 2) with x | x
  · exact Or.inl ⟨z.1, ⟨fun _ => rfl, fun _ => x⟩, z.2⟩
  · exact Or.inr ⟨z.1, ⟨fun y => absurd y x, fun y => by cases y⟩, z.2⟩
/-- a block entered -/
theorem xq_move {post : SX → Prop} (W : p_W P) (hX : p_X P a_valueKind a_valueBlock a_leaf a_args a_exitKind a_exitValue a_exitTrue a_exitFalse) (F : xq_F P f g a_args a_exitValue a_body a_bodyStart a_bodyOps a_bodyEnd) (ef : f_runForm = nI f) {b h : Nat} (hb : b < p_b P) (hh : h < p_b P) (eh : f_here = nI h)
    (HK : ∀ a_env' a_phiNew : Nat → Int32, rn_X (p_v P) (p_K P) (p_B P) (p_L P) (fun v i => rn_m g (p_A P v i)) (fun v => g v = v) f_input0 f_input1 h b a_env a_env' → post (f_blockLimit, f_valueLimit, f_blockCount, f_valueCount, f_sealed, f_classCount, f_workTop, f_touchedCount, f_undoTop, f_runState, f_runForm, nI b, f_input0, f_input1, f_returned, f_evaluated + nI (cn (fun v => p_B P v = b ∧ g v = v) (p_v P)), a_valueKind, a_valueBlock, a_leaf, a_args, a_exitKind, a_exitValue, a_exitTrue, a_exitFalse, a_predMask, a_order, a_orderIndex, a_idom, a_domMask, a_firstChild, a_nextSibling, a_stack, a_cursor, a_members, a_location, a_classIndex, a_classStart, a_classSize, a_classMarked, a_className, a_useHead, a_useNext, a_work, a_inWork, a_splitter, a_touched, a_leaderOf, a_available, a_undo, a_scopeMark, a_body, a_bodyStart, a_bodyOps, a_bodyEnd, a_env', a_phiNew)) : wX_takeExit_83 post (nI b) f_blockLimit f_valueLimit f_blockCount f_valueCount f_sealed f_classCount f_workTop f_touchedCount f_undoTop f_runState f_runForm f_here f_input0 f_input1 f_returned f_evaluated a_valueKind a_valueBlock a_leaf a_args a_exitKind a_exitValue a_exitTrue a_exitFalse a_predMask a_order a_orderIndex a_idom a_domMask a_firstChild a_nextSibling a_stack a_cursor a_members a_location a_classIndex a_classStart a_classSize a_classMarked a_className a_useHead a_useNext a_work a_inWork a_splitter a_touched a_leaderOf a_available a_undo a_scopeMark a_body a_bodyStart a_bodyOps a_bodyEnd a_env a_phiNew := by
  unfold wX_takeExit_83
  rw [eh]
  refine xq_phis W F ef hb hh (fun e1 a_phiNew i1 i2 => xq_ops W hX F ef hb (fun e2 O => ?_))
  have key := HK e2 a_phiNew (fun v hv => ⟨fun hB hg hk => ?_, fun hB hg hk => ?_, fun hn => ?_⟩)
  · rw [xq_cnt, ← nI_add, ← Int32.add_assoc] at key
    exact key
  · have pt : bo_p P (fun v => g v = v) b true v := ⟨hB, ⟨fun _ => rfl, fun _ => hk⟩, hg⟩
    rw [O.2 v (fun z => by (have := z.2.2.2.1.mp hk; cases this)), i1 v hv pt]
  · exact O.1 v hv ⟨hv, hB, ⟨fun z => absurd z hk, fun z => by cases z⟩, hg⟩
  · rw [O.2 v (fun z => hn ⟨z.2.2.1, z.2.2.2.2⟩), i2 v (fun z => hn ⟨z.2.1, z.2.2.2⟩)]
/-- the exit taken: z is the operand's value -/
theorem xq_exit {post : SX → Prop} (W : p_W P) (S1 : p_S1 P) (hX : p_X P a_valueKind a_valueBlock a_leaf a_args a_exitKind a_exitValue a_exitTrue a_exitFalse) (F : xq_F P f g a_args a_exitValue a_body a_bodyStart a_bodyOps a_bodyEnd) (ef : f_runForm = nI f) {h : Nat} (hh : h < p_b P) (eh : f_here = nI h)
    (HR : ∀ x, p_e P h = 3 → p_x P h = some x → post (f_blockLimit, f_valueLimit, f_blockCount, f_valueCount, f_sealed, f_classCount, f_workTop, f_touchedCount, f_undoTop, 2, f_runForm, f_here, f_input0, f_input1, a_env (g x), f_evaluated, a_valueKind, a_valueBlock, a_leaf, a_args, a_exitKind, a_exitValue, a_exitTrue, a_exitFalse, a_predMask, a_order, a_orderIndex, a_idom, a_domMask, a_firstChild, a_nextSibling, a_stack, a_cursor, a_members, a_location, a_classIndex, a_classStart, a_classSize, a_classMarked, a_className, a_useHead, a_useNext, a_work, a_inWork, a_splitter, a_touched, a_leaderOf, a_available, a_undo, a_scopeMark, a_body, a_bodyStart, a_bodyOps, a_bodyEnd, a_env, a_phiNew))
    (HM : ∀ t, (p_e P h = 1 ∧ p_t P h = some t) ∨ (p_e P h = 2 ∧ ∃ x, p_x P h = some x ∧ ((a_env (g x) = 0 ∧ p_f P h = some t) ∨ (a_env (g x) ≠ 0 ∧ p_t P h = some t))) →
      ∀ a_env' a_phiNew : Nat → Int32, rn_X (p_v P) (p_K P) (p_B P) (p_L P) (fun v i => rn_m g (p_A P v i)) (fun v => g v = v) f_input0 f_input1 h t a_env a_env' → post (f_blockLimit, f_valueLimit, f_blockCount, f_valueCount, f_sealed, f_classCount, f_workTop, f_touchedCount, f_undoTop, f_runState, f_runForm, nI t, f_input0, f_input1, f_returned, f_evaluated + nI (cn (fun v => p_B P v = t ∧ g v = v) (p_v P)), a_valueKind, a_valueBlock, a_leaf, a_args, a_exitKind, a_exitValue, a_exitTrue, a_exitFalse, a_predMask, a_order, a_orderIndex, a_idom, a_domMask, a_firstChild, a_nextSibling, a_stack, a_cursor, a_members, a_location, a_classIndex, a_classStart, a_classSize, a_classMarked, a_className, a_useHead, a_useNext, a_work, a_inWork, a_splitter, a_touched, a_leaderOf, a_available, a_undo, a_scopeMark, a_body, a_bodyStart, a_bodyOps, a_bodyEnd, a_env', a_phiNew)) : wpX_takeExit post (f_blockLimit, f_valueLimit, f_blockCount, f_valueCount, f_sealed, f_classCount, f_workTop, f_touchedCount, f_undoTop, f_runState, f_runForm, f_here, f_input0, f_input1, f_returned, f_evaluated, a_valueKind, a_valueBlock, a_leaf, a_args, a_exitKind, a_exitValue, a_exitTrue, a_exitFalse, a_predMask, a_order, a_orderIndex, a_idom, a_domMask, a_firstChild, a_nextSibling, a_stack, a_cursor, a_members, a_location, a_classIndex, a_classStart, a_classSize, a_classMarked, a_className, a_useHead, a_useNext, a_work, a_inWork, a_splitter, a_touched, a_leaderOf, a_available, a_undo, a_scopeMark, a_body, a_bodyStart, a_bodyOps, a_bodyEnd, a_env, a_phiNew) := by
  have hv32 := W.2.2.1
  have hb8 := W.2.1
  have hf := F.1
  obtain ⟨w1, w2, w3, w4, w5, w6, w7⟩ := W.2.2.2.2 h hh
  have s1 := S1 h hh
  subst eh
  have hslot : f_runForm * 8 + nI h = nI (f * 8 + h) := by rw [ef]; exact ba_ix8 f h
  have V8 : vp_in (nI h) 8 := vp_in_nI (by omega) (by omega)
  refine ⟨V8, ba_rd h rfl (by omega) (hX.2.2.2.2.1 h hh) ⟨pk_in (f * 8 + h) 16 (by omega) hslot, ba_rd (f * 8 + h) hslot (by omega) (F.2.2.2.1 h hh) ?_⟩⟩
  refine pk_eq (p_e P h) 3 (fun e => ?_) (fun e => ⟨V8, ba_rd h rfl (by omega) (hX.2.2.2.2.2.2.1 h hh) ?_⟩)
  · cases ex : p_x P h with
    | none => exact absurd (Or.inr e) (w5.mp ex)
    | some x =>
      have hx := w2 x ex
      have hgx := F.2.1 x hx
      exact ⟨vp_in_nI (n := g x) (by omega) (by omega), ba_rd (g x) rfl (by omega) rfl (HR x e ex)⟩
  · cases et : p_t P h with
    | none => exact absurd (by omega : p_e P h = 1 ∨ p_e P h = 2) (w6.mp et)
    | some t =>
      have htb := (w3 t et).2
      refine pk_eq (p_e P h) 2 (fun e2 => ?_) (fun e2 => xq_move W hX F ef htb hh rfl (HM t (Or.inl ⟨by omega, et⟩)))
      cases ex : p_x P h with
      | none => exact absurd (Or.inl e2) (w5.mp ex)
      | some x =>
        have hx := w2 x ex
        have hgx := F.2.1 x hx
        refine ⟨vp_in_nI (n := g x) (by omega) (by omega), ?_⟩
        rw [show ba_o (rn_m g (some x)) = nI (g x) from rfl, nI_clamp (by omega)]
        refine br_c (fun q => ⟨V8, ba_rd h rfl (by omega) (hX.2.2.2.2.2.2.2 h hh) ?_⟩) (fun q => xq_move W hX F ef htb hh rfl (HM t (Or.inr ⟨e2, x, ex, Or.inr ⟨q, et⟩⟩)))
        cases efl : p_f P h with
        | none => exact absurd e2 (w7.mp efl)
        | some t2 =>
          have ht2 := (w4 t2 efl).2
          exact xq_move W hX F ef ht2 hh rfl (HM t2 (Or.inr ⟨e2, x, ex, Or.inl ⟨q, efl⟩⟩))
end XRUN
end
section
/-! Y: running a block, with the results written out -/
def yb_f (P : PT) (h b v : Nat) (e fr : Nat → Int32) : Nat → Int32 := fun w => if w < v ∧ p_B P w = b ∧ p_K P w = 2 then rn_g e (p_A P w h) else fr w
def yb_p (P : PT) (b v : Nat) (fr e : Nat → Int32) : Nat → Int32 := fun w => if w < v ∧ p_B P w = b ∧ p_K P w = 2 then fr w else e w
def yb_o (P : PT) (i0 i1 : Int32) (b : Nat) (e : Nat → Int32) : Nat → Nat → Int32
  | 0 => e
  | v + 1 => if p_B P v = b ∧ p_K P v ≠ 2 then upd (yb_o P i0 i1 b e v) v (rn_ev (p_K P v) (p_L P v) i0 i1 (rn_g (yb_o P i0 i1 b e v) (p_A P v 0)) (rn_g (yb_o P i0 i1 b e v) (p_A P v 1))) else yb_o P i0 i1 b e v
def yb_fr (P : PT) (h b : Nat) (e fr : Nat → Int32) : Nat → Int32 := yb_f P h b (p_v P) e fr
def yb_vl (P : PT) (i0 i1 : Int32) (h b : Nat) (e fr : Nat → Int32) : Nat → Int32 := yb_o P i0 i1 b (yb_p P b (p_v P) (yb_fr P h b e fr) e) (p_v P)
theorem yb_f_s {P : PT} {h b v : Nat} {e fr : Nat → Int32} (hb : p_B P v = b) (hk : p_K P v = 2) : upd (yb_f P h b v e fr) v (rn_g e (p_A P v h)) = yb_f P h b (v + 1) e fr := by
  funext w
  unfold upd yb_f
  by_cases z : w = v
  · rw [if_pos z, if_pos ⟨by omega, by rw [z]; exact hb, by rw [z]; exact hk⟩, z]
  · rw [if_neg z]
    by_cases y : w < v ∧ p_B P w = b ∧ p_K P w = 2
    · rw [if_pos y, if_pos ⟨by omega, y.2⟩]
    · rw [if_neg y, if_neg (fun x => y ⟨by omega, x.2⟩)]
theorem yb_f_n {P : PT} {h b v : Nat} {e fr : Nat → Int32} (hn : ¬ (p_B P v = b ∧ p_K P v = 2)) : yb_f P h b v e fr = yb_f P h b (v + 1) e fr := by
  funext w
  unfold yb_f
  by_cases y : w < v ∧ p_B P w = b ∧ p_K P w = 2
  · rw [if_pos y, if_pos ⟨by omega, y.2⟩]
  · rw [if_neg y, if_neg (fun x => y ⟨by
      rcases Classical.em (w = v) with z | z
      · rw [z] at x; exact absurd x.2 hn
      · omega, x.2⟩)]
theorem yb_f_0 {P : PT} {h b : Nat} {e fr : Nat → Int32} : yb_f P h b 0 e fr = fr := funext fun _ => if_neg (fun z => by have := z.1; omega)
theorem yb_p_s {P : PT} {b v : Nat} {e fr : Nat → Int32} (hb : p_B P v = b) (hk : p_K P v = 2) : upd (yb_p P b v fr e) v (fr v) = yb_p P b (v + 1) fr e := by
  funext w
  unfold upd yb_p
  by_cases z : w = v
  · rw [if_pos z, if_pos ⟨by omega, by rw [z]; exact hb, by rw [z]; exact hk⟩, z]
  · rw [if_neg z]
    by_cases y : w < v ∧ p_B P w = b ∧ p_K P w = 2
    · rw [if_pos y, if_pos ⟨by omega, y.2⟩]
    · rw [if_neg y, if_neg (fun x => y ⟨by omega, x.2⟩)]
theorem yb_p_n {P : PT} {b v : Nat} {e fr : Nat → Int32} (hn : ¬ (p_B P v = b ∧ p_K P v = 2)) : yb_p P b v fr e = yb_p P b (v + 1) fr e := by
  funext w
  unfold yb_p
  by_cases y : w < v ∧ p_B P w = b ∧ p_K P w = 2
  · rw [if_pos y, if_pos ⟨by omega, y.2⟩]
  · rw [if_neg y, if_neg (fun x => y ⟨by
      rcases Classical.em (w = v) with z | z
      · rw [z] at x; exact absurd x.2 hn
      · omega, x.2⟩)]
theorem yb_p_0 {P : PT} {b : Nat} {e fr : Nat → Int32} : yb_p P b 0 fr e = e := funext fun _ => if_neg (fun z => by have := z.1; omega)
theorem yb_O {P : PT} {i0 i1 : Int32} {b : Nat} {e : Nat → Int32} (hlt : ∀ w i x, w < p_v P → p_K P w ≠ 2 → i < 8 → p_A P w i = some x → x < w) : ∀ v, v ≤ p_v P → rn_O (p_K P) (p_L P) (p_A P) (fun w => p_B P w = b ∧ p_K P w ≠ 2) i0 i1 e v (yb_o P i0 i1 b e v)
  | 0, _ => rn_O_0
  | v + 1, hv => by
    have ih := yb_O (P := P) (i0 := i0) (i1 := i1) (b := b) (e := e) hlt v (by omega)
    rw [yb_o]
    by_cases h : p_B P v = b ∧ p_K P v ≠ 2
    · rw [if_pos h]
      exact rn_O_step ih h (fun w i x hw pw hi ea _ => hlt w i x (by omega) pw.2 (by omega) ea)
    · rw [if_neg h]
      exact rn_O_skip ih h
theorem yb_X {P : PT} {i0 i1 : Int32} {h b : Nat} {e fr : Nat → Int32} (hlt : ∀ w i x, w < p_v P → p_K P w ≠ 2 → i < 8 → p_A P w i = some x → x < w) : rn_X (p_v P) (p_K P) (p_B P) (p_L P) (p_A P) (fun _ => True) i0 i1 h b e (yb_vl P i0 i1 h b e fr) := by
  intro v hv
  have O := yb_O (P := P) (i0 := i0) (i1 := i1) (b := b) (e := yb_p P b (p_v P) (yb_fr P h b e fr) e) hlt (p_v P) (Nat.le_refl _)
  refine ⟨fun hB _ hk => ?_, fun hB _ hk => O.1 v hv ⟨hB, hk⟩, fun hn => ?_⟩
  · refine (O.2 v (fun z => z.2.2 hk)).trans ?_
    unfold yb_p yb_fr yb_f
    rw [if_pos ⟨hv, hB, hk⟩, if_pos ⟨hv, hB, hk⟩]
  · refine (O.2 v (fun z => hn ⟨z.2.1, trivial⟩)).trans ?_
    unfold yb_p
    rw [if_neg (fun z => hn ⟨z.2.1, trivial⟩)]
section YB
variable {g_maxBlocks g_maxValues g_blocks g_values g_isSealed g_hasRun g_isDone g_runForm g_in0 g_in1 g_at g_answer g_evals : Int32} {b_kind b_block b_left b_right b_arg b_exitKind b_exitX b_exitT b_exitF b_without b_differ b_val b_fresh : Nat → Int32} {P : PT}
theorem yb_comp {post : Int32 → Prop} (W : p_W P) (hY : p_Y P b_kind b_block b_left b_right b_arg b_exitKind b_exitX b_exitT b_exitF) {v : Nat} (hv : v < p_v P) (hk : p_K P v ≠ 2)
    (HK : post (rn_ev (p_K P v) (p_L P v) g_in0 g_in1 (rn_g b_val (p_A P v 0)) (rn_g b_val (p_A P v 1)))) : wpY_compute post (g_maxBlocks, g_maxValues, g_blocks, g_values, g_isSealed, g_hasRun, g_isDone, g_runForm, g_in0, g_in1, g_at, g_answer, g_evals, b_kind, b_block, b_left, b_right, b_arg, b_exitKind, b_exitX, b_exitT, b_exitF, b_without, b_differ, b_val, b_fresh) (nI v) := by
  have hv32 := W.2.2.1
  have wv := W.2.2.2.1 v hv
  have hK := wv.1
  have V : vp_in (nI v) 32 := vp_in_nI (by omega) (by omega)
  refine ⟨V, ba_rd v rfl (by omega) (hY.1 v hv) ?_⟩
  rw [nI_clamp (by omega)]
  refine pk_eq (p_K P v) 0 (fun e => ⟨V, ?_⟩) (fun e0 => pk_eq (p_K P v) 1 (fun e => ⟨V, ?_⟩) (fun e1 => ⟨V, ?_⟩))
  · rw [hY.2.2.1 v hv (by omega)]
    rw [e] at HK; exact HK
  · rw [hY.2.2.1 v hv (by omega)]
    rw [e] at HK
    have HK' : post (if p_L P v = 0 then g_in0 else g_in1) := HK
    refine br_c (fun q => ?_) (fun q => ?_)
    · rw [if_pos q] at HK'; exact HK'
    · rw [if_neg q] at HK'; exact HK'
  · have e3 : 3 ≤ p_K P v := by omega
    have hW := wv.2.2.2.2.2 e3
    obtain ⟨x0, ex0, lx0⟩ := hW.2.1
    rw [hY.2.2.2.1 v hv e3, ex0]
    rw [ex0] at HK
    have HK1 : post (rn_ev (p_K P v) (p_L P v) g_in0 g_in1 (b_val x0) (rn_g b_val (p_A P v 1))) := HK
    refine ⟨vp_in_nI (n := x0) (by omega) (by omega), ba_rd x0 rfl (by omega) rfl ?_⟩
    generalize b_val x0 = l at *
    refine pk_eq (p_K P v) 11 (fun e => by rw [e] at HK1; exact HK1) (fun e11 => pk_eq (p_K P v) 12 (fun e => by rw [e] at HK1; exact HK1) (fun e12 => ⟨V, ?_⟩))
    have g10 : p_K P v ≤ 10 := by omega
    obtain ⟨x1, ex1, lx1⟩ := hW.2.2.1 g10
    rw [hY.2.2.2.2.1 v hv e3 g10, ex1]
    rw [ex1] at HK1
    have HK2 : post (rn_ev (p_K P v) (p_L P v) g_in0 g_in1 l (b_val x1)) := HK1
    refine ⟨vp_in_nI (n := x1) (by omega) (by omega), ba_rd x1 rfl (by omega) rfl ?_⟩
    generalize b_val x1 = r at *
    refine pk_eq (p_K P v) 3 (fun e => by rw [e] at HK2; exact HK2) (fun n3 => pk_eq (p_K P v) 4 (fun e => by rw [e] at HK2; exact HK2) (fun n4 => pk_eq (p_K P v) 5 (fun e => by rw [e] at HK2; exact HK2) (fun n5 => pk_eq (p_K P v) 6 (fun e => by rw [e] at HK2; exact HK2) (fun n6 => pk_eq (p_K P v) 7 (fun e => by rw [e] at HK2; exact HK2) (fun n7 => pk_eq (p_K P v) 8 (fun e => by rw [e] at HK2; exact HK2) (fun n8 => pk_eq (p_K P v) 9 (fun e => ?_) (fun n9 => ?_)))))))
    · rw [e] at HK2
      have HK' : post (if r ≤ l then 0 else 1) := HK2
      refine br_c (fun q => ?_) (fun q => ?_)
      · rw [if_pos q] at HK'; exact HK'
      · rw [if_neg q] at HK'; exact HK'
    · have e : p_K P v = 10 := by omega
      rw [e] at HK2
      have HK' : post (if l = r then 1 else 0) := HK2
      refine br_c (fun q => ?_) (fun q => ?_)
      · rw [if_pos q] at HK'; exact HK'
      · rw [if_neg q] at HK'; exact HK'
theorem yb_2 {post : SY → Prop} (W : p_W P) (hY : p_Y P b_kind b_block b_left b_right b_arg b_exitKind b_exitX b_exitT b_exitF) (ev : g_values = nI (p_v P)) {h b : Nat} (hh : h < p_b P) (hb : b < p_b P) (hph : ∀ v, v < p_v P → p_B P v = b → p_K P v = 2 → ∃ x, p_A P v h = some x) {fr : Nat → Int32}
    (HK : ∃ n, wY_body_60 post (nI b) g_maxBlocks g_maxValues g_blocks g_values g_isSealed g_hasRun g_isDone g_runForm g_in0 g_in1 g_at g_answer g_evals n 0 b_kind b_block b_left b_right b_arg b_exitKind b_exitX b_exitT b_exitF b_without b_differ b_val (yb_fr P h b b_val fr)) :
    ∀ n v, v ≤ p_v P → p_v P - v < n → wY_body_2 post (nI h) (nI b) g_maxBlocks g_maxValues g_blocks g_values g_isSealed g_hasRun g_isDone g_runForm g_in0 g_in1 g_at g_answer g_evals n (nI v) b_kind b_block b_left b_right b_arg b_exitKind b_exitX b_exitT b_exitF b_without b_differ b_val (yb_f P h b v b_val fr) := by
  have hv32 := W.2.2.1
  have hb8 := W.2.1
  intro n
  induction n with
  | zero => intro v _ h; omega
  | succ n ih =>
    intro v hv hn
    rw [wY_body_2]
    refine pk_le (p_v P) v (fun l => ?_) (fun l => ⟨vp_in_nI (by omega) (by omega), ?_⟩) (hx := ev)
    · have e : v = p_v P := by omega
      subst e
      exact HK
    · have wv := W.2.2.2.1 v l
      have hBv := wv.2.1
      have hKv := wv.1
      have skip : ¬ (p_B P v = b ∧ p_K P v = 2) → wY_body_2 post (nI h) (nI b) g_maxBlocks g_maxValues g_blocks g_values g_isSealed g_hasRun g_isDone g_runForm g_in0 g_in1 g_at g_answer g_evals n (nI (v + 1)) b_kind b_block b_left b_right b_arg b_exitKind b_exitX b_exitT b_exitF b_without b_differ b_val (yb_f P h b v b_val fr) := fun z => by
        rw [yb_f_n z]
        exact ih (v + 1) (by omega) (by omega)
      rw [nI_clamp (by omega), hY.2.1 v l, hY.1 v l]
      refine pk_eq (p_B P v) b (fun e => ⟨vp_in_nI (by omega) (by omega), pk_eq (p_K P v) 2 (fun e2 => ⟨pk_in (v * 8 + h) 256 (by omega) (ba_ix8 v h), ?_⟩) (fun e2 => nm_r (nI_1 v) (skip (fun z => e2 z.2)))⟩) (fun e => nm_r (nI_1 v) (skip (fun z => e z.1)))
      obtain ⟨x, ex⟩ := hph v l e e2
      have hx := wv.2.2.1 h x (by omega) ex
      rw [pk_cl (v * 8 + h) (ba_ix8 v h), hY.2.2.2.2.2.1 v h l (by omega) e2, ex]
      refine ⟨vp_in_nI (n := x) (by omega) (by omega), vp_in_nI (by omega) (by omega), nm_r (e' := upd (yb_f P h b v b_val fr) v (rn_g b_val (p_A P v h))) ?_ ?_⟩
      · rw [ex, show ba_o (some x) = nI x from rfl, nI_clamp (by omega)]
        rfl
      · rw [yb_f_s e e2]
        exact nm_r (nI_1 v) (ih (v + 1) (by omega) (by omega))
theorem yb_60 {post : SY → Prop} (W : p_W P) (hY : p_Y P b_kind b_block b_left b_right b_arg b_exitKind b_exitX b_exitT b_exitF) (ev : g_values = nI (p_v P)) {b : Nat} (hb : b < p_b P) {e : Nat → Int32}
    (HK : ∃ n, wY_body_108 post (nI b) g_maxBlocks g_maxValues g_blocks g_values g_isSealed g_hasRun g_isDone g_runForm g_in0 g_in1 g_at g_answer g_evals n 0 b_kind b_block b_left b_right b_arg b_exitKind b_exitX b_exitT b_exitF b_without b_differ (yb_p P b (p_v P) b_fresh e) b_fresh) :
    ∀ n v, v ≤ p_v P → p_v P - v < n → wY_body_60 post (nI b) g_maxBlocks g_maxValues g_blocks g_values g_isSealed g_hasRun g_isDone g_runForm g_in0 g_in1 g_at g_answer g_evals n (nI v) b_kind b_block b_left b_right b_arg b_exitKind b_exitX b_exitT b_exitF b_without b_differ (yb_p P b v b_fresh e) b_fresh := by
  have hv32 := W.2.2.1
  have hb8 := W.2.1
  intro n
  induction n with
  | zero => intro v _ h; omega
  | succ n ih =>
    intro v hv hn
    rw [wY_body_60]
    refine pk_le (p_v P) v (fun l => ?_) (fun l => ⟨vp_in_nI (by omega) (by omega), ?_⟩) (hx := ev)
    · have e : v = p_v P := by omega
      subst e
      exact HK
    · have wv := W.2.2.2.1 v l
      have hBv := wv.2.1
      have hKv := wv.1
      have skip : ¬ (p_B P v = b ∧ p_K P v = 2) → wY_body_60 post (nI b) g_maxBlocks g_maxValues g_blocks g_values g_isSealed g_hasRun g_isDone g_runForm g_in0 g_in1 g_at g_answer g_evals n (nI (v + 1)) b_kind b_block b_left b_right b_arg b_exitKind b_exitX b_exitT b_exitF b_without b_differ (yb_p P b v b_fresh e) b_fresh := fun z => by
        rw [yb_p_n z]
        exact ih (v + 1) (by omega) (by omega)
      rw [nI_clamp (by omega), hY.2.1 v l, hY.1 v l]
      refine pk_eq (p_B P v) b (fun e => ⟨vp_in_nI (by omega) (by omega), pk_eq (p_K P v) 2 (fun e2 => ⟨vp_in_nI (by omega) (by omega), vp_in_nI (by omega) (by omega), nm_e ?_⟩) (fun e2 => nm_r (nI_1 v) (skip (fun z => e2 z.2)))⟩) (fun e => nm_r (nI_1 v) (skip (fun z => e z.1)))
      rw [yb_p_s e e2]
      exact nm_r (nI_1 v) (ih (v + 1) (by omega) (by omega))
theorem yb_108 {post : SY → Prop} (W : p_W P) (hY : p_Y P b_kind b_block b_left b_right b_arg b_exitKind b_exitX b_exitT b_exitF) (ev : g_values = nI (p_v P)) {b : Nat} (hb : b < p_b P) {e : Nat → Int32}
    (HK : ∃ n, wY_body_155 post (nI b) g_maxBlocks g_maxValues g_blocks g_values g_isSealed g_hasRun g_isDone g_runForm g_in0 g_in1 g_at g_answer b_kind b_block b_left b_right b_arg b_exitKind b_exitX b_exitT b_exitF b_without b_differ (yb_o P g_in0 g_in1 b e (p_v P)) b_fresh n 0 g_evals) :
    ∀ n v, v ≤ p_v P → p_v P - v < n → wY_body_108 post (nI b) g_maxBlocks g_maxValues g_blocks g_values g_isSealed g_hasRun g_isDone g_runForm g_in0 g_in1 g_at g_answer g_evals n (nI v) b_kind b_block b_left b_right b_arg b_exitKind b_exitX b_exitT b_exitF b_without b_differ (yb_o P g_in0 g_in1 b e v) b_fresh := by
  have hv32 := W.2.2.1
  have hb8 := W.2.1
  intro n
  induction n with
  | zero => intro v _ h; omega
  | succ n ih =>
    intro v hv hn
    rw [wY_body_108]
    refine pk_le (p_v P) v (fun l => ?_) (fun l => ⟨vp_in_nI (by omega) (by omega), ?_⟩) (hx := ev)
    · have e : v = p_v P := by omega
      subst e
      exact HK
    · have wv := W.2.2.2.1 v l
      have hBv := wv.2.1
      have hKv := wv.1
      have nx := ih (v + 1) (by omega) (by omega)
      have skip : ¬ (p_B P v = b ∧ p_K P v ≠ 2) → wY_body_108 post (nI b) g_maxBlocks g_maxValues g_blocks g_values g_isSealed g_hasRun g_isDone g_runForm g_in0 g_in1 g_at g_answer g_evals n (nI (v + 1)) b_kind b_block b_left b_right b_arg b_exitKind b_exitX b_exitT b_exitF b_without b_differ (yb_o P g_in0 g_in1 b e v) b_fresh := fun z => by
        have q : yb_o P g_in0 g_in1 b e (v + 1) = yb_o P g_in0 g_in1 b e v := by rw [yb_o, if_neg z]
        rw [q] at nx
        exact nx
      rw [nI_clamp (by omega), hY.2.1 v l, hY.1 v l]
      refine pk_eq (p_B P v) b (fun e1 => ⟨vp_in_nI (by omega) (by omega), pk_eq (p_K P v) 2 (fun e2 => nm_r (nI_1 v) (skip (fun z => z.2 e2))) (fun e2 => yb_comp W hY l e2 ⟨vp_in_nI (by omega) (by omega), nm_e ?_⟩)⟩) (fun e1 => nm_r (nI_1 v) (skip (fun z => e1 z.1)))
      have q : yb_o P g_in0 g_in1 b e (v + 1) = upd (yb_o P g_in0 g_in1 b e v) v (rn_ev (p_K P v) (p_L P v) g_in0 g_in1 (rn_g (yb_o P g_in0 g_in1 b e v) (p_A P v 0)) (rn_g (yb_o P g_in0 g_in1 b e v) (p_A P v 1))) := by rw [yb_o, if_pos ⟨e1, e2⟩]
      rw [q] at nx
      exact nm_r (nI_1 v) nx
/-- the reference's test of a kept value -/
def yb_k (P : PT) (f : Nat) (g : Nat → Nat) : Prop := (f = 0 ∧ ∀ v, g v = v) ∨ (f = 1 ∧ ∀ v, v < p_v P → ld_V (p_v P) (p_D P) (p_B P) (p_q P v) (p_B P v) (g v))
theorem yb_155 {post : SY → Prop} (W : p_W P) (S : p_S P) (hY : p_Y P b_kind b_block b_left b_right b_arg b_exitKind b_exitX b_exitT b_exitF) (ev : g_values = nI (p_v P)) (hS : y_S P b_without b_differ) {f b : Nat} {g : Nat → Nat} (hb : b < p_b P) (hk : yb_k P f g) (ef : g_runForm = nI f) {ev0 : Int32}
    (HK : post (g_maxBlocks, g_maxValues, g_blocks, g_values, g_isSealed, g_hasRun, g_isDone, g_runForm, g_in0, g_in1, nI b, g_answer, ev0 + nI (cn (fun v => p_B P v = b ∧ g v = v) (p_v P)), b_kind, b_block, b_left, b_right, b_arg, b_exitKind, b_exitX, b_exitT, b_exitF, b_without, b_differ, b_val, b_fresh)) :
    ∀ n v, v ≤ p_v P → p_v P - v < n → wY_body_155 post (nI b) g_maxBlocks g_maxValues g_blocks g_values g_isSealed g_hasRun g_isDone g_runForm g_in0 g_in1 g_at g_answer b_kind b_block b_left b_right b_arg b_exitKind b_exitX b_exitT b_exitF b_without b_differ b_val b_fresh n (nI v) (ev0 + nI (cn (fun v => p_B P v = b ∧ g v = v) v)) := by
  have hv32 := W.2.2.1
  have hb8 := W.2.1
  subst ef
  intro n
  induction n with
  | zero => intro v _ h; omega
  | succ n ih =>
    intro v hv hn
    rw [wY_body_155]
    refine pk_le (p_v P) v (fun l => ?_) (fun l => ⟨vp_in_nI (by omega) (by omega), ?_⟩) (hx := ev)
    · have e : v = p_v P := by omega
      subst e
      exact HK
    · have wv := W.2.2.2.1 v l
      have hBv := wv.2.1
      have nx := ih (v + 1) (by omega) (by omega)
      have skip : ¬ (p_B P v = b ∧ g v = v) → wY_body_155 post (nI b) g_maxBlocks g_maxValues g_blocks g_values g_isSealed g_hasRun g_isDone (nI f) g_in0 g_in1 g_at g_answer b_kind b_block b_left b_right b_arg b_exitKind b_exitX b_exitT b_exitF b_without b_differ b_val b_fresh n (nI (v + 1)) (ev0 + nI (cn (fun v => p_B P v = b ∧ g v = v) v)) := fun z => by
        rw [cn_f z] at nx
        exact nx
      have take : (p_B P v = b ∧ g v = v) → wY_body_189 post (wY_body_155 post (nI b) g_maxBlocks g_maxValues g_blocks g_values g_isSealed g_hasRun g_isDone (nI f) g_in0 g_in1 g_at g_answer b_kind b_block b_left b_right b_arg b_exitKind b_exitX b_exitT b_exitF b_without b_differ b_val b_fresh n) (nI b) (nI v) g_maxBlocks g_maxValues g_blocks g_values g_isSealed g_hasRun g_isDone (nI f) g_in0 g_in1 g_at g_answer (ev0 + nI (cn (fun v => p_B P v = b ∧ g v = v) v)) b_kind b_block b_left b_right b_arg b_exitKind b_exitX b_exitT b_exitF b_without b_differ b_val b_fresh := fun z => by
        unfold wY_body_189
        rw [cn_t z] at nx
        exact nm_r (by rw [Int32.add_assoc, nI_1]) (nm_r (nI_1 v) nx)
      rw [nI_clamp (by omega), hY.2.1 v l]
      refine pk_eq (p_B P v) b (fun e1 => ?_) (fun e1 => nm_r (nI_1 v) (skip (fun z => e1 z.1)))
      rcases hk with ⟨f0, hg⟩ | ⟨f1, hg⟩
      · exact pk_eq f 0 (fun _ => take ⟨e1, hg v⟩) (fun z => absurd f0 z)
      · have hgv := (hg v l).1
        refine pk_eq f 0 (fun z => by omega) (fun _ => yk_lead W S hY ev hS.1 hS.2 l (hg v l) (pk_eq (g v) v (fun q => take ⟨e1, q⟩) (fun q => nm_r (nI_1 v) (skip (fun z => q z.2)))))
theorem yb_body {post : SY → Prop} (W : p_W P) (S : p_S P) (hY : p_Y P b_kind b_block b_left b_right b_arg b_exitKind b_exitX b_exitT b_exitF) (ev : g_values = nI (p_v P)) (hS : y_S P b_without b_differ) {f h b : Nat} {g : Nat → Nat} (hh : h < p_b P) (hb : b < p_b P) (hph : ∀ v, v < p_v P → p_B P v = b → p_K P v = 2 → ∃ x, p_A P v h = some x) (hk : yb_k P f g) (ef : g_runForm = nI f)
    (HK : post (g_maxBlocks, g_maxValues, g_blocks, g_values, g_isSealed, g_hasRun, g_isDone, g_runForm, g_in0, g_in1, nI b, g_answer, g_evals + nI (cn (fun v => p_B P v = b ∧ g v = v) (p_v P)), b_kind, b_block, b_left, b_right, b_arg, b_exitKind, b_exitX, b_exitT, b_exitF, b_without, b_differ, yb_vl P g_in0 g_in1 h b b_val b_fresh, yb_fr P h b b_val b_fresh)) : wpY_body post (g_maxBlocks, g_maxValues, g_blocks, g_values, g_isSealed, g_hasRun, g_isDone, g_runForm, g_in0, g_in1, g_at, g_answer, g_evals, b_kind, b_block, b_left, b_right, b_arg, b_exitKind, b_exitX, b_exitT, b_exitF, b_without, b_differ, b_val, b_fresh) (nI h) (nI b) := by
  have R1 : ∃ n, wY_body_155 post (nI b) g_maxBlocks g_maxValues g_blocks g_values g_isSealed g_hasRun g_isDone g_runForm g_in0 g_in1 g_at g_answer b_kind b_block b_left b_right b_arg b_exitKind b_exitX b_exitT b_exitF b_without b_differ (yb_vl P g_in0 g_in1 h b b_val b_fresh) (yb_fr P h b b_val b_fresh) n 0 g_evals := by
    refine ⟨p_v P + 1, ?_⟩
    have := yb_155 (g_at := g_at) (ev0 := g_evals) W S hY ev hS hb hk ef HK (p_v P + 1) 0 (by omega) (by omega)
    rw [cn_0, nI_0, Int32.add_zero] at this
    exact this
  have R2 : ∃ n, wY_body_108 post (nI b) g_maxBlocks g_maxValues g_blocks g_values g_isSealed g_hasRun g_isDone g_runForm g_in0 g_in1 g_at g_answer g_evals n 0 b_kind b_block b_left b_right b_arg b_exitKind b_exitX b_exitT b_exitF b_without b_differ (yb_p P b (p_v P) (yb_fr P h b b_val b_fresh) b_val) (yb_fr P h b b_val b_fresh) := ⟨p_v P + 1, yb_108 W hY ev hb R1 (p_v P + 1) 0 (by omega) (by omega)⟩
  have R3 : ∃ n, wY_body_60 post (nI b) g_maxBlocks g_maxValues g_blocks g_values g_isSealed g_hasRun g_isDone g_runForm g_in0 g_in1 g_at g_answer g_evals n 0 b_kind b_block b_left b_right b_arg b_exitKind b_exitX b_exitT b_exitF b_without b_differ b_val (yb_fr P h b b_val b_fresh) := by
    refine ⟨p_v P + 1, ?_⟩
    have := yb_60 W hY ev hb R2 (p_v P + 1) 0 (by omega) (by omega)
    rw [yb_p_0] at this
    exact this
  refine ⟨p_v P + 1, ?_⟩
  have := yb_2 W hY ev hh hb hph R3 (p_v P + 1) 0 (by omega) (by omega)
  rw [yb_f_0] at this
  exact this
end YB
end
section
/-! the relation -/
def r_g (lf : Nat → Nat) (f : Nat) : Nat → Nat := if f = 0 then (fun x => x) else lf
def r_run (P : PT) (lf : Nat → Nat) (rs rf he i0 i1 rt ev : Int32) (env : Nat → Int32) (dn yrf j0 j1 yat an es : Int32) (val : Nat → Int32) : Prop :=
  ∃ f h, f < 2 ∧ h < p_b P ∧ rf = nI f ∧ yrf = nI f ∧ he = nI h ∧ yat = nI h ∧ i0 = j0 ∧ i1 = j1 ∧ ev = es ∧ ((rs = 1 ∧ dn = 0) ∨ (rs = 2 ∧ dn = 1 ∧ rt = an)) ∧
    rn_1 (p_v P) (p_B P) (p_q P) (fun a => p_D P a h) val ∧ rn_2 (p_v P) (p_K P) (p_B P) (p_L P) (p_A P) j0 j1 (fun a => p_D P a h) val ∧ (∀ v, v < p_v P → p_D P (p_B P v) h → r_g lf f v = v → env v = val v)
def r_Q (P : PT) (lf : Nat → Nat) (rs rf he i0 i1 rt ev : Int32) (env : Nat → Int32) (hr dn yrf j0 j1 yat an es : Int32) (val : Nat → Int32) : Prop :=
  (rs = 0 ∧ hr = 0) ∨ (hr = 1 ∧ r_run P lf rs rf he i0 i1 rt ev env dn yrf j0 j1 yat an es val)
def r_B (P : PT) (bl vl bc vc mb mv yb yv : Int32) : Prop :=
  bc = nI (p_b P) ∧ vc = nI (p_v P) ∧ yb = nI (p_b P) ∧ yv = nI (p_v P) ∧ ∃ B V, B ≤ 8 ∧ V ≤ 32 ∧ bl = nI B ∧ vl = nI V ∧ mb = nI B ∧ mv = nI V
def r_All (f_blockLimit : Int32) (f_valueLimit : Int32) (f_blockCount : Int32) (f_valueCount : Int32) (f_sealed : Int32) (f_runState : Int32) (f_runForm : Int32) (f_here : Int32) (f_input0 : Int32) (f_input1 : Int32) (f_returned : Int32) (f_evaluated : Int32) (a_valueKind : Nat → Int32) (a_valueBlock : Nat → Int32) (a_leaf : Nat → Int32) (a_args : Nat → Int32) (a_exitKind : Nat → Int32) (a_exitValue : Nat → Int32) (a_exitTrue : Nat → Int32) (a_exitFalse : Nat → Int32) (a_domMask : Nat → Int32) (a_classIndex : Nat → Int32) (a_className : Nat → Int32) (a_leaderOf : Nat → Int32) (a_body : Nat → Int32) (a_bodyStart : Nat → Int32) (a_bodyOps : Nat → Int32) (a_bodyEnd : Nat → Int32) (a_env : Nat → Int32) (g_maxBlocks : Int32) (g_maxValues : Int32) (g_blocks : Int32) (g_values : Int32) (g_isSealed : Int32) (g_hasRun : Int32) (g_isDone : Int32) (g_runForm : Int32) (g_in0 : Int32) (g_in1 : Int32) (g_at : Int32) (g_answer : Int32) (g_evals : Int32) (b_kind : Nat → Int32) (b_block : Nat → Int32) (b_left : Nat → Int32) (b_right : Nat → Int32) (b_arg : Nat → Int32) (b_exitKind : Nat → Int32) (b_exitX : Nat → Int32) (b_exitT : Nat → Int32) (b_exitF : Nat → Int32) (b_without : Nat → Int32) (b_differ : Nat → Int32) (b_val : Nat → Int32) : Prop :=
  ∃ P : PT, p_W P ∧ p_X P a_valueKind a_valueBlock a_leaf a_args a_exitKind a_exitValue a_exitTrue a_exitFalse ∧ p_Y P b_kind b_block b_left b_right b_arg b_exitKind b_exitX b_exitT b_exitF ∧
    r_B P f_blockLimit f_valueLimit f_blockCount f_valueCount g_maxBlocks g_maxValues g_blocks g_values ∧
    ((f_sealed = 0 ∧ g_isSealed = 0 ∧ f_runState = 0 ∧ g_hasRun = 0) ∨
     (f_sealed = 1 ∧ g_isSealed = 1 ∧ p_S1 P ∧ p_S P ∧ ∃ lf : Nat → Nat, x_S P lf a_args a_exitValue a_domMask a_classIndex a_className a_leaderOf a_body a_bodyStart a_bodyOps a_bodyEnd ∧ y_S P b_without b_differ ∧
       r_Q P lf f_runState f_runForm f_here f_input0 f_input1 f_returned f_evaluated a_env g_hasRun g_isDone g_runForm g_in0 g_in1 g_at g_answer g_evals b_val))
def i_Rel (k : Nat) (u : SX) (v : SY) : Prop := match u, v with
  | (f_blockLimit, f_valueLimit, f_blockCount, f_valueCount, f_sealed, f_classCount, f_workTop, f_touchedCount, f_undoTop, f_runState, f_runForm, f_here, f_input0, f_input1, f_returned, f_evaluated, a_valueKind, a_valueBlock, a_leaf, a_args, a_exitKind, a_exitValue, a_exitTrue, a_exitFalse, a_predMask, a_order, a_orderIndex, a_idom, a_domMask, a_firstChild, a_nextSibling, a_stack, a_cursor, a_members, a_location, a_classIndex, a_classStart, a_classSize, a_classMarked, a_className, a_useHead, a_useNext, a_work, a_inWork, a_splitter, a_touched, a_leaderOf, a_available, a_undo, a_scopeMark, a_body, a_bodyStart, a_bodyOps, a_bodyEnd, a_env, a_phiNew), (g_maxBlocks, g_maxValues, g_blocks, g_values, g_isSealed, g_hasRun, g_isDone, g_runForm, g_in0, g_in1, g_at, g_answer, g_evals, b_kind, b_block, b_left, b_right, b_arg, b_exitKind, b_exitX, b_exitT, b_exitF, b_without, b_differ, b_val, b_fresh) => r_All f_blockLimit f_valueLimit f_blockCount f_valueCount f_sealed f_runState f_runForm f_here f_input0 f_input1 f_returned f_evaluated a_valueKind a_valueBlock a_leaf a_args a_exitKind a_exitValue a_exitTrue a_exitFalse a_domMask a_classIndex a_className a_leaderOf a_body a_bodyStart a_bodyOps a_bodyEnd a_env g_maxBlocks g_maxValues g_blocks g_values g_isSealed g_hasRun g_isDone g_runForm g_in0 g_in1 g_at g_answer g_evals b_kind b_block b_left b_right b_arg b_exitKind b_exitX b_exitT b_exitF b_without b_differ b_val
theorem i_up {k : Nat} {u : SX} {v : SY} (h : i_Rel k u v) : i_Rel (k + 5) u v := h
theorem r_el {k : Nat} {u : SX} {v : SY} {Q : SX → SY → Prop} (I : i_Rel k u v) (h : ∀ (f_blockLimit f_valueLimit f_blockCount f_valueCount f_sealed f_classCount f_workTop f_touchedCount f_undoTop f_runState f_runForm f_here f_input0 f_input1 f_returned f_evaluated : Int32) (a_valueKind a_valueBlock a_leaf a_args a_exitKind a_exitValue a_exitTrue a_exitFalse a_predMask a_order a_orderIndex a_idom a_domMask a_firstChild a_nextSibling a_stack a_cursor a_members a_location a_classIndex a_classStart a_classSize a_classMarked a_className a_useHead a_useNext a_work a_inWork a_splitter a_touched a_leaderOf a_available a_undo a_scopeMark a_body a_bodyStart a_bodyOps a_bodyEnd a_env a_phiNew : Nat → Int32) (g_maxBlocks g_maxValues g_blocks g_values g_isSealed g_hasRun g_isDone g_runForm g_in0 g_in1 g_at g_answer g_evals : Int32) (b_kind b_block b_left b_right b_arg b_exitKind b_exitX b_exitT b_exitF b_without b_differ b_val b_fresh : Nat → Int32), r_All f_blockLimit f_valueLimit f_blockCount f_valueCount f_sealed f_runState f_runForm f_here f_input0 f_input1 f_returned f_evaluated a_valueKind a_valueBlock a_leaf a_args a_exitKind a_exitValue a_exitTrue a_exitFalse a_domMask a_classIndex a_className a_leaderOf a_body a_bodyStart a_bodyOps a_bodyEnd a_env g_maxBlocks g_maxValues g_blocks g_values g_isSealed g_hasRun g_isDone g_runForm g_in0 g_in1 g_at g_answer g_evals b_kind b_block b_left b_right b_arg b_exitKind b_exitX b_exitT b_exitF b_without b_differ b_val → Q (f_blockLimit, f_valueLimit, f_blockCount, f_valueCount, f_sealed, f_classCount, f_workTop, f_touchedCount, f_undoTop, f_runState, f_runForm, f_here, f_input0, f_input1, f_returned, f_evaluated, a_valueKind, a_valueBlock, a_leaf, a_args, a_exitKind, a_exitValue, a_exitTrue, a_exitFalse, a_predMask, a_order, a_orderIndex, a_idom, a_domMask, a_firstChild, a_nextSibling, a_stack, a_cursor, a_members, a_location, a_classIndex, a_classStart, a_classSize, a_classMarked, a_className, a_useHead, a_useNext, a_work, a_inWork, a_splitter, a_touched, a_leaderOf, a_available, a_undo, a_scopeMark, a_body, a_bodyStart, a_bodyOps, a_bodyEnd, a_env, a_phiNew) (g_maxBlocks, g_maxValues, g_blocks, g_values, g_isSealed, g_hasRun, g_isDone, g_runForm, g_in0, g_in1, g_at, g_answer, g_evals, b_kind, b_block, b_left, b_right, b_arg, b_exitKind, b_exitX, b_exitT, b_exitF, b_without, b_differ, b_val, b_fresh)) : Q u v := by
  match u, v, I with
  | (f_blockLimit, f_valueLimit, f_blockCount, f_valueCount, f_sealed, f_classCount, f_workTop, f_touchedCount, f_undoTop, f_runState, f_runForm, f_here, f_input0, f_input1, f_returned, f_evaluated, a_valueKind, a_valueBlock, a_leaf, a_args, a_exitKind, a_exitValue, a_exitTrue, a_exitFalse, a_predMask, a_order, a_orderIndex, a_idom, a_domMask, a_firstChild, a_nextSibling, a_stack, a_cursor, a_members, a_location, a_classIndex, a_classStart, a_classSize, a_classMarked, a_className, a_useHead, a_useNext, a_work, a_inWork, a_splitter, a_touched, a_leaderOf, a_available, a_undo, a_scopeMark, a_body, a_bodyStart, a_bodyOps, a_bodyEnd, a_env, a_phiNew), (g_maxBlocks, g_maxValues, g_blocks, g_values, g_isSealed, g_hasRun, g_isDone, g_runForm, g_in0, g_in1, g_at, g_answer, g_evals, b_kind, b_block, b_left, b_right, b_arg, b_exitKind, b_exitX, b_exitT, b_exitF, b_without, b_differ, b_val, b_fresh), I => exact h f_blockLimit f_valueLimit f_blockCount f_valueCount f_sealed f_classCount f_workTop f_touchedCount f_undoTop f_runState f_runForm f_here f_input0 f_input1 f_returned f_evaluated a_valueKind a_valueBlock a_leaf a_args a_exitKind a_exitValue a_exitTrue a_exitFalse a_predMask a_order a_orderIndex a_idom a_domMask a_firstChild a_nextSibling a_stack a_cursor a_members a_location a_classIndex a_classStart a_classSize a_classMarked a_className a_useHead a_useNext a_work a_inWork a_splitter a_touched a_leaderOf a_available a_undo a_scopeMark a_body a_bodyStart a_bodyOps a_bodyEnd a_env a_phiNew g_maxBlocks g_maxValues g_blocks g_values g_isSealed g_hasRun g_isDone g_runForm g_in0 g_in1 g_at g_answer g_evals b_kind b_block b_left b_right b_arg b_exitKind b_exitX b_exitT b_exitF b_without b_differ b_val b_fresh I
/-! programs changed -/
def q_blk (P : PT) : PT := (p_b P + 1, p_v P, p_K P, p_B P, p_L P, p_A P, nu (p_e P) (p_b P) 0, ou (p_x P) (p_b P) none, ou (p_t P) (p_b P) none, ou (p_f P) (p_b P) none)
def q_val (P : PT) (b k : Nat) (l : Int32) (a : Nat → Option Nat) : PT := (p_b P, p_v P + 1, nu (p_K P) (p_v P) k, nu (p_B P) (p_v P) b, upd (p_L P) (p_v P) l, (fun v => if v = p_v P then a else p_A P v), p_e P, p_x P, p_t P, p_f P)
def q_arg (P : PT) (v p : Nat) (x : Option Nat) : PT := (p_b P, p_v P, p_K P, p_B P, p_L P, (fun w => if w = v then ou (p_A P v) p x else p_A P w), p_e P, p_x P, p_t P, p_f P)
def q_ext (P : PT) (b k : Nat) (x t f : Option Nat) : PT := (p_b P, p_v P, p_K P, p_B P, p_L P, p_A P, nu (p_e P) b k, ou (p_x P) b x, ou (p_t P) b t, ou (p_f P) b f)
section QQ
variable {P : PT} {vk vb lf ar ek ev et ef : Nat → Int32} {kd bk le ri yar yek ex yet yef : Nat → Int32}
theorem q_blk_W (W : p_W P) (h : p_b P < 8) : p_W (q_blk P) := by
  obtain ⟨w1, w2, w3, w4, w5⟩ := W
  refine ⟨by show 1 ≤ p_b P + 1; omega, h, w3, fun v hv => ?_, fun b hb => ?_⟩
  · obtain ⟨a1, a2, a3, a4, a5, a6⟩ := w4 v hv
    exact ⟨a1, Nat.lt_succ_of_lt a2, a3, a4, fun k => ⟨(a5 k).1, fun i x hi hx => Nat.lt_succ_of_lt ((a5 k).2 i x hi hx)⟩, a6⟩
  · have hb' : b < p_b P + 1 := hb
    rcases Classical.em (b = p_b P) with z | z
    · subst z
      show nu (p_e P) (p_b P) 0 (p_b P) ≤ 3 ∧ (∀ x, ou (p_x P) (p_b P) none (p_b P) = some x → _) ∧ (∀ t, ou (p_t P) (p_b P) none (p_b P) = some t → _) ∧ (∀ t, ou (p_f P) (p_b P) none (p_b P) = some t → _) ∧ (ou (p_x P) (p_b P) none (p_b P) = none ↔ ¬ (nu (p_e P) (p_b P) 0 (p_b P) = 2 ∨ nu (p_e P) (p_b P) 0 (p_b P) = 3)) ∧ (ou (p_t P) (p_b P) none (p_b P) = none ↔ ¬ (nu (p_e P) (p_b P) 0 (p_b P) = 1 ∨ nu (p_e P) (p_b P) 0 (p_b P) = 2)) ∧ (ou (p_f P) (p_b P) none (p_b P) = none ↔ nu (p_e P) (p_b P) 0 (p_b P) ≠ 2)
      simp only [nu_s, ou_s]
      refine ⟨by omega, fun x e => (by cases e), fun x e => (by cases e), fun x e => (by cases e), ⟨fun _ => by omega, fun _ => trivial⟩, ⟨fun _ => by omega, fun _ => trivial⟩, ⟨fun _ => by omega, fun _ => trivial⟩⟩
    · obtain ⟨a1, a2, a3, a4, a5, a6, a7⟩ := w5 b (by omega)
      show nu (p_e P) (p_b P) 0 b ≤ 3 ∧ (∀ x, ou (p_x P) (p_b P) none b = some x → x < p_v P) ∧ (∀ t, ou (p_t P) (p_b P) none b = some t → 0 < t ∧ t < p_b P + 1) ∧ (∀ t, ou (p_f P) (p_b P) none b = some t → 0 < t ∧ t < p_b P + 1) ∧ (ou (p_x P) (p_b P) none b = none ↔ ¬ (nu (p_e P) (p_b P) 0 b = 2 ∨ nu (p_e P) (p_b P) 0 b = 3)) ∧ (ou (p_t P) (p_b P) none b = none ↔ ¬ (nu (p_e P) (p_b P) 0 b = 1 ∨ nu (p_e P) (p_b P) 0 b = 2)) ∧ (ou (p_f P) (p_b P) none b = none ↔ nu (p_e P) (p_b P) 0 b ≠ 2)
      rw [nu_n z, ou_n z, ou_n z, ou_n z]
      exact ⟨a1, a2, fun t ht => ⟨(a3 t ht).1, Nat.lt_succ_of_lt (a3 t ht).2⟩, fun t ht => ⟨(a4 t ht).1, Nat.lt_succ_of_lt (a4 t ht).2⟩, a5, a6, a7⟩
theorem q_blk_X (h : p_X P vk vb lf ar ek ev et ef) : p_X (q_blk P) vk vb lf ar (upd ek (p_b P) 0) (upd ev (p_b P) (-1)) (upd et (p_b P) (-1)) (upd ef (p_b P) (-1)) := by
  obtain ⟨x1, x2, x3, x4, x5, x6, x7, x8⟩ := h
  refine ⟨x1, x2, x3, x4, fun b hb => ba_ru (x := 0) (fun z => x5 b ?_), fun b hb => ?_, fun b hb => ?_, fun b hb => ?_⟩
  · have hb' : b < p_b P + 1 := hb
    omega
  all_goals
    have hb' : b < p_b P + 1 := hb
    rcases Classical.em (b = p_b P) with z | z
  · subst z; show upd ev (p_b P) (-1) (p_b P) = ba_o (ou (p_x P) (p_b P) none (p_b P)); rw [pk_us, ou_s]; rfl
  · show upd ev (p_b P) (-1) b = ba_o (ou (p_x P) (p_b P) none b); rw [pk_un z, ou_n z]; exact x6 b (by omega)
  · subst z; show upd et (p_b P) (-1) (p_b P) = ba_o (ou (p_t P) (p_b P) none (p_b P)); rw [pk_us, ou_s]; rfl
  · show upd et (p_b P) (-1) b = ba_o (ou (p_t P) (p_b P) none b); rw [pk_un z, ou_n z]; exact x7 b (by omega)
  · subst z; show upd ef (p_b P) (-1) (p_b P) = ba_o (ou (p_f P) (p_b P) none (p_b P)); rw [pk_us, ou_s]; rfl
  · show upd ef (p_b P) (-1) b = ba_o (ou (p_f P) (p_b P) none b); rw [pk_un z, ou_n z]; exact x8 b (by omega)
theorem q_blk_Y (h : p_Y P kd bk le ri yar yek ex yet yef) : p_Y (q_blk P) kd bk le ri yar (upd yek (p_b P) 0) ex yet yef := by
  obtain ⟨y1, y2, y3, y4, y5, y6, y7, y8, y9, y10⟩ := h
  have key : ∀ b, b < p_b P + 1 → ∀ k, nu (p_e P) (p_b P) 0 b = k → 0 < k → b ≠ p_b P ∧ p_e P b = k := by
    intro b hb k hk h0
    rcases Classical.em (b = p_b P) with z | z
    · rw [z, nu_s] at hk; omega
    · rw [nu_n z] at hk; exact ⟨z, hk⟩
  refine ⟨y1, y2, y3, y4, y5, y6, fun b hb => ba_ru (x := 0) (fun z => y7 b ?_), fun b hb hk => ?_, fun b hb hk => ?_, fun b hb hk => ?_⟩
  · have hb' : b < p_b P + 1 := hb
    omega
  all_goals have hb' : b < p_b P + 1 := hb
  · have q : b ≠ p_b P ∧ (p_e P b = 2 ∨ p_e P b = 3) := by
      rcases hk with w | w
      · exact ⟨(key b hb' 2 w (by omega)).1, Or.inl (key b hb' 2 w (by omega)).2⟩
      · exact ⟨(key b hb' 3 w (by omega)).1, Or.inr (key b hb' 3 w (by omega)).2⟩
    show ex b = ba_o (ou (p_x P) (p_b P) none b)
    rw [ou_n q.1]; exact y8 b (by have := q.1; omega) q.2
  · have q : b ≠ p_b P ∧ (p_e P b = 1 ∨ p_e P b = 2) := by
      rcases hk with w | w
      · exact ⟨(key b hb' 1 w (by omega)).1, Or.inl (key b hb' 1 w (by omega)).2⟩
      · exact ⟨(key b hb' 2 w (by omega)).1, Or.inr (key b hb' 2 w (by omega)).2⟩
    show yet b = ba_o (ou (p_t P) (p_b P) none b)
    rw [ou_n q.1]; exact y9 b (by have := q.1; omega) q.2
  · have q := key b hb' 2 hk (by omega)
    show yef b = ba_o (ou (p_f P) (p_b P) none b)
    rw [ou_n q.1]; exact y10 b (by have := q.1; omega) q.2
theorem q_ext_W (W : p_W P) {b k : Nat} {x t f : Option Nat} (hb : b < p_b P) (hk : k ≤ 3) (hx : ∀ y, x = some y → y < p_v P) (ht : ∀ y, t = some y → 0 < y ∧ y < p_b P) (hf : ∀ y, f = some y → 0 < y ∧ y < p_b P) (ex : x = none ↔ ¬ (k = 2 ∨ k = 3)) (et : t = none ↔ ¬ (k = 1 ∨ k = 2)) (ef : f = none ↔ k ≠ 2) : p_W (q_ext P b k x t f) := by
  obtain ⟨w1, w2, w3, w4, w5⟩ := W
  refine ⟨w1, w2, w3, w4, fun c hc => ?_⟩
  show nu (p_e P) b k c ≤ 3 ∧ (∀ y, ou (p_x P) b x c = some y → y < p_v P) ∧ (∀ y, ou (p_t P) b t c = some y → 0 < y ∧ y < p_b P) ∧ (∀ y, ou (p_f P) b f c = some y → 0 < y ∧ y < p_b P) ∧ (ou (p_x P) b x c = none ↔ ¬ (nu (p_e P) b k c = 2 ∨ nu (p_e P) b k c = 3)) ∧ (ou (p_t P) b t c = none ↔ ¬ (nu (p_e P) b k c = 1 ∨ nu (p_e P) b k c = 2)) ∧ (ou (p_f P) b f c = none ↔ nu (p_e P) b k c ≠ 2)
  rcases Classical.em (c = b) with z | z
  · rw [z]; simp only [nu_s, ou_s]
    exact ⟨hk, hx, ht, hf, ex, et, ef⟩
  · rw [nu_n z, ou_n z, ou_n z, ou_n z]
    exact w5 c hc
theorem q_ext_X (h : p_X P vk vb lf ar ek ev et ef) {b k : Nat} {x t f : Option Nat} : p_X (q_ext P b k x t f) vk vb lf ar (upd ek b (nI k)) (upd ev b (ba_o x)) (upd et b (ba_o t)) (upd ef b (ba_o f)) := by
  obtain ⟨x1, x2, x3, x4, x5, x6, x7, x8⟩ := h
  have key : ∀ (a : Nat → Int32) (o : Nat → Option Nat) (y : Option Nat) (c : Nat), a c = ba_o (o c) → upd a b (ba_o y) c = ba_o (ou o b y c) := by
    intro a o y c e
    rcases Classical.em (c = b) with z | z
    · rw [z, pk_us, ou_s]
    · rw [pk_un z, ou_n z]; exact e
  exact ⟨x1, x2, x3, x4, fun c hc => ba_ru (fun _ => x5 c hc), fun c hc => key _ _ _ c (x6 c hc), fun c hc => key _ _ _ c (x7 c hc), fun c hc => key _ _ _ c (x8 c hc)⟩
theorem q_ext_Y (h : p_Y P kd bk le ri yar yek ex yet yef) {b k : Nat} {x t f : Option Nat} {ex' yet' yef' : Nat → Int32} (hx : (k = 2 ∨ k = 3) → ex' b = ba_o x) (ht : (k = 1 ∨ k = 2) → yet' b = ba_o t) (hf : k = 2 → yef' b = ba_o f) (nx : ∀ c, c ≠ b → ex' c = ex c) (nt : ∀ c, c ≠ b → yet' c = yet c) (nf : ∀ c, c ≠ b → yef' c = yef c) : p_Y (q_ext P b k x t f) kd bk le ri yar (upd yek b (nI k)) ex' yet' yef' := by
  obtain ⟨y1, y2, y3, y4, y5, y6, y7, y8, y9, y10⟩ := h
  refine ⟨y1, y2, y3, y4, y5, y6, fun c hc => ba_ru (fun _ => y7 c hc), fun c hc hk => ?_, fun c hc hk => ?_, fun c hc hk => ?_⟩
  · have hk' : nu (p_e P) b k c = 2 ∨ nu (p_e P) b k c = 3 := hk
    show ex' c = ba_o (ou (p_x P) b x c)
    rcases Classical.em (c = b) with z | z
    · subst z; rw [nu_s] at hk'; rw [ou_s]; exact hx hk'
    · rw [nu_n z] at hk'; rw [ou_n z, nx c z]; exact y8 c hc hk'
  · have hk' : nu (p_e P) b k c = 1 ∨ nu (p_e P) b k c = 2 := hk
    show yet' c = ba_o (ou (p_t P) b t c)
    rcases Classical.em (c = b) with z | z
    · subst z; rw [nu_s] at hk'; rw [ou_s]; exact ht hk'
    · rw [nu_n z] at hk'; rw [ou_n z, nt c z]; exact y9 c hc hk'
  · have hk' : nu (p_e P) b k c = 2 := hk
    show yef' c = ba_o (ou (p_f P) b f c)
    rcases Classical.em (c = b) with z | z
    · subst z; rw [nu_s] at hk'; rw [ou_s]; exact hf hk'
    · rw [nu_n z] at hk'; rw [ou_n z, nf c z]; exact y10 c hc hk'
theorem q_arg_W (W : p_W P) {v p : Nat} {x : Option Nat} (hv : v < p_v P) (hk : p_K P v = 2) (hp : p < p_b P) (hx : ∀ y, x = some y → y < p_v P) : p_W (q_arg P v p x) := by
  obtain ⟨w1, w2, w3, w4, w5⟩ := W
  refine ⟨w1, w2, w3, fun w hw => ?_, w5⟩
  obtain ⟨a1, a2, a3, a4, a5, a6⟩ := w4 w hw
  rcases Classical.em (w = v) with z | z
  · subst z
    have hA : p_A (q_arg P w p x) w = ou (p_A P w) p x := if_pos rfl
    refine ⟨a1, a2, fun i y hi e => ?_, fun k => ?_, fun _ => ⟨(a5 hk).1, fun i y hi e => ?_⟩, fun k => ?_⟩
    · rw [hA] at e
      rcases Classical.em (i = p) with q | q
      · rw [q, ou_s] at e; exact hx y e
      · rw [ou_n q] at e; exact a3 i y hi e
    · have k' : p_K P w < 2 := k
      omega
    · rw [hA] at e
      rcases Classical.em (i = p) with q | q
      · rw [q]; exact hp
      · rw [ou_n q] at e; exact (a5 hk).2 i y hi e
    · have k' : 3 ≤ p_K P w := k
      omega
  · have hA : p_A (q_arg P v p x) w = p_A P w := if_neg z
    refine ⟨a1, a2, fun i y hi e => a3 i y hi (by rw [hA] at e; exact e), fun k i hi => by rw [hA]; exact a4 k i hi, fun k => ⟨(a5 k).1, fun i y hi e => (a5 k).2 i y hi (by rw [hA] at e; exact e)⟩, fun k => ?_⟩
    have := a6 k
    unfold p_Wo at this ⊢
    rw [hA]
    exact this
theorem q_arg_X (h : p_X P vk vb lf ar ek ev et ef) {v p : Nat} {x : Option Nat} (hp : p < 8) : p_X (q_arg P v p x) vk vb lf (upd ar (v * 8 + p) (ba_o x)) ek ev et ef := by
  obtain ⟨x1, x2, x3, x4, x5, x6, x7, x8⟩ := h
  refine ⟨x1, x2, x3, fun w i hw hi => ?_, x5, x6, x7, x8⟩
  rcases Classical.em (w = v) with z | z
  · subst z
    rw [show p_A (q_arg P w p x) w = ou (p_A P w) p x from if_pos rfl]
    rcases Classical.em (i = p) with q | q
    · rw [q, pk_us, ou_s]
    · rw [pk_un (by omega), ou_n q]; exact x4 w i hw hi
  · rw [show p_A (q_arg P v p x) w = p_A P w from if_neg z, pk_un (by omega)]
    exact x4 w i hw hi
theorem q_arg_Y (h : p_Y P kd bk le ri yar yek ex yet yef) {v p : Nat} {x : Option Nat} (hp : p < 8) (hk : p_K P v = 2) : p_Y (q_arg P v p x) kd bk le ri (upd yar (v * 8 + p) (ba_o x)) yek ex yet yef := by
  obtain ⟨y1, y2, y3, y4, y5, y6, y7, y8, y9, y10⟩ := h
  refine ⟨y1, y2, y3, fun w hw k => ?_, fun w hw k k' => ?_, fun w i hw hi k => ?_, y7, y8, y9, y10⟩
  · have k1 : 3 ≤ p_K P w := k
    rw [show p_A (q_arg P v p x) w = p_A P w from if_neg (fun z => by rw [z] at k1; omega)]
    exact y4 w hw k
  · have k1 : 3 ≤ p_K P w := k
    rw [show p_A (q_arg P v p x) w = p_A P w from if_neg (fun z => by rw [z] at k1; omega)]
    exact y5 w hw k k'
  · rcases Classical.em (w = v) with z | z
    · subst z
      rw [show p_A (q_arg P w p x) w = ou (p_A P w) p x from if_pos rfl]
      rcases Classical.em (i = p) with q | q
      · rw [q, pk_us, ou_s]
      · rw [pk_un (by omega), ou_n q]; exact y6 w i hw hi k
    · rw [show p_A (q_arg P v p x) w = p_A P w from if_neg z, pk_un (by omega)]
      exact y6 w i hw hi k
theorem q_val_W (W : p_W P) {b k : Nat} {l : Int32} {a : Nat → Option Nat} (hn : p_v P < 32) (hb : b < p_b P) (hk : k ≤ 12) (ha : ∀ i x, i < 8 → a i = some x → x < p_v P) (h0 : k < 2 → ∀ i, i < 8 → a i = none) (h2 : k = 2 → b ≠ 0 ∧ ∀ i, i < 8 → a i = none)
    (h3 : 3 ≤ k → l = 0 ∧ (∃ x, a 0 = some x) ∧ (k ≤ 10 → ∃ y, a 1 = some y) ∧ (10 < k → a 1 = none) ∧ ∀ i, 2 ≤ i → i < 8 → a i = none) : p_W (q_val P b k l a) := by
  obtain ⟨w1, w2, w3, w4, w5⟩ := W
  refine ⟨w1, w2, hn, fun v hv => ?_, fun c hc => ?_⟩
  · have hv' : v < p_v P + 1 := hv
    rcases Classical.em (v = p_v P) with z | z
    · subst z
      have eK : p_K (q_val P b k l a) (p_v P) = k := nu_s
      have eB : p_B (q_val P b k l a) (p_v P) = b := nu_s
      have eA : p_A (q_val P b k l a) (p_v P) = a := if_pos rfl
      have eL : p_L (q_val P b k l a) (p_v P) = l := pk_us
      unfold p_Wv p_Wo
      rw [eK, eB, eA, eL]
      refine ⟨hk, hb, fun i x hi e => Nat.lt_succ_of_lt (ha i x hi e), h0, fun q => ⟨(h2 q).1, fun i x hi e => by rw [(h2 q).2 i hi] at e; cases e⟩, fun q => ?_⟩
      obtain ⟨g1, g2, g3, g4, g5⟩ := h3 q
      refine ⟨g1, ?_, fun q' => ?_, g4, g5⟩
      · obtain ⟨x, ex⟩ := g2
        exact ⟨x, ex, ha 0 x (by decide) ex⟩
      · obtain ⟨y, ey⟩ := g3 q'
        exact ⟨y, ey, ha 1 y (by decide) ey⟩
    · have eK : p_K (q_val P b k l a) v = p_K P v := nu_n z
      have eB : p_B (q_val P b k l a) v = p_B P v := nu_n z
      have eA : p_A (q_val P b k l a) v = p_A P v := if_neg z
      have eL : p_L (q_val P b k l a) v = p_L P v := pk_un z
      obtain ⟨a1, a2, a3, a4, a5, a6⟩ := w4 v (by omega)
      unfold p_Wv p_Wo
      rw [eK, eB, eA, eL]
      exact ⟨a1, a2, fun i x hi e => Nat.lt_succ_of_lt (a3 i x hi e), a4, a5, a6⟩
  · obtain ⟨a1, a2, a3⟩ := w5 c hc
    exact ⟨a1, fun x e => Nat.lt_succ_of_lt (a2 x e), a3⟩
theorem q_val_X (h : p_X P vk vb lf ar ek ev et ef) {b k : Nat} {l : Int32} {a : Nat → Option Nat} {lf' ar' : Nat → Int32} (e1 : ∀ v, v < p_v P → lf' v = lf v) (e2 : lf' (p_v P) = l) (e3 : ∀ j, j < p_v P * 8 → ar' j = ar j) (e4 : ∀ i, i < 8 → ar' (p_v P * 8 + i) = ba_o (a i)) :
    p_X (q_val P b k l a) (upd vk (p_v P) (nI k)) (upd vb (p_v P) (nI b)) lf' ar' ek ev et ef := by
  obtain ⟨x1, x2, x3, x4, x5, x6, x7, x8⟩ := h
  refine ⟨fun v hv => ba_ru (fun z => x1 v ?_), fun v hv => ba_ru (fun z => x2 v ?_), fun v hv => ?_, fun v i hv hi => ?_, x5, x6, x7, x8⟩
  all_goals have hv' : v < p_v P + 1 := hv
  · omega
  · omega
  · show lf' v = upd (p_L P) (p_v P) l v
    rcases Classical.em (v = p_v P) with z | z
    · rw [z, pk_us]; exact e2
    · rw [pk_un z, e1 v (by omega)]; exact x3 v (by omega)
  · rcases Classical.em (v = p_v P) with z | z
    · subst z
      rw [show p_A (q_val P b k l a) (p_v P) = a from if_pos rfl]
      exact e4 i hi
    · rw [show p_A (q_val P b k l a) v = p_A P v from if_neg z, e3 _ (by omega)]
      exact x4 v i (by omega) hi
theorem q_val_Y (h : p_Y P kd bk le ri yar yek ex yet yef) {b k : Nat} {l x y : Int32} {a : Nat → Option Nat} (e1 : k < 2 → x = l) (e2 : 3 ≤ k → x = ba_o (a 0)) (e3 : 3 ≤ k → k ≤ 10 → y = ba_o (a 1)) (e4 : k = 2 → ∀ i, i < 8 → a i = none) :
    p_Y (q_val P b k l a) (upd kd (p_v P) (nI k)) (upd bk (p_v P) (nI b)) (upd le (p_v P) x) (upd ri (p_v P) y) (xs_cl yar (p_v P) 8) yek ex yet yef := by
  obtain ⟨y1, y2, y3, y4, y5, y6, y7, y8, y9, y10⟩ := h
  refine ⟨fun v hv => ba_ru (fun z => y1 v ?_), fun v hv => ba_ru (fun z => y2 v ?_), fun v hv hk => ?_, fun v hv hk => ?_, fun v hv hk hk2 => ?_, fun v i hv hi hk => ?_, y7, y8, y9, y10⟩
  all_goals have hv' : v < p_v P + 1 := hv
  · omega
  · omega
  all_goals
    have hk' := hk
    rcases Classical.em (v = p_v P) with z | z
  · subst z
    have hq : k < 2 := by rw [show p_K (q_val P b k l a) (p_v P) = k from nu_s] at hk'; exact hk'
    rw [pk_us, show p_L (q_val P b k l a) (p_v P) = l from pk_us]; exact e1 hq
  · have hq : p_K P v < 2 := by rw [show p_K (q_val P b k l a) v = p_K P v from nu_n z] at hk'; exact hk'
    rw [pk_un z, show p_L (q_val P b k l a) v = p_L P v from pk_un z]; exact y3 v (by omega) hq
  · subst z
    have hq : 3 ≤ k := by rw [show p_K (q_val P b k l a) (p_v P) = k from nu_s] at hk'; exact hk'
    rw [pk_us, show p_A (q_val P b k l a) (p_v P) = a from if_pos rfl]; exact e2 hq
  · have hq : 3 ≤ p_K P v := by rw [show p_K (q_val P b k l a) v = p_K P v from nu_n z] at hk'; exact hk'
    rw [pk_un z, show p_A (q_val P b k l a) v = p_A P v from if_neg z]; exact y4 v (by omega) hq
  · subst z
    have hq : 3 ≤ k := by rw [show p_K (q_val P b k l a) (p_v P) = k from nu_s] at hk'; exact hk'
    have hq2 : k ≤ 10 := by rw [show p_K (q_val P b k l a) (p_v P) = k from nu_s] at hk2; exact hk2
    rw [pk_us, show p_A (q_val P b k l a) (p_v P) = a from if_pos rfl]; exact e3 hq hq2
  · have hq : 3 ≤ p_K P v := by rw [show p_K (q_val P b k l a) v = p_K P v from nu_n z] at hk'; exact hk'
    have hq2 : p_K P v ≤ 10 := by rw [show p_K (q_val P b k l a) v = p_K P v from nu_n z] at hk2; exact hk2
    rw [pk_un z, show p_A (q_val P b k l a) v = p_A P v from if_neg z]; exact y5 v (by omega) hq hq2
  · subst z
    have hq : k = 2 := by rw [show p_K (q_val P b k l a) (p_v P) = k from nu_s] at hk'; exact hk'
    rw [show p_A (q_val P b k l a) (p_v P) = a from if_pos rfl, e4 hq i hi]
    exact if_pos ⟨by omega, by omega⟩
  · have hq : p_K P v = 2 := by rw [show p_K (q_val P b k l a) v = p_K P v from nu_n z] at hk'; exact hk'
    rw [show p_A (q_val P b k l a) v = p_A P v from if_neg z, show xs_cl yar (p_v P) 8 (v * 8 + i) = yar (v * 8 + i) from if_neg (by omega)]
    exact y6 v i (by omega) hi hq
end QQ
end
section
/-! building: both sides -/
section VB
variable {f_blockLimit f_valueLimit f_blockCount f_valueCount f_sealed f_classCount f_workTop f_touchedCount f_undoTop f_runState f_runForm f_here f_input0 f_input1 f_returned f_evaluated : Int32} {a_valueKind a_valueBlock a_leaf a_args a_exitKind a_exitValue a_exitTrue a_exitFalse a_predMask a_order a_orderIndex a_idom a_domMask a_firstChild a_nextSibling a_stack a_cursor a_members a_location a_classIndex a_classStart a_classSize a_classMarked a_className a_useHead a_useNext a_work a_inWork a_splitter a_touched a_leaderOf a_available a_undo a_scopeMark a_body a_bodyStart a_bodyOps a_bodyEnd a_env a_phiNew : Nat → Int32} {g_maxBlocks g_maxValues g_blocks g_values g_isSealed g_hasRun g_isDone g_runForm g_in0 g_in1 g_at g_answer g_evals : Int32} {b_kind b_block b_left b_right b_arg b_exitKind b_exitX b_exitT b_exitF b_without b_differ b_val b_fresh : Nat → Int32} {P : PT}
theorem r_mk (W : p_W P) (hX : p_X P a_valueKind a_valueBlock a_leaf a_args a_exitKind a_exitValue a_exitTrue a_exitFalse) (hY : p_Y P b_kind b_block b_left b_right b_arg b_exitKind b_exitX b_exitT b_exitF)
    (hB : r_B P f_blockLimit f_valueLimit f_blockCount f_valueCount g_maxBlocks g_maxValues g_blocks g_values) (z1 : f_sealed = 0) (z2 : g_isSealed = 0) (z3 : f_runState = 0) (z4 : g_hasRun = 0) : r_All f_blockLimit f_valueLimit f_blockCount f_valueCount f_sealed f_runState f_runForm f_here f_input0 f_input1 f_returned f_evaluated a_valueKind a_valueBlock a_leaf a_args a_exitKind a_exitValue a_exitTrue a_exitFalse a_domMask a_classIndex a_className a_leaderOf a_body a_bodyStart a_bodyOps a_bodyEnd a_env g_maxBlocks g_maxValues g_blocks g_values g_isSealed g_hasRun g_isDone g_runForm g_in0 g_in1 g_at g_answer g_evals b_kind b_block b_left b_right b_arg b_exitKind b_exitX b_exitT b_exitF b_without b_differ b_val := ⟨P, W, hX, hY, hB, Or.inl ⟨z1, z2, z3, z4⟩⟩
def cl_ok (lo hi p z : Int32) : Prop := (¬ lo ≤ p ∧ z = lo) ∨ (lo ≤ p ∧ ¬ p ≤ hi ∧ z = hi) ∨ (lo ≤ p ∧ p ≤ hi ∧ z = p)
theorem cl_ex (lo hi p : Int32) : ∃ z, cl_ok lo hi p z := by
  by_cases h : lo ≤ p
  · by_cases g : p ≤ hi
    · exact ⟨p, Or.inr (Or.inr ⟨h, g, rfl⟩)⟩
    · exact ⟨hi, Or.inr (Or.inl ⟨h, g, rfl⟩)⟩
  · exact ⟨lo, Or.inl ⟨h, rfl⟩⟩
theorem cl_n {l m : Nat} {p z : Int32} (h : cl_ok (nI l) (nI m) p z) (hlm : l ≤ m) (hm : m < 2 ^ 31) : ∃ j, j ≤ m ∧ l ≤ j ∧ z = nI j := by
  rcases h with ⟨_, e⟩ | ⟨_, _, e⟩ | ⟨a, b, e⟩
  · exact ⟨l, hlm, Nat.le_refl _, e⟩
  · exact ⟨m, Nat.le_refl _, hlm, e⟩
  · have h0 : ¬ p < 0 := fun q => nI_pos (n := l) (by omega) (Int32.lt_of_le_of_lt a q)
    obtain ⟨j, hj, rfl⟩ := nI_of h0
    rw [nI_leI hj hm] at b
    rw [nI_leI (by omega) hj] at a
    exact ⟨j, b, a, e⟩
theorem v_i357 {post : SX → Prop} {x3 x4 zv : Int32} (hv : (¬ x4 ≤ 32 ∧ zv = 32) ∨ (x4 ≤ 32 ∧ zv = x4)) (h : post (x3, zv, 1, f_valueCount, f_sealed, f_classCount, f_workTop, f_touchedCount, f_undoTop, f_runState, f_runForm, f_here, f_input0, f_input1, f_returned, f_evaluated, a_valueKind, a_valueBlock, a_leaf, a_args, upd a_exitKind 0 0, upd a_exitValue 0 (-1), upd a_exitTrue 0 (-1), upd a_exitFalse 0 (-1), a_predMask, a_order, a_orderIndex, a_idom, a_domMask, a_firstChild, a_nextSibling, a_stack, a_cursor, a_members, a_location, a_classIndex, a_classStart, a_classSize, a_classMarked, a_className, a_useHead, a_useNext, a_work, a_inWork, a_splitter, a_touched, a_leaderOf, a_available, a_undo, a_scopeMark, a_body, a_bodyStart, a_bodyOps, a_bodyEnd, a_env, a_phiNew)) : wX_init_357 post x3 x4 f_blockLimit f_valueLimit f_blockCount f_valueCount f_sealed f_classCount f_workTop f_touchedCount f_undoTop f_runState f_runForm f_here f_input0 f_input1 f_returned f_evaluated a_valueKind a_valueBlock a_leaf a_args a_exitKind a_exitValue a_exitTrue a_exitFalse a_predMask a_order a_orderIndex a_idom a_domMask a_firstChild a_nextSibling a_stack a_cursor a_members a_location a_classIndex a_classStart a_classSize a_classMarked a_className a_useHead a_useNext a_work a_inWork a_splitter a_touched a_leaderOf a_available a_undo a_scopeMark a_body a_bodyStart a_bodyOps a_bodyEnd a_env a_phiNew := by
  have A : ∀ z, z = zv → wX_init_368 post x3 z f_blockLimit f_valueLimit f_blockCount f_valueCount f_sealed f_classCount f_workTop f_touchedCount f_undoTop f_runState f_runForm f_here f_input0 f_input1 f_returned f_evaluated a_valueKind a_valueBlock a_leaf a_args a_exitKind a_exitValue a_exitTrue a_exitFalse a_predMask a_order a_orderIndex a_idom a_domMask a_firstChild a_nextSibling a_stack a_cursor a_members a_location a_classIndex a_classStart a_classSize a_classMarked a_className a_useHead a_useNext a_work a_inWork a_splitter a_touched a_leaderOf a_available a_undo a_scopeMark a_body a_bodyStart a_bodyOps a_bodyEnd a_env a_phiNew := by
    intro z e
    subst e
    unfold wX_init_368
    exact xs_se (b := 0) (by omega) h
  unfold wX_init_357
  rcases hv with ⟨g, e⟩ | ⟨g, e⟩
  · exact br_f g (A 32 e.symm)
  · exact br_t g (A x4 e.symm)
theorem v_i345 {post : SX → Prop} {x2 x3 zv : Int32} (hv : cl_ok 4 32 x2 zv) (h : post (x3, zv, 1, f_valueCount, f_sealed, f_classCount, f_workTop, f_touchedCount, f_undoTop, f_runState, f_runForm, f_here, f_input0, f_input1, f_returned, f_evaluated, a_valueKind, a_valueBlock, a_leaf, a_args, upd a_exitKind 0 0, upd a_exitValue 0 (-1), upd a_exitTrue 0 (-1), upd a_exitFalse 0 (-1), a_predMask, a_order, a_orderIndex, a_idom, a_domMask, a_firstChild, a_nextSibling, a_stack, a_cursor, a_members, a_location, a_classIndex, a_classStart, a_classSize, a_classMarked, a_className, a_useHead, a_useNext, a_work, a_inWork, a_splitter, a_touched, a_leaderOf, a_available, a_undo, a_scopeMark, a_body, a_bodyStart, a_bodyOps, a_bodyEnd, a_env, a_phiNew)) : wX_init_345 post x2 x3 f_blockLimit f_valueLimit f_blockCount f_valueCount f_sealed f_classCount f_workTop f_touchedCount f_undoTop f_runState f_runForm f_here f_input0 f_input1 f_returned f_evaluated a_valueKind a_valueBlock a_leaf a_args a_exitKind a_exitValue a_exitTrue a_exitFalse a_predMask a_order a_orderIndex a_idom a_domMask a_firstChild a_nextSibling a_stack a_cursor a_members a_location a_classIndex a_classStart a_classSize a_classMarked a_className a_useHead a_useNext a_work a_inWork a_splitter a_touched a_leaderOf a_available a_undo a_scopeMark a_body a_bodyStart a_bodyOps a_bodyEnd a_env a_phiNew := by
  unfold wX_init_345
  rcases hv with ⟨g, e⟩ | ⟨g, g2, e⟩ | ⟨g, g2, e⟩
  · exact br_f g (v_i357 (Or.inr ⟨by decide, e⟩) h)
  · exact br_t g (v_i357 (Or.inl ⟨g2, e⟩) h)
  · exact br_t g (v_i357 (Or.inr ⟨g2, e⟩) h)
theorem v_i336 {post : SX → Prop} {x2 x3 zb zv : Int32} (hb : (¬ x3 ≤ 8 ∧ zb = 8) ∨ (x3 ≤ 8 ∧ zb = x3)) (hv : cl_ok 4 32 x2 zv) (h : post (zb, zv, 1, f_valueCount, f_sealed, f_classCount, f_workTop, f_touchedCount, f_undoTop, f_runState, f_runForm, f_here, f_input0, f_input1, f_returned, f_evaluated, a_valueKind, a_valueBlock, a_leaf, a_args, upd a_exitKind 0 0, upd a_exitValue 0 (-1), upd a_exitTrue 0 (-1), upd a_exitFalse 0 (-1), a_predMask, a_order, a_orderIndex, a_idom, a_domMask, a_firstChild, a_nextSibling, a_stack, a_cursor, a_members, a_location, a_classIndex, a_classStart, a_classSize, a_classMarked, a_className, a_useHead, a_useNext, a_work, a_inWork, a_splitter, a_touched, a_leaderOf, a_available, a_undo, a_scopeMark, a_body, a_bodyStart, a_bodyOps, a_bodyEnd, a_env, a_phiNew)) : wX_init_336 post x2 x3 f_blockLimit f_valueLimit f_blockCount f_valueCount f_sealed f_classCount f_workTop f_touchedCount f_undoTop f_runState f_runForm f_here f_input0 f_input1 f_returned f_evaluated a_valueKind a_valueBlock a_leaf a_args a_exitKind a_exitValue a_exitTrue a_exitFalse a_predMask a_order a_orderIndex a_idom a_domMask a_firstChild a_nextSibling a_stack a_cursor a_members a_location a_classIndex a_classStart a_classSize a_classMarked a_className a_useHead a_useNext a_work a_inWork a_splitter a_touched a_leaderOf a_available a_undo a_scopeMark a_body a_bodyStart a_bodyOps a_bodyEnd a_env a_phiNew := by
  unfold wX_init_336
  rcases hb with ⟨g, e⟩ | ⟨g, e⟩
  · rw [e] at h; exact br_f g (v_i345 hv h)
  · rw [e] at h; exact br_t g (v_i345 hv h)
theorem v_y187 {post : SY → Prop} {x2 z0 zv : Int32} (hv : cl_ok 4 32 x2 zv) (h : post (z0, zv, g_blocks, g_values, g_isSealed, g_hasRun, g_isDone, g_runForm, g_in0, g_in1, g_at, g_answer, g_evals, b_kind, b_block, b_left, b_right, b_arg, b_exitKind, b_exitX, b_exitT, b_exitF, b_without, b_differ, b_val, b_fresh)) : wY_init_187 post x2 z0 g_maxBlocks g_maxValues g_blocks g_values g_isSealed g_hasRun g_isDone g_runForm g_in0 g_in1 g_at g_answer g_evals b_kind b_block b_left b_right b_arg b_exitKind b_exitX b_exitT b_exitF b_without b_differ b_val b_fresh := by
  unfold wY_init_187
  rcases hv with ⟨g, e⟩ | ⟨g, g2, e⟩ | ⟨g, g2, e⟩
  · rw [e] at h; exact br_f g h
  · rw [e] at h; exact br_t g (br_f g2 h)
  · rw [e] at h; exact br_t g (br_t g2 h)
end VB
theorem i_vc0 (k0 : Int32) (k1 : Int32) : wpX_init (fun u => wpY_init (fun v => i_Rel 2 u v) k0 k1) k0 k1 := by
  obtain ⟨zb, hb⟩ := cl_ex 1 8 k0
  obtain ⟨zv, hv⟩ := cl_ex 4 32 k1
  obtain ⟨B, B1, B2, eB⟩ := cl_n (l := 1) (m := 8) hb (by omega) (by omega)
  obtain ⟨V, V1, V2, eV⟩ := cl_n (l := 4) (m := 32) hv (by omega) (by omega)
  have W0 : p_W (1, 0, fun _ => 0, fun _ => 0, fun _ => 0, fun _ _ => none, fun _ => 0, fun _ => none, fun _ => none, fun _ => none) :=
    ⟨Nat.le_refl _, (by decide : 1 ≤ 8), Nat.zero_le _, fun v hv => absurd hv (Nat.not_lt_zero _), fun b hb => ⟨Nat.zero_le _, fun x e => (by cases e), fun x e => (by cases e), fun x e => (by cases e), ⟨fun _ z => by (rcases z with z | z <;> cases z), fun _ => rfl⟩, ⟨fun _ z => by (rcases z with z | z <;> cases z), fun _ => rfl⟩, ⟨fun _ z => (by cases z), fun _ => rfl⟩⟩⟩
  have b0 : ∀ b, b < 1 → b = 0 := fun b hb => by omega
  have R : ∀ zb' zv', zb' = nI B → zv' = nI V → wpY_init (fun v => i_Rel 2 (zb', zv', 1, 0, 0, 0, 0, 0, 0, 0, 0, 0, 0, 0, 0, 0, fun _ => 0, fun _ => 0, fun _ => 0, fun _ => 0, upd (fun _ => 0) 0 0, upd (fun _ => 0) 0 (-1), upd (fun _ => 0) 0 (-1), upd (fun _ => 0) 0 (-1), fun _ => 0, fun _ => 0, fun _ => 0, fun _ => 0, fun _ => 0, fun _ => 0, fun _ => 0, fun _ => 0, fun _ => 0, fun _ => 0, fun _ => 0, fun _ => 0, fun _ => 0, fun _ => 0, fun _ => 0, fun _ => 0, fun _ => 0, fun _ => 0, fun _ => 0, fun _ => 0, fun _ => 0, fun _ => 0, fun _ => 0, fun _ => 0, fun _ => 0, fun _ => 0, fun _ => 0, fun _ => 0, fun _ => 0, fun _ => 0, fun _ => 0, fun _ => 0) v) k0 k1 := by
    intro zb' zv' e1 e2
    have F : ∀ z0 z1, z0 = nI B → z1 = nI V → i_Rel 2 (zb', zv', 1, 0, 0, 0, 0, 0, 0, 0, 0, 0, 0, 0, 0, 0, fun _ => 0, fun _ => 0, fun _ => 0, fun _ => 0, upd (fun _ => 0) 0 0, upd (fun _ => 0) 0 (-1), upd (fun _ => 0) 0 (-1), upd (fun _ => 0) 0 (-1), fun _ => 0, fun _ => 0, fun _ => 0, fun _ => 0, fun _ => 0, fun _ => 0, fun _ => 0, fun _ => 0, fun _ => 0, fun _ => 0, fun _ => 0, fun _ => 0, fun _ => 0, fun _ => 0, fun _ => 0, fun _ => 0, fun _ => 0, fun _ => 0, fun _ => 0, fun _ => 0, fun _ => 0, fun _ => 0, fun _ => 0, fun _ => 0, fun _ => 0, fun _ => 0, fun _ => 0, fun _ => 0, fun _ => 0, fun _ => 0, fun _ => 0, fun _ => 0) (z0, z1, 1, 0, 0, 0, 0, 0, 0, 0, 0, 0, 0, fun _ => 0, fun _ => 0, fun _ => 0, fun _ => 0, fun _ => 0, fun _ => 0, fun _ => 0, fun _ => 0, fun _ => 0, fun _ => 0, fun _ => 0, fun _ => 0, fun _ => 0) := by
      intro z0 z1 e3 e4
      refine r_mk W0 ⟨fun v hv => absurd hv (Nat.not_lt_zero _), fun v hv => absurd hv (Nat.not_lt_zero _), fun v hv => absurd hv (Nat.not_lt_zero _), fun v i hv => absurd hv (Nat.not_lt_zero _), fun b hb => ?_, fun b hb => ?_, fun b hb => ?_, fun b hb => ?_⟩ ⟨fun v hv => absurd hv (Nat.not_lt_zero _), fun v hv => absurd hv (Nat.not_lt_zero _), fun v hv => absurd hv (Nat.not_lt_zero _), fun v hv => absurd hv (Nat.not_lt_zero _), fun v hv => absurd hv (Nat.not_lt_zero _), fun v i hv => absurd hv (Nat.not_lt_zero _), fun b hb => rfl, fun b hb z => ?_, fun b hb z => ?_, fun b hb z => ?_⟩ ⟨rfl, rfl, rfl, rfl, B, V, B1, V1, e1, e2, e3, e4⟩ rfl rfl rfl rfl
      · rw [b0 b hb, pk_us]; rfl
      · rw [b0 b hb, pk_us]; rfl
      · rw [b0 b hb, pk_us]; rfl
      · rw [b0 b hb, pk_us]; rfl
      · rcases z with z | z <;> cases z
      · rcases z with z | z <;> cases z
      · cases z
    unfold wpY_init
    rcases hb with ⟨g, e⟩ | ⟨g, g2, e⟩ | ⟨g, g2, e⟩
    · exact br_f g (v_y187 hv (F _ _ (e ▸ eB) eV))
    · exact br_t g (br_f g2 (v_y187 hv (F _ _ (e ▸ eB) eV)))
    · exact br_t g (br_t g2 (v_y187 hv (F _ _ (e ▸ eB) eV)))
  unfold wpX_init
  have hb' := hb
  rcases hb' with ⟨g, e⟩ | ⟨g, g2, e⟩ | ⟨g, g2, e⟩
  · exact br_f g (v_i336 (Or.inr ⟨by decide, rfl⟩) hv (R _ _ (e ▸ eB) eV))
  · exact br_t g (v_i336 (Or.inl ⟨g2, rfl⟩) hv (R _ _ (e ▸ eB) eV))
  · exact br_t g (v_i336 (Or.inr ⟨g2, rfl⟩) hv (R _ _ (e ▸ eB) eV))
end
section
/-! building: the calls -/
section VC
variable {f_blockLimit f_valueLimit f_blockCount f_valueCount f_sealed f_classCount f_workTop f_touchedCount f_undoTop f_runState f_runForm f_here f_input0 f_input1 f_returned f_evaluated : Int32} {a_valueKind a_valueBlock a_leaf a_args a_exitKind a_exitValue a_exitTrue a_exitFalse a_predMask a_order a_orderIndex a_idom a_domMask a_firstChild a_nextSibling a_stack a_cursor a_members a_location a_classIndex a_classStart a_classSize a_classMarked a_className a_useHead a_useNext a_work a_inWork a_splitter a_touched a_leaderOf a_available a_undo a_scopeMark a_body a_bodyStart a_bodyOps a_bodyEnd a_env a_phiNew : Nat → Int32} {g_maxBlocks g_maxValues g_blocks g_values g_isSealed g_hasRun g_isDone g_runForm g_in0 g_in1 g_at g_answer g_evals : Int32} {b_kind b_block b_left b_right b_arg b_exitKind b_exitX b_exitT b_exitF b_without b_differ b_val b_fresh : Nat → Int32} {P : PT} {k : Nat}
theorem v_ne0 {a : Int32} (h : a = 1) : ¬ a = 0 := by rw [h]; decide
theorem v_addBlock (R : r_All f_blockLimit f_valueLimit f_blockCount f_valueCount f_sealed f_runState f_runForm f_here f_input0 f_input1 f_returned f_evaluated a_valueKind a_valueBlock a_leaf a_args a_exitKind a_exitValue a_exitTrue a_exitFalse a_domMask a_classIndex a_className a_leaderOf a_body a_bodyStart a_bodyOps a_bodyEnd a_env g_maxBlocks g_maxValues g_blocks g_values g_isSealed g_hasRun g_isDone g_runForm g_in0 g_in1 g_at g_answer g_evals b_kind b_block b_left b_right b_arg b_exitKind b_exitX b_exitT b_exitF b_without b_differ b_val) : wpX_addBlock (fun r u' => wpY_addBlock (fun r' v' => r' = r ∧ i_Rel k u' v') (g_maxBlocks, g_maxValues, g_blocks, g_values, g_isSealed, g_hasRun, g_isDone, g_runForm, g_in0, g_in1, g_at, g_answer, g_evals, b_kind, b_block, b_left, b_right, b_arg, b_exitKind, b_exitX, b_exitT, b_exitF, b_without, b_differ, b_val, b_fresh)) (f_blockLimit, f_valueLimit, f_blockCount, f_valueCount, f_sealed, f_classCount, f_workTop, f_touchedCount, f_undoTop, f_runState, f_runForm, f_here, f_input0, f_input1, f_returned, f_evaluated, a_valueKind, a_valueBlock, a_leaf, a_args, a_exitKind, a_exitValue, a_exitTrue, a_exitFalse, a_predMask, a_order, a_orderIndex, a_idom, a_domMask, a_firstChild, a_nextSibling, a_stack, a_cursor, a_members, a_location, a_classIndex, a_classStart, a_classSize, a_classMarked, a_className, a_useHead, a_useNext, a_work, a_inWork, a_splitter, a_touched, a_leaderOf, a_available, a_undo, a_scopeMark, a_body, a_bodyStart, a_bodyOps, a_bodyEnd, a_env, a_phiNew) := by
  have R0 := R
  obtain ⟨P, W, hX, hY, ⟨e1, e2, e3, e4, B, V, l1, l2, e5, e6, e7, e8⟩, hZ⟩ := R
  have hb8 := W.2.1
  rcases hZ with ⟨z1, z2, z3, z4⟩ | ⟨z1, z2, _⟩
  · refine br_t z1 (pk_lt (p_b P) B (fun h => nm_r (e' := nI (p_b P + 1)) (by rw [e1, nI_1]) ?_) (fun h => br_t z2 (br_f (by rw [e3, e7, nI_ltI (by omega) (by omega)]; omega) ⟨rfl, R0⟩)) (hx := e1) (hy := e5))
    rw [e1]
    refine xs_se (by omega) (br_t z2 (br_t (by rw [e3, e7, nI_ltI (by omega) (by omega)]; exact h) ⟨by rw [e3]; exact vp_in_nI (by omega) (by omega), nm_r (e' := upd b_exitKind (p_b P) 0) (by rw [e3, nI_clamp (by omega)]) (nm_r (e' := nI (p_b P + 1)) (by rw [e3, nI_1]) ⟨nI_pred _, r_mk (q_blk_W W (by omega)) (q_blk_X hX) (q_blk_Y hY) ⟨rfl, e2, rfl, e4, B, V, l1, l2, e5, e6, e7, e8⟩ z1 z2 z3 z4⟩)⟩))
  · exact br_f (v_ne0 z1) (br_f (v_ne0 z2) ⟨rfl, R0⟩)
theorem v_x49 {post : Int32 → SX → Prop} {b x2 x3 : Int32} {nv V : Nat} (hn : nv ≤ 32) (hV : V ≤ 32) (ev : f_valueCount = nI nv) (el : f_valueLimit = nI V) (h0 : V ≤ nv → post (-2) (f_blockLimit, f_valueLimit, f_blockCount, f_valueCount, f_sealed, f_classCount, f_workTop, f_touchedCount, f_undoTop, f_runState, f_runForm, f_here, f_input0, f_input1, f_returned, f_evaluated, a_valueKind, a_valueBlock, a_leaf, a_args, a_exitKind, a_exitValue, a_exitTrue, a_exitFalse, a_predMask, a_order, a_orderIndex, a_idom, a_domMask, a_firstChild, a_nextSibling, a_stack, a_cursor, a_members, a_location, a_classIndex, a_classStart, a_classSize, a_classMarked, a_className, a_useHead, a_useNext, a_work, a_inWork, a_splitter, a_touched, a_leaderOf, a_available, a_undo, a_scopeMark, a_body, a_bodyStart, a_bodyOps, a_bodyEnd, a_env, a_phiNew))
    (h1 : nv < V → post (nI nv) (f_blockLimit, f_valueLimit, f_blockCount, nI (nv + 1), f_sealed, f_classCount, f_workTop, f_touchedCount, f_undoTop, f_runState, f_runForm, f_here, f_input0, f_input1, f_returned, f_evaluated, upd a_valueKind nv x2, upd a_valueBlock nv b, upd (upd a_leaf nv 0) nv x3, xs_cl a_args nv 8, a_exitKind, a_exitValue, a_exitTrue, a_exitFalse, a_predMask, a_order, a_orderIndex, a_idom, a_domMask, a_firstChild, a_nextSibling, a_stack, a_cursor, a_members, a_location, a_classIndex, a_classStart, a_classSize, a_classMarked, a_className, a_useHead, a_useNext, a_work, a_inWork, a_splitter, a_touched, a_leaderOf, a_available, a_undo, a_scopeMark, a_body, a_bodyStart, a_bodyOps, a_bodyEnd, a_env, a_phiNew)) : wX_addLeaf_49 post b x2 x3 f_blockLimit f_valueLimit f_blockCount f_valueCount f_sealed f_classCount f_workTop f_touchedCount f_undoTop f_runState f_runForm f_here f_input0 f_input1 f_returned f_evaluated a_valueKind a_valueBlock a_leaf a_args a_exitKind a_exitValue a_exitTrue a_exitFalse a_predMask a_order a_orderIndex a_idom a_domMask a_firstChild a_nextSibling a_stack a_cursor a_members a_location a_classIndex a_classStart a_classSize a_classMarked a_className a_useHead a_useNext a_work a_inWork a_splitter a_touched a_leaderOf a_available a_undo a_scopeMark a_body a_bodyStart a_bodyOps a_bodyEnd a_env a_phiNew := by
  unfold wX_addLeaf_49
  refine pk_lt nv V (fun h => ?_) (fun h => h0 h) (hx := ev) (hy := el)
  exact xs_nv (by omega) ev ⟨vp_in_nI (by omega) (by omega), ba_wr nv rfl (by omega) rfl (h1 h)⟩
theorem v_leaf {b x2 x3 : Int32} {j kk : Nat} (R : r_All f_blockLimit f_valueLimit f_blockCount f_valueCount f_sealed f_runState f_runForm f_here f_input0 f_input1 f_returned f_evaluated a_valueKind a_valueBlock a_leaf a_args a_exitKind a_exitValue a_exitTrue a_exitFalse a_domMask a_classIndex a_className a_leaderOf a_body a_bodyStart a_bodyOps a_bodyEnd a_env g_maxBlocks g_maxValues g_blocks g_values g_isSealed g_hasRun g_isDone g_runForm g_in0 g_in1 g_at g_answer g_evals b_kind b_block b_left b_right b_arg b_exitKind b_exitX b_exitT b_exitF b_without b_differ b_val) (ek : x2 = nI kk) (z1 : f_sealed = 0) (ej : b = nI j) (hkk : kk < 2) (W : p_W P) (hX : p_X P a_valueKind a_valueBlock a_leaf a_args a_exitKind a_exitValue a_exitTrue a_exitFalse) (hY : p_Y P b_kind b_block b_left b_right b_arg b_exitKind b_exitX b_exitT b_exitF)
    (hB : r_B P f_blockLimit f_valueLimit f_blockCount f_valueCount g_maxBlocks g_maxValues g_blocks g_values) (z2 : g_isSealed = 0) (z3 : f_runState = 0) (z4 : g_hasRun = 0) (hj : j < p_b P) {Q : (Int32 → SY → Prop) → Prop} (hQ : ∀ q, wY_addLeaf_46 q b x2 x3 g_maxBlocks g_maxValues g_blocks g_values g_isSealed g_hasRun g_isDone g_runForm g_in0 g_in1 g_at g_answer g_evals b_kind b_block b_left b_right b_arg b_exitKind b_exitX b_exitT b_exitF b_without b_differ b_val b_fresh → Q q) :
    wX_addLeaf_49 (fun r u' => Q (fun r' v' => r' = r ∧ i_Rel k u' v')) b x2 x3 f_blockLimit f_valueLimit f_blockCount f_valueCount f_sealed f_classCount f_workTop f_touchedCount f_undoTop f_runState f_runForm f_here f_input0 f_input1 f_returned f_evaluated a_valueKind a_valueBlock a_leaf a_args a_exitKind a_exitValue a_exitTrue a_exitFalse a_predMask a_order a_orderIndex a_idom a_domMask a_firstChild a_nextSibling a_stack a_cursor a_members a_location a_classIndex a_classStart a_classSize a_classMarked a_className a_useHead a_useNext a_work a_inWork a_splitter a_touched a_leaderOf a_available a_undo a_scopeMark a_body a_bodyStart a_bodyOps a_bodyEnd a_env a_phiNew := by
  subst ek
  obtain ⟨e1, e2, e3, e4, B, V, l1, l2, e5, e6, e7, e8⟩ := hB
  have hv32 := W.2.2.1
  refine v_x49 (nv := p_v P) (V := V) hv32 l2 e2 e6 (fun h => hQ _ ?_) (fun h => hQ _ ?_)
  · unfold wY_addLeaf_46
    exact br_f (by rw [e4, e8]; exact nI_nlt h (by omega)) ⟨rfl, R⟩
  · unfold wY_addLeaf_46
    refine ys_add (v := p_v P) (m := V) (by omega) (by omega) e4 e8 (fun z => by omega) (fun _ => ⟨rfl, ?_⟩)
    rw [ej]
    refine r_mk (P := q_val P j kk x3 (fun _ => none)) (q_val_W W (by omega) hj (by omega) (fun i x _ e => (by cases e)) (fun _ _ _ => rfl) (fun z => by omega) (fun z => by omega)) (q_val_X hX (fun v hv => by rw [pk_un (by omega), pk_un (by omega)]) pk_us (fun i hi => if_neg (by omega)) (fun i hi => if_pos ⟨by omega, by omega⟩)) (q_val_Y hY (fun _ => rfl) (fun z => by omega) (fun z => by omega) (fun z => by omega)) ⟨e1, rfl, e3, rfl, B, V, l1, l2, e5, e6, e7, e8⟩ z1 z2 z3 z4
theorem v_addLeaf (R : r_All f_blockLimit f_valueLimit f_blockCount f_valueCount f_sealed f_runState f_runForm f_here f_input0 f_input1 f_returned f_evaluated a_valueKind a_valueBlock a_leaf a_args a_exitKind a_exitValue a_exitTrue a_exitFalse a_domMask a_classIndex a_className a_leaderOf a_body a_bodyStart a_bodyOps a_bodyEnd a_env g_maxBlocks g_maxValues g_blocks g_values g_isSealed g_hasRun g_isDone g_runForm g_in0 g_in1 g_at g_answer g_evals b_kind b_block b_left b_right b_arg b_exitKind b_exitX b_exitT b_exitF b_without b_differ b_val) (v1 v2 v3 : Int32) : wpX_addLeaf (fun r u' => wpY_addLeaf (fun r' v' => r' = r ∧ i_Rel k u' v') (g_maxBlocks, g_maxValues, g_blocks, g_values, g_isSealed, g_hasRun, g_isDone, g_runForm, g_in0, g_in1, g_at, g_answer, g_evals, b_kind, b_block, b_left, b_right, b_arg, b_exitKind, b_exitX, b_exitT, b_exitF, b_without, b_differ, b_val, b_fresh) v1 v2 v3) (f_blockLimit, f_valueLimit, f_blockCount, f_valueCount, f_sealed, f_classCount, f_workTop, f_touchedCount, f_undoTop, f_runState, f_runForm, f_here, f_input0, f_input1, f_returned, f_evaluated, a_valueKind, a_valueBlock, a_leaf, a_args, a_exitKind, a_exitValue, a_exitTrue, a_exitFalse, a_predMask, a_order, a_orderIndex, a_idom, a_domMask, a_firstChild, a_nextSibling, a_stack, a_cursor, a_members, a_location, a_classIndex, a_classStart, a_classSize, a_classMarked, a_className, a_useHead, a_useNext, a_work, a_inWork, a_splitter, a_touched, a_leaderOf, a_available, a_undo, a_scopeMark, a_body, a_bodyStart, a_bodyOps, a_bodyEnd, a_env, a_phiNew) v1 v2 v3 := by
  have R0 := R
  obtain ⟨P, W, hX, hY, hB, hZ⟩ := R
  have hb8 := W.2.1
  have hv32 := W.2.2.1
  rcases hZ with ⟨z1, z2, z3, z4⟩ | ⟨z1, z2, _⟩
  · refine br_t z1 (xs_be (n := p_b P) (by omega) hB.1 (fun no => br_t rfl (br_t z2 (ys_ib (n := p_b P) (by omega) hB.2.2.1 (fun _ => br_t rfl ⟨rfl, R0⟩) (fun j hj e => absurd e (no j hj))))) (fun j hj ej => br_f (by decide) ?_))
    have YW : ∀ q : Int32 → SY → Prop, ((v2 = 0 → wY_addLeaf_29 q v1 v2 v3 g_maxBlocks g_maxValues g_blocks g_values g_isSealed g_hasRun g_isDone g_runForm g_in0 g_in1 g_at g_answer g_evals b_kind b_block b_left b_right b_arg b_exitKind b_exitX b_exitT b_exitF b_without b_differ b_val b_fresh) ∧ (¬ v2 = 0 → (v2 = 1 → wY_addLeaf_29 q v1 v2 v3 g_maxBlocks g_maxValues g_blocks g_values g_isSealed g_hasRun g_isDone g_runForm g_in0 g_in1 g_at g_answer g_evals b_kind b_block b_left b_right b_arg b_exitKind b_exitX b_exitT b_exitF b_without b_differ b_val b_fresh) ∧ (¬ v2 = 1 → q (-3) (g_maxBlocks, g_maxValues, g_blocks, g_values, g_isSealed, g_hasRun, g_isDone, g_runForm, g_in0, g_in1, g_at, g_answer, g_evals, b_kind, b_block, b_left, b_right, b_arg, b_exitKind, b_exitX, b_exitT, b_exitF, b_without, b_differ, b_val, b_fresh)))) → wpY_addLeaf q (g_maxBlocks, g_maxValues, g_blocks, g_values, g_isSealed, g_hasRun, g_isDone, g_runForm, g_in0, g_in1, g_at, g_answer, g_evals, b_kind, b_block, b_left, b_right, b_arg, b_exitKind, b_exitX, b_exitT, b_exitF, b_without, b_differ, b_val, b_fresh) v1 v2 v3 := fun q h => br_t z2 (ys_ib (n := p_b P) (by omega) hB.2.2.1 (fun no => absurd ej (no j hj)) (fun _ _ _ => br_f (by decide) h))
    refine br_c (fun k0 => ?_) (fun k0 => br_c (fun k1 => ?_) (fun k1 => YW _ (br_f k0 (br_f k1 ⟨rfl, R0⟩))))
    · have k01 : ¬ v2 = 1 := by rw [k0]; decide
      unfold wX_addLeaf_32
      refine br_f k01 ?_
      exact v_leaf (k := k) (kk := 0) (Q := fun q => wpY_addLeaf q (g_maxBlocks, g_maxValues, g_blocks, g_values, g_isSealed, g_hasRun, g_isDone, g_runForm, g_in0, g_in1, g_at, g_answer, g_evals, b_kind, b_block, b_left, b_right, b_arg, b_exitKind, b_exitX, b_exitT, b_exitF, b_without, b_differ, b_val, b_fresh) v1 v2 v3) R0 k0 z1 ej (by omega) W hX hY hB z2 z3 z4 hj (fun q h => YW q (br_t k0 (by unfold wY_addLeaf_29; exact br_f k01 h)))
    · unfold wX_addLeaf_32
      have good : (v3 = 0 ∨ v3 = 1) → wX_addLeaf_49 (fun r u' => wpY_addLeaf (fun r' v' => r' = r ∧ i_Rel k u' v') (g_maxBlocks, g_maxValues, g_blocks, g_values, g_isSealed, g_hasRun, g_isDone, g_runForm, g_in0, g_in1, g_at, g_answer, g_evals, b_kind, b_block, b_left, b_right, b_arg, b_exitKind, b_exitX, b_exitT, b_exitF, b_without, b_differ, b_val, b_fresh) v1 v2 v3) v1 v2 v3 f_blockLimit f_valueLimit f_blockCount f_valueCount f_sealed f_classCount f_workTop f_touchedCount f_undoTop f_runState f_runForm f_here f_input0 f_input1 f_returned f_evaluated a_valueKind a_valueBlock a_leaf a_args a_exitKind a_exitValue a_exitTrue a_exitFalse a_predMask a_order a_orderIndex a_idom a_domMask a_firstChild a_nextSibling a_stack a_cursor a_members a_location a_classIndex a_classStart a_classSize a_classMarked a_className a_useHead a_useNext a_work a_inWork a_splitter a_touched a_leaderOf a_available a_undo a_scopeMark a_body a_bodyStart a_bodyOps a_bodyEnd a_env a_phiNew := by
        intro hv
        exact v_leaf (k := k) (kk := 1) (Q := fun q => wpY_addLeaf q (g_maxBlocks, g_maxValues, g_blocks, g_values, g_isSealed, g_hasRun, g_isDone, g_runForm, g_in0, g_in1, g_at, g_answer, g_evals, b_kind, b_block, b_left, b_right, b_arg, b_exitKind, b_exitX, b_exitT, b_exitF, b_without, b_differ, b_val, b_fresh) v1 v2 v3) R0 k1 z1 ej (by omega) W hX hY hB z2 z3 z4 hj (fun q h => YW q (br_f k0 (br_t k1 (by
          unfold wY_addLeaf_29
          refine br_t k1 ?_
          rcases hv with w | w
          · exact br_t w h
          · exact br_f (by rw [w]; decide) (br_t w h)))))
      refine br_t k1 (br_c (fun a0 => good (Or.inl a0)) (fun a0 => br_c (fun a1 => good (Or.inr a1)) (fun a1 => YW _ (br_f k0 (br_t k1 (by unfold wY_addLeaf_29; exact br_t k1 (br_f a0 (br_f a1 ⟨rfl, R0⟩))))))))
  · exact br_f (v_ne0 z1) (br_f (v_ne0 z2) ⟨rfl, R0⟩)
theorem v_addOp (R : r_All f_blockLimit f_valueLimit f_blockCount f_valueCount f_sealed f_runState f_runForm f_here f_input0 f_input1 f_returned f_evaluated a_valueKind a_valueBlock a_leaf a_args a_exitKind a_exitValue a_exitTrue a_exitFalse a_domMask a_classIndex a_className a_leaderOf a_body a_bodyStart a_bodyOps a_bodyEnd a_env g_maxBlocks g_maxValues g_blocks g_values g_isSealed g_hasRun g_isDone g_runForm g_in0 g_in1 g_at g_answer g_evals b_kind b_block b_left b_right b_arg b_exitKind b_exitX b_exitT b_exitF b_without b_differ b_val) (v1 v2 v3 v4 : Int32) : wpX_addOp (fun r u' => wpY_addOp (fun r' v' => r' = r ∧ i_Rel k u' v') (g_maxBlocks, g_maxValues, g_blocks, g_values, g_isSealed, g_hasRun, g_isDone, g_runForm, g_in0, g_in1, g_at, g_answer, g_evals, b_kind, b_block, b_left, b_right, b_arg, b_exitKind, b_exitX, b_exitT, b_exitF, b_without, b_differ, b_val, b_fresh) v1 v2 v3 v4) (f_blockLimit, f_valueLimit, f_blockCount, f_valueCount, f_sealed, f_classCount, f_workTop, f_touchedCount, f_undoTop, f_runState, f_runForm, f_here, f_input0, f_input1, f_returned, f_evaluated, a_valueKind, a_valueBlock, a_leaf, a_args, a_exitKind, a_exitValue, a_exitTrue, a_exitFalse, a_predMask, a_order, a_orderIndex, a_idom, a_domMask, a_firstChild, a_nextSibling, a_stack, a_cursor, a_members, a_location, a_classIndex, a_classStart, a_classSize, a_classMarked, a_className, a_useHead, a_useNext, a_work, a_inWork, a_splitter, a_touched, a_leaderOf, a_available, a_undo, a_scopeMark, a_body, a_bodyStart, a_bodyOps, a_bodyEnd, a_env, a_phiNew) v1 v2 v3 v4 := by
  have R0 := R
  obtain ⟨P, W, hX, hY, hB, hZ⟩ := R
  have hb8 := W.2.1
  have hv32 := W.2.2.1
  rcases hZ with ⟨z1, z2, z3, z4⟩ | ⟨z1, z2, _⟩
  · refine br_t z1 (xs_be (n := p_b P) (by omega) hB.1 (fun no => br_t rfl (br_t z2 (ys_ib (n := p_b P) (by omega) hB.2.2.1 (fun _ => br_t rfl ⟨rfl, R0⟩) (fun j hj e => absurd e (no j hj))))) (fun j hj ej => br_f (by decide) ?_))
    have Y1 : ∀ q : Int32 → SY → Prop, ((v2 < 3 → q (-3) (g_maxBlocks, g_maxValues, g_blocks, g_values, g_isSealed, g_hasRun, g_isDone, g_runForm, g_in0, g_in1, g_at, g_answer, g_evals, b_kind, b_block, b_left, b_right, b_arg, b_exitKind, b_exitX, b_exitT, b_exitF, b_without, b_differ, b_val, b_fresh)) ∧ (¬ v2 < 3 → (12 < v2 → q (-3) (g_maxBlocks, g_maxValues, g_blocks, g_values, g_isSealed, g_hasRun, g_isDone, g_runForm, g_in0, g_in1, g_at, g_answer, g_evals, b_kind, b_block, b_left, b_right, b_arg, b_exitKind, b_exitX, b_exitT, b_exitF, b_without, b_differ, b_val, b_fresh)) ∧ (¬ 12 < v2 → wpY_isValue (fun r_32 => (r_32 = 0 → q (-3) (g_maxBlocks, g_maxValues, g_blocks, g_values, g_isSealed, g_hasRun, g_isDone, g_runForm, g_in0, g_in1, g_at, g_answer, g_evals, b_kind, b_block, b_left, b_right, b_arg, b_exitKind, b_exitX, b_exitT, b_exitF, b_without, b_differ, b_val, b_fresh)) ∧ (¬ r_32 = 0 → (10 < v2 → wY_addOp_57 q v1 v2 v3 v4 g_maxBlocks g_maxValues g_blocks g_values g_isSealed g_hasRun g_isDone g_runForm g_in0 g_in1 g_at g_answer g_evals b_kind b_block b_left b_right b_arg b_exitKind b_exitX b_exitT b_exitF b_without b_differ b_val b_fresh) ∧ (¬ 10 < v2 → wpY_isValue (fun r_88 => (r_88 = 0 → q (-3) (g_maxBlocks, g_maxValues, g_blocks, g_values, g_isSealed, g_hasRun, g_isDone, g_runForm, g_in0, g_in1, g_at, g_answer, g_evals, b_kind, b_block, b_left, b_right, b_arg, b_exitKind, b_exitX, b_exitT, b_exitF, b_without, b_differ, b_val, b_fresh)) ∧ (¬ r_88 = 0 → wY_addOp_57 q v1 v2 v3 v4 g_maxBlocks g_maxValues g_blocks g_values g_isSealed g_hasRun g_isDone g_runForm g_in0 g_in1 g_at g_answer g_evals b_kind b_block b_left b_right b_arg b_exitKind b_exitX b_exitT b_exitF b_without b_differ b_val b_fresh)) (g_maxBlocks, g_maxValues, g_blocks, g_values, g_isSealed, g_hasRun, g_isDone, g_runForm, g_in0, g_in1, g_at, g_answer, g_evals, b_kind, b_block, b_left, b_right, b_arg, b_exitKind, b_exitX, b_exitT, b_exitF, b_without, b_differ, b_val, b_fresh) v4))) (g_maxBlocks, g_maxValues, g_blocks, g_values, g_isSealed, g_hasRun, g_isDone, g_runForm, g_in0, g_in1, g_at, g_answer, g_evals, b_kind, b_block, b_left, b_right, b_arg, b_exitKind, b_exitX, b_exitT, b_exitF, b_without, b_differ, b_val, b_fresh) v3))) → wpY_addOp q (g_maxBlocks, g_maxValues, g_blocks, g_values, g_isSealed, g_hasRun, g_isDone, g_runForm, g_in0, g_in1, g_at, g_answer, g_evals, b_kind, b_block, b_left, b_right, b_arg, b_exitKind, b_exitX, b_exitT, b_exitF, b_without, b_differ, b_val, b_fresh) v1 v2 v3 v4 := fun q h => br_t z2 (ys_ib (n := p_b P) (by omega) hB.2.2.1 (fun no => absurd ej (no j hj)) (fun _ _ _ => br_f (by decide) h))
    refine br_c (fun a => Y1 _ (br_t a ⟨rfl, R0⟩)) (fun a => br_c (fun a2 => Y1 _ (br_f a (br_t a2 ⟨rfl, R0⟩))) (fun a2 => ?_))
    refine xs_ve (n := p_v P) (by omega) hB.2.1 (fun no => br_t rfl (Y1 _ (br_f a (br_f a2 (ys_iv (n := p_v P) (by omega) hB.2.2.2.1 (fun _ => br_t rfl ⟨rfl, R0⟩) (fun i hi e => absurd e (no i hi))))))) (fun x hx ex => br_f (by decide) ?_)
    obtain ⟨kk, hk12, ek⟩ := nI_of2 (x := v2) (M := 12) (n := 12) (by decide) (fun z => a (Int32.lt_trans z (by decide))) (Int32.not_lt.mp a2)
    have hk3 : 3 ≤ kk := by
      rw [ek] at a
      rcases Nat.lt_or_ge kk 3 with q | q
      · exact absurd (nI_lt (b := 3) q (by omega)) a
      · exact q
    have Y2 : ∀ q : Int32 → SY → Prop, ((10 < v2 → wY_addOp_57 q v1 v2 v3 v4 g_maxBlocks g_maxValues g_blocks g_values g_isSealed g_hasRun g_isDone g_runForm g_in0 g_in1 g_at g_answer g_evals b_kind b_block b_left b_right b_arg b_exitKind b_exitX b_exitT b_exitF b_without b_differ b_val b_fresh) ∧ (¬ 10 < v2 → wpY_isValue (fun r_88 => (r_88 = 0 → q (-3) (g_maxBlocks, g_maxValues, g_blocks, g_values, g_isSealed, g_hasRun, g_isDone, g_runForm, g_in0, g_in1, g_at, g_answer, g_evals, b_kind, b_block, b_left, b_right, b_arg, b_exitKind, b_exitX, b_exitT, b_exitF, b_without, b_differ, b_val, b_fresh)) ∧ (¬ r_88 = 0 → wY_addOp_57 q v1 v2 v3 v4 g_maxBlocks g_maxValues g_blocks g_values g_isSealed g_hasRun g_isDone g_runForm g_in0 g_in1 g_at g_answer g_evals b_kind b_block b_left b_right b_arg b_exitKind b_exitX b_exitT b_exitF b_without b_differ b_val b_fresh)) (g_maxBlocks, g_maxValues, g_blocks, g_values, g_isSealed, g_hasRun, g_isDone, g_runForm, g_in0, g_in1, g_at, g_answer, g_evals, b_kind, b_block, b_left, b_right, b_arg, b_exitKind, b_exitX, b_exitT, b_exitF, b_without, b_differ, b_val, b_fresh) v4)) → wpY_addOp q (g_maxBlocks, g_maxValues, g_blocks, g_values, g_isSealed, g_hasRun, g_isDone, g_runForm, g_in0, g_in1, g_at, g_answer, g_evals, b_kind, b_block, b_left, b_right, b_arg, b_exitKind, b_exitX, b_exitT, b_exitF, b_without, b_differ, b_val, b_fresh) v1 v2 v3 v4 := fun q h => Y1 q (br_f a (br_f a2 (ys_iv (n := p_v P) (by omega) hB.2.2.2.1 (fun no => absurd ex (no x hx)) (fun _ _ _ => br_f (by decide) h))))
    obtain ⟨e1, e2, e3, e4, B, V, l1, l2, e5, e6, e7, e8⟩ := hB
    have core : ∀ (bin : Bool) (y : Nat), (bin = true → y < p_v P ∧ v4 = nI y ∧ kk ≤ 10) → (bin = false → 10 < kk) → (∀ q : Int32 → SY → Prop, wY_addOp_57 q v1 v2 v3 v4 g_maxBlocks g_maxValues g_blocks g_values g_isSealed g_hasRun g_isDone g_runForm g_in0 g_in1 g_at g_answer g_evals b_kind b_block b_left b_right b_arg b_exitKind b_exitX b_exitT b_exitF b_without b_differ b_val b_fresh → wpY_addOp q (g_maxBlocks, g_maxValues, g_blocks, g_values, g_isSealed, g_hasRun, g_isDone, g_runForm, g_in0, g_in1, g_at, g_answer, g_evals, b_kind, b_block, b_left, b_right, b_arg, b_exitKind, b_exitX, b_exitT, b_exitF, b_without, b_differ, b_val, b_fresh) v1 v2 v3 v4) → wX_addOp_69 (fun r u' => wpY_addOp (fun r' v' => r' = r ∧ i_Rel k u' v') (g_maxBlocks, g_maxValues, g_blocks, g_values, g_isSealed, g_hasRun, g_isDone, g_runForm, g_in0, g_in1, g_at, g_answer, g_evals, b_kind, b_block, b_left, b_right, b_arg, b_exitKind, b_exitX, b_exitT, b_exitF, b_without, b_differ, b_val, b_fresh) v1 v2 v3 v4) v1 v2 v3 v4 (xd_c bin) f_blockLimit f_valueLimit f_blockCount f_valueCount f_sealed f_classCount f_workTop f_touchedCount f_undoTop f_runState f_runForm f_here f_input0 f_input1 f_returned f_evaluated a_valueKind a_valueBlock a_leaf a_args a_exitKind a_exitValue a_exitTrue a_exitFalse a_predMask a_order a_orderIndex a_idom a_domMask a_firstChild a_nextSibling a_stack a_cursor a_members a_location a_classIndex a_classStart a_classSize a_classMarked a_className a_useHead a_useNext a_work a_inWork a_splitter a_touched a_leaderOf a_available a_undo a_scopeMark a_body a_bodyStart a_bodyOps a_bodyEnd a_env a_phiNew := by
      intro bin y hb1 hb0 YY
      unfold wX_addOp_69
      refine pk_lt (p_v P) V (fun h => ?_) (fun h => YY _ (by unfold wY_addOp_57; exact br_f (by rw [e4, e8]; exact nI_nlt h (by omega)) ⟨rfl, R0⟩)) (hx := e2) (hy := e6)
      have ix : nI (p_v P) * 8 = nI (p_v P * 8) := ba_m8 _
      refine xs_nv (v := p_v P) (by omega) e2 ⟨pk_in (p_v P * 8) 512 (by omega) ix, ba_wr (p_v P * 8) ix (by omega) ex ?_⟩
      have fin : ∀ ar' : Nat → Int32, (∀ j, j < p_v P * 8 → ar' j = a_args j) → (∀ i, i < 8 → ar' (p_v P * 8 + i) = ba_o (if i = 0 then some x else if i = 1 ∧ bin = true then some y else none)) → wpY_addOp (fun r' v' => r' = nI (p_v P) ∧ i_Rel k (f_blockLimit, f_valueLimit, f_blockCount, nI (p_v P + 1), f_sealed, f_classCount, f_workTop, f_touchedCount, f_undoTop, f_runState, f_runForm, f_here, f_input0, f_input1, f_returned, f_evaluated, upd a_valueKind (p_v P) v2, upd a_valueBlock (p_v P) v1, upd a_leaf (p_v P) 0, ar', a_exitKind, a_exitValue, a_exitTrue, a_exitFalse, a_predMask, a_order, a_orderIndex, a_idom, a_domMask, a_firstChild, a_nextSibling, a_stack, a_cursor, a_members, a_location, a_classIndex, a_classStart, a_classSize, a_classMarked, a_className, a_useHead, a_useNext, a_work, a_inWork, a_splitter, a_touched, a_leaderOf, a_available, a_undo, a_scopeMark, a_body, a_bodyStart, a_bodyOps, a_bodyEnd, a_env, a_phiNew) v') (g_maxBlocks, g_maxValues, g_blocks, g_values, g_isSealed, g_hasRun, g_isDone, g_runForm, g_in0, g_in1, g_at, g_answer, g_evals, b_kind, b_block, b_left, b_right, b_arg, b_exitKind, b_exitX, b_exitT, b_exitF, b_without, b_differ, b_val, b_fresh) v1 v2 v3 v4 := by
        intro ar' g1 g2
        refine YY _ ?_
        unfold wY_addOp_57
        refine ys_add (v := p_v P) (m := V) (by omega) (by omega) e4 e8 (fun z => by omega) (fun _ => ⟨rfl, ?_⟩)
        rw [ek, ej]
        refine r_mk (P := q_val P j kk 0 (fun i => if i = 0 then some x else if i = 1 ∧ bin = true then some y else none)) (q_val_W W (by omega) hj (by omega) (fun i w hi e => ?_) (fun z => by omega) (fun z => by omega) (fun _ => ⟨rfl, ⟨x, rfl⟩, fun g => ?_, fun g => ?_, fun i h2 h8 => ?_⟩)) (q_val_X hX (fun v hv => pk_un (by omega)) pk_us g1 g2) (q_val_Y hY (fun z => by omega) (fun _ => ex) (fun _ g => ?_) (fun z => by omega)) ⟨e1, rfl, e3, rfl, B, V, l1, l2, e5, e6, e7, e8⟩ z1 z2 z3 z4
        · have e' : (if i = 0 then some x else if i = 1 ∧ bin = true then some y else none) = some w := e
          by_cases q0 : i = 0
          · rw [if_pos q0] at e'; cases e'; exact hx
          · rw [if_neg q0] at e'
            by_cases q1 : i = 1 ∧ bin = true
            · rw [if_pos q1] at e'; cases e'; exact (hb1 q1.2).1
            · rw [if_neg q1] at e'; cases e'
        · cases bin with
          | true => exact ⟨y, rfl⟩
          | false => have := hb0 rfl; omega
        · cases bin with
          | true => have := (hb1 rfl).2.2; omega
          | false => rfl
        · show (if i = 0 then some x else if i = 1 ∧ bin = true then some y else none) = none
          rw [if_neg (by omega), if_neg (by omega)]
        · cases bin with
          | true => exact (hb1 rfl).2.1
          | false => have := hb0 rfl; omega
      have A0 : ∀ j, j < p_v P * 8 → upd (xs_cl a_args (p_v P) 8) (p_v P * 8) (nI x) j = a_args j := fun j hj => by rw [pk_un (by omega)]; exact if_neg (by omega)
      have A1 : ∀ i, i < 8 → upd (xs_cl a_args (p_v P) 8) (p_v P * 8) (nI x) (p_v P * 8 + i) = ba_o (if i = 0 then some x else none) := by
        intro i hi
        by_cases q : i = 0
        · subst q; rw [Nat.add_zero, pk_us]; rfl
        · rw [pk_un (by omega), if_neg q]; exact if_pos ⟨by omega, by omega⟩
      cases bin with
      | false =>
        refine br_t rfl (fin _ A0 (fun i hi => ?_))
        rw [A1 i hi]
        by_cases q : i = 0
        · rw [if_pos q, if_pos q]
        · rw [if_neg q, if_neg q, if_neg (fun z => by cases z.2)]
      | true =>
        have ix1 : nI (p_v P) * 8 + 1 = nI (p_v P * 8 + 1) := by rw [ix, nI_1]
        refine br_f (by decide) ⟨pk_in (p_v P * 8 + 1) 512 (by omega) ix1, ba_wr (p_v P * 8 + 1) ix1 (by omega) (hb1 rfl).2.1 (fin _ (fun j hj => by rw [pk_un (by omega)]; exact A0 j hj) (fun i hi => ?_))⟩
        by_cases q : i = 1
        · subst q; rw [pk_us]; rfl
        · rw [pk_un (by omega), A1 i hi]
          by_cases q0 : i = 0
          · rw [if_pos q0, if_pos q0]
          · rw [if_neg q0, if_neg q0, if_neg (fun z => q z.1)]
    refine br_c (fun b10 => ?_) (fun b10 => ?_)
    · have h10 : 10 < kk := by
        rw [ek] at b10
        exact (nI_ltI (a := 10) (by omega) (by omega)).mp b10
      unfold wX_addOp_50
      exact br_t rfl (core false 0 (fun z => by cases z) (fun _ => h10) (fun q h => Y2 q (br_t b10 h)))
    · have h10 : kk ≤ 10 := by
        rw [ek] at b10
        rcases Nat.lt_or_ge 10 kk with q | q
        · exact absurd (nI_lt (a := 10) q (by omega)) b10
        · exact q
      unfold wX_addOp_50
      refine br_f (by decide) (xs_ve (n := p_v P) (by omega) e2 (fun no => br_t rfl (Y2 _ (br_f b10 (ys_iv (n := p_v P) (by omega) e4 (fun _ => br_t rfl ⟨rfl, R0⟩) (fun i hi e => absurd e (no i hi)))))) (fun y hy ey => br_f (by decide) ?_))
      exact core true y (fun _ => ⟨hy, ey, h10⟩) (fun z => by cases z) (fun q h => Y2 q (br_f b10 (ys_iv (n := p_v P) (by omega) e4 (fun no => absurd ey (no y hy)) (fun _ _ _ => br_f (by decide) h))))
  · exact br_f (v_ne0 z1) (br_f (v_ne0 z2) ⟨rfl, R0⟩)
end VC
end
section
/-! building: the rest; seal, reopen -/
section VD
variable {f_blockLimit f_valueLimit f_blockCount f_valueCount f_sealed f_classCount f_workTop f_touchedCount f_undoTop f_runState f_runForm f_here f_input0 f_input1 f_returned f_evaluated : Int32} {a_valueKind a_valueBlock a_leaf a_args a_exitKind a_exitValue a_exitTrue a_exitFalse a_predMask a_order a_orderIndex a_idom a_domMask a_firstChild a_nextSibling a_stack a_cursor a_members a_location a_classIndex a_classStart a_classSize a_classMarked a_className a_useHead a_useNext a_work a_inWork a_splitter a_touched a_leaderOf a_available a_undo a_scopeMark a_body a_bodyStart a_bodyOps a_bodyEnd a_env a_phiNew : Nat → Int32} {g_maxBlocks g_maxValues g_blocks g_values g_isSealed g_hasRun g_isDone g_runForm g_in0 g_in1 g_at g_answer g_evals : Int32} {b_kind b_block b_left b_right b_arg b_exitKind b_exitX b_exitT b_exitF b_without b_differ b_val b_fresh : Nat → Int32} {P : PT} {k : Nat}
theorem v_tgt {x : Int32} {n : Nat} (no : ∀ j, 0 < j → j < n → x ≠ nI j) : x = 0 ∨ ∀ j, j < n → x ≠ nI j := by
  by_cases h : x = 0
  · exact Or.inl h
  · right
    intro j hj e
    rcases Nat.eq_zero_or_pos j with z | z
    · subst z; exact h e
    · exact no j z hj e
theorem v_ntz {x : Int32} {j : Nat} (h0 : 0 < j) (hj : j < 2 ^ 31) (e : x = nI j) : ¬ x = 0 := by
  rw [e]; exact nI_ne0 h0 hj
theorem v_addPhi (R : r_All f_blockLimit f_valueLimit f_blockCount f_valueCount f_sealed f_runState f_runForm f_here f_input0 f_input1 f_returned f_evaluated a_valueKind a_valueBlock a_leaf a_args a_exitKind a_exitValue a_exitTrue a_exitFalse a_domMask a_classIndex a_className a_leaderOf a_body a_bodyStart a_bodyOps a_bodyEnd a_env g_maxBlocks g_maxValues g_blocks g_values g_isSealed g_hasRun g_isDone g_runForm g_in0 g_in1 g_at g_answer g_evals b_kind b_block b_left b_right b_arg b_exitKind b_exitX b_exitT b_exitF b_without b_differ b_val) (v1 : Int32) : wpX_addPhi (fun r u' => wpY_addPhi (fun r' v' => r' = r ∧ i_Rel k u' v') (g_maxBlocks, g_maxValues, g_blocks, g_values, g_isSealed, g_hasRun, g_isDone, g_runForm, g_in0, g_in1, g_at, g_answer, g_evals, b_kind, b_block, b_left, b_right, b_arg, b_exitKind, b_exitX, b_exitT, b_exitF, b_without, b_differ, b_val, b_fresh) v1) (f_blockLimit, f_valueLimit, f_blockCount, f_valueCount, f_sealed, f_classCount, f_workTop, f_touchedCount, f_undoTop, f_runState, f_runForm, f_here, f_input0, f_input1, f_returned, f_evaluated, a_valueKind, a_valueBlock, a_leaf, a_args, a_exitKind, a_exitValue, a_exitTrue, a_exitFalse, a_predMask, a_order, a_orderIndex, a_idom, a_domMask, a_firstChild, a_nextSibling, a_stack, a_cursor, a_members, a_location, a_classIndex, a_classStart, a_classSize, a_classMarked, a_className, a_useHead, a_useNext, a_work, a_inWork, a_splitter, a_touched, a_leaderOf, a_available, a_undo, a_scopeMark, a_body, a_bodyStart, a_bodyOps, a_bodyEnd, a_env, a_phiNew) v1 := by
  have R0 := R
  obtain ⟨P, W, hX, hY, hB, hZ⟩ := R
  have hb8 := W.2.1
  have hv32 := W.2.2.1
  obtain ⟨e1, e2, e3, e4, B, V, l1, l2, e5, e6, e7, e8⟩ := hB
  rcases hZ with ⟨z1, z2, z3, z4⟩ | ⟨z1, z2, _⟩
  · refine br_t z1 (xs_it (n := p_b P) (by omega) e1 (fun no => br_t rfl (br_t z2 ?_)) (fun j h0 hj ej => br_f (by decide) ?_))
    · rcases v_tgt no with z | z
      · exact br_t z ⟨rfl, R0⟩
      · refine br_c (fun _ => ⟨rfl, R0⟩) (fun _ => ys_ib (n := p_b P) (by omega) e3 (fun _ => br_t rfl ⟨rfl, R0⟩) (fun j hj e => absurd e (z j hj)))
    · have YW : ∀ q : Int32 → SY → Prop, wpY_add (fun r u => match u with | (g_maxBlocks, g_maxValues, g_blocks, g_values, g_isSealed, g_hasRun, g_isDone, g_runForm, g_in0, g_in1, g_at, g_answer, g_evals, b_kind, b_block, b_left, b_right, b_arg, b_exitKind, b_exitX, b_exitT, b_exitF, b_without, b_differ, b_val, b_fresh) => q r (g_maxBlocks, g_maxValues, g_blocks, g_values, g_isSealed, g_hasRun, g_isDone, g_runForm, g_in0, g_in1, g_at, g_answer, g_evals, b_kind, b_block, b_left, b_right, b_arg, b_exitKind, b_exitX, b_exitT, b_exitF, b_without, b_differ, b_val, b_fresh)) (g_maxBlocks, g_maxValues, g_blocks, g_values, g_isSealed, g_hasRun, g_isDone, g_runForm, g_in0, g_in1, g_at, g_answer, g_evals, b_kind, b_block, b_left, b_right, b_arg, b_exitKind, b_exitX, b_exitT, b_exitF, b_without, b_differ, b_val, b_fresh) v1 2 0 0 → wpY_addPhi q (g_maxBlocks, g_maxValues, g_blocks, g_values, g_isSealed, g_hasRun, g_isDone, g_runForm, g_in0, g_in1, g_at, g_answer, g_evals, b_kind, b_block, b_left, b_right, b_arg, b_exitKind, b_exitX, b_exitT, b_exitF, b_without, b_differ, b_val, b_fresh) v1 := fun q h => br_t z2 (br_f (v_ntz h0 (by omega) ej) (ys_ib (n := p_b P) (by omega) e3 (fun no => absurd ej (no j hj)) (fun _ _ _ => br_f (by decide) h)))
      refine pk_lt (p_v P) V (fun h => ?_) (fun h => YW _ (br_f (by rw [e4, e8]; exact nI_nlt h (by omega)) ⟨rfl, R0⟩)) (hx := e2) (hy := e6)
      refine xs_nv (v := p_v P) (by omega) e2 (YW _ (ys_add (v := p_v P) (m := V) (by omega) (by omega) e4 e8 (fun z => by omega) (fun _ => ⟨rfl, ?_⟩)))
      rw [ej]
      exact r_mk (P := q_val P j 2 0 (fun _ => none)) (q_val_W W (by omega) hj (by omega) (fun i x _ e => (by cases e)) (fun z => by omega) (fun _ => ⟨by omega, fun _ _ => rfl⟩) (fun z => by omega)) (q_val_X hX (fun v hv => pk_un (by omega)) pk_us (fun i hi => if_neg (by omega)) (fun i hi => if_pos ⟨by omega, by omega⟩)) (q_val_Y hY (fun z => by omega) (fun z => by omega) (fun z => by omega) (fun _ _ _ => rfl)) ⟨e1, rfl, e3, rfl, B, V, l1, l2, e5, e6, e7, e8⟩ z1 z2 z3 z4
  · exact br_f (v_ne0 z1) (br_f (v_ne0 z2) ⟨rfl, R0⟩)
theorem v_setPhi (R : r_All f_blockLimit f_valueLimit f_blockCount f_valueCount f_sealed f_runState f_runForm f_here f_input0 f_input1 f_returned f_evaluated a_valueKind a_valueBlock a_leaf a_args a_exitKind a_exitValue a_exitTrue a_exitFalse a_domMask a_classIndex a_className a_leaderOf a_body a_bodyStart a_bodyOps a_bodyEnd a_env g_maxBlocks g_maxValues g_blocks g_values g_isSealed g_hasRun g_isDone g_runForm g_in0 g_in1 g_at g_answer g_evals b_kind b_block b_left b_right b_arg b_exitKind b_exitX b_exitT b_exitF b_without b_differ b_val) (v1 v2 v3 : Int32) : wpX_setPhi (fun r u' => wpY_setPhi (fun r' v' => r' = r ∧ i_Rel k u' v') (g_maxBlocks, g_maxValues, g_blocks, g_values, g_isSealed, g_hasRun, g_isDone, g_runForm, g_in0, g_in1, g_at, g_answer, g_evals, b_kind, b_block, b_left, b_right, b_arg, b_exitKind, b_exitX, b_exitT, b_exitF, b_without, b_differ, b_val, b_fresh) v1 v2 v3) (f_blockLimit, f_valueLimit, f_blockCount, f_valueCount, f_sealed, f_classCount, f_workTop, f_touchedCount, f_undoTop, f_runState, f_runForm, f_here, f_input0, f_input1, f_returned, f_evaluated, a_valueKind, a_valueBlock, a_leaf, a_args, a_exitKind, a_exitValue, a_exitTrue, a_exitFalse, a_predMask, a_order, a_orderIndex, a_idom, a_domMask, a_firstChild, a_nextSibling, a_stack, a_cursor, a_members, a_location, a_classIndex, a_classStart, a_classSize, a_classMarked, a_className, a_useHead, a_useNext, a_work, a_inWork, a_splitter, a_touched, a_leaderOf, a_available, a_undo, a_scopeMark, a_body, a_bodyStart, a_bodyOps, a_bodyEnd, a_env, a_phiNew) v1 v2 v3 := by
  have R0 := R
  obtain ⟨P, W, hX, hY, hB, hZ⟩ := R
  have hb8 := W.2.1
  have hv32 := W.2.2.1
  obtain ⟨e1, e2, e3, e4, B, V, l1, l2, e5, e6, e7, e8⟩ := hB
  rcases hZ with ⟨z1, z2, z3, z4⟩ | ⟨z1, z2, _⟩
  · refine br_t z1 (xs_ve (n := p_v P) (by omega) e2 (fun no => br_t rfl (br_t z2 (ys_iv (n := p_v P) (by omega) e4 (fun _ => br_t rfl ⟨rfl, R0⟩) (fun j hj e => absurd e (no j hj))))) (fun v hv ev => br_f (by decide) ?_))
    subst ev
    have hK := (W.2.2.2.1 v hv).1
    have Vv : vp_in (nI v) 32 := vp_in_nI (by omega) (by omega)
    have Y1 : ∀ q : Int32 → SY → Prop, ((b_kind v = 2 → wpY_isBlock (fun r_32 => (r_32 = 0 → q (-3) (g_maxBlocks, g_maxValues, g_blocks, g_values, g_isSealed, g_hasRun, g_isDone, g_runForm, g_in0, g_in1, g_at, g_answer, g_evals, b_kind, b_block, b_left, b_right, b_arg, b_exitKind, b_exitX, b_exitT, b_exitF, b_without, b_differ, b_val, b_fresh)) ∧ (¬ r_32 = 0 → (v3 = (-1) → wY_setPhi_54 q (nI v) v2 v3 g_maxBlocks g_maxValues g_blocks g_values g_isSealed g_hasRun g_isDone g_runForm g_in0 g_in1 g_at g_answer g_evals b_kind b_block b_left b_right b_arg b_exitKind b_exitX b_exitT b_exitF b_without b_differ b_val b_fresh) ∧ (¬ v3 = (-1) → wpY_isValue (fun r_63 => (r_63 = 0 → q (-3) (g_maxBlocks, g_maxValues, g_blocks, g_values, g_isSealed, g_hasRun, g_isDone, g_runForm, g_in0, g_in1, g_at, g_answer, g_evals, b_kind, b_block, b_left, b_right, b_arg, b_exitKind, b_exitX, b_exitT, b_exitF, b_without, b_differ, b_val, b_fresh)) ∧ (¬ r_63 = 0 → wY_setPhi_54 q (nI v) v2 v3 g_maxBlocks g_maxValues g_blocks g_values g_isSealed g_hasRun g_isDone g_runForm g_in0 g_in1 g_at g_answer g_evals b_kind b_block b_left b_right b_arg b_exitKind b_exitX b_exitT b_exitF b_without b_differ b_val b_fresh)) (g_maxBlocks, g_maxValues, g_blocks, g_values, g_isSealed, g_hasRun, g_isDone, g_runForm, g_in0, g_in1, g_at, g_answer, g_evals, b_kind, b_block, b_left, b_right, b_arg, b_exitKind, b_exitX, b_exitT, b_exitF, b_without, b_differ, b_val, b_fresh) v3))) (g_maxBlocks, g_maxValues, g_blocks, g_values, g_isSealed, g_hasRun, g_isDone, g_runForm, g_in0, g_in1, g_at, g_answer, g_evals, b_kind, b_block, b_left, b_right, b_arg, b_exitKind, b_exitX, b_exitT, b_exitF, b_without, b_differ, b_val, b_fresh) v2) ∧ (¬ b_kind v = 2 → q (-3) (g_maxBlocks, g_maxValues, g_blocks, g_values, g_isSealed, g_hasRun, g_isDone, g_runForm, g_in0, g_in1, g_at, g_answer, g_evals, b_kind, b_block, b_left, b_right, b_arg, b_exitKind, b_exitX, b_exitT, b_exitF, b_without, b_differ, b_val, b_fresh))) → wpY_setPhi q (g_maxBlocks, g_maxValues, g_blocks, g_values, g_isSealed, g_hasRun, g_isDone, g_runForm, g_in0, g_in1, g_at, g_answer, g_evals, b_kind, b_block, b_left, b_right, b_arg, b_exitKind, b_exitX, b_exitT, b_exitF, b_without, b_differ, b_val, b_fresh) (nI v) v2 v3 := by
      intro q h
      refine br_t z2 (ys_iv (n := p_v P) (by omega) e4 (fun no => absurd rfl (no v hv)) (fun _ _ _ => br_f (by decide) ⟨Vv, ?_⟩))
      rw [nI_clamp (by omega)]
      exact h
    refine ⟨Vv, ?_⟩
    rw [nI_clamp (by omega), hX.1 v hv]
    refine pk_eq (p_K P v) 2 (fun e => ?_) (fun e => Y1 _ (br_f (by rw [hY.1 v hv]; exact fun z => e ((nI_eq (b := 2) (by omega) (by omega)).mp z)) ⟨rfl, R0⟩))
    have ek : b_kind v = 2 := by rw [hY.1 v hv, e]; rfl
    refine xs_be (n := p_b P) (by omega) e1 (fun no => br_t rfl (Y1 _ (br_t ek (ys_ib (n := p_b P) (by omega) e3 (fun _ => br_t rfl ⟨rfl, R0⟩) (fun j hj e => absurd e (no j hj)))))) (fun p hp ep => br_f (by decide) ?_)
    subst ep
    have Y2 : ∀ q : Int32 → SY → Prop, ((v3 = (-1) → wY_setPhi_54 q (nI v) (nI p) v3 g_maxBlocks g_maxValues g_blocks g_values g_isSealed g_hasRun g_isDone g_runForm g_in0 g_in1 g_at g_answer g_evals b_kind b_block b_left b_right b_arg b_exitKind b_exitX b_exitT b_exitF b_without b_differ b_val b_fresh) ∧ (¬ v3 = (-1) → wpY_isValue (fun r_63 => (r_63 = 0 → q (-3) (g_maxBlocks, g_maxValues, g_blocks, g_values, g_isSealed, g_hasRun, g_isDone, g_runForm, g_in0, g_in1, g_at, g_answer, g_evals, b_kind, b_block, b_left, b_right, b_arg, b_exitKind, b_exitX, b_exitT, b_exitF, b_without, b_differ, b_val, b_fresh)) ∧ (¬ r_63 = 0 → wY_setPhi_54 q (nI v) (nI p) v3 g_maxBlocks g_maxValues g_blocks g_values g_isSealed g_hasRun g_isDone g_runForm g_in0 g_in1 g_at g_answer g_evals b_kind b_block b_left b_right b_arg b_exitKind b_exitX b_exitT b_exitF b_without b_differ b_val b_fresh)) (g_maxBlocks, g_maxValues, g_blocks, g_values, g_isSealed, g_hasRun, g_isDone, g_runForm, g_in0, g_in1, g_at, g_answer, g_evals, b_kind, b_block, b_left, b_right, b_arg, b_exitKind, b_exitX, b_exitT, b_exitF, b_without, b_differ, b_val, b_fresh) v3)) → wpY_setPhi q (g_maxBlocks, g_maxValues, g_blocks, g_values, g_isSealed, g_hasRun, g_isDone, g_runForm, g_in0, g_in1, g_at, g_answer, g_evals, b_kind, b_block, b_left, b_right, b_arg, b_exitKind, b_exitX, b_exitT, b_exitF, b_without, b_differ, b_val, b_fresh) (nI v) (nI p) v3 := fun q h => Y1 q (br_t ek (ys_ib (n := p_b P) (by omega) e3 (fun no => absurd rfl (no p hp)) (fun _ _ _ => br_f (by decide) h)))
    have core : ∀ o : Option Nat, v3 = ba_o o → (∀ y, o = some y → y < p_v P) → (∀ q : Int32 → SY → Prop, wY_setPhi_54 q (nI v) (nI p) v3 g_maxBlocks g_maxValues g_blocks g_values g_isSealed g_hasRun g_isDone g_runForm g_in0 g_in1 g_at g_answer g_evals b_kind b_block b_left b_right b_arg b_exitKind b_exitX b_exitT b_exitF b_without b_differ b_val b_fresh → wpY_setPhi q (g_maxBlocks, g_maxValues, g_blocks, g_values, g_isSealed, g_hasRun, g_isDone, g_runForm, g_in0, g_in1, g_at, g_answer, g_evals, b_kind, b_block, b_left, b_right, b_arg, b_exitKind, b_exitX, b_exitT, b_exitF, b_without, b_differ, b_val, b_fresh) (nI v) (nI p) v3) → wX_setPhi_57 (fun r u' => wpY_setPhi (fun r' v' => r' = r ∧ i_Rel k u' v') (g_maxBlocks, g_maxValues, g_blocks, g_values, g_isSealed, g_hasRun, g_isDone, g_runForm, g_in0, g_in1, g_at, g_answer, g_evals, b_kind, b_block, b_left, b_right, b_arg, b_exitKind, b_exitX, b_exitT, b_exitF, b_without, b_differ, b_val, b_fresh) (nI v) (nI p) v3) (nI v) (nI p) v3 f_blockLimit f_valueLimit f_blockCount f_valueCount f_sealed f_classCount f_workTop f_touchedCount f_undoTop f_runState f_runForm f_here f_input0 f_input1 f_returned f_evaluated a_valueKind a_valueBlock a_leaf a_args a_exitKind a_exitValue a_exitTrue a_exitFalse a_predMask a_order a_orderIndex a_idom a_domMask a_firstChild a_nextSibling a_stack a_cursor a_members a_location a_classIndex a_classStart a_classSize a_classMarked a_className a_useHead a_useNext a_work a_inWork a_splitter a_touched a_leaderOf a_available a_undo a_scopeMark a_body a_bodyStart a_bodyOps a_bodyEnd a_env a_phiNew := by
      intro o eo ho YY
      unfold wX_setPhi_57
      refine ⟨pk_in (v * 8 + p) 512 (by omega) (ba_ix8 v p), ba_wr (v * 8 + p) (ba_ix8 v p) (by omega) eo (YY _ ?_)⟩
      unfold wY_setPhi_54
      refine ⟨pk_in (v * 8 + p) 256 (by omega) (ba_ix8 v p), ba_wr (v * 8 + p) (ba_ix8 v p) (by omega) eo ⟨rfl, ?_⟩⟩
      exact r_mk (P := q_arg P v p o) (q_arg_W W hv e hp ho) (q_arg_X hX (by omega)) (q_arg_Y hY (by omega) e) ⟨e1, e2, e3, e4, B, V, l1, l2, e5, e6, e7, e8⟩ z1 z2 z3 z4
    refine br_c (fun m1 => core none m1 (fun y z => by cases z) (fun q h => Y2 q (br_t m1 h))) (fun m1 => ?_)
    refine xs_ve (n := p_v P) (by omega) e2 (fun no => br_t rfl (Y2 _ (br_f m1 (ys_iv (n := p_v P) (by omega) e4 (fun _ => br_t rfl ⟨rfl, R0⟩) (fun j hj e => absurd e (no j hj)))))) (fun x hx ex => br_f (by decide) ?_)
    exact core (some x) ex (fun y z => by cases z; exact hx) (fun q h => Y2 q (br_f m1 (ys_iv (n := p_v P) (by omega) e4 (fun no => absurd ex (no x hx)) (fun _ _ _ => br_f (by decide) h))))
  · exact br_f (v_ne0 z1) (br_f (v_ne0 z2) ⟨rfl, R0⟩)
theorem v_setJump (R : r_All f_blockLimit f_valueLimit f_blockCount f_valueCount f_sealed f_runState f_runForm f_here f_input0 f_input1 f_returned f_evaluated a_valueKind a_valueBlock a_leaf a_args a_exitKind a_exitValue a_exitTrue a_exitFalse a_domMask a_classIndex a_className a_leaderOf a_body a_bodyStart a_bodyOps a_bodyEnd a_env g_maxBlocks g_maxValues g_blocks g_values g_isSealed g_hasRun g_isDone g_runForm g_in0 g_in1 g_at g_answer g_evals b_kind b_block b_left b_right b_arg b_exitKind b_exitX b_exitT b_exitF b_without b_differ b_val) (v1 v2 : Int32) : wpX_setJump (fun r u' => wpY_setJump (fun r' v' => r' = r ∧ i_Rel k u' v') (g_maxBlocks, g_maxValues, g_blocks, g_values, g_isSealed, g_hasRun, g_isDone, g_runForm, g_in0, g_in1, g_at, g_answer, g_evals, b_kind, b_block, b_left, b_right, b_arg, b_exitKind, b_exitX, b_exitT, b_exitF, b_without, b_differ, b_val, b_fresh) v1 v2) (f_blockLimit, f_valueLimit, f_blockCount, f_valueCount, f_sealed, f_classCount, f_workTop, f_touchedCount, f_undoTop, f_runState, f_runForm, f_here, f_input0, f_input1, f_returned, f_evaluated, a_valueKind, a_valueBlock, a_leaf, a_args, a_exitKind, a_exitValue, a_exitTrue, a_exitFalse, a_predMask, a_order, a_orderIndex, a_idom, a_domMask, a_firstChild, a_nextSibling, a_stack, a_cursor, a_members, a_location, a_classIndex, a_classStart, a_classSize, a_classMarked, a_className, a_useHead, a_useNext, a_work, a_inWork, a_splitter, a_touched, a_leaderOf, a_available, a_undo, a_scopeMark, a_body, a_bodyStart, a_bodyOps, a_bodyEnd, a_env, a_phiNew) v1 v2 := by
  have R0 := R
  obtain ⟨P, W, hX, hY, hB, hZ⟩ := R
  have hb8 := W.2.1
  obtain ⟨e1, e2, e3, e4, B, V, l1, l2, e5, e6, e7, e8⟩ := hB
  rcases hZ with ⟨z1, z2, z3, z4⟩ | ⟨z1, z2, _⟩
  · refine br_t z1 (xs_be (n := p_b P) (by omega) e1 (fun no => br_t rfl (br_t z2 (ys_ib (n := p_b P) (by omega) e3 (fun _ => br_t rfl ⟨rfl, R0⟩) (fun j hj e => absurd e (no j hj))))) (fun b hb eb => br_f (by decide) ?_))
    subst eb
    refine xs_it (n := p_b P) (by omega) e1 (fun no => br_t rfl (br_t z2 (ys_ib (n := p_b P) (by omega) e3 (fun no' => absurd rfl (no' b hb)) (fun _ _ _ => br_f (by decide) ?_)))) (fun t h0 ht et => br_f (by decide) ?_)
    · rcases v_tgt no with z | z
      · exact br_t z ⟨rfl, R0⟩
      · exact br_c (fun _ => ⟨rfl, R0⟩) (fun _ => ys_ib (n := p_b P) (by omega) e3 (fun _ => br_t rfl ⟨rfl, R0⟩) (fun j hj e => absurd e (z j hj)))
    · subst et
      refine xs_se (by omega) (br_t z2 (ys_ib (n := p_b P) (by omega) e3 (fun no' => absurd rfl (no' b hb)) (fun _ _ _ => br_f (by decide) (br_f (nI_ne0 h0 (by omega)) (ys_ib (n := p_b P) (by omega) e3 (fun no' => absurd rfl (no' t ht)) (fun _ _ _ => br_f (by decide) ⟨vp_in_nI (by omega) (by omega), ba_wr b rfl (by omega) rfl ⟨vp_in_nI (by omega) (by omega), ba_wr b rfl (by omega) rfl ⟨rfl, ?_⟩⟩⟩))))))
      refine r_mk (P := q_ext P b 1 none (some t) none) (q_ext_W W hb (by omega) (fun y z => (by cases z)) (fun y z => by cases z; exact ⟨h0, ht⟩) (fun y z => (by cases z)) ⟨fun _ => by omega, fun _ => rfl⟩ ⟨fun z => (by cases z), fun z => absurd (Or.inl rfl) z⟩ ⟨fun _ => by omega, fun _ => rfl⟩) (q_ext_X hX) (q_ext_Y hY (fun z => by omega) (fun _ => pk_us) (fun z => by omega) (fun _ _ => rfl) (fun c h => pk_un h) (fun _ _ => rfl)) ⟨e1, e2, e3, e4, B, V, l1, l2, e5, e6, e7, e8⟩ z1 z2 z3 z4
  · exact br_f (v_ne0 z1) (br_f (v_ne0 z2) ⟨rfl, R0⟩)
theorem v_setReturn (R : r_All f_blockLimit f_valueLimit f_blockCount f_valueCount f_sealed f_runState f_runForm f_here f_input0 f_input1 f_returned f_evaluated a_valueKind a_valueBlock a_leaf a_args a_exitKind a_exitValue a_exitTrue a_exitFalse a_domMask a_classIndex a_className a_leaderOf a_body a_bodyStart a_bodyOps a_bodyEnd a_env g_maxBlocks g_maxValues g_blocks g_values g_isSealed g_hasRun g_isDone g_runForm g_in0 g_in1 g_at g_answer g_evals b_kind b_block b_left b_right b_arg b_exitKind b_exitX b_exitT b_exitF b_without b_differ b_val) (v1 v2 : Int32) : wpX_setReturn (fun r u' => wpY_setReturn (fun r' v' => r' = r ∧ i_Rel k u' v') (g_maxBlocks, g_maxValues, g_blocks, g_values, g_isSealed, g_hasRun, g_isDone, g_runForm, g_in0, g_in1, g_at, g_answer, g_evals, b_kind, b_block, b_left, b_right, b_arg, b_exitKind, b_exitX, b_exitT, b_exitF, b_without, b_differ, b_val, b_fresh) v1 v2) (f_blockLimit, f_valueLimit, f_blockCount, f_valueCount, f_sealed, f_classCount, f_workTop, f_touchedCount, f_undoTop, f_runState, f_runForm, f_here, f_input0, f_input1, f_returned, f_evaluated, a_valueKind, a_valueBlock, a_leaf, a_args, a_exitKind, a_exitValue, a_exitTrue, a_exitFalse, a_predMask, a_order, a_orderIndex, a_idom, a_domMask, a_firstChild, a_nextSibling, a_stack, a_cursor, a_members, a_location, a_classIndex, a_classStart, a_classSize, a_classMarked, a_className, a_useHead, a_useNext, a_work, a_inWork, a_splitter, a_touched, a_leaderOf, a_available, a_undo, a_scopeMark, a_body, a_bodyStart, a_bodyOps, a_bodyEnd, a_env, a_phiNew) v1 v2 := by
  have R0 := R
  obtain ⟨P, W, hX, hY, hB, hZ⟩ := R
  have hb8 := W.2.1
  have hv32 := W.2.2.1
  obtain ⟨e1, e2, e3, e4, B, V, l1, l2, e5, e6, e7, e8⟩ := hB
  rcases hZ with ⟨z1, z2, z3, z4⟩ | ⟨z1, z2, _⟩
  · refine br_t z1 (xs_be (n := p_b P) (by omega) e1 (fun no => br_t rfl (br_t z2 (ys_ib (n := p_b P) (by omega) e3 (fun _ => br_t rfl ⟨rfl, R0⟩) (fun j hj e => absurd e (no j hj))))) (fun b hb eb => br_f (by decide) ?_))
    subst eb
    refine xs_ve (n := p_v P) (by omega) e2 (fun no => br_t rfl (br_t z2 (ys_ib (n := p_b P) (by omega) e3 (fun no' => absurd rfl (no' b hb)) (fun _ _ _ => br_f (by decide) (ys_iv (n := p_v P) (by omega) e4 (fun _ => br_t rfl ⟨rfl, R0⟩) (fun j hj e => absurd e (no j hj))))))) (fun x hx ex => br_f (by decide) ?_)
    subst ex
    refine xs_se (by omega) (br_t z2 (ys_ib (n := p_b P) (by omega) e3 (fun no' => absurd rfl (no' b hb)) (fun _ _ _ => br_f (by decide) (ys_iv (n := p_v P) (by omega) e4 (fun no' => absurd rfl (no' x hx)) (fun _ _ _ => br_f (by decide) ⟨vp_in_nI (by omega) (by omega), ba_wr b rfl (by omega) rfl ⟨vp_in_nI (by omega) (by omega), ba_wr b rfl (by omega) rfl ⟨rfl, ?_⟩⟩⟩)))))
    refine r_mk (P := q_ext P b 3 (some x) none none) (q_ext_W W hb (by omega) (fun y z => by cases z; exact hx) (fun y z => (by cases z)) (fun y z => (by cases z)) ⟨fun z => (by cases z), fun z => absurd (Or.inr rfl) z⟩ ⟨fun _ => by omega, fun _ => rfl⟩ ⟨fun _ => by omega, fun _ => rfl⟩) (q_ext_X hX) (q_ext_Y hY (fun _ => pk_us) (fun z => by omega) (fun z => by omega) (fun c h => pk_un h) (fun _ _ => rfl) (fun _ _ => rfl)) ⟨e1, e2, e3, e4, B, V, l1, l2, e5, e6, e7, e8⟩ z1 z2 z3 z4
  · exact br_f (v_ne0 z1) (br_f (v_ne0 z2) ⟨rfl, R0⟩)
theorem v_setBranch (R : r_All f_blockLimit f_valueLimit f_blockCount f_valueCount f_sealed f_runState f_runForm f_here f_input0 f_input1 f_returned f_evaluated a_valueKind a_valueBlock a_leaf a_args a_exitKind a_exitValue a_exitTrue a_exitFalse a_domMask a_classIndex a_className a_leaderOf a_body a_bodyStart a_bodyOps a_bodyEnd a_env g_maxBlocks g_maxValues g_blocks g_values g_isSealed g_hasRun g_isDone g_runForm g_in0 g_in1 g_at g_answer g_evals b_kind b_block b_left b_right b_arg b_exitKind b_exitX b_exitT b_exitF b_without b_differ b_val) (v1 v2 v3 v4 : Int32) : wpX_setBranch (fun r u' => wpY_setBranch (fun r' v' => r' = r ∧ i_Rel k u' v') (g_maxBlocks, g_maxValues, g_blocks, g_values, g_isSealed, g_hasRun, g_isDone, g_runForm, g_in0, g_in1, g_at, g_answer, g_evals, b_kind, b_block, b_left, b_right, b_arg, b_exitKind, b_exitX, b_exitT, b_exitF, b_without, b_differ, b_val, b_fresh) v1 v2 v3 v4) (f_blockLimit, f_valueLimit, f_blockCount, f_valueCount, f_sealed, f_classCount, f_workTop, f_touchedCount, f_undoTop, f_runState, f_runForm, f_here, f_input0, f_input1, f_returned, f_evaluated, a_valueKind, a_valueBlock, a_leaf, a_args, a_exitKind, a_exitValue, a_exitTrue, a_exitFalse, a_predMask, a_order, a_orderIndex, a_idom, a_domMask, a_firstChild, a_nextSibling, a_stack, a_cursor, a_members, a_location, a_classIndex, a_classStart, a_classSize, a_classMarked, a_className, a_useHead, a_useNext, a_work, a_inWork, a_splitter, a_touched, a_leaderOf, a_available, a_undo, a_scopeMark, a_body, a_bodyStart, a_bodyOps, a_bodyEnd, a_env, a_phiNew) v1 v2 v3 v4 := by
  have R0 := R
  obtain ⟨P, W, hX, hY, hB, hZ⟩ := R
  have hb8 := W.2.1
  have hv32 := W.2.2.1
  obtain ⟨e1, e2, e3, e4, B, V, l1, l2, e5, e6, e7, e8⟩ := hB
  rcases hZ with ⟨z1, z2, z3, z4⟩ | ⟨z1, z2, _⟩
  · refine br_t z1 (xs_be (n := p_b P) (by omega) e1 (fun no => br_t rfl (br_t z2 (ys_ib (n := p_b P) (by omega) e3 (fun _ => br_t rfl ⟨rfl, R0⟩) (fun j hj e => absurd e (no j hj))))) (fun b hb eb => br_f (by decide) ?_))
    subst eb
    refine xs_ve (n := p_v P) (by omega) e2 (fun no => br_t rfl (br_t z2 (ys_ib (n := p_b P) (by omega) e3 (fun no' => absurd rfl (no' b hb)) (fun _ _ _ => br_f (by decide) (ys_iv (n := p_v P) (by omega) e4 (fun _ => br_t rfl ⟨rfl, R0⟩) (fun j hj e => absurd e (no j hj))))))) (fun x hx ex => br_f (by decide) ?_)
    subst ex
    have Y1 : ∀ q : Int32 → SY → Prop, ((v3 = 0 → q (-3) (g_maxBlocks, g_maxValues, g_blocks, g_values, g_isSealed, g_hasRun, g_isDone, g_runForm, g_in0, g_in1, g_at, g_answer, g_evals, b_kind, b_block, b_left, b_right, b_arg, b_exitKind, b_exitX, b_exitT, b_exitF, b_without, b_differ, b_val, b_fresh)) ∧ (¬ v3 = 0 → wpY_isBlock (fun r_59 => (r_59 = 0 → q (-3) (g_maxBlocks, g_maxValues, g_blocks, g_values, g_isSealed, g_hasRun, g_isDone, g_runForm, g_in0, g_in1, g_at, g_answer, g_evals, b_kind, b_block, b_left, b_right, b_arg, b_exitKind, b_exitX, b_exitT, b_exitF, b_without, b_differ, b_val, b_fresh)) ∧ (¬ r_59 = 0 → (v4 = 0 → q (-3) (g_maxBlocks, g_maxValues, g_blocks, g_values, g_isSealed, g_hasRun, g_isDone, g_runForm, g_in0, g_in1, g_at, g_answer, g_evals, b_kind, b_block, b_left, b_right, b_arg, b_exitKind, b_exitX, b_exitT, b_exitF, b_without, b_differ, b_val, b_fresh)) ∧ (¬ v4 = 0 → wpY_isBlock (fun r_88 => (r_88 = 0 → q (-3) (g_maxBlocks, g_maxValues, g_blocks, g_values, g_isSealed, g_hasRun, g_isDone, g_runForm, g_in0, g_in1, g_at, g_answer, g_evals, b_kind, b_block, b_left, b_right, b_arg, b_exitKind, b_exitX, b_exitT, b_exitF, b_without, b_differ, b_val, b_fresh)) ∧ (¬ r_88 = 0 → vp_in (nI b) 8 ∧ ∀ y1, y1 = upd b_exitKind (nI b).toNatClampNeg 2 → vp_in (nI b) 8 ∧ ∀ y2, y2 = upd b_exitX (nI b).toNatClampNeg (nI x) → vp_in (nI b) 8 ∧ ∀ y3, y3 = upd b_exitT (nI b).toNatClampNeg v3 → vp_in (nI b) 8 ∧ ∀ y4, y4 = upd b_exitF (nI b).toNatClampNeg v4 → q 0 (g_maxBlocks, g_maxValues, g_blocks, g_values, g_isSealed, g_hasRun, g_isDone, g_runForm, g_in0, g_in1, g_at, g_answer, g_evals, b_kind, b_block, b_left, b_right, b_arg, y1, y2, y3, y4, b_without, b_differ, b_val, b_fresh))) (g_maxBlocks, g_maxValues, g_blocks, g_values, g_isSealed, g_hasRun, g_isDone, g_runForm, g_in0, g_in1, g_at, g_answer, g_evals, b_kind, b_block, b_left, b_right, b_arg, b_exitKind, b_exitX, b_exitT, b_exitF, b_without, b_differ, b_val, b_fresh) v4))) (g_maxBlocks, g_maxValues, g_blocks, g_values, g_isSealed, g_hasRun, g_isDone, g_runForm, g_in0, g_in1, g_at, g_answer, g_evals, b_kind, b_block, b_left, b_right, b_arg, b_exitKind, b_exitX, b_exitT, b_exitF, b_without, b_differ, b_val, b_fresh) v3)) → wpY_setBranch q (g_maxBlocks, g_maxValues, g_blocks, g_values, g_isSealed, g_hasRun, g_isDone, g_runForm, g_in0, g_in1, g_at, g_answer, g_evals, b_kind, b_block, b_left, b_right, b_arg, b_exitKind, b_exitX, b_exitT, b_exitF, b_without, b_differ, b_val, b_fresh) (nI b) (nI x) v3 v4 := fun q h => br_t z2 (ys_ib (n := p_b P) (by omega) e3 (fun no' => absurd rfl (no' b hb)) (fun _ _ _ => br_f (by decide) (ys_iv (n := p_v P) (by omega) e4 (fun no' => absurd rfl (no' x hx)) (fun _ _ _ => br_f (by decide) h))))
    refine xs_it (n := p_b P) (by omega) e1 (fun no => br_t rfl (Y1 _ ?_)) (fun t h0 ht et => br_f (by decide) ?_)
    · rcases v_tgt no with z | z
      · exact br_t z ⟨rfl, R0⟩
      · exact br_c (fun _ => ⟨rfl, R0⟩) (fun _ => ys_ib (n := p_b P) (by omega) e3 (fun _ => br_t rfl ⟨rfl, R0⟩) (fun j hj e => absurd e (z j hj)))
    · subst et
      refine xs_it (n := p_b P) (by omega) e1 (fun no => br_t rfl (Y1 _ (br_f (nI_ne0 h0 (by omega)) (ys_ib (n := p_b P) (by omega) e3 (fun no' => absurd rfl (no' t ht)) (fun _ _ _ => br_f (by decide) ?_))))) (fun f g0 hf ef => br_f (by decide) ?_)
      · rcases v_tgt no with z | z
        · exact br_t z ⟨rfl, R0⟩
        · exact br_c (fun _ => ⟨rfl, R0⟩) (fun _ => ys_ib (n := p_b P) (by omega) e3 (fun _ => br_t rfl ⟨rfl, R0⟩) (fun j hj e => absurd e (z j hj)))
      · subst ef
        have Vb : vp_in (nI b) 8 := vp_in_nI (by omega) (by omega)
        refine xs_se (by omega) (Y1 _ (br_f (nI_ne0 h0 (by omega)) (ys_ib (n := p_b P) (by omega) e3 (fun no' => absurd rfl (no' t ht)) (fun _ _ _ => br_f (by decide) (br_f (nI_ne0 g0 (by omega)) (ys_ib (n := p_b P) (by omega) e3 (fun no' => absurd rfl (no' f hf)) (fun _ _ _ => br_f (by decide) ⟨Vb, ba_wr b rfl (by omega) rfl ⟨Vb, ba_wr b rfl (by omega) rfl ⟨Vb, ba_wr b rfl (by omega) rfl ⟨Vb, ba_wr b rfl (by omega) rfl ⟨rfl, ?_⟩⟩⟩⟩⟩))))))) 
        refine r_mk (P := q_ext P b 2 (some x) (some t) (some f)) (q_ext_W W hb (by omega) (fun y z => by cases z; exact hx) (fun y z => by cases z; exact ⟨h0, ht⟩) (fun y z => by cases z; exact ⟨g0, hf⟩) ⟨fun z => (by cases z), fun z => absurd (Or.inl rfl) z⟩ ⟨fun z => (by cases z), fun z => absurd (Or.inr rfl) z⟩ ⟨fun z => (by cases z), fun z => absurd rfl z⟩) (q_ext_X hX) (q_ext_Y hY (fun _ => pk_us) (fun _ => pk_us) (fun _ => pk_us) (fun c h => pk_un h) (fun c h => pk_un h) (fun c h => pk_un h)) ⟨e1, e2, e3, e4, B, V, l1, l2, e5, e6, e7, e8⟩ z1 z2 z3 z4
  · exact br_f (v_ne0 z1) (br_f (v_ne0 z2) ⟨rfl, R0⟩)
theorem v_seal (R : r_All f_blockLimit f_valueLimit f_blockCount f_valueCount f_sealed f_runState f_runForm f_here f_input0 f_input1 f_returned f_evaluated a_valueKind a_valueBlock a_leaf a_args a_exitKind a_exitValue a_exitTrue a_exitFalse a_domMask a_classIndex a_className a_leaderOf a_body a_bodyStart a_bodyOps a_bodyEnd a_env g_maxBlocks g_maxValues g_blocks g_values g_isSealed g_hasRun g_isDone g_runForm g_in0 g_in1 g_at g_answer g_evals b_kind b_block b_left b_right b_arg b_exitKind b_exitX b_exitT b_exitF b_without b_differ b_val) : wpX_seal (fun r u' => wpY_seal (fun r' v' => r' = r ∧ i_Rel k u' v') (g_maxBlocks, g_maxValues, g_blocks, g_values, g_isSealed, g_hasRun, g_isDone, g_runForm, g_in0, g_in1, g_at, g_answer, g_evals, b_kind, b_block, b_left, b_right, b_arg, b_exitKind, b_exitX, b_exitT, b_exitF, b_without, b_differ, b_val, b_fresh)) (f_blockLimit, f_valueLimit, f_blockCount, f_valueCount, f_sealed, f_classCount, f_workTop, f_touchedCount, f_undoTop, f_runState, f_runForm, f_here, f_input0, f_input1, f_returned, f_evaluated, a_valueKind, a_valueBlock, a_leaf, a_args, a_exitKind, a_exitValue, a_exitTrue, a_exitFalse, a_predMask, a_order, a_orderIndex, a_idom, a_domMask, a_firstChild, a_nextSibling, a_stack, a_cursor, a_members, a_location, a_classIndex, a_classStart, a_classSize, a_classMarked, a_className, a_useHead, a_useNext, a_work, a_inWork, a_splitter, a_touched, a_leaderOf, a_available, a_undo, a_scopeMark, a_body, a_bodyStart, a_bodyOps, a_bodyEnd, a_env, a_phiNew) := by
  have R0 := R
  obtain ⟨P, W, hX, hY, hB, hZ⟩ := R
  rcases hZ with ⟨z1, z2, z3, z4⟩ | ⟨z1, z2, _⟩
  · have eb := hB.1
    have ev := hB.2.1
    have yb := hB.2.2.1
    have yv := hB.2.2.2.1
    refine xz_seal W hX eb ev z1 (fun s1 => ?_) (fun s1 s2 a_order a_orderIndex a_stack a_cursor => ?_) (fun s1 s2 s3 a_predMask a_order a_orderIndex a_stack a_cursor => ?_) (fun s1 s2 s3 s4 a_predMask a_order a_orderIndex a_idom a_domMask a_firstChild a_nextSibling a_stack a_cursor => ?_)
      (fun s1 s lf f_classCount f_workTop f_touchedCount f_undoTop a_args a_exitValue a_predMask a_order a_orderIndex a_idom a_domMask a_firstChild a_nextSibling a_stack a_cursor a_members a_location a_classIndex a_classStart a_classSize a_classMarked a_className a_useHead a_useNext a_work a_inWork a_splitter a_touched a_leaderOf a_available a_undo a_scopeMark a_body a_bodyStart a_bodyOps a_bodyEnd hX' hS => ?_)
    · exact yz_seal W hY yb yv z2 (fun _ => ⟨rfl, R0⟩) (fun t => absurd t s1) (fun t => absurd t s1) (fun t => absurd t s1) (fun t => absurd t s1)
    · exact yz_seal W hY yb yv z2 (fun t => absurd s1 t) (fun _ _ => ⟨rfl, r_mk W hX hY hB z1 z2 z3 z4⟩) (fun _ t => absurd t s2) (fun _ t => absurd t s2) (fun _ t => absurd t.1 s2)
    · exact yz_seal W hY yb yv z2 (fun t => absurd s1 t) (fun _ t => absurd s2 t) (fun _ _ _ => ⟨rfl, r_mk W hX hY hB z1 z2 z3 z4⟩) (fun _ _ t => absurd t s3) (fun _ t => absurd t.2.1 s3)
    · exact yz_seal W hY yb yv z2 (fun t => absurd s1 t) (fun _ t => absurd s2 t) (fun _ _ t => absurd s3 t) (fun _ _ _ _ _ => ⟨rfl, r_mk W hX hY hB z1 z2 z3 z4⟩) (fun _ t => absurd t.2.2 s4)
    · exact yz_seal W hY yb yv z2 (fun t => absurd s1 t) (fun _ t => absurd s.1 t) (fun _ _ t => absurd s.2.1 t) (fun _ _ _ t => absurd s.2.2 t) (fun _ _ wo df yS => ⟨rfl, ⟨P, W, hX', hY, hB, Or.inr ⟨rfl, rfl, s1, s, lf, hS, yS, Or.inl ⟨rfl, rfl⟩⟩⟩⟩)
  · exact br_f (v_ne0 z1) (br_f (v_ne0 z2) ⟨rfl, R0⟩)
theorem v_reopen (R : r_All f_blockLimit f_valueLimit f_blockCount f_valueCount f_sealed f_runState f_runForm f_here f_input0 f_input1 f_returned f_evaluated a_valueKind a_valueBlock a_leaf a_args a_exitKind a_exitValue a_exitTrue a_exitFalse a_domMask a_classIndex a_className a_leaderOf a_body a_bodyStart a_bodyOps a_bodyEnd a_env g_maxBlocks g_maxValues g_blocks g_values g_isSealed g_hasRun g_isDone g_runForm g_in0 g_in1 g_at g_answer g_evals b_kind b_block b_left b_right b_arg b_exitKind b_exitX b_exitT b_exitF b_without b_differ b_val) : wpX_reopen (fun r u' => wpY_reopen (fun r' v' => r' = r ∧ i_Rel k u' v') (g_maxBlocks, g_maxValues, g_blocks, g_values, g_isSealed, g_hasRun, g_isDone, g_runForm, g_in0, g_in1, g_at, g_answer, g_evals, b_kind, b_block, b_left, b_right, b_arg, b_exitKind, b_exitX, b_exitT, b_exitF, b_without, b_differ, b_val, b_fresh)) (f_blockLimit, f_valueLimit, f_blockCount, f_valueCount, f_sealed, f_classCount, f_workTop, f_touchedCount, f_undoTop, f_runState, f_runForm, f_here, f_input0, f_input1, f_returned, f_evaluated, a_valueKind, a_valueBlock, a_leaf, a_args, a_exitKind, a_exitValue, a_exitTrue, a_exitFalse, a_predMask, a_order, a_orderIndex, a_idom, a_domMask, a_firstChild, a_nextSibling, a_stack, a_cursor, a_members, a_location, a_classIndex, a_classStart, a_classSize, a_classMarked, a_className, a_useHead, a_useNext, a_work, a_inWork, a_splitter, a_touched, a_leaderOf, a_available, a_undo, a_scopeMark, a_body, a_bodyStart, a_bodyOps, a_bodyEnd, a_env, a_phiNew) := by
  have R0 := R
  obtain ⟨P, W, hX, hY, hB, hZ⟩ := R
  rcases hZ with ⟨z1, z2, z3, z4⟩ | ⟨z1, z2, _⟩
  · exact br_t z1 (br_t z2 ⟨rfl, R0⟩)
  · exact br_f (v_ne0 z1) (br_f (v_ne0 z2) ⟨rfl, r_mk W hX hY hB rfl rfl rfl rfl⟩)
end VD
end
section
/-! looking at the program: both sides -/
theorem r_g0 (lf : Nat → Nat) : r_g lf 0 = fun x => x := if_pos rfl
theorem r_g1 (lf : Nat → Nat) : r_g lf 1 = lf := if_neg (by omega)
theorem r_Gok {P : PT} {lf : Nat → Nat} {f : Nat} (W : p_W P) (S : p_S P) (hl : ∀ x, x < p_v P → ld_V (p_v P) (p_D P) (p_B P) (p_q P x) (p_B P x) (lf x)) (hf : f < 2) : rn_G (p_v P) (p_B P) (p_q P) (p_D P) (r_g lf f) := by
  have H := p_H W S.2.1
  intro x hx
  rcases (by omega : f = 0 ∨ f = 1) with e | e
  · subst e
    rw [r_g0]
    exact ⟨hx, rfl, cg_E_rf H hx, gr_D_rf _, fun _ => Nat.le_refl _⟩
  · subst e
    rw [r_g1]
    obtain ⟨a1, a2, a3, a4⟩ := hl x hx
    refine ⟨a1, ?_, a2, a3, fun eB => (a4 x hx (cg_E_rf H hx) (gr_D_rf _)).2 eB.symm⟩
    refine ld_V_un (fun a b ha hb h1 h2 => p_Das W S.1 (W.2.2.2.1 a ha).2.1 h1 h2) (hl (lf x) a1) ⟨a1, cg_E_rf H a1, gr_D_rf _, fun s hs hq hD => a4 s hs (cg_E_tr H hx a1 hs a2 hq) (gr_D_tr hD a3)⟩
theorem r_Fok {P : PT} {lf : Nat → Nat} {f : Nat} {vk vb le ar ek ev et ef dm ci cm lo body bs bo be : Nat → Int32} (W : p_W P) (S : p_S P) (hX : p_X P vk vb le ar ek ev et ef) (hS : x_S P lf ar ev dm ci cm lo body bs bo be) (hf : f < 2) : xq_F P f (r_g lf f) ar ev body bs bo be := by
  obtain ⟨s1, s2, s3, s4, s5, s6, s7⟩ := hS
  have G := r_Gok W S (fun x hx => (s3 x hx).2) hf
  have H := p_RH W S
  have last : ∀ w i x, w < p_v P → p_K P w ≠ 2 → i < 8 → rn_m (r_g lf f) (p_A P w i) = some x → p_B P x = p_B P w → x < w := by
    intro w i x hw hk hi e eB
    cases ea : p_A P w i with
    | none => rw [ea] at e; cases e
    | some y =>
      rw [ea] at e; cases e
      obtain ⟨y1, y2, _⟩ := H.2.2.1 w i y hw hi ea
      obtain ⟨a1, a2, a3, a4, a5⟩ := G y y1
      have d := (y2 hk).2
      have : p_B P y = p_B P w := H.2.2.2.2.2.2 y w y1 hw d (by rw [← eB]; exact a4)
      have := a5 (eB.trans this.symm)
      have := (y2 hk).1
      omega
  refine ⟨hf, fun x hx => (G x hx).1, ?_⟩
  rcases (by omega : f = 0 ∨ f = 1) with e | e
  · subst e
    have kpe : (fun v => r_g lf 0 v = v) = (fun _ : Nat => True) := by
      funext v
      rw [r_g0]
      exact eq_self v
    refine ⟨fun v i hv hi => ?_, fun b hb => ?_, ?_, last⟩
    · rw [r_g0, rn_m_id, Nat.zero_mul, Nat.zero_add]; exact hX.2.2.2.1 v i hv hi
    · rw [r_g0, rn_m_id, Nat.zero_mul, Nat.zero_add]; exact hX.2.2.2.2.2.1 b hb
    · rw [kpe]
      intro b hb
      obtain ⟨s, c1, c2, c3, c4, c5⟩ := s6 b hb
      exact ⟨s, c1, c2, c3, by omega, c5⟩
  · subst e
    refine ⟨fun v i hv hi => ?_, fun b hb => ?_, ?_, last⟩
    · rw [r_g1, Nat.one_mul]; exact s4 v i hv hi
    · rw [r_g1, Nat.one_mul]; exact s5 b hb
    · rw [r_g1]; exact s7
section VQ
variable {f_blockLimit f_valueLimit f_blockCount f_valueCount f_sealed f_classCount f_workTop f_touchedCount f_undoTop f_runState f_runForm f_here f_input0 f_input1 f_returned f_evaluated : Int32} {a_valueKind a_valueBlock a_leaf a_args a_exitKind a_exitValue a_exitTrue a_exitFalse a_predMask a_order a_orderIndex a_idom a_domMask a_firstChild a_nextSibling a_stack a_cursor a_members a_location a_classIndex a_classStart a_classSize a_classMarked a_className a_useHead a_useNext a_work a_inWork a_splitter a_touched a_leaderOf a_available a_undo a_scopeMark a_body a_bodyStart a_bodyOps a_bodyEnd a_env a_phiNew : Nat → Int32} {g_maxBlocks g_maxValues g_blocks g_values g_isSealed g_hasRun g_isDone g_runForm g_in0 g_in1 g_at g_answer g_evals : Int32} {b_kind b_block b_left b_right b_arg b_exitKind b_exitX b_exitT b_exitF b_without b_differ b_val b_fresh : Nat → Int32} {P : PT} {k : Nat}
theorem v_describe (R : r_All f_blockLimit f_valueLimit f_blockCount f_valueCount f_sealed f_runState f_runForm f_here f_input0 f_input1 f_returned f_evaluated a_valueKind a_valueBlock a_leaf a_args a_exitKind a_exitValue a_exitTrue a_exitFalse a_domMask a_classIndex a_className a_leaderOf a_body a_bodyStart a_bodyOps a_bodyEnd a_env g_maxBlocks g_maxValues g_blocks g_values g_isSealed g_hasRun g_isDone g_runForm g_in0 g_in1 g_at g_answer g_evals b_kind b_block b_left b_right b_arg b_exitKind b_exitX b_exitT b_exitF b_without b_differ b_val) (v1 v2 : Int32) : wpX_describe (fun r => wpY_describe (fun r' => r' = r ∧ i_Rel k (f_blockLimit, f_valueLimit, f_blockCount, f_valueCount, f_sealed, f_classCount, f_workTop, f_touchedCount, f_undoTop, f_runState, f_runForm, f_here, f_input0, f_input1, f_returned, f_evaluated, a_valueKind, a_valueBlock, a_leaf, a_args, a_exitKind, a_exitValue, a_exitTrue, a_exitFalse, a_predMask, a_order, a_orderIndex, a_idom, a_domMask, a_firstChild, a_nextSibling, a_stack, a_cursor, a_members, a_location, a_classIndex, a_classStart, a_classSize, a_classMarked, a_className, a_useHead, a_useNext, a_work, a_inWork, a_splitter, a_touched, a_leaderOf, a_available, a_undo, a_scopeMark, a_body, a_bodyStart, a_bodyOps, a_bodyEnd, a_env, a_phiNew) (g_maxBlocks, g_maxValues, g_blocks, g_values, g_isSealed, g_hasRun, g_isDone, g_runForm, g_in0, g_in1, g_at, g_answer, g_evals, b_kind, b_block, b_left, b_right, b_arg, b_exitKind, b_exitX, b_exitT, b_exitF, b_without, b_differ, b_val, b_fresh)) (g_maxBlocks, g_maxValues, g_blocks, g_values, g_isSealed, g_hasRun, g_isDone, g_runForm, g_in0, g_in1, g_at, g_answer, g_evals, b_kind, b_block, b_left, b_right, b_arg, b_exitKind, b_exitX, b_exitT, b_exitF, b_without, b_differ, b_val, b_fresh) v1 v2) (f_blockLimit, f_valueLimit, f_blockCount, f_valueCount, f_sealed, f_classCount, f_workTop, f_touchedCount, f_undoTop, f_runState, f_runForm, f_here, f_input0, f_input1, f_returned, f_evaluated, a_valueKind, a_valueBlock, a_leaf, a_args, a_exitKind, a_exitValue, a_exitTrue, a_exitFalse, a_predMask, a_order, a_orderIndex, a_idom, a_domMask, a_firstChild, a_nextSibling, a_stack, a_cursor, a_members, a_location, a_classIndex, a_classStart, a_classSize, a_classMarked, a_className, a_useHead, a_useNext, a_work, a_inWork, a_splitter, a_touched, a_leaderOf, a_available, a_undo, a_scopeMark, a_body, a_bodyStart, a_bodyOps, a_bodyEnd, a_env, a_phiNew) v1 v2 := by
  have R0 := R
  obtain ⟨P, W, hX, hY, hB, hZ⟩ := R
  have hv32 := W.2.2.1
  unfold wpX_describe
  refine xs_ve (n := p_v P) (by omega) hB.2.1 (fun no => br_t rfl ?_) (fun v hv ev => br_f (by decide) ?_)
  · unfold wpY_describe
    exact ys_iv (n := p_v P) (by omega) hB.2.2.2.1 (fun _ => br_t rfl ⟨rfl, R0⟩) (fun j hj e => absurd e (no j hj))
  · subst ev
    have V : vp_in (nI v) 32 := vp_in_nI (by omega) (by omega)
    have Y1 : ∀ q : Int32 → Prop, ((v2 = 0 → wY_describe_20 q (nI v) v2 g_maxBlocks g_maxValues g_blocks g_values g_isSealed g_hasRun g_isDone g_runForm g_in0 g_in1 g_at g_answer g_evals b_kind b_block b_left b_right b_arg b_exitKind b_exitX b_exitT b_exitF b_without b_differ b_val b_fresh) ∧ (¬ v2 = 0 → (v2 = 1 → wY_describe_20 q (nI v) v2 g_maxBlocks g_maxValues g_blocks g_values g_isSealed g_hasRun g_isDone g_runForm g_in0 g_in1 g_at g_answer g_evals b_kind b_block b_left b_right b_arg b_exitKind b_exitX b_exitT b_exitF b_without b_differ b_val b_fresh) ∧ (¬ v2 = 1 → q (-3)))) → wpY_describe q (g_maxBlocks, g_maxValues, g_blocks, g_values, g_isSealed, g_hasRun, g_isDone, g_runForm, g_in0, g_in1, g_at, g_answer, g_evals, b_kind, b_block, b_left, b_right, b_arg, b_exitKind, b_exitX, b_exitT, b_exitF, b_without, b_differ, b_val, b_fresh) (nI v) v2 := by
      intro q h
      unfold wpY_describe
      exact ys_iv (n := p_v P) (by omega) hB.2.2.2.1 (fun no => absurd rfl (no v hv)) (fun _ _ _ => br_f (by decide) h)
    refine br_c (fun e => ⟨V, ?_⟩) (fun e => br_c (fun e2 => ⟨V, ?_⟩) (fun e2 => Y1 _ (br_f e (br_f e2 ⟨rfl, R0⟩))))
    · rw [nI_clamp (by omega), hX.1 v hv]
      refine Y1 _ (br_t e ?_)
      unfold wY_describe_20
      refine br_t e ⟨V, ?_⟩
      rw [nI_clamp (by omega), hY.1 v hv]
      exact ⟨rfl, R0⟩
    · rw [nI_clamp (by omega), hX.2.1 v hv]
      refine Y1 _ (br_f e (br_t e2 ?_))
      unfold wY_describe_20
      refine br_f e ⟨V, ?_⟩
      rw [nI_clamp (by omega), hY.2.1 v hv]
      exact ⟨rfl, R0⟩
/-- which operand there is -/
def v_NA (P : PT) (v : Nat) (x3 : Int32) : Prop := (p_K P v < 2 ∧ x3 ≠ 0) ∨ (2 ≤ p_K P v ∧ ∀ i, i < 8 → x3 = nI i → p_A P v i = none)
theorem v_x46 {post : Int64 → Prop} {f v : Nat} {g : Nat → Nat} {x3 : Int32} (W : p_W P) (hX : p_X P a_valueKind a_valueBlock a_leaf a_args a_exitKind a_exitValue a_exitTrue a_exitFalse) (hf : f < 2) (hg : ∀ x, x < p_v P → g x < p_v P) (har : ∀ v i, v < p_v P → i < 8 → a_args (f * 256 + v * 8 + i) = ba_o (rn_m g (p_A P v i))) (hv : v < p_v P)
    (H0 : p_K P v < 2 → x3 = 0 → post (p_L P v).toInt64) (HN : v_NA P v x3 → post 4294967296) (HS : ∀ i x, i < 8 → x3 = nI i → 2 ≤ p_K P v → p_A P v i = some x → post (nI (g x)).toInt64) : wX_operand_46 post (nI f) (nI v) x3 f_blockLimit f_valueLimit f_blockCount f_valueCount f_sealed f_classCount f_workTop f_touchedCount f_undoTop f_runState f_runForm f_here f_input0 f_input1 f_returned f_evaluated a_valueKind a_valueBlock a_leaf a_args a_exitKind a_exitValue a_exitTrue a_exitFalse a_predMask a_order a_orderIndex a_idom a_domMask a_firstChild a_nextSibling a_stack a_cursor a_members a_location a_classIndex a_classStart a_classSize a_classMarked a_className a_useHead a_useNext a_work a_inWork a_splitter a_touched a_leaderOf a_available a_undo a_scopeMark a_body a_bodyStart a_bodyOps a_bodyEnd a_env a_phiNew := by
  have hv32 := W.2.2.1
  have wv := W.2.2.2.1 v hv
  have hK := wv.1
  have V : vp_in (nI v) 32 := vp_in_nI (by omega) (by omega)
  have leaf : p_K P v < 2 → wX_operand_79 post (nI v) x3 f_blockLimit f_valueLimit f_blockCount f_valueCount f_sealed f_classCount f_workTop f_touchedCount f_undoTop f_runState f_runForm f_here f_input0 f_input1 f_returned f_evaluated a_valueKind a_valueBlock a_leaf a_args a_exitKind a_exitValue a_exitTrue a_exitFalse a_predMask a_order a_orderIndex a_idom a_domMask a_firstChild a_nextSibling a_stack a_cursor a_members a_location a_classIndex a_classStart a_classSize a_classMarked a_className a_useHead a_useNext a_work a_inWork a_splitter a_touched a_leaderOf a_available a_undo a_scopeMark a_body a_bodyStart a_bodyOps a_bodyEnd a_env a_phiNew := by
    intro l
    unfold wX_operand_79
    refine br_c (fun e => ⟨V, ?_⟩) (fun e => HN (Or.inl ⟨l, e⟩))
    rw [nI_clamp (by omega), hX.2.2.1 v hv]
    exact H0 l e
  have none3 : (∀ i, i < 8 → x3 ≠ nI i) → v_NA P v x3 := by
    intro no
    rcases Nat.lt_or_ge (p_K P v) 2 with l | l
    · exact Or.inl ⟨l, no 0 (by omega)⟩
    · exact Or.inr ⟨l, fun i hi e => absurd e (no i hi)⟩
  unfold wX_operand_46
  refine br_c (fun e => HN (none3 (fun i hi q => by rw [q] at e; exact nI_pos (by omega) e))) (fun e => br_c (fun e8 => ?_) (fun e8 => HN (none3 (fun i hi q => e8 (by rw [q]; exact nI_lt (b := 8) hi (by omega))))))
  obtain ⟨i, hi, ei⟩ := nI_of e
  subst ei
  have hi8 : i < 8 := (nI_ltI (b := 8) hi (by omega)).mp e8
  refine ⟨V, ?_⟩
  rw [nI_clamp (by omega), hX.1 v hv]
  refine pk_eq (p_K P v) 0 (fun q => leaf (by omega)) (fun q0 => ⟨V, pk_eq (p_K P v) 1 (fun q => leaf (by omega)) (fun q1 => ⟨pk_in (f * 256 + v * 8 + i) 512 (by omega) (ba_ixf f v i), ba_rd (f * 256 + v * 8 + i) (ba_ixf f v i) (by omega) (har v i hv hi8) ?_⟩)⟩)
  cases ea : p_A P v i with
  | none => exact br_f ba_n1le (HN (Or.inr ⟨by omega, fun j hj e => by rw [nI_eq (by omega) (by omega)] at e; rw [← e]; exact ea⟩))
  | some x =>
    have hx := wv.2.2.1 i x hi8 ea
    have hgx := hg x hx
    exact br_t (nI_pos' (n := g x) (by omega)) (HS i x hi8 rfl (by omega) ea)
theorem v_y45 {post : Int64 → Prop} {f v : Nat} {g : Nat → Nat} {x3 : Int32} (W : p_W P) (hY : p_Y P b_kind b_block b_left b_right b_arg b_exitKind b_exitX b_exitT b_exitF) (eb : g_blocks = nI (p_b P)) (hf : f < 2) (hv : v < p_v P)
    (hL : ∀ (q : Int32 → Prop) (x : Nat), f = 1 → x < p_v P → q (nI (g x)) → wpY_leaderOf q (g_maxBlocks, g_maxValues, g_blocks, g_values, g_isSealed, g_hasRun, g_isDone, g_runForm, g_in0, g_in1, g_at, g_answer, g_evals, b_kind, b_block, b_left, b_right, b_arg, b_exitKind, b_exitX, b_exitT, b_exitF, b_without, b_differ, b_val, b_fresh) (nI x)) (hg0 : f = 0 → ∀ x, g x = x)
    (H0 : p_K P v < 2 → x3 = 0 → post (p_L P v).toInt64) (HN : v_NA P v x3 → post 4294967296) (HS : ∀ i x, i < 8 → x3 = nI i → 2 ≤ p_K P v → p_A P v i = some x → post (nI (g x)).toInt64) : wY_operand_45 post (nI f) (nI v) x3 g_maxBlocks g_maxValues g_blocks g_values g_isSealed g_hasRun g_isDone g_runForm g_in0 g_in1 g_at g_answer g_evals b_kind b_block b_left b_right b_arg b_exitKind b_exitX b_exitT b_exitF b_without b_differ b_val b_fresh := by
  have hv32 := W.2.2.1
  have hb8 := W.2.1
  have wv := W.2.2.2.1 v hv
  have hK := wv.1
  have V : vp_in (nI v) 32 := vp_in_nI (by omega) (by omega)
  have leaf : p_K P v < 2 → wY_operand_67 post (nI v) x3 g_maxBlocks g_maxValues g_blocks g_values g_isSealed g_hasRun g_isDone g_runForm g_in0 g_in1 g_at g_answer g_evals b_kind b_block b_left b_right b_arg b_exitKind b_exitX b_exitT b_exitF b_without b_differ b_val b_fresh := by
    intro l
    unfold wY_operand_67
    refine br_c (fun e => ⟨V, ?_⟩) (fun e => HN (Or.inl ⟨l, e⟩))
    rw [nI_clamp (by omega), hY.2.2.1 v hv l]
    exact H0 l e
  have fin0 : v_NA P v x3 → wY_operand_158 post (nI f) (-1) g_maxBlocks g_maxValues g_blocks g_values g_isSealed g_hasRun g_isDone g_runForm g_in0 g_in1 g_at g_answer g_evals b_kind b_block b_left b_right b_arg b_exitKind b_exitX b_exitT b_exitF b_without b_differ b_val b_fresh := by
    intro h
    unfold wY_operand_158
    exact br_t rfl (HN h)
  have fin1 : ∀ x, x < p_v P → post (nI (g x)).toInt64 → wY_operand_158 post (nI f) (nI x) g_maxBlocks g_maxValues g_blocks g_values g_isSealed g_hasRun g_isDone g_runForm g_in0 g_in1 g_at g_answer g_evals b_kind b_block b_left b_right b_arg b_exitKind b_exitX b_exitT b_exitF b_without b_differ b_val b_fresh := by
    intro x hx h
    unfold wY_operand_158
    refine br_f (ba_ne1 (by omega)) (pk_eq f 1 (fun e => hL _ x e hx h) (fun e => ?_))
    rw [hg0 (by omega) x] at h
    exact h
  have fin : ∀ i, i < 8 → x3 = nI i → 2 ≤ p_K P v → wY_operand_158 post (nI f) (ba_o (p_A P v i)) g_maxBlocks g_maxValues g_blocks g_values g_isSealed g_hasRun g_isDone g_runForm g_in0 g_in1 g_at g_answer g_evals b_kind b_block b_left b_right b_arg b_exitKind b_exitX b_exitT b_exitF b_without b_differ b_val b_fresh := by
    intro i hi e l
    cases ea : p_A P v i with
    | none => exact fin0 (Or.inr ⟨l, fun j hj e' => by rw [e, nI_eq (by omega) (by omega)] at e'; rw [← e']; exact ea⟩)
    | some x => exact fin1 x (wv.2.2.1 i x hi ea) (HS i x hi e l ea)
  unfold wY_operand_45
  refine ⟨V, ?_⟩
  rw [nI_clamp (by omega), hY.1 v hv]
  refine pk_eq (p_K P v) 0 (fun q => leaf (by omega)) (fun q0 => ⟨V, pk_eq (p_K P v) 1 (fun q => leaf (by omega)) (fun q1 => ⟨V, pk_eq (p_K P v) 2 (fun q2 => ?_) (fun q2 => ?_)⟩)⟩)
  · refine ys_ib (n := p_b P) (by omega) eb (fun no => br_t rfl (fin0 (Or.inr ⟨by omega, fun i hi e => ?_⟩))) (fun i hi e => br_f (by decide) ?_)
    · cases ea : p_A P v i with
      | none => rfl
      | some x => exact absurd e (no i ((wv.2.2.2.2.1 q2).2 i x hi ea))
    · rw [e]
      refine ⟨pk_in (v * 8 + i) 256 (by omega) (ba_ix8 v i), ba_rd (v * 8 + i) (ba_ix8 v i) (by omega) (hY.2.2.2.2.2.1 v i hv (by omega) q2) (fin i (by omega) e (by omega))⟩
  · have e3 : 3 ≤ p_K P v := by omega
    have hW := wv.2.2.2.2.2 e3
    refine br_c (fun e => ⟨V, nm_r (hY.2.2.2.1 v hv e3) (fin 0 (by omega) e (by omega))⟩) (fun e => br_c (fun e1 => ⟨V, pk_lt 10 (p_K P v) (fun l => ?_) (fun l => ⟨V, nm_r (hY.2.2.2.2.1 v hv e3 l) (fin 1 (by omega) e1 (by omega))⟩)⟩) (fun e1 => fin0 (Or.inr ⟨by omega, fun i hi ei => ?_⟩)))
    · have := fin 1 (by omega) e1 (by omega)
      rw [hW.2.2.2.1 l] at this
      exact this
    · refine hW.2.2.2.2 i ?_ hi
      rcases (by omega : i = 0 ∨ i = 1 ∨ 2 ≤ i) with w | w | w
      · rw [w] at ei; exact absurd ei e
      · rw [w] at ei; exact absurd ei e1
      · exact w
theorem v_operand (R : r_All f_blockLimit f_valueLimit f_blockCount f_valueCount f_sealed f_runState f_runForm f_here f_input0 f_input1 f_returned f_evaluated a_valueKind a_valueBlock a_leaf a_args a_exitKind a_exitValue a_exitTrue a_exitFalse a_domMask a_classIndex a_className a_leaderOf a_body a_bodyStart a_bodyOps a_bodyEnd a_env g_maxBlocks g_maxValues g_blocks g_values g_isSealed g_hasRun g_isDone g_runForm g_in0 g_in1 g_at g_answer g_evals b_kind b_block b_left b_right b_arg b_exitKind b_exitX b_exitT b_exitF b_without b_differ b_val) (v1 v2 v3 : Int32) : wpX_operand (fun r => wpY_operand (fun r' => r' = r ∧ i_Rel k (f_blockLimit, f_valueLimit, f_blockCount, f_valueCount, f_sealed, f_classCount, f_workTop, f_touchedCount, f_undoTop, f_runState, f_runForm, f_here, f_input0, f_input1, f_returned, f_evaluated, a_valueKind, a_valueBlock, a_leaf, a_args, a_exitKind, a_exitValue, a_exitTrue, a_exitFalse, a_predMask, a_order, a_orderIndex, a_idom, a_domMask, a_firstChild, a_nextSibling, a_stack, a_cursor, a_members, a_location, a_classIndex, a_classStart, a_classSize, a_classMarked, a_className, a_useHead, a_useNext, a_work, a_inWork, a_splitter, a_touched, a_leaderOf, a_available, a_undo, a_scopeMark, a_body, a_bodyStart, a_bodyOps, a_bodyEnd, a_env, a_phiNew) (g_maxBlocks, g_maxValues, g_blocks, g_values, g_isSealed, g_hasRun, g_isDone, g_runForm, g_in0, g_in1, g_at, g_answer, g_evals, b_kind, b_block, b_left, b_right, b_arg, b_exitKind, b_exitX, b_exitT, b_exitF, b_without, b_differ, b_val, b_fresh)) (g_maxBlocks, g_maxValues, g_blocks, g_values, g_isSealed, g_hasRun, g_isDone, g_runForm, g_in0, g_in1, g_at, g_answer, g_evals, b_kind, b_block, b_left, b_right, b_arg, b_exitKind, b_exitX, b_exitT, b_exitF, b_without, b_differ, b_val, b_fresh) v1 v2 v3) (f_blockLimit, f_valueLimit, f_blockCount, f_valueCount, f_sealed, f_classCount, f_workTop, f_touchedCount, f_undoTop, f_runState, f_runForm, f_here, f_input0, f_input1, f_returned, f_evaluated, a_valueKind, a_valueBlock, a_leaf, a_args, a_exitKind, a_exitValue, a_exitTrue, a_exitFalse, a_predMask, a_order, a_orderIndex, a_idom, a_domMask, a_firstChild, a_nextSibling, a_stack, a_cursor, a_members, a_location, a_classIndex, a_classStart, a_classSize, a_classMarked, a_className, a_useHead, a_useNext, a_work, a_inWork, a_splitter, a_touched, a_leaderOf, a_available, a_undo, a_scopeMark, a_body, a_bodyStart, a_bodyOps, a_bodyEnd, a_env, a_phiNew) v1 v2 v3 := by
  have R0 := R
  obtain ⟨P, W, hX, hY, hB, hZ⟩ := R
  have hv32 := W.2.2.1
  unfold wpX_operand
  refine xs_if (fun no => br_t rfl ?_) (fun f hf ef => br_f (by decide) ?_)
  · unfold wpY_operand
    exact ys_if (fun _ => br_t rfl ⟨rfl, R0⟩) (fun j hj e => absurd e (no j hj))
  subst ef
  refine xs_ve (n := p_v P) (by omega) hB.2.1 (fun no => br_t rfl ?_) (fun v hv ev => br_f (by decide) ?_)
  · unfold wpY_operand
    refine ys_if (fun no' => absurd rfl (no' f hf)) (fun _ _ _ => br_f (by decide) ?_)
    exact ys_iv (n := p_v P) (by omega) hB.2.2.2.1 (fun _ => br_t rfl ⟨rfl, R0⟩) (fun j hj e => absurd e (no j hj))
  subst ev
  have V : vp_in (nI v) 32 := vp_in_nI (by omega) (by omega)
  have Y1 : ∀ q : Int64 → Prop, ((nI f = 1 → ((g_isSealed = 0 → q 4294967296) ∧ (¬ g_isSealed = 0 → wpY_leaderOf (fun r_134 => (r_134 = nI v → wY_operand_45 q (nI f) (nI v) v3 g_maxBlocks g_maxValues g_blocks g_values g_isSealed g_hasRun g_isDone g_runForm g_in0 g_in1 g_at g_answer g_evals b_kind b_block b_left b_right b_arg b_exitKind b_exitX b_exitT b_exitF b_without b_differ b_val b_fresh) ∧ (¬ r_134 = nI v → q 4294967296)) (g_maxBlocks, g_maxValues, g_blocks, g_values, g_isSealed, g_hasRun, g_isDone, g_runForm, g_in0, g_in1, g_at, g_answer, g_evals, b_kind, b_block, b_left, b_right, b_arg, b_exitKind, b_exitX, b_exitT, b_exitF, b_without, b_differ, b_val, b_fresh) (nI v)))) ∧ (¬ nI f = 1 → wY_operand_45 q (nI f) (nI v) v3 g_maxBlocks g_maxValues g_blocks g_values g_isSealed g_hasRun g_isDone g_runForm g_in0 g_in1 g_at g_answer g_evals b_kind b_block b_left b_right b_arg b_exitKind b_exitX b_exitT b_exitF b_without b_differ b_val b_fresh)) → wpY_operand q (g_maxBlocks, g_maxValues, g_blocks, g_values, g_isSealed, g_hasRun, g_isDone, g_runForm, g_in0, g_in1, g_at, g_answer, g_evals, b_kind, b_block, b_left, b_right, b_arg, b_exitKind, b_exitX, b_exitT, b_exitF, b_without, b_differ, b_val, b_fresh) (nI f) (nI v) v3 := by
    intro q h
    unfold wpY_operand
    refine ys_if (fun no' => absurd rfl (no' f hf)) (fun _ _ _ => br_f (by decide) ?_)
    exact ys_iv (n := p_v P) (by omega) hB.2.2.2.1 (fun no => absurd rfl (no v hv)) (fun _ _ _ => br_f (by decide) h)
  have n01 : f = 0 → ¬ nI f = 1 := fun e => by rw [e]; decide
  have n11 : f = 1 → nI f = 1 := fun e => by rw [e]; rfl
  rcases (by omega : f = 0 ∨ f = 1) with e | e
  · refine br_f (n01 e) (v_x46 (g := fun x => x) W hX hf (fun x hx => hx) (fun v i hv hi => by rw [e, Nat.zero_mul, Nat.zero_add, rn_m_id]; exact hX.2.2.2.1 v i hv hi) hv (fun l e0 => ?_) (fun na => ?_) (fun i x hi ei l ea => ?_))
    all_goals refine Y1 _ (br_f (n01 e) (v_y45 (g := fun x => x) W hY hB.2.2.1 hf hv (fun q x z => by omega) (fun _ _ => rfl) (fun l' e0' => ?_) (fun na' => ?_) (fun i' x' hi' ei' l' ea' => ?_)))
    · exact ⟨rfl, R0⟩
    · rcases na' with w | w
      · exact absurd e0 w.2
      · omega
    · omega
    · rcases na with w | w
      · exact absurd e0' w.2
      · omega
    · exact ⟨rfl, R0⟩
    · rcases na with w | w
      · omega
      · rw [w.2 i' hi' ei'] at ea'; cases ea'
    · omega
    · rcases na' with w | w
      · omega
      · rw [w.2 i hi ei] at ea; cases ea
    · rw [ei, nI_eq (by omega) (by omega)] at ei'
      subst ei'
      rw [ea] at ea'; cases ea'
      exact ⟨rfl, R0⟩
  · refine br_t (n11 e) ?_
    rcases hZ with ⟨z1, z2, z3, z4⟩ | ⟨z1, z2, s1, s, lf, xS, yS, _⟩
    · exact br_t z1 (Y1 _ (br_t (n11 e) (br_t z2 ⟨rfl, R0⟩)))
    · have hl := (xS.2.2.1 v hv)
      have Y2 : ∀ q : Int64 → Prop, ((nI (lf v) = nI v → wY_operand_45 q (nI f) (nI v) v3 g_maxBlocks g_maxValues g_blocks g_values g_isSealed g_hasRun g_isDone g_runForm g_in0 g_in1 g_at g_answer g_evals b_kind b_block b_left b_right b_arg b_exitKind b_exitX b_exitT b_exitF b_without b_differ b_val b_fresh) ∧ (¬ nI (lf v) = nI v → q 4294967296)) → wpY_operand q (g_maxBlocks, g_maxValues, g_blocks, g_values, g_isSealed, g_hasRun, g_isDone, g_runForm, g_in0, g_in1, g_at, g_answer, g_evals, b_kind, b_block, b_left, b_right, b_arg, b_exitKind, b_exitX, b_exitT, b_exitF, b_without, b_differ, b_val, b_fresh) (nI f) (nI v) v3 := fun q h => Y1 q (br_t (n11 e) (br_f (v_ne0 z2) (yk_lead W s hY hB.2.2.2.1 yS.1 yS.2 hv hl.2 h)))
      refine br_f (v_ne0 z1) ⟨V, ?_⟩
      rw [nI_clamp (by omega), hl.1]
      refine br_c (fun q => ?_) (fun q => Y2 _ (br_f q ⟨rfl, R0⟩))
      have yl : ∀ (q : Int32 → Prop) (x : Nat), f = 1 → x < p_v P → q (nI (lf x)) → wpY_leaderOf q (g_maxBlocks, g_maxValues, g_blocks, g_values, g_isSealed, g_hasRun, g_isDone, g_runForm, g_in0, g_in1, g_at, g_answer, g_evals, b_kind, b_block, b_left, b_right, b_arg, b_exitKind, b_exitX, b_exitT, b_exitF, b_without, b_differ, b_val, b_fresh) (nI x) := fun q x _ hx h => yk_lead W s hY hB.2.2.2.1 yS.1 yS.2 hx (xS.2.2.1 x hx).2 h
      refine v_x46 (g := lf) W hX hf (fun x hx => (xS.2.2.1 x hx).2.1) (fun v i hv hi => by rw [e, Nat.one_mul]; exact xS.2.2.2.1 v i hv hi) hv (fun l e0 => ?_) (fun na => ?_) (fun i x hi ei l ea => ?_)
      all_goals refine Y2 _ (br_t q (v_y45 (g := lf) W hY hB.2.2.1 hf hv yl (fun z => by omega) (fun l' e0' => ?_) (fun na' => ?_) (fun i' x' hi' ei' l' ea' => ?_)))
      · exact ⟨rfl, R0⟩
      · rcases na' with w | w
        · exact absurd e0 w.2
        · omega
      · omega
      · rcases na with w | w
        · exact absurd e0' w.2
        · omega
      · exact ⟨rfl, R0⟩
      · rcases na with w | w
        · omega
        · rw [w.2 i' hi' ei'] at ea'; cases ea'
      · omega
      · rcases na' with w | w
        · omega
        · rw [w.2 i hi ei] at ea; cases ea
      · rw [ei, nI_eq (by omega) (by omega)] at ei'
        subst ei'
        rw [ea] at ea'; cases ea'
        exact ⟨rfl, R0⟩
end VQ
end
section
/-! looking at the program: the rest -/
section VR
variable {f_blockLimit f_valueLimit f_blockCount f_valueCount f_sealed f_classCount f_workTop f_touchedCount f_undoTop f_runState f_runForm f_here f_input0 f_input1 f_returned f_evaluated : Int32} {a_valueKind a_valueBlock a_leaf a_args a_exitKind a_exitValue a_exitTrue a_exitFalse a_predMask a_order a_orderIndex a_idom a_domMask a_firstChild a_nextSibling a_stack a_cursor a_members a_location a_classIndex a_classStart a_classSize a_classMarked a_className a_useHead a_useNext a_work a_inWork a_splitter a_touched a_leaderOf a_available a_undo a_scopeMark a_body a_bodyStart a_bodyOps a_bodyEnd a_env a_phiNew : Nat → Int32} {g_maxBlocks g_maxValues g_blocks g_values g_isSealed g_hasRun g_isDone g_runForm g_in0 g_in1 g_at g_answer g_evals : Int32} {b_kind b_block b_left b_right b_arg b_exitKind b_exitX b_exitT b_exitF b_without b_differ b_val b_fresh : Nat → Int32} {P : PT} {k : Nat}
theorem v_x96 {post : Int32 → Prop} (o : Option Nat) (ho : ∀ x, o = some x → x < 2 ^ 31) (hn : o = none → post (-3)) (hs : ∀ x, o = some x → post (nI x)) : wX_exitPart_96 post (ba_o o) f_blockLimit f_valueLimit f_blockCount f_valueCount f_sealed f_classCount f_workTop f_touchedCount f_undoTop f_runState f_runForm f_here f_input0 f_input1 f_returned f_evaluated a_valueKind a_valueBlock a_leaf a_args a_exitKind a_exitValue a_exitTrue a_exitFalse a_predMask a_order a_orderIndex a_idom a_domMask a_firstChild a_nextSibling a_stack a_cursor a_members a_location a_classIndex a_classStart a_classSize a_classMarked a_className a_useHead a_useNext a_work a_inWork a_splitter a_touched a_leaderOf a_available a_undo a_scopeMark a_body a_bodyStart a_bodyOps a_bodyEnd a_env a_phiNew := by
  unfold wX_exitPart_96
  cases o with
  | none => exact br_f ba_n1le (hn rfl)
  | some x => exact br_t (nI_pos' (ho x rfl)) (hs x rfl)
theorem v_x43 {post : Int32 → Prop} {f b : Nat} {g : Nat → Nat} {x3 : Int32} (W : p_W P) (hX : p_X P a_valueKind a_valueBlock a_leaf a_args a_exitKind a_exitValue a_exitTrue a_exitFalse) (hf : f < 2) (hg : ∀ x, x < p_v P → g x < p_v P) (hev : ∀ b, b < p_b P → a_exitValue (f * 8 + b) = ba_o (rn_m g (p_x P b))) (hb : b < p_b P)
    (H0 : x3 = 0 → post (nI (p_e P b))) (H1n : x3 = 1 → p_x P b = none → post (-3)) (H1 : ∀ x, x3 = 1 → p_x P b = some x → post (nI (g x))) (H2n : x3 = 2 → p_t P b = none → post (-3)) (H2 : ∀ x, x3 = 2 → p_t P b = some x → post (nI x)) (H3n : ¬ x3 = 0 → ¬ x3 = 1 → ¬ x3 = 2 → p_f P b = none → post (-3)) (H3 : ∀ x, ¬ x3 = 0 → ¬ x3 = 1 → ¬ x3 = 2 → p_f P b = some x → post (nI x)) : wX_exitPart_43 post (nI f) (nI b) x3 f_blockLimit f_valueLimit f_blockCount f_valueCount f_sealed f_classCount f_workTop f_touchedCount f_undoTop f_runState f_runForm f_here f_input0 f_input1 f_returned f_evaluated a_valueKind a_valueBlock a_leaf a_args a_exitKind a_exitValue a_exitTrue a_exitFalse a_predMask a_order a_orderIndex a_idom a_domMask a_firstChild a_nextSibling a_stack a_cursor a_members a_location a_classIndex a_classStart a_classSize a_classMarked a_className a_useHead a_useNext a_work a_inWork a_splitter a_touched a_leaderOf a_available a_undo a_scopeMark a_body a_bodyStart a_bodyOps a_bodyEnd a_env a_phiNew := by
  have hv32 := W.2.2.1
  have hb8 := W.2.1
  obtain ⟨w1, w2, w3, w4, w5, w6, w7⟩ := W.2.2.2.2 b hb
  have V : vp_in (nI b) 8 := vp_in_nI (by omega) (by omega)
  have tb : ∀ x, p_t P b = some x → x < 2 ^ 31 := fun x h => by have := (w3 x h).2; omega
  have fb : ∀ x, p_f P b = some x → x < 2 ^ 31 := fun x h => by have := (w4 x h).2; omega
  have xb : ∀ x, rn_m g (p_x P b) = some x → x < 2 ^ 31 := by
    intro x h
    cases e : p_x P b with
    | none => rw [e] at h; cases h
    | some y => rw [e] at h; cases h; have := hg y (w2 y e); omega
  unfold wX_exitPart_43
  refine br_c (fun e => ⟨V, ?_⟩) (fun e0 => ⟨V, ba_rd b rfl (by omega) (hX.2.2.2.2.2.2.2 b hb) (br_c (fun e1 => ⟨pk_in (f * 8 + b) 16 (by omega) (ba_ix8 f b), ba_rd (f * 8 + b) (ba_ix8 f b) (by omega) (hev b hb) (v_x96 _ xb (fun h => H1n e1 ?_) (fun x h => ?_))⟩) (fun e1 => br_c (fun e2 => ⟨V, ba_rd b rfl (by omega) (hX.2.2.2.2.2.2.1 b hb) (v_x96 _ tb (H2n e2) (fun x h => H2 x e2 h))⟩) (fun e2 => v_x96 _ fb (H3n e0 e1 e2) (fun x h => H3 x e0 e1 e2 h))))⟩)
  · rw [nI_clamp (by omega), hX.2.2.2.2.1 b hb]
    exact H0 e
  · cases e : p_x P b with
    | none => rfl
    | some y => rw [e] at h; cases h
  · cases e : p_x P b with
    | none => rw [e] at h; cases h
    | some y => rw [e] at h; cases h; exact H1 y e1 e
theorem v_y43 {post : Int32 → Prop} {f b : Nat} {g : Nat → Nat} {x3 : Int32} (W : p_W P) (hY : p_Y P b_kind b_block b_left b_right b_arg b_exitKind b_exitX b_exitT b_exitF) (hf : f < 2) (hb : b < p_b P) (h3 : x3 = 0 ∨ x3 = 1 ∨ x3 = 2 ∨ x3 = 3)
    (hL : ∀ (q : Int32 → Prop) (x : Nat), f = 1 → x < p_v P → q (nI (g x)) → wpY_leaderOf q (g_maxBlocks, g_maxValues, g_blocks, g_values, g_isSealed, g_hasRun, g_isDone, g_runForm, g_in0, g_in1, g_at, g_answer, g_evals, b_kind, b_block, b_left, b_right, b_arg, b_exitKind, b_exitX, b_exitT, b_exitF, b_without, b_differ, b_val, b_fresh) (nI x)) (hg0 : f = 0 → ∀ x, g x = x)
    (H0 : x3 = 0 → post (nI (p_e P b))) (H1n : x3 = 1 → p_x P b = none → post (-3)) (H1 : ∀ x, x3 = 1 → p_x P b = some x → post (nI (g x))) (H2n : x3 = 2 → p_t P b = none → post (-3)) (H2 : ∀ x, x3 = 2 → p_t P b = some x → post (nI x)) (H3n : ¬ x3 = 0 → ¬ x3 = 1 → ¬ x3 = 2 → p_f P b = none → post (-3)) (H3 : ∀ x, ¬ x3 = 0 → ¬ x3 = 1 → ¬ x3 = 2 → p_f P b = some x → post (nI x)) : wY_exitPart_43 post (nI f) (nI b) x3 g_maxBlocks g_maxValues g_blocks g_values g_isSealed g_hasRun g_isDone g_runForm g_in0 g_in1 g_at g_answer g_evals b_kind b_block b_left b_right b_arg b_exitKind b_exitX b_exitT b_exitF b_without b_differ b_val b_fresh := by
  have hv32 := W.2.2.1
  have hb8 := W.2.1
  obtain ⟨w1, w2, w3, w4, w5, w6, w7⟩ := W.2.2.2.2 b hb
  have V : vp_in (nI b) 8 := vp_in_nI (by omega) (by omega)
  have A75 : x3 = 1 → (p_e P b = 2 ∨ p_e P b = 3) → wY_exitPart_75 post (nI f) (nI b) g_maxBlocks g_maxValues g_blocks g_values g_isSealed g_hasRun g_isDone g_runForm g_in0 g_in1 g_at g_answer g_evals b_kind b_block b_left b_right b_arg b_exitKind b_exitX b_exitT b_exitF b_without b_differ b_val b_fresh := by
    intro e1 hk
    cases ex : p_x P b with
    | none => exact absurd hk (w5.mp ex)
    | some x =>
      have hx := w2 x ex
      have h := H1 x e1 ex
      unfold wY_exitPart_75
      refine pk_eq f 1 (fun e => ⟨V, ?_⟩) (fun e => ⟨V, ?_⟩)
      · rw [nI_clamp (by omega), hY.2.2.2.2.2.2.2.1 b hb hk, ex]
        exact hL _ x e hx h
      · rw [nI_clamp (by omega), hY.2.2.2.2.2.2.2.1 b hb hk, ex]
        rw [hg0 (by omega) x] at h
        exact h
  have A100 : ¬ x3 = 0 → (x3 = 1 → ¬ (p_e P b = 2 ∨ p_e P b = 3)) → wY_exitPart_100 post (nI b) x3 (nI (p_e P b)) g_maxBlocks g_maxValues g_blocks g_values g_isSealed g_hasRun g_isDone g_runForm g_in0 g_in1 g_at g_answer g_evals b_kind b_block b_left b_right b_arg b_exitKind b_exitX b_exitT b_exitF b_without b_differ b_val b_fresh := by
    intro n0 hk1
    have A124 : (x3 = 2 → ¬ (p_e P b = 1 ∨ p_e P b = 2)) → wY_exitPart_124 post (nI b) x3 (nI (p_e P b)) g_maxBlocks g_maxValues g_blocks g_values g_isSealed g_hasRun g_isDone g_runForm g_in0 g_in1 g_at g_answer g_evals b_kind b_block b_left b_right b_arg b_exitKind b_exitX b_exitT b_exitF b_without b_differ b_val b_fresh := by
      intro hk2
      unfold wY_exitPart_124
      refine br_c (fun e3 => ?_) (fun e3 => ?_)
      · have n1 : ¬ x3 = 1 := by rw [e3]; decide
        have n2 : ¬ x3 = 2 := by rw [e3]; decide
        refine pk_eq (p_e P b) 2 (fun e => ⟨V, ?_⟩) (fun e => H3n n0 n1 n2 (w7.mpr e))
        rw [nI_clamp (by omega), hY.2.2.2.2.2.2.2.2.2 b hb e]
        cases ef : p_f P b with
        | none => exact absurd e (w7.mp ef)
        | some x => exact H3 x n0 n1 n2 ef
      · rcases h3 with e | e | e | e
        · exact absurd e n0
        · exact H1n e (w5.mpr (hk1 e))
        · exact H2n e (w6.mpr (hk2 e))
        · exact absurd e e3
    have T : x3 = 2 → (p_e P b = 1 ∨ p_e P b = 2) → post (b_exitT (nI b).toNatClampNeg) := by
      intro e2 hk
      rw [nI_clamp (by omega), hY.2.2.2.2.2.2.2.2.1 b hb hk]
      cases et : p_t P b with
      | none => exact absurd hk (w6.mp et)
      | some x => exact H2 x e2 et
    unfold wY_exitPart_100
    refine br_c (fun e2 => pk_eq (p_e P b) 1 (fun e => ⟨V, T e2 (Or.inl e)⟩) (fun n1 => pk_eq (p_e P b) 2 (fun e => ⟨V, T e2 (Or.inr e)⟩) (fun n2 => A124 (fun _ z => z.elim n1 n2)))) (fun e2 => A124 (fun z => absurd z e2))
  unfold wY_exitPart_43
  refine ⟨V, ba_rd b rfl (by omega) (hY.2.2.2.2.2.2.1 b hb) (br_c (fun e => H0 e) (fun e0 => br_c (fun e1 => pk_eq (p_e P b) 2 (fun e => A75 e1 (Or.inl e)) (fun n2 => pk_eq (p_e P b) 3 (fun e => A75 e1 (Or.inr e)) (fun n3 => A100 e0 (fun _ z => z.elim n2 n3)))) (fun e1 => A100 e0 (fun z => absurd z e1))))⟩
theorem v_exitPart (R : r_All f_blockLimit f_valueLimit f_blockCount f_valueCount f_sealed f_runState f_runForm f_here f_input0 f_input1 f_returned f_evaluated a_valueKind a_valueBlock a_leaf a_args a_exitKind a_exitValue a_exitTrue a_exitFalse a_domMask a_classIndex a_className a_leaderOf a_body a_bodyStart a_bodyOps a_bodyEnd a_env g_maxBlocks g_maxValues g_blocks g_values g_isSealed g_hasRun g_isDone g_runForm g_in0 g_in1 g_at g_answer g_evals b_kind b_block b_left b_right b_arg b_exitKind b_exitX b_exitT b_exitF b_without b_differ b_val) (v1 v2 v3 : Int32) : wpX_exitPart (fun r => wpY_exitPart (fun r' => r' = r ∧ i_Rel k (f_blockLimit, f_valueLimit, f_blockCount, f_valueCount, f_sealed, f_classCount, f_workTop, f_touchedCount, f_undoTop, f_runState, f_runForm, f_here, f_input0, f_input1, f_returned, f_evaluated, a_valueKind, a_valueBlock, a_leaf, a_args, a_exitKind, a_exitValue, a_exitTrue, a_exitFalse, a_predMask, a_order, a_orderIndex, a_idom, a_domMask, a_firstChild, a_nextSibling, a_stack, a_cursor, a_members, a_location, a_classIndex, a_classStart, a_classSize, a_classMarked, a_className, a_useHead, a_useNext, a_work, a_inWork, a_splitter, a_touched, a_leaderOf, a_available, a_undo, a_scopeMark, a_body, a_bodyStart, a_bodyOps, a_bodyEnd, a_env, a_phiNew) (g_maxBlocks, g_maxValues, g_blocks, g_values, g_isSealed, g_hasRun, g_isDone, g_runForm, g_in0, g_in1, g_at, g_answer, g_evals, b_kind, b_block, b_left, b_right, b_arg, b_exitKind, b_exitX, b_exitT, b_exitF, b_without, b_differ, b_val, b_fresh)) (g_maxBlocks, g_maxValues, g_blocks, g_values, g_isSealed, g_hasRun, g_isDone, g_runForm, g_in0, g_in1, g_at, g_answer, g_evals, b_kind, b_block, b_left, b_right, b_arg, b_exitKind, b_exitX, b_exitT, b_exitF, b_without, b_differ, b_val, b_fresh) v1 v2 v3) (f_blockLimit, f_valueLimit, f_blockCount, f_valueCount, f_sealed, f_classCount, f_workTop, f_touchedCount, f_undoTop, f_runState, f_runForm, f_here, f_input0, f_input1, f_returned, f_evaluated, a_valueKind, a_valueBlock, a_leaf, a_args, a_exitKind, a_exitValue, a_exitTrue, a_exitFalse, a_predMask, a_order, a_orderIndex, a_idom, a_domMask, a_firstChild, a_nextSibling, a_stack, a_cursor, a_members, a_location, a_classIndex, a_classStart, a_classSize, a_classMarked, a_className, a_useHead, a_useNext, a_work, a_inWork, a_splitter, a_touched, a_leaderOf, a_available, a_undo, a_scopeMark, a_body, a_bodyStart, a_bodyOps, a_bodyEnd, a_env, a_phiNew) v1 v2 v3 := by
  have R0 := R
  obtain ⟨P, W, hX, hY, hB, hZ⟩ := R
  have hb8 := W.2.1
  unfold wpX_exitPart
  refine xs_if (fun no => br_t rfl ?_) (fun f hf ef => br_f (by decide) ?_)
  · unfold wpY_exitPart
    exact ys_if (fun _ => br_t rfl ⟨rfl, R0⟩) (fun j hj e => absurd e (no j hj))
  subst ef
  refine xs_be (n := p_b P) (by omega) hB.1 (fun no => br_t rfl ?_) (fun b hb eb => br_f (by decide) ?_)
  · unfold wpY_exitPart
    refine ys_if (fun no' => absurd rfl (no' f hf)) (fun _ _ _ => br_f (by decide) ?_)
    exact ys_ib (n := p_b P) (by omega) hB.2.2.1 (fun _ => br_t rfl ⟨rfl, R0⟩) (fun j hj e => absurd e (no j hj))
  subst eb
  have Y1 : ∀ q : Int32 → Prop, ((v3 < 0 → q (-3)) ∧ (¬ v3 < 0 → (v3 ≤ 3 → (nI f = 1 → (g_isSealed = 0 → q (-4)) ∧ (¬ g_isSealed = 0 → wY_exitPart_43 q (nI f) (nI b) v3 g_maxBlocks g_maxValues g_blocks g_values g_isSealed g_hasRun g_isDone g_runForm g_in0 g_in1 g_at g_answer g_evals b_kind b_block b_left b_right b_arg b_exitKind b_exitX b_exitT b_exitF b_without b_differ b_val b_fresh)) ∧ (¬ nI f = 1 → wY_exitPart_43 q (nI f) (nI b) v3 g_maxBlocks g_maxValues g_blocks g_values g_isSealed g_hasRun g_isDone g_runForm g_in0 g_in1 g_at g_answer g_evals b_kind b_block b_left b_right b_arg b_exitKind b_exitX b_exitT b_exitF b_without b_differ b_val b_fresh)) ∧ (¬ v3 ≤ 3 → q (-3)))) → wpY_exitPart q (g_maxBlocks, g_maxValues, g_blocks, g_values, g_isSealed, g_hasRun, g_isDone, g_runForm, g_in0, g_in1, g_at, g_answer, g_evals, b_kind, b_block, b_left, b_right, b_arg, b_exitKind, b_exitX, b_exitT, b_exitF, b_without, b_differ, b_val, b_fresh) (nI f) (nI b) v3 := by
    intro q h
    unfold wpY_exitPart
    refine ys_if (fun no' => absurd rfl (no' f hf)) (fun _ _ _ => br_f (by decide) ?_)
    exact ys_ib (n := p_b P) (by omega) hB.2.2.1 (fun no => absurd rfl (no b hb)) (fun _ _ _ => br_f (by decide) h)
  refine br_c (fun e => Y1 _ (br_t e ⟨rfl, R0⟩)) (fun e => br_c (fun e3 => ?_) (fun e3 => Y1 _ (br_f e (br_f e3 ⟨rfl, R0⟩))))
  have h3 : v3 = 0 ∨ v3 = 1 ∨ v3 = 2 ∨ v3 = 3 := by
    obtain ⟨j, hj, ej⟩ := nI_of2 (x := v3) (M := 3) (n := 3) (by decide) e e3
    rcases (by omega : j = 0 ∨ j = 1 ∨ j = 2 ∨ j = 3) with w | w | w | w
    · rw [w] at ej; exact Or.inl ej
    · rw [w] at ej; exact Or.inr (Or.inl ej)
    · rw [w] at ej; exact Or.inr (Or.inr (Or.inl ej))
    · rw [w] at ej; exact Or.inr (Or.inr (Or.inr ej))
  have n01 : f = 0 → ¬ nI f = 1 := fun e => by rw [e]; decide
  have n11 : f = 1 → nI f = 1 := fun e => by rw [e]; rfl
  have core : ∀ g : Nat → Nat, (∀ x, x < p_v P → g x < p_v P) → (∀ b, b < p_b P → a_exitValue (f * 8 + b) = ba_o (rn_m g (p_x P b))) → (∀ (q : Int32 → Prop) (x : Nat), f = 1 → x < p_v P → q (nI (g x)) → wpY_leaderOf q (g_maxBlocks, g_maxValues, g_blocks, g_values, g_isSealed, g_hasRun, g_isDone, g_runForm, g_in0, g_in1, g_at, g_answer, g_evals, b_kind, b_block, b_left, b_right, b_arg, b_exitKind, b_exitX, b_exitT, b_exitF, b_without, b_differ, b_val, b_fresh) (nI x)) → (f = 0 → ∀ x, g x = x) → (∀ q : Int32 → Prop, wY_exitPart_43 q (nI f) (nI b) v3 g_maxBlocks g_maxValues g_blocks g_values g_isSealed g_hasRun g_isDone g_runForm g_in0 g_in1 g_at g_answer g_evals b_kind b_block b_left b_right b_arg b_exitKind b_exitX b_exitT b_exitF b_without b_differ b_val b_fresh → wpY_exitPart q (g_maxBlocks, g_maxValues, g_blocks, g_values, g_isSealed, g_hasRun, g_isDone, g_runForm, g_in0, g_in1, g_at, g_answer, g_evals, b_kind, b_block, b_left, b_right, b_arg, b_exitKind, b_exitX, b_exitT, b_exitF, b_without, b_differ, b_val, b_fresh) (nI f) (nI b) v3) →
      wX_exitPart_43 (fun r => wpY_exitPart (fun r' => r' = r ∧ i_Rel k (f_blockLimit, f_valueLimit, f_blockCount, f_valueCount, f_sealed, f_classCount, f_workTop, f_touchedCount, f_undoTop, f_runState, f_runForm, f_here, f_input0, f_input1, f_returned, f_evaluated, a_valueKind, a_valueBlock, a_leaf, a_args, a_exitKind, a_exitValue, a_exitTrue, a_exitFalse, a_predMask, a_order, a_orderIndex, a_idom, a_domMask, a_firstChild, a_nextSibling, a_stack, a_cursor, a_members, a_location, a_classIndex, a_classStart, a_classSize, a_classMarked, a_className, a_useHead, a_useNext, a_work, a_inWork, a_splitter, a_touched, a_leaderOf, a_available, a_undo, a_scopeMark, a_body, a_bodyStart, a_bodyOps, a_bodyEnd, a_env, a_phiNew) (g_maxBlocks, g_maxValues, g_blocks, g_values, g_isSealed, g_hasRun, g_isDone, g_runForm, g_in0, g_in1, g_at, g_answer, g_evals, b_kind, b_block, b_left, b_right, b_arg, b_exitKind, b_exitX, b_exitT, b_exitF, b_without, b_differ, b_val, b_fresh)) (g_maxBlocks, g_maxValues, g_blocks, g_values, g_isSealed, g_hasRun, g_isDone, g_runForm, g_in0, g_in1, g_at, g_answer, g_evals, b_kind, b_block, b_left, b_right, b_arg, b_exitKind, b_exitX, b_exitT, b_exitF, b_without, b_differ, b_val, b_fresh) (nI f) (nI b) v3) (nI f) (nI b) v3 f_blockLimit f_valueLimit f_blockCount f_valueCount f_sealed f_classCount f_workTop f_touchedCount f_undoTop f_runState f_runForm f_here f_input0 f_input1 f_returned f_evaluated a_valueKind a_valueBlock a_leaf a_args a_exitKind a_exitValue a_exitTrue a_exitFalse a_predMask a_order a_orderIndex a_idom a_domMask a_firstChild a_nextSibling a_stack a_cursor a_members a_location a_classIndex a_classStart a_classSize a_classMarked a_className a_useHead a_useNext a_work a_inWork a_splitter a_touched a_leaderOf a_available a_undo a_scopeMark a_body a_bodyStart a_bodyOps a_bodyEnd a_env a_phiNew := by
    intro g hg hev hL hg0 YY
    have c01 : ∀ {A : Prop}, v3 = 0 → v3 = 1 → A := fun a b => absurd (a.symm.trans b) (by decide)
    have c02 : ∀ {A : Prop}, v3 = 0 → v3 = 2 → A := fun a b => absurd (a.symm.trans b) (by decide)
    have c12 : ∀ {A : Prop}, v3 = 1 → v3 = 2 → A := fun a b => absurd (a.symm.trans b) (by decide)
    have yy : ∀ q : Int32 → Prop, _ := fun q => v_y43 (post := q) (g := g) W hY hf hb h3 hL hg0
    refine v_x43 (g := g) W hX hf hg hev hb (fun a => YY _ (yy _ (fun _ => ⟨rfl, R0⟩) (fun b => c01 a b) (fun x b => c01 a b) (fun b => c02 a b) (fun x b => c02 a b) (fun b => absurd a b) (fun x b => absurd a b)))
      (fun a n => YY _ (yy _ (fun b => c01 b a) (fun _ _ => ⟨rfl, R0⟩) (fun x _ h => by rw [n] at h; cases h) (fun b => c12 a b) (fun x b => c12 a b) (fun _ b => absurd a b) (fun x _ b => absurd a b)))
      (fun x a n => YY _ (yy _ (fun b => c01 b a) (fun _ h => by rw [n] at h; cases h) (fun y _ h => by rw [n] at h; cases h; exact ⟨rfl, R0⟩) (fun b => c12 a b) (fun x b => c12 a b) (fun _ b => absurd a b) (fun x _ b => absurd a b)))
      (fun a n => YY _ (yy _ (fun b => c02 b a) (fun b => c12 b a) (fun x b => c12 b a) (fun _ _ => ⟨rfl, R0⟩) (fun x _ h => by rw [n] at h; cases h) (fun _ _ b => absurd a b) (fun x _ _ b => absurd a b)))
      (fun x a n => YY _ (yy _ (fun b => c02 b a) (fun b => c12 b a) (fun x b => c12 b a) (fun _ h => by rw [n] at h; cases h) (fun y _ h => by rw [n] at h; cases h; exact ⟨rfl, R0⟩) (fun _ _ b => absurd a b) (fun x _ _ b => absurd a b)))
      (fun a0 a1 a2 n => YY _ (yy _ (fun b => absurd b a0) (fun b => absurd b a1) (fun x b => absurd b a1) (fun b => absurd b a2) (fun x b => absurd b a2) (fun _ _ _ _ => ⟨rfl, R0⟩) (fun x _ _ _ h => by rw [n] at h; cases h)))
      (fun x a0 a1 a2 n => YY _ (yy _ (fun b => absurd b a0) (fun b => absurd b a1) (fun x b => absurd b a1) (fun b => absurd b a2) (fun x b => absurd b a2) (fun _ _ _ h => by rw [n] at h; cases h) (fun y _ _ _ h => by rw [n] at h; cases h; exact ⟨rfl, R0⟩)))
  rcases (by omega : f = 0 ∨ f = 1) with q | q
  · exact br_f (n01 q) (core (fun x => x) (fun x hx => hx) (fun b hb => by rw [q, Nat.zero_mul, Nat.zero_add, rn_m_id]; exact hX.2.2.2.2.2.1 b hb) (fun _ _ z => by omega) (fun _ _ => rfl) (fun qq h => Y1 qq (br_f e (br_t e3 (br_f (n01 q) h)))))
  · refine br_t (n11 q) ?_
    rcases hZ with ⟨z1, z2, z3, z4⟩ | ⟨z1, z2, s1, s, lf, xS, yS, _⟩
    · exact br_t z1 (Y1 _ (br_f e (br_t e3 (br_t (n11 q) (br_t z2 ⟨rfl, R0⟩)))))
    · exact br_f (v_ne0 z1) (core lf (fun x hx => (xS.2.2.1 x hx).2.1) (fun b hb => by rw [q, Nat.one_mul]; exact xS.2.2.2.2.1 b hb) (fun qq x _ hx h => yk_lead W s hY hB.2.2.2.1 yS.1 yS.2 hx (xS.2.2.1 x hx).2 h) (fun z => by omega) (fun qq h => Y1 qq (br_f e (br_t e3 (br_t (n11 q) (br_f (v_ne0 z2) h))))))
theorem v_dominates (R : r_All f_blockLimit f_valueLimit f_blockCount f_valueCount f_sealed f_runState f_runForm f_here f_input0 f_input1 f_returned f_evaluated a_valueKind a_valueBlock a_leaf a_args a_exitKind a_exitValue a_exitTrue a_exitFalse a_domMask a_classIndex a_className a_leaderOf a_body a_bodyStart a_bodyOps a_bodyEnd a_env g_maxBlocks g_maxValues g_blocks g_values g_isSealed g_hasRun g_isDone g_runForm g_in0 g_in1 g_at g_answer g_evals b_kind b_block b_left b_right b_arg b_exitKind b_exitX b_exitT b_exitF b_without b_differ b_val) (v1 v2 : Int32) : wpX_dominates (fun r => wpY_dominates (fun r' => r' = r ∧ i_Rel k (f_blockLimit, f_valueLimit, f_blockCount, f_valueCount, f_sealed, f_classCount, f_workTop, f_touchedCount, f_undoTop, f_runState, f_runForm, f_here, f_input0, f_input1, f_returned, f_evaluated, a_valueKind, a_valueBlock, a_leaf, a_args, a_exitKind, a_exitValue, a_exitTrue, a_exitFalse, a_predMask, a_order, a_orderIndex, a_idom, a_domMask, a_firstChild, a_nextSibling, a_stack, a_cursor, a_members, a_location, a_classIndex, a_classStart, a_classSize, a_classMarked, a_className, a_useHead, a_useNext, a_work, a_inWork, a_splitter, a_touched, a_leaderOf, a_available, a_undo, a_scopeMark, a_body, a_bodyStart, a_bodyOps, a_bodyEnd, a_env, a_phiNew) (g_maxBlocks, g_maxValues, g_blocks, g_values, g_isSealed, g_hasRun, g_isDone, g_runForm, g_in0, g_in1, g_at, g_answer, g_evals, b_kind, b_block, b_left, b_right, b_arg, b_exitKind, b_exitX, b_exitT, b_exitF, b_without, b_differ, b_val, b_fresh)) (g_maxBlocks, g_maxValues, g_blocks, g_values, g_isSealed, g_hasRun, g_isDone, g_runForm, g_in0, g_in1, g_at, g_answer, g_evals, b_kind, b_block, b_left, b_right, b_arg, b_exitKind, b_exitX, b_exitT, b_exitF, b_without, b_differ, b_val, b_fresh) v1 v2) (f_blockLimit, f_valueLimit, f_blockCount, f_valueCount, f_sealed, f_classCount, f_workTop, f_touchedCount, f_undoTop, f_runState, f_runForm, f_here, f_input0, f_input1, f_returned, f_evaluated, a_valueKind, a_valueBlock, a_leaf, a_args, a_exitKind, a_exitValue, a_exitTrue, a_exitFalse, a_predMask, a_order, a_orderIndex, a_idom, a_domMask, a_firstChild, a_nextSibling, a_stack, a_cursor, a_members, a_location, a_classIndex, a_classStart, a_classSize, a_classMarked, a_className, a_useHead, a_useNext, a_work, a_inWork, a_splitter, a_touched, a_leaderOf, a_available, a_undo, a_scopeMark, a_body, a_bodyStart, a_bodyOps, a_bodyEnd, a_env, a_phiNew) v1 v2 := by
  have R0 := R
  obtain ⟨P, W, hX, hY, hB, hZ⟩ := R
  have hb8 := W.2.1
  unfold wpX_dominates
  refine xs_be (n := p_b P) (by omega) hB.1 (fun no => br_t rfl ?_) (fun a ha ea => br_f (by decide) ?_)
  · unfold wpY_dominates
    exact ys_ib (n := p_b P) (by omega) hB.2.2.1 (fun _ => br_t rfl ⟨rfl, R0⟩) (fun j hj e => absurd e (no j hj))
  subst ea
  refine xs_be (n := p_b P) (by omega) hB.1 (fun no => br_t rfl ?_) (fun b hb eb => br_f (by decide) ?_)
  · unfold wpY_dominates
    refine ys_ib (n := p_b P) (by omega) hB.2.2.1 (fun no' => absurd rfl (no' a ha)) (fun _ _ _ => br_f (by decide) ?_)
    exact ys_ib (n := p_b P) (by omega) hB.2.2.1 (fun _ => br_t rfl ⟨rfl, R0⟩) (fun j hj e => absurd e (no j hj))
  subst eb
  have Y1 : ∀ q : Int32 → Prop, ((g_isSealed = 0 → q (-4)) ∧ (¬ g_isSealed = 0 → wpY_dom (fun r_58 => (r_58 = 0 → q 0) ∧ (¬ r_58 = 0 → q 1)) (g_maxBlocks, g_maxValues, g_blocks, g_values, g_isSealed, g_hasRun, g_isDone, g_runForm, g_in0, g_in1, g_at, g_answer, g_evals, b_kind, b_block, b_left, b_right, b_arg, b_exitKind, b_exitX, b_exitT, b_exitF, b_without, b_differ, b_val, b_fresh) (nI a) (nI b))) → wpY_dominates q (g_maxBlocks, g_maxValues, g_blocks, g_values, g_isSealed, g_hasRun, g_isDone, g_runForm, g_in0, g_in1, g_at, g_answer, g_evals, b_kind, b_block, b_left, b_right, b_arg, b_exitKind, b_exitX, b_exitT, b_exitF, b_without, b_differ, b_val, b_fresh) (nI a) (nI b) := by
    intro q h
    unfold wpY_dominates
    refine ys_ib (n := p_b P) (by omega) hB.2.2.1 (fun no' => absurd rfl (no' a ha)) (fun _ _ _ => br_f (by decide) ?_)
    exact ys_ib (n := p_b P) (by omega) hB.2.2.1 (fun no' => absurd rfl (no' b hb)) (fun _ _ _ => br_f (by decide) h)
  rcases hZ with ⟨z1, z2, z3, z4⟩ | ⟨z1, z2, s1, s, lf, xS, yS, _⟩
  · exact br_t z1 (Y1 _ (br_t z2 ⟨rfl, R0⟩))
  · have hm := xS.1 b hb a (by omega)
    refine br_f (v_ne0 z1) (xs_id (by omega) (by omega) (fun e => br_t rfl (Y1 _ (br_f (v_ne0 z2) (yr_dom W yS.1 ha hb (fun d => ?_) (fun d => br_t rfl ⟨rfl, R0⟩))))) (fun e => br_f (by decide) (Y1 _ (br_f (v_ne0 z2) (yr_dom W yS.1 ha hb (fun d => br_f (by decide) ⟨rfl, R0⟩) (fun d => absurd (hm.mp e) d))))))
    rw [hm.mpr d] at e; cases e
theorem v_classOf (R : r_All f_blockLimit f_valueLimit f_blockCount f_valueCount f_sealed f_runState f_runForm f_here f_input0 f_input1 f_returned f_evaluated a_valueKind a_valueBlock a_leaf a_args a_exitKind a_exitValue a_exitTrue a_exitFalse a_domMask a_classIndex a_className a_leaderOf a_body a_bodyStart a_bodyOps a_bodyEnd a_env g_maxBlocks g_maxValues g_blocks g_values g_isSealed g_hasRun g_isDone g_runForm g_in0 g_in1 g_at g_answer g_evals b_kind b_block b_left b_right b_arg b_exitKind b_exitX b_exitT b_exitF b_without b_differ b_val) (v1 : Int32) : wpX_classOf (fun r => wpY_classOf (fun r' => r' = r ∧ i_Rel k (f_blockLimit, f_valueLimit, f_blockCount, f_valueCount, f_sealed, f_classCount, f_workTop, f_touchedCount, f_undoTop, f_runState, f_runForm, f_here, f_input0, f_input1, f_returned, f_evaluated, a_valueKind, a_valueBlock, a_leaf, a_args, a_exitKind, a_exitValue, a_exitTrue, a_exitFalse, a_predMask, a_order, a_orderIndex, a_idom, a_domMask, a_firstChild, a_nextSibling, a_stack, a_cursor, a_members, a_location, a_classIndex, a_classStart, a_classSize, a_classMarked, a_className, a_useHead, a_useNext, a_work, a_inWork, a_splitter, a_touched, a_leaderOf, a_available, a_undo, a_scopeMark, a_body, a_bodyStart, a_bodyOps, a_bodyEnd, a_env, a_phiNew) (g_maxBlocks, g_maxValues, g_blocks, g_values, g_isSealed, g_hasRun, g_isDone, g_runForm, g_in0, g_in1, g_at, g_answer, g_evals, b_kind, b_block, b_left, b_right, b_arg, b_exitKind, b_exitX, b_exitT, b_exitF, b_without, b_differ, b_val, b_fresh)) (g_maxBlocks, g_maxValues, g_blocks, g_values, g_isSealed, g_hasRun, g_isDone, g_runForm, g_in0, g_in1, g_at, g_answer, g_evals, b_kind, b_block, b_left, b_right, b_arg, b_exitKind, b_exitX, b_exitT, b_exitF, b_without, b_differ, b_val, b_fresh) v1) (f_blockLimit, f_valueLimit, f_blockCount, f_valueCount, f_sealed, f_classCount, f_workTop, f_touchedCount, f_undoTop, f_runState, f_runForm, f_here, f_input0, f_input1, f_returned, f_evaluated, a_valueKind, a_valueBlock, a_leaf, a_args, a_exitKind, a_exitValue, a_exitTrue, a_exitFalse, a_predMask, a_order, a_orderIndex, a_idom, a_domMask, a_firstChild, a_nextSibling, a_stack, a_cursor, a_members, a_location, a_classIndex, a_classStart, a_classSize, a_classMarked, a_className, a_useHead, a_useNext, a_work, a_inWork, a_splitter, a_touched, a_leaderOf, a_available, a_undo, a_scopeMark, a_body, a_bodyStart, a_bodyOps, a_bodyEnd, a_env, a_phiNew) v1 := by
  have R0 := R
  obtain ⟨P, W, hX, hY, hB, hZ⟩ := R
  have hv32 := W.2.2.1
  unfold wpX_classOf
  refine xs_ve (n := p_v P) (by omega) hB.2.1 (fun no => br_t rfl ?_) (fun v hv ev => br_f (by decide) ?_)
  · unfold wpY_classOf
    exact ys_iv (n := p_v P) (by omega) hB.2.2.2.1 (fun _ => br_t rfl ⟨rfl, R0⟩) (fun j hj e => absurd e (no j hj))
  subst ev
  have Y1 : ∀ q : Int32 → Prop, ((g_isSealed = 0 → q (-4)) ∧ (¬ g_isSealed = 0 → wpY_className (fun r_30 => q r_30) (g_maxBlocks, g_maxValues, g_blocks, g_values, g_isSealed, g_hasRun, g_isDone, g_runForm, g_in0, g_in1, g_at, g_answer, g_evals, b_kind, b_block, b_left, b_right, b_arg, b_exitKind, b_exitX, b_exitT, b_exitF, b_without, b_differ, b_val, b_fresh) (nI v))) → wpY_classOf q (g_maxBlocks, g_maxValues, g_blocks, g_values, g_isSealed, g_hasRun, g_isDone, g_runForm, g_in0, g_in1, g_at, g_answer, g_evals, b_kind, b_block, b_left, b_right, b_arg, b_exitKind, b_exitX, b_exitT, b_exitF, b_without, b_differ, b_val, b_fresh) (nI v) := by
    intro q h
    unfold wpY_classOf
    exact ys_iv (n := p_v P) (by omega) hB.2.2.2.1 (fun no' => absurd rfl (no' v hv)) (fun _ _ _ => br_f (by decide) h)
  rcases hZ with ⟨z1, z2, z3, z4⟩ | ⟨z1, z2, s1, s, lf, xS, yS, _⟩
  · exact br_t z1 (Y1 _ (br_t z2 ⟨rfl, R0⟩))
  · obtain ⟨c, m, c1, c2, c3, c4, c5, c6⟩ := xS.2.1 v hv
    refine br_f (v_ne0 z1) ⟨vp_in_nI (by omega) (by omega), ?_⟩
    rw [nI_clamp (by omega), c2]
    refine ⟨vp_in_nI c1 (by omega), ?_⟩
    rw [nI_clamp (by omega), c3]
    refine Y1 _ (br_f (v_ne0 z2) (yk_name W yS.2 hv (cg_E_rf (p_H W s.2.1) hv) (fun m' d1 d2 d3 => ⟨?_, R0⟩)))
    have : m' = m := by
      rcases Nat.lt_or_ge m' m with w | w
      · exact absurd d2 (c6 m' w)
      · rcases Nat.lt_or_ge m m' with y | y
        · exact absurd c5 (d3 m y)
        · omega
    rw [this]
theorem v_leader (R : r_All f_blockLimit f_valueLimit f_blockCount f_valueCount f_sealed f_runState f_runForm f_here f_input0 f_input1 f_returned f_evaluated a_valueKind a_valueBlock a_leaf a_args a_exitKind a_exitValue a_exitTrue a_exitFalse a_domMask a_classIndex a_className a_leaderOf a_body a_bodyStart a_bodyOps a_bodyEnd a_env g_maxBlocks g_maxValues g_blocks g_values g_isSealed g_hasRun g_isDone g_runForm g_in0 g_in1 g_at g_answer g_evals b_kind b_block b_left b_right b_arg b_exitKind b_exitX b_exitT b_exitF b_without b_differ b_val) (v1 : Int32) : wpX_leader (fun r => wpY_leader (fun r' => r' = r ∧ i_Rel k (f_blockLimit, f_valueLimit, f_blockCount, f_valueCount, f_sealed, f_classCount, f_workTop, f_touchedCount, f_undoTop, f_runState, f_runForm, f_here, f_input0, f_input1, f_returned, f_evaluated, a_valueKind, a_valueBlock, a_leaf, a_args, a_exitKind, a_exitValue, a_exitTrue, a_exitFalse, a_predMask, a_order, a_orderIndex, a_idom, a_domMask, a_firstChild, a_nextSibling, a_stack, a_cursor, a_members, a_location, a_classIndex, a_classStart, a_classSize, a_classMarked, a_className, a_useHead, a_useNext, a_work, a_inWork, a_splitter, a_touched, a_leaderOf, a_available, a_undo, a_scopeMark, a_body, a_bodyStart, a_bodyOps, a_bodyEnd, a_env, a_phiNew) (g_maxBlocks, g_maxValues, g_blocks, g_values, g_isSealed, g_hasRun, g_isDone, g_runForm, g_in0, g_in1, g_at, g_answer, g_evals, b_kind, b_block, b_left, b_right, b_arg, b_exitKind, b_exitX, b_exitT, b_exitF, b_without, b_differ, b_val, b_fresh)) (g_maxBlocks, g_maxValues, g_blocks, g_values, g_isSealed, g_hasRun, g_isDone, g_runForm, g_in0, g_in1, g_at, g_answer, g_evals, b_kind, b_block, b_left, b_right, b_arg, b_exitKind, b_exitX, b_exitT, b_exitF, b_without, b_differ, b_val, b_fresh) v1) (f_blockLimit, f_valueLimit, f_blockCount, f_valueCount, f_sealed, f_classCount, f_workTop, f_touchedCount, f_undoTop, f_runState, f_runForm, f_here, f_input0, f_input1, f_returned, f_evaluated, a_valueKind, a_valueBlock, a_leaf, a_args, a_exitKind, a_exitValue, a_exitTrue, a_exitFalse, a_predMask, a_order, a_orderIndex, a_idom, a_domMask, a_firstChild, a_nextSibling, a_stack, a_cursor, a_members, a_location, a_classIndex, a_classStart, a_classSize, a_classMarked, a_className, a_useHead, a_useNext, a_work, a_inWork, a_splitter, a_touched, a_leaderOf, a_available, a_undo, a_scopeMark, a_body, a_bodyStart, a_bodyOps, a_bodyEnd, a_env, a_phiNew) v1 := by
  have R0 := R
  obtain ⟨P, W, hX, hY, hB, hZ⟩ := R
  have hv32 := W.2.2.1
  unfold wpX_leader
  refine xs_ve (n := p_v P) (by omega) hB.2.1 (fun no => br_t rfl ?_) (fun v hv ev => br_f (by decide) ?_)
  · unfold wpY_leader
    exact ys_iv (n := p_v P) (by omega) hB.2.2.2.1 (fun _ => br_t rfl ⟨rfl, R0⟩) (fun j hj e => absurd e (no j hj))
  subst ev
  have Y1 : ∀ q : Int32 → Prop, ((g_isSealed = 0 → q (-4)) ∧ (¬ g_isSealed = 0 → wpY_leaderOf (fun r_30 => q r_30) (g_maxBlocks, g_maxValues, g_blocks, g_values, g_isSealed, g_hasRun, g_isDone, g_runForm, g_in0, g_in1, g_at, g_answer, g_evals, b_kind, b_block, b_left, b_right, b_arg, b_exitKind, b_exitX, b_exitT, b_exitF, b_without, b_differ, b_val, b_fresh) (nI v))) → wpY_leader q (g_maxBlocks, g_maxValues, g_blocks, g_values, g_isSealed, g_hasRun, g_isDone, g_runForm, g_in0, g_in1, g_at, g_answer, g_evals, b_kind, b_block, b_left, b_right, b_arg, b_exitKind, b_exitX, b_exitT, b_exitF, b_without, b_differ, b_val, b_fresh) (nI v) := by
    intro q h
    unfold wpY_leader
    exact ys_iv (n := p_v P) (by omega) hB.2.2.2.1 (fun no' => absurd rfl (no' v hv)) (fun _ _ _ => br_f (by decide) h)
  rcases hZ with ⟨z1, z2, z3, z4⟩ | ⟨z1, z2, s1, s, lf, xS, yS, _⟩
  · exact br_t z1 (Y1 _ (br_t z2 ⟨rfl, R0⟩))
  · refine br_f (v_ne0 z1) ⟨vp_in_nI (by omega) (by omega), ?_⟩
    rw [nI_clamp (by omega), (xS.2.2.1 v hv).1]
    exact Y1 _ (br_f (v_ne0 z2) (yk_lead W s hY hB.2.2.2.1 yS.1 yS.2 hv (xS.2.2.1 v hv).2 ⟨rfl, R0⟩))
/-- a run is there on both sides or on none -/
theorem v_runs (R : r_All f_blockLimit f_valueLimit f_blockCount f_valueCount f_sealed f_runState f_runForm f_here f_input0 f_input1 f_returned f_evaluated a_valueKind a_valueBlock a_leaf a_args a_exitKind a_exitValue a_exitTrue a_exitFalse a_domMask a_classIndex a_className a_leaderOf a_body a_bodyStart a_bodyOps a_bodyEnd a_env g_maxBlocks g_maxValues g_blocks g_values g_isSealed g_hasRun g_isDone g_runForm g_in0 g_in1 g_at g_answer g_evals b_kind b_block b_left b_right b_arg b_exitKind b_exitX b_exitT b_exitF b_without b_differ b_val) : (f_runState = 0 ∧ g_hasRun = 0) ∨ (g_hasRun = 1 ∧ ∃ (P : PT) (lf : Nat → Nat), p_W P ∧ p_S1 P ∧ p_S P ∧ p_X P a_valueKind a_valueBlock a_leaf a_args a_exitKind a_exitValue a_exitTrue a_exitFalse ∧ p_Y P b_kind b_block b_left b_right b_arg b_exitKind b_exitX b_exitT b_exitF ∧ r_B P f_blockLimit f_valueLimit f_blockCount f_valueCount g_maxBlocks g_maxValues g_blocks g_values ∧ f_sealed = 1 ∧ g_isSealed = 1 ∧
    x_S P lf a_args a_exitValue a_domMask a_classIndex a_className a_leaderOf a_body a_bodyStart a_bodyOps a_bodyEnd ∧ y_S P b_without b_differ ∧ r_run P lf f_runState f_runForm f_here f_input0 f_input1 f_returned f_evaluated a_env g_isDone g_runForm g_in0 g_in1 g_at g_answer g_evals b_val) := by
  obtain ⟨P, W, hX, hY, hB, hZ⟩ := R
  rcases hZ with ⟨z1, z2, z3, z4⟩ | ⟨z1, z2, s1, s, lf, xS, yS, Q | Q⟩
  · exact Or.inl ⟨z3, z4⟩
  · exact Or.inl Q
  · exact Or.inr ⟨Q.1, P, lf, W, s1, s, hX, hY, hB, z1, z2, xS, yS, Q.2⟩
theorem v_rs {P : PT} {lf : Nat → Nat} {rs rf he i0 i1 rt ev : Int32} {env : Nat → Int32} {dn yrf j0 j1 yat an es : Int32} {val : Nat → Int32} (h : r_run P lf rs rf he i0 i1 rt ev env dn yrf j0 j1 yat an es val) : ¬ rs = 0 := by
  obtain ⟨f, x, _, _, _, _, _, _, _, _, _, c, _⟩ := h
  rcases c with ⟨c, _⟩ | ⟨c, _⟩
  · rw [c]; decide
  · rw [c]; decide
theorem v_place (R : r_All f_blockLimit f_valueLimit f_blockCount f_valueCount f_sealed f_runState f_runForm f_here f_input0 f_input1 f_returned f_evaluated a_valueKind a_valueBlock a_leaf a_args a_exitKind a_exitValue a_exitTrue a_exitFalse a_domMask a_classIndex a_className a_leaderOf a_body a_bodyStart a_bodyOps a_bodyEnd a_env g_maxBlocks g_maxValues g_blocks g_values g_isSealed g_hasRun g_isDone g_runForm g_in0 g_in1 g_at g_answer g_evals b_kind b_block b_left b_right b_arg b_exitKind b_exitX b_exitT b_exitF b_without b_differ b_val) : wpX_place (fun r => wpY_place (fun r' => r' = r ∧ i_Rel k (f_blockLimit, f_valueLimit, f_blockCount, f_valueCount, f_sealed, f_classCount, f_workTop, f_touchedCount, f_undoTop, f_runState, f_runForm, f_here, f_input0, f_input1, f_returned, f_evaluated, a_valueKind, a_valueBlock, a_leaf, a_args, a_exitKind, a_exitValue, a_exitTrue, a_exitFalse, a_predMask, a_order, a_orderIndex, a_idom, a_domMask, a_firstChild, a_nextSibling, a_stack, a_cursor, a_members, a_location, a_classIndex, a_classStart, a_classSize, a_classMarked, a_className, a_useHead, a_useNext, a_work, a_inWork, a_splitter, a_touched, a_leaderOf, a_available, a_undo, a_scopeMark, a_body, a_bodyStart, a_bodyOps, a_bodyEnd, a_env, a_phiNew) (g_maxBlocks, g_maxValues, g_blocks, g_values, g_isSealed, g_hasRun, g_isDone, g_runForm, g_in0, g_in1, g_at, g_answer, g_evals, b_kind, b_block, b_left, b_right, b_arg, b_exitKind, b_exitX, b_exitT, b_exitF, b_without, b_differ, b_val, b_fresh)) (g_maxBlocks, g_maxValues, g_blocks, g_values, g_isSealed, g_hasRun, g_isDone, g_runForm, g_in0, g_in1, g_at, g_answer, g_evals, b_kind, b_block, b_left, b_right, b_arg, b_exitKind, b_exitX, b_exitT, b_exitF, b_without, b_differ, b_val, b_fresh)) (f_blockLimit, f_valueLimit, f_blockCount, f_valueCount, f_sealed, f_classCount, f_workTop, f_touchedCount, f_undoTop, f_runState, f_runForm, f_here, f_input0, f_input1, f_returned, f_evaluated, a_valueKind, a_valueBlock, a_leaf, a_args, a_exitKind, a_exitValue, a_exitTrue, a_exitFalse, a_predMask, a_order, a_orderIndex, a_idom, a_domMask, a_firstChild, a_nextSibling, a_stack, a_cursor, a_members, a_location, a_classIndex, a_classStart, a_classSize, a_classMarked, a_className, a_useHead, a_useNext, a_work, a_inWork, a_splitter, a_touched, a_leaderOf, a_available, a_undo, a_scopeMark, a_body, a_bodyStart, a_bodyOps, a_bodyEnd, a_env, a_phiNew) := by
  rcases v_runs R with ⟨a, b⟩ | ⟨b, P, lf, W, s1, s, hX, hY, hB, z1, z2, xS, yS, Q⟩
  · exact br_t a (br_t b ⟨rfl, R⟩)
  · have n0 := v_rs Q
    obtain ⟨f, h, q1, q2, q3, q4, q5, q6, q7⟩ := Q
    exact br_f n0 (br_f (v_ne0 b) ⟨q6.trans q5.symm, R⟩)
theorem v_evaluations (R : r_All f_blockLimit f_valueLimit f_blockCount f_valueCount f_sealed f_runState f_runForm f_here f_input0 f_input1 f_returned f_evaluated a_valueKind a_valueBlock a_leaf a_args a_exitKind a_exitValue a_exitTrue a_exitFalse a_domMask a_classIndex a_className a_leaderOf a_body a_bodyStart a_bodyOps a_bodyEnd a_env g_maxBlocks g_maxValues g_blocks g_values g_isSealed g_hasRun g_isDone g_runForm g_in0 g_in1 g_at g_answer g_evals b_kind b_block b_left b_right b_arg b_exitKind b_exitX b_exitT b_exitF b_without b_differ b_val) : wpX_evaluations (fun r => wpY_evaluations (fun r' => r' = r ∧ i_Rel k (f_blockLimit, f_valueLimit, f_blockCount, f_valueCount, f_sealed, f_classCount, f_workTop, f_touchedCount, f_undoTop, f_runState, f_runForm, f_here, f_input0, f_input1, f_returned, f_evaluated, a_valueKind, a_valueBlock, a_leaf, a_args, a_exitKind, a_exitValue, a_exitTrue, a_exitFalse, a_predMask, a_order, a_orderIndex, a_idom, a_domMask, a_firstChild, a_nextSibling, a_stack, a_cursor, a_members, a_location, a_classIndex, a_classStart, a_classSize, a_classMarked, a_className, a_useHead, a_useNext, a_work, a_inWork, a_splitter, a_touched, a_leaderOf, a_available, a_undo, a_scopeMark, a_body, a_bodyStart, a_bodyOps, a_bodyEnd, a_env, a_phiNew) (g_maxBlocks, g_maxValues, g_blocks, g_values, g_isSealed, g_hasRun, g_isDone, g_runForm, g_in0, g_in1, g_at, g_answer, g_evals, b_kind, b_block, b_left, b_right, b_arg, b_exitKind, b_exitX, b_exitT, b_exitF, b_without, b_differ, b_val, b_fresh)) (g_maxBlocks, g_maxValues, g_blocks, g_values, g_isSealed, g_hasRun, g_isDone, g_runForm, g_in0, g_in1, g_at, g_answer, g_evals, b_kind, b_block, b_left, b_right, b_arg, b_exitKind, b_exitX, b_exitT, b_exitF, b_without, b_differ, b_val, b_fresh)) (f_blockLimit, f_valueLimit, f_blockCount, f_valueCount, f_sealed, f_classCount, f_workTop, f_touchedCount, f_undoTop, f_runState, f_runForm, f_here, f_input0, f_input1, f_returned, f_evaluated, a_valueKind, a_valueBlock, a_leaf, a_args, a_exitKind, a_exitValue, a_exitTrue, a_exitFalse, a_predMask, a_order, a_orderIndex, a_idom, a_domMask, a_firstChild, a_nextSibling, a_stack, a_cursor, a_members, a_location, a_classIndex, a_classStart, a_classSize, a_classMarked, a_className, a_useHead, a_useNext, a_work, a_inWork, a_splitter, a_touched, a_leaderOf, a_available, a_undo, a_scopeMark, a_body, a_bodyStart, a_bodyOps, a_bodyEnd, a_env, a_phiNew) := by
  rcases v_runs R with ⟨a, b⟩ | ⟨b, P, lf, W, s1, s, hX, hY, hB, z1, z2, xS, yS, Q⟩
  · exact br_t a (br_t b ⟨rfl, R⟩)
  · have n0 := v_rs Q
    obtain ⟨f, h, q1, q2, q3, q4, q5, q6, q7, q8, q9, q10⟩ := Q
    exact br_f n0 (br_f (v_ne0 b) ⟨q9.symm, R⟩)
theorem v_result (R : r_All f_blockLimit f_valueLimit f_blockCount f_valueCount f_sealed f_runState f_runForm f_here f_input0 f_input1 f_returned f_evaluated a_valueKind a_valueBlock a_leaf a_args a_exitKind a_exitValue a_exitTrue a_exitFalse a_domMask a_classIndex a_className a_leaderOf a_body a_bodyStart a_bodyOps a_bodyEnd a_env g_maxBlocks g_maxValues g_blocks g_values g_isSealed g_hasRun g_isDone g_runForm g_in0 g_in1 g_at g_answer g_evals b_kind b_block b_left b_right b_arg b_exitKind b_exitX b_exitT b_exitF b_without b_differ b_val) : wpX_result (fun r => wpY_result (fun r' => r' = r ∧ i_Rel k (f_blockLimit, f_valueLimit, f_blockCount, f_valueCount, f_sealed, f_classCount, f_workTop, f_touchedCount, f_undoTop, f_runState, f_runForm, f_here, f_input0, f_input1, f_returned, f_evaluated, a_valueKind, a_valueBlock, a_leaf, a_args, a_exitKind, a_exitValue, a_exitTrue, a_exitFalse, a_predMask, a_order, a_orderIndex, a_idom, a_domMask, a_firstChild, a_nextSibling, a_stack, a_cursor, a_members, a_location, a_classIndex, a_classStart, a_classSize, a_classMarked, a_className, a_useHead, a_useNext, a_work, a_inWork, a_splitter, a_touched, a_leaderOf, a_available, a_undo, a_scopeMark, a_body, a_bodyStart, a_bodyOps, a_bodyEnd, a_env, a_phiNew) (g_maxBlocks, g_maxValues, g_blocks, g_values, g_isSealed, g_hasRun, g_isDone, g_runForm, g_in0, g_in1, g_at, g_answer, g_evals, b_kind, b_block, b_left, b_right, b_arg, b_exitKind, b_exitX, b_exitT, b_exitF, b_without, b_differ, b_val, b_fresh)) (g_maxBlocks, g_maxValues, g_blocks, g_values, g_isSealed, g_hasRun, g_isDone, g_runForm, g_in0, g_in1, g_at, g_answer, g_evals, b_kind, b_block, b_left, b_right, b_arg, b_exitKind, b_exitX, b_exitT, b_exitF, b_without, b_differ, b_val, b_fresh)) (f_blockLimit, f_valueLimit, f_blockCount, f_valueCount, f_sealed, f_classCount, f_workTop, f_touchedCount, f_undoTop, f_runState, f_runForm, f_here, f_input0, f_input1, f_returned, f_evaluated, a_valueKind, a_valueBlock, a_leaf, a_args, a_exitKind, a_exitValue, a_exitTrue, a_exitFalse, a_predMask, a_order, a_orderIndex, a_idom, a_domMask, a_firstChild, a_nextSibling, a_stack, a_cursor, a_members, a_location, a_classIndex, a_classStart, a_classSize, a_classMarked, a_className, a_useHead, a_useNext, a_work, a_inWork, a_splitter, a_touched, a_leaderOf, a_available, a_undo, a_scopeMark, a_body, a_bodyStart, a_bodyOps, a_bodyEnd, a_env, a_phiNew) := by
  rcases v_runs R with ⟨a, b⟩ | ⟨b, P, lf, W, s1, s, hX, hY, hB, z1, z2, xS, yS, Q⟩
  · exact br_f (by rw [a]; decide) (br_t b ⟨rfl, R⟩)
  · obtain ⟨f, h, q1, q2, q3, q4, q5, q6, q7, q8, q9, q10, _⟩ := Q
    rcases q10 with ⟨c1, c2⟩ | ⟨c1, c2, c3⟩
    · exact br_f (by rw [c1]; decide) (br_f (v_ne0 b) (br_t c2 ⟨rfl, R⟩))
    · exact br_t c1 (br_f (v_ne0 b) (br_f (v_ne0 c2) ⟨by rw [c3], R⟩))
theorem v_value (R : r_All f_blockLimit f_valueLimit f_blockCount f_valueCount f_sealed f_runState f_runForm f_here f_input0 f_input1 f_returned f_evaluated a_valueKind a_valueBlock a_leaf a_args a_exitKind a_exitValue a_exitTrue a_exitFalse a_domMask a_classIndex a_className a_leaderOf a_body a_bodyStart a_bodyOps a_bodyEnd a_env g_maxBlocks g_maxValues g_blocks g_values g_isSealed g_hasRun g_isDone g_runForm g_in0 g_in1 g_at g_answer g_evals b_kind b_block b_left b_right b_arg b_exitKind b_exitX b_exitT b_exitF b_without b_differ b_val) (v1 : Int32) : wpX_value (fun r => wpY_value (fun r' => r' = r ∧ i_Rel k (f_blockLimit, f_valueLimit, f_blockCount, f_valueCount, f_sealed, f_classCount, f_workTop, f_touchedCount, f_undoTop, f_runState, f_runForm, f_here, f_input0, f_input1, f_returned, f_evaluated, a_valueKind, a_valueBlock, a_leaf, a_args, a_exitKind, a_exitValue, a_exitTrue, a_exitFalse, a_predMask, a_order, a_orderIndex, a_idom, a_domMask, a_firstChild, a_nextSibling, a_stack, a_cursor, a_members, a_location, a_classIndex, a_classStart, a_classSize, a_classMarked, a_className, a_useHead, a_useNext, a_work, a_inWork, a_splitter, a_touched, a_leaderOf, a_available, a_undo, a_scopeMark, a_body, a_bodyStart, a_bodyOps, a_bodyEnd, a_env, a_phiNew) (g_maxBlocks, g_maxValues, g_blocks, g_values, g_isSealed, g_hasRun, g_isDone, g_runForm, g_in0, g_in1, g_at, g_answer, g_evals, b_kind, b_block, b_left, b_right, b_arg, b_exitKind, b_exitX, b_exitT, b_exitF, b_without, b_differ, b_val, b_fresh)) (g_maxBlocks, g_maxValues, g_blocks, g_values, g_isSealed, g_hasRun, g_isDone, g_runForm, g_in0, g_in1, g_at, g_answer, g_evals, b_kind, b_block, b_left, b_right, b_arg, b_exitKind, b_exitX, b_exitT, b_exitF, b_without, b_differ, b_val, b_fresh) v1) (f_blockLimit, f_valueLimit, f_blockCount, f_valueCount, f_sealed, f_classCount, f_workTop, f_touchedCount, f_undoTop, f_runState, f_runForm, f_here, f_input0, f_input1, f_returned, f_evaluated, a_valueKind, a_valueBlock, a_leaf, a_args, a_exitKind, a_exitValue, a_exitTrue, a_exitFalse, a_predMask, a_order, a_orderIndex, a_idom, a_domMask, a_firstChild, a_nextSibling, a_stack, a_cursor, a_members, a_location, a_classIndex, a_classStart, a_classSize, a_classMarked, a_className, a_useHead, a_useNext, a_work, a_inWork, a_splitter, a_touched, a_leaderOf, a_available, a_undo, a_scopeMark, a_body, a_bodyStart, a_bodyOps, a_bodyEnd, a_env, a_phiNew) v1 := by
  have eb : ∃ n, n ≤ 32 ∧ f_valueCount = nI n ∧ g_values = nI n := by
    obtain ⟨P, W, hX, hY, hB, hZ⟩ := R
    exact ⟨p_v P, W.2.2.1, hB.2.1, hB.2.2.2.1⟩
  obtain ⟨n, hn, en1, en2⟩ := eb
  unfold wpX_value
  refine xs_ve (n := n) (by omega) en1 (fun no => br_t rfl ?_) (fun v hv ev => br_f (by decide) ?_)
  · unfold wpY_value
    exact ys_iv (n := n) (by omega) en2 (fun _ => br_t rfl ⟨rfl, R⟩) (fun j hj e => absurd e (no j hj))
  subst ev
  have Y1 : ∀ q : Int64 → Prop, ((g_hasRun = 0 → q 4294967296) ∧ (¬ g_hasRun = 0 → vp_in (nI v) 32 ∧ wpY_dom (fun r_31 => (r_31 = 0 → q 4294967296) ∧ (¬ r_31 = 0 → vp_in (nI v) 32 ∧ q (b_val (nI v).toNatClampNeg).toInt64)) (g_maxBlocks, g_maxValues, g_blocks, g_values, g_isSealed, g_hasRun, g_isDone, g_runForm, g_in0, g_in1, g_at, g_answer, g_evals, b_kind, b_block, b_left, b_right, b_arg, b_exitKind, b_exitX, b_exitT, b_exitF, b_without, b_differ, b_val, b_fresh) (b_block (nI v).toNatClampNeg) g_at)) → wpY_value q (g_maxBlocks, g_maxValues, g_blocks, g_values, g_isSealed, g_hasRun, g_isDone, g_runForm, g_in0, g_in1, g_at, g_answer, g_evals, b_kind, b_block, b_left, b_right, b_arg, b_exitKind, b_exitX, b_exitT, b_exitF, b_without, b_differ, b_val, b_fresh) (nI v) := by
    intro q h
    unfold wpY_value
    exact ys_iv (n := n) (by omega) en2 (fun no' => absurd rfl (no' v hv)) (fun _ _ _ => br_f (by decide) h)
  rcases v_runs R with ⟨a, b⟩ | ⟨b, P, lf, W, s1, s, hX, hY, hB, z1, z2, xS, yS, Q⟩
  · exact br_t a (Y1 _ (br_t b ⟨rfl, R⟩))
  · have hnv : n = p_v P := (nI_eq (by omega) (by have := W.2.2.1; omega)).mp (en1.symm.trans hB.2.1)
    subst hnv
    have hb8 := W.2.1
    have n0 := v_rs Q
    obtain ⟨f, h, q1, q2, q3, q4, q5, q6, q7, q8, q9, q10, q11, q12, q13⟩ := Q
    subst q5 q6
    have hBv := (W.2.2.2.1 v hv).2.1
    have V : vp_in (nI v) 32 := vp_in_nI (by omega) (by omega)
    have hm := xS.1 h q2 (p_B P v) (by omega)
    have G := r_Gok W s (fun x hx => (xS.2.2.1 x hx).2) q1
    have Y2 : ∀ q : Int64 → Prop, (¬ p_D P (p_B P v) h → q 4294967296) → (p_D P (p_B P v) h → q (b_val v).toInt64) → wpY_value q (g_maxBlocks, g_maxValues, g_blocks, g_values, g_isSealed, g_hasRun, g_isDone, g_runForm, g_in0, g_in1, nI h, g_answer, g_evals, b_kind, b_block, b_left, b_right, b_arg, b_exitKind, b_exitX, b_exitT, b_exitF, b_without, b_differ, b_val, b_fresh) (nI v) := by
      intro q g0 g1
      refine Y1 q (br_f (v_ne0 b) ⟨V, ?_⟩)
      rw [nI_clamp (by omega), hY.2.1 v hv]
      exact yr_dom W yS.1 hBv q2 (fun d => br_f (by decide) ⟨V, g1 d⟩) (fun d => br_t rfl (g0 d))
    refine br_f n0 ⟨V, ?_⟩
    rw [nI_clamp (by omega), hX.2.1 v hv]
    refine xs_id (by omega) (by omega) (fun e => br_t rfl (Y2 _ (fun _ => ⟨rfl, R⟩) (fun d => ?_))) (fun e => br_f (by decide) ?_)
    · rw [hm.mpr d] at e; cases e
    · have d := hm.mp e
      have rd : a_env (r_g lf f v) = b_val v := rn_rd (p_RH W s) G q11 q13 hv d
      refine pk_eq f 1 (fun ef => ⟨V, ?_⟩) (fun ef => ⟨V, ?_⟩) (hx := q3)
      · have hl := xS.2.2.1 v hv
        have hlv := hl.2.1
        rw [ef, r_g1] at rd
        rw [hl.1]
        refine ⟨vp_in_nI (by omega) (by omega), ?_⟩
        rw [nI_clamp (by omega), rd]
        exact Y2 _ (fun z => absurd d z) (fun _ => ⟨rfl, R⟩)
      · have e0 : f = 0 := by omega
        rw [e0, r_g0] at rd
        have rd' : a_env v = b_val v := rd
        rw [rd']
        exact Y2 _ (fun z => absurd d z) (fun _ => ⟨rfl, R⟩)
end VR
end
section
/-! start and run: both sides -/
theorem r_kok {P : PT} {lf : Nat → Nat} {f : Nat} (hf : f < 2) (hl : ∀ x, x < p_v P → ld_V (p_v P) (p_D P) (p_B P) (p_q P x) (p_B P x) (lf x)) : yb_k P f (r_g lf f) := by
  rcases (by omega : f = 0 ∨ f = 1) with e | e
  · subst e; rw [r_g0]; exact Or.inl ⟨rfl, fun _ => rfl⟩
  · subst e; rw [r_g1]; exact Or.inr ⟨rfl, hl⟩
/-- one block more, pure -/
theorem r_mv {P : PT} {g : Nat → Nat} {S' : Nat → Prop} {h t : Nat} {i0 i1 : Int32} {env env' val val' : Nat → Int32} (W : p_W P) (S : p_S P) (G : rn_G (p_v P) (p_B P) (p_q P) (p_D P) g) (hS : ∀ a, p_D P a t → a ≠ t → S' a) (hph : ∀ v, v < p_v P → p_B P v = t → p_K P v = 2 → h < 8 ∧ ∃ x, p_A P v h = some x ∧ S' (p_B P x))
    (h1 : rn_1 (p_v P) (p_B P) (p_q P) S' val) (h2 : rn_2 (p_v P) (p_K P) (p_B P) (p_L P) (p_A P) i0 i1 S' val) (R : ∀ v, v < p_v P → S' (p_B P v) → g v = v → env v = val v) (rd : ∀ x, x < p_v P → S' (p_B P x) → env (g x) = val x)
    (X : rn_X (p_v P) (p_K P) (p_B P) (p_L P) (p_A P) (fun _ => True) i0 i1 h t val val') (Z : rn_X (p_v P) (p_K P) (p_B P) (p_L P) (fun v i => rn_m g (p_A P v i)) (fun v => g v = v) i0 i1 h t env env') :
    rn_1 (p_v P) (p_B P) (p_q P) (fun a => p_D P a t) val' ∧ rn_2 (p_v P) (p_K P) (p_B P) (p_L P) (p_A P) i0 i1 (fun a => p_D P a t) val' ∧ ∀ v, v < p_v P → p_D P (p_B P v) t → g v = v → env' v = val' v := by
  have H := p_RH W S
  obtain ⟨a, b⟩ := rn_val H hS hph h1 h2 X
  refine ⟨a, b, rn_env H G hS (fun v hv hB hk => ?_) R X Z a⟩
  obtain ⟨hh, x, ex, sx⟩ := hph v hv hB hk
  exact ⟨hh, x, ex, rd x (H.2.2.1 v h x hv hh ex).1 sx⟩
section VS
variable {f_blockLimit f_valueLimit f_blockCount f_valueCount f_sealed f_classCount f_workTop f_touchedCount f_undoTop f_runState f_runForm f_here f_input0 f_input1 f_returned f_evaluated : Int32} {a_valueKind a_valueBlock a_leaf a_args a_exitKind a_exitValue a_exitTrue a_exitFalse a_predMask a_order a_orderIndex a_idom a_domMask a_firstChild a_nextSibling a_stack a_cursor a_members a_location a_classIndex a_classStart a_classSize a_classMarked a_className a_useHead a_useNext a_work a_inWork a_splitter a_touched a_leaderOf a_available a_undo a_scopeMark a_body a_bodyStart a_bodyOps a_bodyEnd a_env a_phiNew : Nat → Int32} {g_maxBlocks g_maxValues g_blocks g_values g_isSealed g_hasRun g_isDone g_runForm g_in0 g_in1 g_at g_answer g_evals : Int32} {b_kind b_block b_left b_right b_arg b_exitKind b_exitX b_exitT b_exitF b_without b_differ b_val b_fresh : Nat → Int32} {P : PT} {k : Nat}
theorem v_start (R : r_All f_blockLimit f_valueLimit f_blockCount f_valueCount f_sealed f_runState f_runForm f_here f_input0 f_input1 f_returned f_evaluated a_valueKind a_valueBlock a_leaf a_args a_exitKind a_exitValue a_exitTrue a_exitFalse a_domMask a_classIndex a_className a_leaderOf a_body a_bodyStart a_bodyOps a_bodyEnd a_env g_maxBlocks g_maxValues g_blocks g_values g_isSealed g_hasRun g_isDone g_runForm g_in0 g_in1 g_at g_answer g_evals b_kind b_block b_left b_right b_arg b_exitKind b_exitX b_exitT b_exitF b_without b_differ b_val) (v1 v2 v3 : Int32) : wpX_start (fun r u' => wpY_start (fun r' v' => r' = r ∧ i_Rel k u' v') (g_maxBlocks, g_maxValues, g_blocks, g_values, g_isSealed, g_hasRun, g_isDone, g_runForm, g_in0, g_in1, g_at, g_answer, g_evals, b_kind, b_block, b_left, b_right, b_arg, b_exitKind, b_exitX, b_exitT, b_exitF, b_without, b_differ, b_val, b_fresh) v1 v2 v3) (f_blockLimit, f_valueLimit, f_blockCount, f_valueCount, f_sealed, f_classCount, f_workTop, f_touchedCount, f_undoTop, f_runState, f_runForm, f_here, f_input0, f_input1, f_returned, f_evaluated, a_valueKind, a_valueBlock, a_leaf, a_args, a_exitKind, a_exitValue, a_exitTrue, a_exitFalse, a_predMask, a_order, a_orderIndex, a_idom, a_domMask, a_firstChild, a_nextSibling, a_stack, a_cursor, a_members, a_location, a_classIndex, a_classStart, a_classSize, a_classMarked, a_className, a_useHead, a_useNext, a_work, a_inWork, a_splitter, a_touched, a_leaderOf, a_available, a_undo, a_scopeMark, a_body, a_bodyStart, a_bodyOps, a_bodyEnd, a_env, a_phiNew) v1 v2 v3 := by
  have R0 := R
  obtain ⟨P, W, hX, hY, hB, hZ⟩ := R
  have hb8 := W.2.1
  have hb1 := W.1
  unfold wpX_start
  refine xs_if (fun no => br_t rfl ?_) (fun f hf ef => br_f (by decide) ?_)
  · unfold wpY_start
    exact ys_if (fun _ => br_t rfl ⟨rfl, R0⟩) (fun j hj e => absurd e (no j hj))
  subst ef
  have Y1 : ∀ q : Int32 → SY → Prop, ((g_isSealed = 0 → q (-4) (g_maxBlocks, g_maxValues, g_blocks, g_values, g_isSealed, g_hasRun, g_isDone, g_runForm, g_in0, g_in1, g_at, g_answer, g_evals, b_kind, b_block, b_left, b_right, b_arg, b_exitKind, b_exitX, b_exitT, b_exitF, b_without, b_differ, b_val, b_fresh)) ∧ (¬ g_isSealed = 0 → wpY_body (fun u => match u with | (g_maxBlocks, g_maxValues, g_blocks, g_values, g_isSealed, g_hasRun, g_isDone, g_runForm, g_in0, g_in1, g_at, g_answer, g_evals, b_kind, b_block, b_left, b_right, b_arg, b_exitKind, b_exitX, b_exitT, b_exitF, b_without, b_differ, b_val, b_fresh) => q 1 (g_maxBlocks, g_maxValues, g_blocks, g_values, g_isSealed, g_hasRun, g_isDone, g_runForm, g_in0, g_in1, g_at, g_answer, g_evals, b_kind, b_block, b_left, b_right, b_arg, b_exitKind, b_exitX, b_exitT, b_exitF, b_without, b_differ, b_val, b_fresh)) (g_maxBlocks, g_maxValues, g_blocks, g_values, g_isSealed, 1, 0, nI f, v2, v3, g_at, g_answer, 0, b_kind, b_block, b_left, b_right, b_arg, b_exitKind, b_exitX, b_exitT, b_exitF, b_without, b_differ, b_val, b_fresh) 0 0)) → wpY_start q (g_maxBlocks, g_maxValues, g_blocks, g_values, g_isSealed, g_hasRun, g_isDone, g_runForm, g_in0, g_in1, g_at, g_answer, g_evals, b_kind, b_block, b_left, b_right, b_arg, b_exitKind, b_exitX, b_exitT, b_exitF, b_without, b_differ, b_val, b_fresh) (nI f) v2 v3 := by
    intro q h
    unfold wpY_start
    exact ys_if (fun no' => absurd rfl (no' f hf)) (fun _ _ _ => br_f (by decide) h)
  rcases hZ with ⟨z1, z2, z3, z4⟩ | ⟨z1, z2, s1, s, lf, xS, yS, _⟩
  · exact br_t z1 (Y1 _ (br_t z2 ⟨rfl, R0⟩))
  · have hl : ∀ x, x < p_v P → ld_V (p_v P) (p_D P) (p_B P) (p_q P x) (p_B P x) (lf x) := fun x hx => (xS.2.2.1 x hx).2
    have F := r_Fok W s hX xS hf
    have G := r_Gok W s hl hf
    have nph : ∀ v, v < p_v P → p_B P v = 0 → p_K P v = 2 → False := fun v hv hB0 hk => ((W.2.2.2.1 v hv).2.2.2.2.1 hk).1 hB0
    refine br_f (v_ne0 z1) (xq_ops (f := f) (g := r_g lf f) (b := 0) W hX F rfl (by omega) (fun env' O => Y1 _ (br_f (v_ne0 z2) ?_)))
    refine yb_body (f := f) (h := 0) (b := 0) W s hY hB.2.2.2.1 yS (by omega) (by omega) (fun v hv hB0 hk => (nph v hv hB0 hk).elim) (r_kok hf hl) rfl ⟨rfl, ?_⟩
    have Xv := yb_X (P := P) (i0 := v2) (i1 := v3) (h := 0) (b := 0) (e := b_val) (fr := b_fresh) (fun w i x hw hk hi ea => ((p_RH W s).2.2.1 w i x hw hi ea).2.1 hk |>.1)
    have Zv : rn_X (p_v P) (p_K P) (p_B P) (p_L P) (fun v i => rn_m (r_g lf f) (p_A P v i)) (fun v => r_g lf f v = v) v2 v3 0 0 a_env env' := fun v hv => ⟨fun hB0 _ hk => (nph v hv hB0 hk).elim, fun hB0 hg hk => O.1 v hv ⟨hv, hB0, ⟨fun z => absurd z hk, fun z => (by cases z)⟩, hg⟩, fun hn => O.2 v (fun z => hn ⟨z.2.2.1, z.2.2.2.2⟩)⟩
    obtain ⟨m1, m2, m3⟩ := r_mv (S' := fun _ => False) W s G (fun a hd hn => absurd (gr_D_to0 hd) hn) (fun v hv hB0 hk => (nph v hv hB0 hk).elim) (fun u v _ _ _ z => z.elim) (fun v _ _ z => z.elim) (fun v _ z => z.elim) (fun x _ z => z.elim) Xv Zv
    refine ⟨P, W, hX, hY, hB, Or.inr ⟨z1, z2, s1, s, lf, xS, yS, Or.inr ⟨rfl, f, 0, hf, by omega, rfl, rfl, rfl, rfl, rfl, rfl, ?_, Or.inl ⟨rfl, rfl⟩, m1, m2, m3⟩⟩⟩
    rw [xq_cnt, cn_none (P := bo_p P (fun v => r_g lf f v = v) 0 true) (fun v hv z => nph v hv z.1 (z.2.1.mpr rfl)), Nat.zero_add]
theorem v_y151 {q : Int32 → SY → Prop} {rs : Int32} (h : (rs = 1 ∧ g_isDone = 0) ∨ (rs = 2 ∧ g_isDone = 1)) (hq : q rs (g_maxBlocks, g_maxValues, g_blocks, g_values, g_isSealed, g_hasRun, g_isDone, g_runForm, g_in0, g_in1, g_at, g_answer, g_evals, b_kind, b_block, b_left, b_right, b_arg, b_exitKind, b_exitX, b_exitT, b_exitF, b_without, b_differ, b_val, b_fresh)) : wY_run_151 q g_maxBlocks g_maxValues g_blocks g_values g_isSealed g_hasRun g_isDone g_runForm g_in0 g_in1 g_at g_answer g_evals b_kind b_block b_left b_right b_arg b_exitKind b_exitX b_exitT b_exitF b_without b_differ b_val b_fresh := by
  unfold wY_run_151
  rcases h with ⟨a, b⟩ | ⟨a, b⟩
  · rw [a] at hq; exact br_t b hq
  · rw [a] at hq; exact br_f (v_ne0 b) hq
theorem v_yret {q : Int32 → SY → Prop} {m i n h x : Nat} (W : p_W P) (hY : p_Y P b_kind b_block b_left b_right b_arg b_exitKind b_exitX b_exitT b_exitF) (hm : m < 2 ^ 31) (hi : i < 128) (him : i < m) (hd : g_isDone = 0) (hh : h < p_b P) (eh : g_at = nI h) (e3 : p_e P h = 3) (ex : p_x P h = some x)
    (K : wY_run_20 q (nI m) n (nI (i + 1)) g_maxBlocks g_maxValues g_blocks g_values g_isSealed g_hasRun 1 g_runForm g_in0 g_in1 g_at (b_val x) g_evals b_kind b_block b_left b_right b_arg b_exitKind b_exitX b_exitT b_exitF b_without b_differ b_val b_fresh) : wY_run_20 q (nI m) (n + 1) (nI i) g_maxBlocks g_maxValues g_blocks g_values g_isSealed g_hasRun g_isDone g_runForm g_in0 g_in1 g_at g_answer g_evals b_kind b_block b_left b_right b_arg b_exitKind b_exitX b_exitT b_exitF b_without b_differ b_val b_fresh := by
  have hb8 := W.2.1
  have hv32 := W.2.2.1
  have hx := (W.2.2.2.2 h hh).2.1 x ex
  have V : vp_in g_at 8 := by rw [eh]; exact vp_in_nI (by omega) (by omega)
  have ce : g_at.toNatClampNeg = h := by rw [eh]; exact nI_clamp (by omega)
  rw [wY_run_20]
  refine br_f (nI_ge (b := 128) hi (by decide)) (br_f (nI_ge him hm) (br_t hd ⟨V, ?_⟩))
  rw [ce, hY.2.2.2.2.2.2.1 h hh, e3]
  refine br_t rfl ⟨V, ?_⟩
  rw [hY.2.2.2.2.2.2.2.1 h hh (Or.inr e3), ex]
  exact ⟨vp_in_nI (n := x) (by omega) (by omega), ba_rd x rfl (by omega) rfl (nm_r (nI_1 i) K)⟩
theorem v_ymv {q : Int32 → SY → Prop} {m i n h t f : Nat} {g : Nat → Nat} (W : p_W P) (S : p_S P) (hY : p_Y P b_kind b_block b_left b_right b_arg b_exitKind b_exitX b_exitT b_exitF) (ev : g_values = nI (p_v P)) (yS : y_S P b_without b_differ) (hk : yb_k P f g) (ef : g_runForm = nI f) (hm : m < 2 ^ 31) (hi : i < 128) (him : i < m) (hd : g_isDone = 0) (hh : h < p_b P) (eh : g_at = nI h)
    (hc : (p_e P h = 1 ∧ p_t P h = some t) ∨ (p_e P h = 2 ∧ ∃ x, p_x P h = some x ∧ ((b_val x = 0 ∧ p_f P h = some t) ∨ (b_val x ≠ 0 ∧ p_t P h = some t))))
    (K : wY_run_20 q (nI m) n (nI (i + 1)) g_maxBlocks g_maxValues g_blocks g_values g_isSealed g_hasRun g_isDone g_runForm g_in0 g_in1 (nI t) g_answer (g_evals + nI (cn (fun v => p_B P v = t ∧ g v = v) (p_v P))) b_kind b_block b_left b_right b_arg b_exitKind b_exitX b_exitT b_exitF b_without b_differ (yb_vl P g_in0 g_in1 h t b_val b_fresh) (yb_fr P h t b_val b_fresh)) : wY_run_20 q (nI m) (n + 1) (nI i) g_maxBlocks g_maxValues g_blocks g_values g_isSealed g_hasRun g_isDone g_runForm g_in0 g_in1 g_at g_answer g_evals b_kind b_block b_left b_right b_arg b_exitKind b_exitX b_exitT b_exitF b_without b_differ b_val b_fresh := by
  have hb8 := W.2.1
  have hv32 := W.2.2.1
  obtain ⟨w1, w2, w3, w4, w5, w6, w7⟩ := W.2.2.2.2 h hh
  have V : vp_in g_at 8 := by rw [eh]; exact vp_in_nI (by omega) (by omega)
  have ce : g_at.toNatClampNeg = h := by rw [eh]; exact nI_clamp (by omega)
  have hE : p_E P h t := by
    refine ⟨hh, ?_⟩
    rcases hc with ⟨_, e⟩ | ⟨_, x, _, ⟨_, e⟩ | ⟨_, e⟩⟩
    · exact Or.inl e
    · exact Or.inr e
    · exact Or.inl e
  have htb := (p_Elt W hE).2
  have hph : ∀ v, v < p_v P → p_B P v = t → p_K P v = 2 → ∃ x, p_A P v h = some x := by
    intro v hv hB hk2
    cases ea : p_A P v h with
    | some x => exact ⟨x, rfl⟩
    | none => exact absurd ea ((S.2.1 v hv hk2 h hh).mpr (by rw [hB]; exact hE))
  have B1 : wpY_body (fun u => match u with | (g_maxBlocks, g_maxValues, g_blocks, g_values, g_isSealed, g_hasRun, g_isDone, g_runForm, g_in0, g_in1, g_at, g_answer, g_evals, b_kind, b_block, b_left, b_right, b_arg, b_exitKind, b_exitX, b_exitT, b_exitF, b_without, b_differ, b_val, b_fresh) => ∀ x2, x2 = nI i + 1 → wY_run_20 q (nI m) n x2 g_maxBlocks g_maxValues g_blocks g_values g_isSealed g_hasRun g_isDone g_runForm g_in0 g_in1 g_at g_answer g_evals b_kind b_block b_left b_right b_arg b_exitKind b_exitX b_exitT b_exitF b_without b_differ b_val b_fresh) (g_maxBlocks, g_maxValues, g_blocks, g_values, g_isSealed, g_hasRun, g_isDone, g_runForm, g_in0, g_in1, g_at, g_answer, g_evals, b_kind, b_block, b_left, b_right, b_arg, b_exitKind, b_exitX, b_exitT, b_exitF, b_without, b_differ, b_val, b_fresh) g_at (nI t) := by
    rw [eh]
    exact yb_body (g_at := nI h) W S hY ev yS hh htb hph hk ef (nm_r (nI_1 i) K)
  rw [wY_run_20]
  refine br_f (nI_ge (b := 128) hi (by decide)) (br_f (nI_ge him hm) (br_t hd ⟨V, ?_⟩))
  rw [ce, hY.2.2.2.2.2.2.1 h hh]
  have T : (p_e P h = 1 ∨ p_e P h = 2) → p_t P h = some t → wY_run_128 q (wY_run_20 q (nI m) n) (nI m) (nI i) g_maxBlocks g_maxValues g_blocks g_values g_isSealed g_hasRun g_isDone g_runForm g_in0 g_in1 g_at g_answer g_evals b_kind b_block b_left b_right b_arg b_exitKind b_exitX b_exitT b_exitF b_without b_differ b_val b_fresh := by
    intro hk2 et
    unfold wY_run_128
    refine ⟨V, ?_⟩
    rw [ce, hY.2.2.2.2.2.2.2.2.1 h hh hk2, et]
    exact B1
  rcases hc with ⟨e1, et⟩ | ⟨e2, x, ex, hx⟩
  · exact pk_eq (p_e P h) 3 (fun z => by omega) (fun _ => ⟨V, pk_eq (p_e P h) 2 (fun z => by omega) (fun _ => T (Or.inl e1) et)⟩)
  · have hxv := w2 x ex
    refine pk_eq (p_e P h) 3 (fun z => by omega) (fun _ => ⟨V, pk_eq (p_e P h) 2 (fun _ => ⟨V, ?_⟩) (fun z => absurd e2 z)⟩)
    rw [hY.2.2.2.2.2.2.2.1 h hh (Or.inl e2), ex]
    refine ⟨vp_in_nI (n := x) (by omega) (by omega), ?_⟩
    rw [show ba_o (some x) = nI x from rfl, nI_clamp (by omega)]
    rcases hx with ⟨z0, efl⟩ | ⟨z0, et⟩
    · refine br_t z0 ⟨V, ?_⟩
      rw [hY.2.2.2.2.2.2.2.2.2 h hh e2, efl]
      exact B1
    · exact br_f z0 (T (Or.inr e2) et)
theorem v_loop {postX : Int32 → SX → Prop} {Q : (Int32 → SY → Prop) → Prop} {lf : Nat → Nat} {lim m : Nat} (W : p_W P) (s1 : p_S1 P) (s : p_S P) (hX : p_X P a_valueKind a_valueBlock a_leaf a_args a_exitKind a_exitValue a_exitTrue a_exitFalse) (hY : p_Y P b_kind b_block b_left b_right b_arg b_exitKind b_exitX b_exitT b_exitF) (ev : g_values = nI (p_v P))
    (xS : x_S P lf a_args a_exitValue a_domMask a_classIndex a_className a_leaderOf a_body a_bodyStart a_bodyOps a_bodyEnd) (yS : y_S P b_without b_differ) (hm : m < 2 ^ 31) (hl1 : lim ≤ 128) (hl2 : lim ≤ m) (hl3 : lim = 128 ∨ lim = m)
    (HF : ∀ (f_runState f_here f_returned f_evaluated : Int32) (a_env a_phiNew : Nat → Int32) (g_isDone g_at g_answer g_evals : Int32) (b_val b_fresh : Nat → Int32), r_run P lf f_runState f_runForm f_here f_input0 f_input1 f_returned f_evaluated a_env g_isDone g_runForm g_in0 g_in1 g_at g_answer g_evals b_val → (∀ q : Int32 → SY → Prop, q f_runState (g_maxBlocks, g_maxValues, g_blocks, g_values, g_isSealed, g_hasRun, g_isDone, g_runForm, g_in0, g_in1, g_at, g_answer, g_evals, b_kind, b_block, b_left, b_right, b_arg, b_exitKind, b_exitX, b_exitT, b_exitF, b_without, b_differ, b_val, b_fresh) → Q q) → postX f_runState (f_blockLimit, f_valueLimit, f_blockCount, f_valueCount, f_sealed, f_classCount, f_workTop, f_touchedCount, f_undoTop, f_runState, f_runForm, f_here, f_input0, f_input1, f_returned, f_evaluated, a_valueKind, a_valueBlock, a_leaf, a_args, a_exitKind, a_exitValue, a_exitTrue, a_exitFalse, a_predMask, a_order, a_orderIndex, a_idom, a_domMask, a_firstChild, a_nextSibling, a_stack, a_cursor, a_members, a_location, a_classIndex, a_classStart, a_classSize, a_classMarked, a_className, a_useHead, a_useNext, a_work, a_inWork, a_splitter, a_touched, a_leaderOf, a_available, a_undo, a_scopeMark, a_body, a_bodyStart, a_bodyOps, a_bodyEnd, a_env, a_phiNew)) :
    ∀ (d i : Nat) (f_runState f_here f_returned f_evaluated : Int32) (a_env a_phiNew : Nat → Int32) (g_isDone g_at g_answer g_evals : Int32) (b_val b_fresh : Nat → Int32), i + d = lim → r_run P lf f_runState f_runForm f_here f_input0 f_input1 f_returned f_evaluated a_env g_isDone g_runForm g_in0 g_in1 g_at g_answer g_evals b_val →
      (∀ q : Int32 → SY → Prop, wY_run_20 q (nI m) (d + 1) (nI i) g_maxBlocks g_maxValues g_blocks g_values g_isSealed g_hasRun g_isDone g_runForm g_in0 g_in1 g_at g_answer g_evals b_kind b_block b_left b_right b_arg b_exitKind b_exitX b_exitT b_exitF b_without b_differ b_val b_fresh → Q q) → wX_run_43 postX (nI lim) (d + 1) (nI i) f_blockLimit f_valueLimit f_blockCount f_valueCount f_sealed f_classCount f_workTop f_touchedCount f_undoTop f_runState f_runForm f_here f_input0 f_input1 f_returned f_evaluated a_valueKind a_valueBlock a_leaf a_args a_exitKind a_exitValue a_exitTrue a_exitFalse a_predMask a_order a_orderIndex a_idom a_domMask a_firstChild a_nextSibling a_stack a_cursor a_members a_location a_classIndex a_classStart a_classSize a_classMarked a_className a_useHead a_useNext a_work a_inWork a_splitter a_touched a_leaderOf a_available a_undo a_scopeMark a_body a_bodyStart a_bodyOps a_bodyEnd a_env a_phiNew := by
  have hb8 := W.2.1
  have hlf : ∀ x, x < p_v P → ld_V (p_v P) (p_D P) (p_B P) (p_q P x) (p_B P x) (lf x) := fun x hx => (xS.2.2.1 x hx).2
  intro d
  induction d with
  | zero =>
    intro i f_runState f_here f_returned f_evaluated a_env a_phiNew g_isDone g_at g_answer g_evals b_val b_fresh hi Rn CY
    have e : i = lim := by omega
    subst e
    rw [wX_run_43]
    refine br_t (Int32.le_refl _) (HF _ _ _ _ _ _ _ _ _ _ _ b_fresh Rn (fun q hq => CY q ?_))
    obtain ⟨f, h, q1, q2, q3, q4, q5, q6, q7, q8, q9, q10, _⟩ := Rn
    have q10' : (f_runState = 1 ∧ g_isDone = 0) ∨ (f_runState = 2 ∧ g_isDone = 1) := q10.imp (fun z => z) (fun z => ⟨z.1, z.2.1⟩)
    rw [wY_run_20]
    rcases hl3 with w | w
    · exact br_t (by rw [w]; exact Int32.le_refl _) (v_y151 q10' hq)
    · exact pk_le 128 i (fun _ => v_y151 q10' hq) (fun _ => br_t (by rw [w]; exact Int32.le_refl _) (v_y151 q10' hq))
  | succ d ih =>
    intro i f_runState f_here f_returned f_evaluated a_env a_phiNew g_isDone g_at g_answer g_evals b_val b_fresh hi Rn CY
    have Rn0 := Rn
    obtain ⟨f, h, q1, q2, q3, q4, q5, q6, q7, q8, q9, q10, q11, q12, q13⟩ := Rn
    have G := r_Gok W s hlf q1
    have F := r_Fok W s hX xS q1
    have H := p_RH W s
    have rd : ∀ x, x < p_v P → p_D P (p_B P x) h → a_env (r_g lf f x) = b_val x := fun x hx d => rn_rd H G q11 q13 hx d
    rw [wX_run_43]
    refine br_f (nI_ge (by omega) (by omega)) ?_
    rcases q10 with ⟨c1, c2⟩ | ⟨c1, c2, c3⟩
    · refine br_t c1 (xq_exit (f := f) (g := r_g lf f) W s1 hX F q3 q2 q5 (fun x e3 ex => nm_r (nI_1 i) ?_) (fun t hc env' phiNew' Z => nm_r (nI_1 i) ?_))
      · have hx := (W.2.2.2.2 h q2).2.1 x ex
        refine ih (i + 1) _ _ _ _ _ _ 1 g_at (b_val x) g_evals b_val b_fresh (by omega) ⟨f, h, q1, q2, q3, q4, q5, q6, q7, q8, q9, Or.inr ⟨rfl, rfl, rd x hx (s.2.2.2 h x q2 ex)⟩, q11, q12, q13⟩ (fun q hq => CY q (v_yret W hY hm (by omega) (by omega) c2 q2 q6 e3 ex hq))
      · have hc' : (p_e P h = 1 ∧ p_t P h = some t) ∨ (p_e P h = 2 ∧ ∃ x, p_x P h = some x ∧ ((b_val x = 0 ∧ p_f P h = some t) ∨ (b_val x ≠ 0 ∧ p_t P h = some t))) := by
          rcases hc with z | ⟨z, x, ex, y⟩
          · exact Or.inl z
          · have hx := (W.2.2.2.2 h q2).2.1 x ex
            rw [rd x hx (s.2.2.2 h x q2 ex)] at y
            exact Or.inr ⟨z, x, ex, y⟩
        have hE : p_E P h t := by
          refine ⟨q2, ?_⟩
          rcases hc' with ⟨_, e⟩ | ⟨_, x, _, ⟨_, e⟩ | ⟨_, e⟩⟩
          · exact Or.inl e
          · exact Or.inr e
          · exact Or.inl e
        have htb := (p_Elt W hE).2
        have Xv := yb_X (P := P) (i0 := g_in0) (i1 := g_in1) (h := h) (b := t) (e := b_val) (fr := b_fresh) (fun w i x hw hk hi ea => (H.2.2.1 w i x hw hi ea).2.1 hk |>.1)
        rw [q7, q8] at Z
        obtain ⟨m1, m2, m3⟩ := r_mv (S' := fun a => p_D P a h) W s G (fun a hd hn => gr_D_pr hd hn q2 htb hE) (fun v hv hB hk => by
          cases ea : p_A P v h with
          | none => exact absurd ea ((s.2.1 v hv hk h q2).mpr (by rw [hB]; exact hE))
          | some x => exact ⟨by omega, x, rfl, (s.2.2.1 v h x hv (by omega) ea).2 hk⟩) q11 q12 q13 rd Xv Z
        refine ih (i + 1) f_runState _ _ _ _ _ g_isDone (nI t) g_answer (g_evals + nI (cn (fun v => p_B P v = t ∧ r_g lf f v = v) (p_v P))) (yb_vl P g_in0 g_in1 h t b_val b_fresh) (yb_fr P h t b_val b_fresh) (by omega) ⟨f, t, q1, htb, q3, q4, rfl, rfl, q7, q8, by rw [q9], Or.inl ⟨c1, c2⟩, m1, m2, m3⟩ (fun q hq => CY q (v_ymv W s hY ev yS (r_kok q1 hlf) q4 hm (by omega) (by omega) c2 q2 q6 hc' hq))
    · refine br_f (by rw [c1]; decide) (HF _ _ _ _ _ _ _ _ _ _ _ b_fresh Rn0 (fun q hq => CY q ?_))
      rw [wY_run_20]
      refine br_f (nI_ge (b := 128) (by omega) (by decide)) (br_f (nI_ge (by omega) hm) (br_f (v_ne0 c2) (v_y151 (Or.inr ⟨c1, c2⟩) hq)))
theorem v_run (R : r_All f_blockLimit f_valueLimit f_blockCount f_valueCount f_sealed f_runState f_runForm f_here f_input0 f_input1 f_returned f_evaluated a_valueKind a_valueBlock a_leaf a_args a_exitKind a_exitValue a_exitTrue a_exitFalse a_domMask a_classIndex a_className a_leaderOf a_body a_bodyStart a_bodyOps a_bodyEnd a_env g_maxBlocks g_maxValues g_blocks g_values g_isSealed g_hasRun g_isDone g_runForm g_in0 g_in1 g_at g_answer g_evals b_kind b_block b_left b_right b_arg b_exitKind b_exitX b_exitT b_exitF b_without b_differ b_val) (v1 : Int32) : wpX_run (fun r u' => wpY_run (fun r' v' => r' = r ∧ i_Rel k u' v') (g_maxBlocks, g_maxValues, g_blocks, g_values, g_isSealed, g_hasRun, g_isDone, g_runForm, g_in0, g_in1, g_at, g_answer, g_evals, b_kind, b_block, b_left, b_right, b_arg, b_exitKind, b_exitX, b_exitT, b_exitF, b_without, b_differ, b_val, b_fresh) v1) (f_blockLimit, f_valueLimit, f_blockCount, f_valueCount, f_sealed, f_classCount, f_workTop, f_touchedCount, f_undoTop, f_runState, f_runForm, f_here, f_input0, f_input1, f_returned, f_evaluated, a_valueKind, a_valueBlock, a_leaf, a_args, a_exitKind, a_exitValue, a_exitTrue, a_exitFalse, a_predMask, a_order, a_orderIndex, a_idom, a_domMask, a_firstChild, a_nextSibling, a_stack, a_cursor, a_members, a_location, a_classIndex, a_classStart, a_classSize, a_classMarked, a_className, a_useHead, a_useNext, a_work, a_inWork, a_splitter, a_touched, a_leaderOf, a_available, a_undo, a_scopeMark, a_body, a_bodyStart, a_bodyOps, a_bodyEnd, a_env, a_phiNew) v1 := by
  refine br_c (fun e1 => ?_) (fun e1 => br_f e1 ⟨rfl, R⟩)
  have Y1 : ∀ q : Int32 → SY → Prop, ((g_hasRun = 0 → q (-9) (g_maxBlocks, g_maxValues, g_blocks, g_values, g_isSealed, g_hasRun, g_isDone, g_runForm, g_in0, g_in1, g_at, g_answer, g_evals, b_kind, b_block, b_left, b_right, b_arg, b_exitKind, b_exitX, b_exitT, b_exitF, b_without, b_differ, b_val, b_fresh)) ∧ (¬ g_hasRun = 0 → ∃ n20, wY_run_20 q v1 n20 0 g_maxBlocks g_maxValues g_blocks g_values g_isSealed g_hasRun g_isDone g_runForm g_in0 g_in1 g_at g_answer g_evals b_kind b_block b_left b_right b_arg b_exitKind b_exitX b_exitT b_exitF b_without b_differ b_val b_fresh)) → wpY_run q (g_maxBlocks, g_maxValues, g_blocks, g_values, g_isSealed, g_hasRun, g_isDone, g_runForm, g_in0, g_in1, g_at, g_answer, g_evals, b_kind, b_block, b_left, b_right, b_arg, b_exitKind, b_exitX, b_exitT, b_exitF, b_without, b_differ, b_val, b_fresh) v1 := fun q h => br_t e1 h
  obtain ⟨m, hm, em⟩ := nI_of (x := v1) (fun z => absurd (Int32.lt_of_le_of_lt e1 z) (by decide))
  have hm1 : 1 ≤ m := by
    rw [em] at e1
    exact (nI_leI (a := 1) (by omega) hm).mp e1
  rcases v_runs R with ⟨a, b⟩ | ⟨b, P, lf, W, s1, s, hX, hY, hB, z1, z2, xS, yS, Q⟩
  · exact br_t a (Y1 _ (br_t b ⟨rfl, R⟩))
  · have n0 := v_rs Q
    have Q0 := Q
    obtain ⟨f, h, q1, q2, q3, q4, q5, q6, q7, q8, q9, q10, q11, q12, q13⟩ := Q
    refine br_f n0 (br_c (fun e2 => Y1 _ (br_f (v_ne0 b) ⟨1, ?_⟩)) (fun e2 => ?_))
    · rw [wY_run_20]
      have d1 : g_isDone = 1 := by
        rcases q10 with ⟨c1, _⟩ | ⟨_, c2, _⟩
        · rw [c1] at e2; exact absurd e2 (by decide)
        · exact c2
      refine br_f (by decide) (br_f (by rw [em]; exact nI_ge (a := 0) hm1 hm) (br_f (v_ne0 d1) (v_y151 (Or.inr ⟨rfl, d1⟩) ⟨rfl, R⟩)))
    · have core : ∀ lim, lim ≤ 128 → lim ≤ m → (lim = 128 ∨ lim = m) → ∃ n43, wX_run_43 (fun r u' => wpY_run (fun r' v' => r' = r ∧ i_Rel k u' v') (g_maxBlocks, g_maxValues, g_blocks, g_values, g_isSealed, g_hasRun, g_isDone, g_runForm, g_in0, g_in1, g_at, g_answer, g_evals, b_kind, b_block, b_left, b_right, b_arg, b_exitKind, b_exitX, b_exitT, b_exitF, b_without, b_differ, b_val, b_fresh) v1) (nI lim) n43 0 f_blockLimit f_valueLimit f_blockCount f_valueCount f_sealed f_classCount f_workTop f_touchedCount f_undoTop f_runState f_runForm f_here f_input0 f_input1 f_returned f_evaluated a_valueKind a_valueBlock a_leaf a_args a_exitKind a_exitValue a_exitTrue a_exitFalse a_predMask a_order a_orderIndex a_idom a_domMask a_firstChild a_nextSibling a_stack a_cursor a_members a_location a_classIndex a_classStart a_classSize a_classMarked a_className a_useHead a_useNext a_work a_inWork a_splitter a_touched a_leaderOf a_available a_undo a_scopeMark a_body a_bodyStart a_bodyOps a_bodyEnd a_env a_phiNew := by
        intro lim h1 h2 h3
        refine ⟨lim + 1, v_loop (Q := fun q => wpY_run q (g_maxBlocks, g_maxValues, g_blocks, g_values, g_isSealed, g_hasRun, g_isDone, g_runForm, g_in0, g_in1, g_at, g_answer, g_evals, b_kind, b_block, b_left, b_right, b_arg, b_exitKind, b_exitX, b_exitT, b_exitF, b_without, b_differ, b_val, b_fresh) v1) W s1 s hX hY hB.2.2.2.1 xS yS hm h1 h2 h3 (fun rs he rt ev2 env ph dn ya an es vl fr Rn hQ => hQ _ ⟨rfl, ?_⟩) lim 0 _ _ _ _ _ _ _ _ _ _ _ b_fresh (by omega) Q0 (fun q hq => Y1 q (br_f (v_ne0 b) ⟨lim + 1, by rw [em]; exact hq⟩))⟩
        exact ⟨P, W, hX, hY, hB, Or.inr ⟨z1, z2, s1, s, lf, xS, yS, Or.inr ⟨b, Rn⟩⟩⟩
      refine pk_le m 128 (fun l => ?_) (fun l => core 128 (by omega) (by omega) (Or.inl rfl)) (hx := em)
      have := core m (by omega) (by omega) (Or.inr rfl)
      rw [← em] at this
      exact this
end VS
end
section
/-! the owed rows -/
theorem i_vc_addBlock {k : Nat} {u : SX} {v : SY} (I : i_Rel k u v) (hk : k + 5 ≤ 2562) : wpX_addBlock (fun r u' => wpY_addBlock (fun r' v' => r' = r ∧ i_Rel (k + 5) u' v') v) u :=
  r_el (Q := fun u v => wpX_addBlock (fun r u' => wpY_addBlock (fun r' v' => r' = r ∧ i_Rel (k + 5) u' v') v) u) I (fun _ _ _ _ _ _ _ _ _ _ _ _ _ _ _ _ _ _ _ _ _ _ _ _ _ _ _ _ _ _ _ _ _ _ _ _ _ _ _ _ _ _ _ _ _ _ _ _ _ _ _ _ _ _ _ _ _ _ _ _ _ _ _ _ _ _ _ _ _ _ _ _ _ _ _ _ _ _ _ _ _ _ R => v_addBlock R)
theorem i_vc_addLeaf {k : Nat} {u : SX} {v : SY} (I : i_Rel k u v) (hk : k + 5 ≤ 2562) (v1 : Int32) (v2 : Int32) (v3 : Int32) : wpX_addLeaf (fun r u' => wpY_addLeaf (fun r' v' => r' = r ∧ i_Rel (k + 5) u' v') v v1 v2 v3) u v1 v2 v3 :=
  r_el (Q := fun u v => wpX_addLeaf (fun r u' => wpY_addLeaf (fun r' v' => r' = r ∧ i_Rel (k + 5) u' v') v v1 v2 v3) u v1 v2 v3) I (fun _ _ _ _ _ _ _ _ _ _ _ _ _ _ _ _ _ _ _ _ _ _ _ _ _ _ _ _ _ _ _ _ _ _ _ _ _ _ _ _ _ _ _ _ _ _ _ _ _ _ _ _ _ _ _ _ _ _ _ _ _ _ _ _ _ _ _ _ _ _ _ _ _ _ _ _ _ _ _ _ _ _ R => v_addLeaf R v1 v2 v3)
theorem i_vc_addOp {k : Nat} {u : SX} {v : SY} (I : i_Rel k u v) (hk : k + 5 ≤ 2562) (v1 : Int32) (v2 : Int32) (v3 : Int32) (v4 : Int32) : wpX_addOp (fun r u' => wpY_addOp (fun r' v' => r' = r ∧ i_Rel (k + 5) u' v') v v1 v2 v3 v4) u v1 v2 v3 v4 :=
  r_el (Q := fun u v => wpX_addOp (fun r u' => wpY_addOp (fun r' v' => r' = r ∧ i_Rel (k + 5) u' v') v v1 v2 v3 v4) u v1 v2 v3 v4) I (fun _ _ _ _ _ _ _ _ _ _ _ _ _ _ _ _ _ _ _ _ _ _ _ _ _ _ _ _ _ _ _ _ _ _ _ _ _ _ _ _ _ _ _ _ _ _ _ _ _ _ _ _ _ _ _ _ _ _ _ _ _ _ _ _ _ _ _ _ _ _ _ _ _ _ _ _ _ _ _ _ _ _ R => v_addOp R v1 v2 v3 v4)
theorem i_vc_addPhi {k : Nat} {u : SX} {v : SY} (I : i_Rel k u v) (hk : k + 5 ≤ 2562) (v1 : Int32) : wpX_addPhi (fun r u' => wpY_addPhi (fun r' v' => r' = r ∧ i_Rel (k + 5) u' v') v v1) u v1 :=
  r_el (Q := fun u v => wpX_addPhi (fun r u' => wpY_addPhi (fun r' v' => r' = r ∧ i_Rel (k + 5) u' v') v v1) u v1) I (fun _ _ _ _ _ _ _ _ _ _ _ _ _ _ _ _ _ _ _ _ _ _ _ _ _ _ _ _ _ _ _ _ _ _ _ _ _ _ _ _ _ _ _ _ _ _ _ _ _ _ _ _ _ _ _ _ _ _ _ _ _ _ _ _ _ _ _ _ _ _ _ _ _ _ _ _ _ _ _ _ _ _ R => v_addPhi R v1)
theorem i_vc_setPhi {k : Nat} {u : SX} {v : SY} (I : i_Rel k u v) (hk : k + 5 ≤ 2562) (v1 : Int32) (v2 : Int32) (v3 : Int32) : wpX_setPhi (fun r u' => wpY_setPhi (fun r' v' => r' = r ∧ i_Rel (k + 5) u' v') v v1 v2 v3) u v1 v2 v3 :=
  r_el (Q := fun u v => wpX_setPhi (fun r u' => wpY_setPhi (fun r' v' => r' = r ∧ i_Rel (k + 5) u' v') v v1 v2 v3) u v1 v2 v3) I (fun _ _ _ _ _ _ _ _ _ _ _ _ _ _ _ _ _ _ _ _ _ _ _ _ _ _ _ _ _ _ _ _ _ _ _ _ _ _ _ _ _ _ _ _ _ _ _ _ _ _ _ _ _ _ _ _ _ _ _ _ _ _ _ _ _ _ _ _ _ _ _ _ _ _ _ _ _ _ _ _ _ _ R => v_setPhi R v1 v2 v3)
theorem i_vc_setJump {k : Nat} {u : SX} {v : SY} (I : i_Rel k u v) (hk : k + 5 ≤ 2562) (v1 : Int32) (v2 : Int32) : wpX_setJump (fun r u' => wpY_setJump (fun r' v' => r' = r ∧ i_Rel (k + 5) u' v') v v1 v2) u v1 v2 :=
  r_el (Q := fun u v => wpX_setJump (fun r u' => wpY_setJump (fun r' v' => r' = r ∧ i_Rel (k + 5) u' v') v v1 v2) u v1 v2) I (fun _ _ _ _ _ _ _ _ _ _ _ _ _ _ _ _ _ _ _ _ _ _ _ _ _ _ _ _ _ _ _ _ _ _ _ _ _ _ _ _ _ _ _ _ _ _ _ _ _ _ _ _ _ _ _ _ _ _ _ _ _ _ _ _ _ _ _ _ _ _ _ _ _ _ _ _ _ _ _ _ _ _ R => v_setJump R v1 v2)
theorem i_vc_setBranch {k : Nat} {u : SX} {v : SY} (I : i_Rel k u v) (hk : k + 5 ≤ 2562) (v1 : Int32) (v2 : Int32) (v3 : Int32) (v4 : Int32) : wpX_setBranch (fun r u' => wpY_setBranch (fun r' v' => r' = r ∧ i_Rel (k + 5) u' v') v v1 v2 v3 v4) u v1 v2 v3 v4 :=
  r_el (Q := fun u v => wpX_setBranch (fun r u' => wpY_setBranch (fun r' v' => r' = r ∧ i_Rel (k + 5) u' v') v v1 v2 v3 v4) u v1 v2 v3 v4) I (fun _ _ _ _ _ _ _ _ _ _ _ _ _ _ _ _ _ _ _ _ _ _ _ _ _ _ _ _ _ _ _ _ _ _ _ _ _ _ _ _ _ _ _ _ _ _ _ _ _ _ _ _ _ _ _ _ _ _ _ _ _ _ _ _ _ _ _ _ _ _ _ _ _ _ _ _ _ _ _ _ _ _ R => v_setBranch R v1 v2 v3 v4)
theorem i_vc_setReturn {k : Nat} {u : SX} {v : SY} (I : i_Rel k u v) (hk : k + 5 ≤ 2562) (v1 : Int32) (v2 : Int32) : wpX_setReturn (fun r u' => wpY_setReturn (fun r' v' => r' = r ∧ i_Rel (k + 5) u' v') v v1 v2) u v1 v2 :=
  r_el (Q := fun u v => wpX_setReturn (fun r u' => wpY_setReturn (fun r' v' => r' = r ∧ i_Rel (k + 5) u' v') v v1 v2) u v1 v2) I (fun _ _ _ _ _ _ _ _ _ _ _ _ _ _ _ _ _ _ _ _ _ _ _ _ _ _ _ _ _ _ _ _ _ _ _ _ _ _ _ _ _ _ _ _ _ _ _ _ _ _ _ _ _ _ _ _ _ _ _ _ _ _ _ _ _ _ _ _ _ _ _ _ _ _ _ _ _ _ _ _ _ _ R => v_setReturn R v1 v2)
theorem i_vc_seal {k : Nat} {u : SX} {v : SY} (I : i_Rel k u v) (hk : k + 5 ≤ 2562) : wpX_seal (fun r u' => wpY_seal (fun r' v' => r' = r ∧ i_Rel (k + 5) u' v') v) u :=
  r_el (Q := fun u v => wpX_seal (fun r u' => wpY_seal (fun r' v' => r' = r ∧ i_Rel (k + 5) u' v') v) u) I (fun _ _ _ _ _ _ _ _ _ _ _ _ _ _ _ _ _ _ _ _ _ _ _ _ _ _ _ _ _ _ _ _ _ _ _ _ _ _ _ _ _ _ _ _ _ _ _ _ _ _ _ _ _ _ _ _ _ _ _ _ _ _ _ _ _ _ _ _ _ _ _ _ _ _ _ _ _ _ _ _ _ _ R => v_seal R)
theorem i_vc_reopen {k : Nat} {u : SX} {v : SY} (I : i_Rel k u v) (hk : k + 5 ≤ 2562) : wpX_reopen (fun r u' => wpY_reopen (fun r' v' => r' = r ∧ i_Rel (k + 5) u' v') v) u :=
  r_el (Q := fun u v => wpX_reopen (fun r u' => wpY_reopen (fun r' v' => r' = r ∧ i_Rel (k + 5) u' v') v) u) I (fun _ _ _ _ _ _ _ _ _ _ _ _ _ _ _ _ _ _ _ _ _ _ _ _ _ _ _ _ _ _ _ _ _ _ _ _ _ _ _ _ _ _ _ _ _ _ _ _ _ _ _ _ _ _ _ _ _ _ _ _ _ _ _ _ _ _ _ _ _ _ _ _ _ _ _ _ _ _ _ _ _ _ R => v_reopen R)
theorem i_vc_describe {k : Nat} {u : SX} {v : SY} (I : i_Rel k u v) (hk : k + 5 ≤ 2562) (v1 : Int32) (v2 : Int32) : wpX_describe (fun r => wpY_describe (fun r' => r' = r ∧ i_Rel (k + 5) u v) v v1 v2) u v1 v2 :=
  r_el (Q := fun u v => wpX_describe (fun r => wpY_describe (fun r' => r' = r ∧ i_Rel (k + 5) u v) v v1 v2) u v1 v2) I (fun _ _ _ _ _ _ _ _ _ _ _ _ _ _ _ _ _ _ _ _ _ _ _ _ _ _ _ _ _ _ _ _ _ _ _ _ _ _ _ _ _ _ _ _ _ _ _ _ _ _ _ _ _ _ _ _ _ _ _ _ _ _ _ _ _ _ _ _ _ _ _ _ _ _ _ _ _ _ _ _ _ _ R => v_describe R v1 v2)
theorem i_vc_operand {k : Nat} {u : SX} {v : SY} (I : i_Rel k u v) (hk : k + 5 ≤ 2562) (v1 : Int32) (v2 : Int32) (v3 : Int32) : wpX_operand (fun r => wpY_operand (fun r' => r' = r ∧ i_Rel (k + 5) u v) v v1 v2 v3) u v1 v2 v3 :=
  r_el (Q := fun u v => wpX_operand (fun r => wpY_operand (fun r' => r' = r ∧ i_Rel (k + 5) u v) v v1 v2 v3) u v1 v2 v3) I (fun _ _ _ _ _ _ _ _ _ _ _ _ _ _ _ _ _ _ _ _ _ _ _ _ _ _ _ _ _ _ _ _ _ _ _ _ _ _ _ _ _ _ _ _ _ _ _ _ _ _ _ _ _ _ _ _ _ _ _ _ _ _ _ _ _ _ _ _ _ _ _ _ _ _ _ _ _ _ _ _ _ _ R => v_operand R v1 v2 v3)
theorem i_vc_exitPart {k : Nat} {u : SX} {v : SY} (I : i_Rel k u v) (hk : k + 5 ≤ 2562) (v1 : Int32) (v2 : Int32) (v3 : Int32) : wpX_exitPart (fun r => wpY_exitPart (fun r' => r' = r ∧ i_Rel (k + 5) u v) v v1 v2 v3) u v1 v2 v3 :=
  r_el (Q := fun u v => wpX_exitPart (fun r => wpY_exitPart (fun r' => r' = r ∧ i_Rel (k + 5) u v) v v1 v2 v3) u v1 v2 v3) I (fun _ _ _ _ _ _ _ _ _ _ _ _ _ _ _ _ _ _ _ _ _ _ _ _ _ _ _ _ _ _ _ _ _ _ _ _ _ _ _ _ _ _ _ _ _ _ _ _ _ _ _ _ _ _ _ _ _ _ _ _ _ _ _ _ _ _ _ _ _ _ _ _ _ _ _ _ _ _ _ _ _ _ R => v_exitPart R v1 v2 v3)
theorem i_vc_dominates {k : Nat} {u : SX} {v : SY} (I : i_Rel k u v) (hk : k + 5 ≤ 2562) (v1 : Int32) (v2 : Int32) : wpX_dominates (fun r => wpY_dominates (fun r' => r' = r ∧ i_Rel (k + 5) u v) v v1 v2) u v1 v2 :=
  r_el (Q := fun u v => wpX_dominates (fun r => wpY_dominates (fun r' => r' = r ∧ i_Rel (k + 5) u v) v v1 v2) u v1 v2) I (fun _ _ _ _ _ _ _ _ _ _ _ _ _ _ _ _ _ _ _ _ _ _ _ _ _ _ _ _ _ _ _ _ _ _ _ _ _ _ _ _ _ _ _ _ _ _ _ _ _ _ _ _ _ _ _ _ _ _ _ _ _ _ _ _ _ _ _ _ _ _ _ _ _ _ _ _ _ _ _ _ _ _ R => v_dominates R v1 v2)
theorem i_vc_classOf {k : Nat} {u : SX} {v : SY} (I : i_Rel k u v) (hk : k + 5 ≤ 2562) (v1 : Int32) : wpX_classOf (fun r => wpY_classOf (fun r' => r' = r ∧ i_Rel (k + 5) u v) v v1) u v1 :=
  r_el (Q := fun u v => wpX_classOf (fun r => wpY_classOf (fun r' => r' = r ∧ i_Rel (k + 5) u v) v v1) u v1) I (fun _ _ _ _ _ _ _ _ _ _ _ _ _ _ _ _ _ _ _ _ _ _ _ _ _ _ _ _ _ _ _ _ _ _ _ _ _ _ _ _ _ _ _ _ _ _ _ _ _ _ _ _ _ _ _ _ _ _ _ _ _ _ _ _ _ _ _ _ _ _ _ _ _ _ _ _ _ _ _ _ _ _ R => v_classOf R v1)
theorem i_vc_leader {k : Nat} {u : SX} {v : SY} (I : i_Rel k u v) (hk : k + 5 ≤ 2562) (v1 : Int32) : wpX_leader (fun r => wpY_leader (fun r' => r' = r ∧ i_Rel (k + 5) u v) v v1) u v1 :=
  r_el (Q := fun u v => wpX_leader (fun r => wpY_leader (fun r' => r' = r ∧ i_Rel (k + 5) u v) v v1) u v1) I (fun _ _ _ _ _ _ _ _ _ _ _ _ _ _ _ _ _ _ _ _ _ _ _ _ _ _ _ _ _ _ _ _ _ _ _ _ _ _ _ _ _ _ _ _ _ _ _ _ _ _ _ _ _ _ _ _ _ _ _ _ _ _ _ _ _ _ _ _ _ _ _ _ _ _ _ _ _ _ _ _ _ _ R => v_leader R v1)
theorem i_vc_start {k : Nat} {u : SX} {v : SY} (I : i_Rel k u v) (hk : k + 5 ≤ 2562) (v1 : Int32) (v2 : Int32) (v3 : Int32) : wpX_start (fun r u' => wpY_start (fun r' v' => r' = r ∧ i_Rel (k + 5) u' v') v v1 v2 v3) u v1 v2 v3 :=
  r_el (Q := fun u v => wpX_start (fun r u' => wpY_start (fun r' v' => r' = r ∧ i_Rel (k + 5) u' v') v v1 v2 v3) u v1 v2 v3) I (fun _ _ _ _ _ _ _ _ _ _ _ _ _ _ _ _ _ _ _ _ _ _ _ _ _ _ _ _ _ _ _ _ _ _ _ _ _ _ _ _ _ _ _ _ _ _ _ _ _ _ _ _ _ _ _ _ _ _ _ _ _ _ _ _ _ _ _ _ _ _ _ _ _ _ _ _ _ _ _ _ _ _ R => v_start R v1 v2 v3)
theorem i_vc_run {k : Nat} {u : SX} {v : SY} (I : i_Rel k u v) (hk : k + 5 ≤ 2562) (v1 : Int32) : wpX_run (fun r u' => wpY_run (fun r' v' => r' = r ∧ i_Rel (k + 5) u' v') v v1) u v1 :=
  r_el (Q := fun u v => wpX_run (fun r u' => wpY_run (fun r' v' => r' = r ∧ i_Rel (k + 5) u' v') v v1) u v1) I (fun _ _ _ _ _ _ _ _ _ _ _ _ _ _ _ _ _ _ _ _ _ _ _ _ _ _ _ _ _ _ _ _ _ _ _ _ _ _ _ _ _ _ _ _ _ _ _ _ _ _ _ _ _ _ _ _ _ _ _ _ _ _ _ _ _ _ _ _ _ _ _ _ _ _ _ _ _ _ _ _ _ _ R => v_run R v1)
theorem i_vc_place {k : Nat} {u : SX} {v : SY} (I : i_Rel k u v) (hk : k + 5 ≤ 2562) : wpX_place (fun r => wpY_place (fun r' => r' = r ∧ i_Rel (k + 5) u v) v) u :=
  r_el (Q := fun u v => wpX_place (fun r => wpY_place (fun r' => r' = r ∧ i_Rel (k + 5) u v) v) u) I (fun _ _ _ _ _ _ _ _ _ _ _ _ _ _ _ _ _ _ _ _ _ _ _ _ _ _ _ _ _ _ _ _ _ _ _ _ _ _ _ _ _ _ _ _ _ _ _ _ _ _ _ _ _ _ _ _ _ _ _ _ _ _ _ _ _ _ _ _ _ _ _ _ _ _ _ _ _ _ _ _ _ _ R => v_place R)
theorem i_vc_value {k : Nat} {u : SX} {v : SY} (I : i_Rel k u v) (hk : k + 5 ≤ 2562) (v1 : Int32) : wpX_value (fun r => wpY_value (fun r' => r' = r ∧ i_Rel (k + 5) u v) v v1) u v1 :=
  r_el (Q := fun u v => wpX_value (fun r => wpY_value (fun r' => r' = r ∧ i_Rel (k + 5) u v) v v1) u v1) I (fun _ _ _ _ _ _ _ _ _ _ _ _ _ _ _ _ _ _ _ _ _ _ _ _ _ _ _ _ _ _ _ _ _ _ _ _ _ _ _ _ _ _ _ _ _ _ _ _ _ _ _ _ _ _ _ _ _ _ _ _ _ _ _ _ _ _ _ _ _ _ _ _ _ _ _ _ _ _ _ _ _ _ R => v_value R v1)
theorem i_vc_result {k : Nat} {u : SX} {v : SY} (I : i_Rel k u v) (hk : k + 5 ≤ 2562) : wpX_result (fun r => wpY_result (fun r' => r' = r ∧ i_Rel (k + 5) u v) v) u :=
  r_el (Q := fun u v => wpX_result (fun r => wpY_result (fun r' => r' = r ∧ i_Rel (k + 5) u v) v) u) I (fun _ _ _ _ _ _ _ _ _ _ _ _ _ _ _ _ _ _ _ _ _ _ _ _ _ _ _ _ _ _ _ _ _ _ _ _ _ _ _ _ _ _ _ _ _ _ _ _ _ _ _ _ _ _ _ _ _ _ _ _ _ _ _ _ _ _ _ _ _ _ _ _ _ _ _ _ _ _ _ _ _ _ R => v_result R)
theorem i_vc_evaluations {k : Nat} {u : SX} {v : SY} (I : i_Rel k u v) (hk : k + 5 ≤ 2562) : wpX_evaluations (fun r => wpY_evaluations (fun r' => r' = r ∧ i_Rel (k + 5) u v) v) u :=
  r_el (Q := fun u v => wpX_evaluations (fun r => wpY_evaluations (fun r' => r' = r ∧ i_Rel (k + 5) u v) v) u) I (fun _ _ _ _ _ _ _ _ _ _ _ _ _ _ _ _ _ _ _ _ _ _ _ _ _ _ _ _ _ _ _ _ _ _ _ _ _ _ _ _ _ _ _ _ _ _ _ _ _ _ _ _ _ _ _ _ _ _ _ _ _ _ _ _ _ _ _ _ _ _ _ _ _ _ _ _ _ _ _ _ _ _ R => v_evaluations R)
end
