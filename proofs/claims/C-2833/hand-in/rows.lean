section
theorem pk_us {f : Nat → Int32} {k : Nat} {x : Int32} : upd f k x k = x := if_pos rfl
theorem pk_un {f : Nat → Int32} {k j : Nat} {x : Int32} (h : j ≠ k) : upd f k x j = f j := if_neg h
theorem pk_sub {a b : Nat} (h : b ≤ a) : nI a - nI b = nI (a - b) := by
  obtain ⟨c, rfl⟩ : ∃ c, a = c + b := ⟨a - b, by omega⟩
  rw [← nI_add, Int32.add_sub_cancel, Nat.add_sub_cancel]
theorem pk_m1 (n : Nat) : nI (n + 1) + (-1) = nI n := by
  rw [← nI_1, Int32.add_assoc, show (1 : Int32) + (-1) = 0 from rfl, Int32.add_zero]
theorem pk_mul (a b : Nat) : nI a * nI b = nI (a * b) := (Int32.ofNat_mul a b).symm
theorem pk_div {a d : Nat} (ha : a < 2 ^ 31) (h0 : 0 < d) (hd : d < 2 ^ 31) : nI a / nI d = nI (a / d) := by
  apply Int32.toInt_inj.mp
  rw [lg_idiv_nonneg (by rw [nI_toInt ha]; omega) (by rw [nI_toInt hd]; omega), nI_toInt ha, nI_toInt hd, nI_toInt (Nat.lt_of_le_of_lt (Nat.div_le_self a d) ha)]
  first | rfl | exact (Int.natCast_ediv _ _).symm
theorem pk_rem {a d : Nat} (ha : a < 2 ^ 31) (h0 : 0 < d) (hd : d < 2 ^ 31) : nI a - nI a / nI d * nI d = nI (a % d) := by
  rw [pk_div ha h0 hd, pk_mul, pk_sub (Nat.div_mul_le_self a d)]
  exact congrArg nI (by have := Nat.div_add_mod' a d; omega)
theorem pk_sub_toInt {a b : Nat} (ha : a < 2 ^ 30) (hb : b < 2 ^ 30) : (nI a - nI b).toInt = (a : Int) - b := by
  rw [Int32.toInt_sub, nI_toInt (by omega), nI_toInt (by omega)]
  exact Int.bmod_eq_of_le (by omega) (by omega)
theorem pk_sneg {a b : Nat} (hb : b < 2 ^ 30) (h : a < b) : nI a - nI b < 0 := by
  rw [Int32.lt_iff_toInt_lt, pk_sub_toInt (by omega) hb, show (0 : Int32).toInt = 0 from by decide]
  omega
theorem pk_ix (x : Int32) {n : Nat} (hn : n < 2 ^ 31) : x < 0 ∨ nI n ≤ x ∨ ∃ j : Nat, j < n ∧ x = nI j := by
  by_cases h : x < 0
  · exact Or.inl h
  · obtain ⟨j, hj, rfl⟩ := nI_of h
    by_cases h2 : j < n
    · exact Or.inr (Or.inr ⟨j, h2, rfl⟩)
    · exact Or.inr (Or.inl (nI_le (by omega) hj))
theorem pk_le {x y : Int32} {A B : Prop} (a b : Nat) (f : a ≤ b → A) (g : b < a → B) (hx : x = nI a := by rfl) (hy : y = nI b := by rfl) (ha : a < 2 ^ 31 := by omega) (hb : b < 2 ^ 31 := by omega) : (x ≤ y → A) ∧ (¬ x ≤ y → B) := by
  subst hx hy
  rw [nI_leI ha hb]
  exact ⟨f, fun z => g (by omega)⟩
theorem pk_lt {x y : Int32} {A B : Prop} (a b : Nat) (f : a < b → A) (g : b ≤ a → B) (hx : x = nI a := by rfl) (hy : y = nI b := by rfl) (ha : a < 2 ^ 31 := by omega) (hb : b < 2 ^ 31 := by omega) : (x < y → A) ∧ (¬ x < y → B) := by
  subst hx hy
  rw [nI_ltI ha hb]
  exact ⟨f, fun z => g (by omega)⟩
theorem pk_eq {x y : Int32} {A B : Prop} (a b : Nat) (f : a = b → A) (g : a ≠ b → B) (hx : x = nI a := by rfl) (hy : y = nI b := by rfl) (ha : a < 2 ^ 31 := by omega) (hb : b < 2 ^ 31 := by omega) : (x = y → A) ∧ (¬ x = y → B) := by
  subst hx hy
  rw [nI_eq ha hb]
  exact ⟨f, g⟩
theorem pk_in {x : Int32} (n N : Nat) (h : n < N) (hx : x = nI n := by rfl) (hN : N < 2 ^ 31 := by omega) : vp_in x N := by
  subst hx
  exact vp_in_nI h hN
theorem pk_cl {x : Int32} (n : Nat) (hx : x = nI n := by rfl) (h : n < 2 ^ 31 := by omega) : x.toNatClampNeg = n := by
  subst hx
  exact nI_clamp h
theorem pk_tn {n : Nat} (h : n < 2 ^ 32) : (nI n).toBitVec.toNat = n := Nat.mod_eq_of_lt h
theorem pk_and (x : Int32) {m : Int32} (k : Nat) (hm : m.toBitVec.toNat = 2 ^ k - 1) : x &&& m = nI (x.toBitVec.toNat % 2 ^ k) := by
  apply Int32.toBitVec_inj.mp
  apply BitVec.eq_of_toNat_eq
  rw [Int32.toBitVec_and, BitVec.toNat_and, hm, Nat.and_two_pow_sub_one_eq_mod]
  show _ = (BitVec.ofNat 32 _).toNat
  rw [BitVec.toNat_ofNat]
  exact (Nat.mod_eq_of_lt (Nat.lt_of_le_of_lt (Nat.mod_le _ _) x.toBitVec.isLt)).symm
theorem pk_andN {n : Nat} (h : n < 2 ^ 32) {m : Int32} (k : Nat) (hm : m.toBitVec.toNat = 2 ^ k - 1) : nI n &&& m = nI (n % 2 ^ k) := by
  rw [pk_and _ k hm, pk_tn h]
theorem pk_shr (a s : Int32) (k : Nat) (hs : (s.toBitVec.smod 32).toNat = k) : (a >>> s).toInt = a.toInt >>> k := by
  show (a.toBitVec.sshiftRight (s.toBitVec.smod 32).toNat).toInt = _
  rw [hs, BitVec.toInt_sshiftRight]
  rfl
theorem pk_shrN {n : Nat} (h : n < 2 ^ 31) (s : Int32) (k : Nat) (hs : (s.toBitVec.smod 32).toNat = k) : nI n >>> s = nI (n / 2 ^ k) := by
  apply Int32.toInt_inj.mp
  have h2 : n / 2 ^ k ≤ n := Nat.div_le_self _ _
  rw [pk_shr _ _ k hs, nI_toInt h, nI_toInt (by omega), Int.shiftRight_eq_div_pow]
  rfl
theorem pk_least (P : Nat → Prop) (h : ∃ k, P k) : ∃ k, P k ∧ ∀ j, j < k → ¬ P j := by
  obtain ⟨k, hk⟩ := h
  induction k using Nat.strongRecOn with
  | ind k ih =>
    by_cases e : ∃ j, j < k ∧ P j
    · obtain ⟨j, hj, pj⟩ := e
      exact ih j hj pj
    · exact ⟨k, hk, fun j hj pj => e ⟨j, hj, pj⟩⟩
theorem sb_m1 {p : Nat} (h : 0 < p) : nI p + (-1) = nI (p - 1) := by
  obtain ⟨q, rfl⟩ : ∃ q, p = q + 1 := ⟨p - 1, by omega⟩
  exact pk_m1 q
def bt (x : Int32) (i : Nat) : Bool := x.toBitVec.getLsbD i
theorem b_ext {x y : Int32} (h : ∀ i, i < 32 → bt x i = bt y i) : x = y := Int32.toBitVec_inj.mp (BitVec.eq_of_getLsbD_eq (fun i hi => h i hi))
theorem b_or (x y : Int32) (i : Nat) : bt (x ||| y) i = (bt x i || bt y i) := by unfold bt; rw [Int32.toBitVec_or, BitVec.getLsbD_or]
theorem b_and (x y : Int32) (i : Nat) : bt (x &&& y) i = (bt x i && bt y i) := by unfold bt; rw [Int32.toBitVec_and, BitVec.getLsbD_and]
theorem b_xor (x y : Int32) (i : Nat) : bt (x ^^^ y) i = (bt x i ^^ bt y i) := by unfold bt; rw [Int32.toBitVec_xor, BitVec.getLsbD_xor]
theorem b_big {x : Int32} {i : Nat} (h : 32 ≤ i) : bt x i = false := BitVec.getLsbD_of_ge _ _ h
theorem b_m1 : ∀ i, i < 32 → bt (-1) i = true := by decide +kernel
theorem b_0 (i : Nat) : bt 0 i = false := BitVec.getLsbD_zero
theorem s_l : ∀ n, n < 32 → ((nI n &&& 31).toBitVec.smod 32).toNat = n := by decide +kernel
theorem s_u : ∀ n, n < 32 → (((nI n).toUInt32 &&& Int32.toUInt32 31).toBitVec % 32).toNat = n := by decide +kernel
theorem b_shl (n : Nat) (hn : n < 32) (x : Int32) {i : Nat} (hi : i < 32) : bt (x <<< (nI n &&& 31)) i = (decide (n ≤ i) && bt x (i - n)) := by
  unfold bt
  rw [Int32.toBitVec_shiftLeft]
  show (x.toBitVec <<< ((nI n &&& 31).toBitVec.smod 32).toNat).getLsbD i = _
  rw [s_l n hn, BitVec.getLsbD_shiftLeft]
  rcases Nat.lt_or_ge i n with h | h
  · simp [h, Nat.not_le.mpr h]
  · simp [hi, h, Nat.not_lt.mpr h]
theorem b_ushr (n : Nat) (hn : n < 32) (x : Int32) (i : Nat) : bt ((x.toUInt32 >>> ((nI n).toUInt32 &&& Int32.toUInt32 31)).toInt32) i = bt x (n + i) := by
  show (x.toUInt32 >>> ((nI n).toUInt32 &&& Int32.toUInt32 31)).toBitVec.getLsbD i = x.toUInt32.toBitVec.getLsbD (n + i)
  rw [UInt32.toBitVec_shiftRight]
  show (x.toUInt32.toBitVec >>> (((nI n).toUInt32 &&& Int32.toUInt32 31).toBitVec % 32).toNat).getLsbD i = _
  rw [s_u n hn, BitVec.getLsbD_ushiftRight]
theorem b_sshr (n : Nat) (hn : n < 32) (x : Int32) {i : Nat} (hi : i < 32) : bt (x >>> (nI n &&& 31)) i = if n + i < 32 then bt x (n + i) else bt x 31 := by
  unfold bt
  rw [Int32.toBitVec_shiftRight]
  show (x.toBitVec.sshiftRight ((nI n &&& 31).toBitVec.smod 32).toNat).getLsbD i = _
  rw [s_l n hn, BitVec.getLsbD_sshiftRight, BitVec.msb_eq_getLsbD_last]
  simp [hi]
end
section
/-! 0 and 1 of a proposition, counts (turned from a worked proof) -/
noncomputable def gl_b (P : Prop) : Nat := @ite Nat P (Classical.propDecidable P) 1 0
theorem gl_b_t {P : Prop} (h : P) : gl_b P = 1 := by unfold gl_b; rw [if_pos h]
theorem gl_b_f {P : Prop} (h : ¬ P) : gl_b P = 0 := by unfold gl_b; rw [if_neg h]
theorem gl_b_le (P : Prop) : gl_b P ≤ 1 := by
  rcases Classical.em P with h | h
  · rw [gl_b_t h]; omega
  · rw [gl_b_f h]; omega
theorem gl_b_mono {P Q : Prop} (h : P → Q) : gl_b P ≤ gl_b Q := by
  rcases Classical.em P with hp | hp
  · rw [gl_b_t hp, gl_b_t (h hp)]; omega
  · rw [gl_b_f hp]; omega
theorem gl_b_eq {P Q : Prop} (h : P ↔ Q) : gl_b P = gl_b Q := Nat.le_antisymm (gl_b_mono h.mp) (gl_b_mono h.mpr)
noncomputable def gl_cn (P : Nat → Prop) : Nat → Nat
  | 0 => 0
  | k + 1 => gl_cn P k + gl_b (P k)
theorem gl_cn_mono {P Q : Nat → Prop} : ∀ {N : Nat}, (∀ k, k < N → P k → Q k) → gl_cn P N ≤ gl_cn Q N
  | 0, _ => Nat.le_refl _
  | N + 1, h => by
    have a := gl_cn_mono (P := P) (Q := Q) (N := N) (fun k hk => h k (by omega))
    have b := gl_b_mono (h N (by omega))
    simp only [gl_cn]; omega
theorem gl_cn_lt {P Q : Nat → Prop} {a : Nat} (hp : ¬ P a) (hq : Q a) : ∀ {N : Nat}, (∀ k, k < N → P k → Q k) → a < N → gl_cn P N < gl_cn Q N
  | 0, _, h => by omega
  | N + 1, h, ha => by
    simp only [gl_cn]
    rcases Nat.lt_or_ge a N with z | z
    · have x := gl_cn_lt hp hq (N := N) (fun k hk => h k (by omega)) z
      have b := gl_b_mono (h N (by omega))
      omega
    · have e : a = N := by omega
      subst e
      have x := gl_cn_mono (P := P) (Q := Q) (N := a) (fun k hk => h k (by omega))
      rw [gl_b_t hq, gl_b_f hp]; omega
theorem gl_cn_le (P : Nat → Prop) : ∀ N, gl_cn P N ≤ N
  | 0 => Nat.le_refl _
  | N + 1 => by have := gl_cn_le P N; have := gl_b_le (P N); simp only [gl_cn]; omega
theorem gl_cn_eq {P Q : Nat → Prop} {N : Nat} (h : ∀ k, k < N → (P k ↔ Q k)) : gl_cn P N = gl_cn Q N :=
  Nat.le_antisymm (gl_cn_mono fun k hk => (h k hk).mp) (gl_cn_mono fun k hk => (h k hk).mpr)
theorem gl_cn_add {P : Nat → Prop} {a : Nat} (hp : ¬ P a) : ∀ {N : Nat}, a < N → gl_cn (fun k => P k ∨ k = a) N = gl_cn P N + 1
  | 0, h => by omega
  | N + 1, h => by
    simp only [gl_cn]
    rcases Nat.lt_or_ge a N with z | z
    · rw [gl_cn_add hp z]
      have : gl_b (P N ∨ N = a) = gl_b (P N) := Nat.le_antisymm (gl_b_mono fun q => q.elim id (fun e => by omega)) (gl_b_mono Or.inl)
      omega
    · have e : a = N := by omega
      subst e
      rw [gl_cn_eq (P := fun k => P k ∨ k = a) (Q := P) (fun k hk => ⟨fun q => q.elim id (fun e => by omega), Or.inl⟩), gl_b_t (Or.inr rfl), gl_b_f hp]
theorem gl_cn_0 {P : Nat → Prop} {N : Nat} (h : gl_cn P N = 0) : ∀ k, k < N → ¬ P k := by
  intro k hk hp
  have := gl_cn_lt (P := fun _ => False) (Q := P) (a := k) id hp (N := N) (fun _ _ q => q.elim) hk
  omega
theorem gl_cn_F {P : Nat → Prop} : ∀ {N : Nat}, (∀ k, k < N → ¬ P k) → gl_cn P N = 0
  | 0, _ => rfl
  | N + 1, h => by
    simp only [gl_cn]
    rw [gl_cn_F (N := N) (fun k hk => h k (by omega)), gl_b_f (h N (by omega))]
theorem gl_cn_full {P : Nat → Prop} {N M : Nat} (h : ∀ k, k < N → P k → k < M) : gl_cn P N ≤ M := by
  have a : ∀ N, gl_cn (fun k => k < M) N ≤ M := by
    intro N
    induction N with
    | zero => exact Nat.zero_le _
    | succ N ih =>
      simp only [gl_cn]
      rcases Nat.lt_or_ge N M with z | z
      · have := gl_cn_le (fun k => k < M) N
        rw [gl_b_t z]; omega
      · rw [gl_b_f (by omega)]; omega
  exact Nat.le_trans (gl_cn_mono h) (a N)
/-! The grammar: lefts L, rights R, sizes Z (arrays of the component), count c, text t of size s -/
def gl_N (a : Nat → Int32) (r : Nat) : Nat := (a r).toNatClampNeg
/-- sign g fits the stretch (i, j), names by the set S -/
def gl_sf (s : Nat) (t : Nat → Int32) (S : Nat → Nat → Nat → Prop) (g i j : Nat) : Prop :=
  (g < 5 ∧ S g i j) ∨ (5 ≤ g ∧ i < s ∧ j = i + 1 ∧ t i = nI g)
/-- the first k signs of rule r fit the stretch (i, j) -/
def gl_pf (s : Nat) (R t : Nat → Int32) (S : Nat → Nat → Nat → Prop) (r : Nat) : Nat → Nat → Nat → Prop
  | 0 => fun i j => i = j
  | k + 1 => fun i j => ∃ m, gl_pf s R t S r k i m ∧ gl_sf s t S (gl_N R (3 * r + k)) m j
def gl_cl (c s : Nat) (L R Z t : Nat → Int32) (S : Nat → Nat → Nat → Prop) : Prop :=
  ∀ r i j, r < c → i ≤ s → gl_pf s R t S r (gl_N Z r) i j → S (gl_N L r) i j
/-- the least closed set: what the grammar derives -/
def gl_D (c s : Nat) (L R Z t : Nat → Int32) (n i j : Nat) : Prop := ∀ S, gl_cl c s L R Z t S → S n i j
/-- a good grammar -/
def gl_G (c s : Nat) (L R Z : Nat → Int32) : Prop :=
  c ≤ 12 ∧ s ≤ 8 ∧ ∀ r, r < c → (gl_N L r < 5 ∧ L r = nI (gl_N L r)) ∧ (gl_N Z r ≤ 3 ∧ Z r = nI (gl_N Z r)) ∧ ∀ k, k < gl_N Z r → gl_N R (3 * r + k) < 8 ∧ R (3 * r + k) = nI (gl_N R (3 * r + k))
section
variable {c s : Nat} {L R Z t : Nat → Int32}
theorem gl_sf_mono {S S' : Nat → Nat → Nat → Prop} (h : ∀ n i j, S n i j → S' n i j) {g i j : Nat} (q : gl_sf s t S g i j) : gl_sf s t S' g i j :=
  q.elim (fun q => Or.inl ⟨q.1, h _ _ _ q.2⟩) Or.inr
theorem gl_pf_mono {S S' : Nat → Nat → Nat → Prop} (h : ∀ n i j, S n i j → S' n i j) {r : Nat} : ∀ {k i j : Nat}, gl_pf s R t S r k i j → gl_pf s R t S' r k i j := by
  intro k
  induction k with
  | zero => intro i j q; exact q
  | succ k ih =>
    intro i j q
    obtain ⟨m, a, b⟩ := q
    exact ⟨m, ih a, gl_sf_mono h b⟩
theorem gl_D_cl : gl_cl c s L R Z t (gl_D c s L R Z t) := by
  intro r i j hr hi h S hS
  exact hS r i j hr hi (gl_pf_mono (fun n i j q => q S hS) h)
theorem gl_sf_le {S : Nat → Nat → Nat → Prop} (hS : ∀ n i j, S n i j → i ≤ j ∧ j ≤ s) {g i j : Nat} (h : gl_sf s t S g i j) : i ≤ j ∧ j ≤ s := by
  rcases h with ⟨_, h⟩ | ⟨_, h1, h2, _⟩
  · exact hS _ _ _ h
  · omega
theorem gl_pf_le {S : Nat → Nat → Nat → Prop} (hS : ∀ n i j, S n i j → i ≤ j ∧ j ≤ s) {r : Nat} : ∀ {k i j : Nat}, i ≤ s → gl_pf s R t S r k i j → i ≤ j ∧ j ≤ s := by
  intro k
  induction k with
  | zero =>
    intro i j hi q
    have e : i = j := q
    omega
  | succ k ih =>
    intro i j hi q
    obtain ⟨m, a, b⟩ := q
    have h1 := ih hi a
    have h2 := gl_sf_le hS b
    omega
theorem gl_D_in (G : gl_G c s L R Z) {n i j : Nat} (h : gl_D c s L R Z t n i j) : n < 5 ∧ i ≤ j ∧ j ≤ s := by
  refine h (fun n i j => n < 5 ∧ i ≤ j ∧ j ≤ s) ?_
  intro r i j hr hi q
  have := gl_pf_le (fun n i j z => z.2) hi q
  exact ⟨((G.2.2 r hr).1).1, this⟩
theorem gl_D_le (G : gl_G c s L R Z) (n i j : Nat) (h : gl_D c s L R Z t n i j) : i ≤ j ∧ j ≤ s := (gl_D_in G h).2
theorem gl_pf0 {S : Nat → Nat → Nat → Prop} (hS : ∀ n i j, S n i j → i ≤ j ∧ j ≤ s) {r a : Nat} (ha : a ≤ s) {P : Nat → Nat → Nat → Prop} {i : Nat} (hP : ∀ n, S n a a → P n i i) : ∀ {k : Nat}, gl_pf s R t S r k a a → gl_pf s R t P r k i i := by
  intro k
  induction k with
  | zero => intro q; rfl
  | succ k ih =>
    intro q
    obtain ⟨m, x, y⟩ := q
    have h1 := gl_pf_le hS ha x
    have h2 := gl_sf_le hS y
    have e : m = a := by omega
    subst e
    refine ⟨i, ih x, ?_⟩
    rcases y with ⟨g5, y⟩ | ⟨g5, y1, y2, _⟩
    · exact Or.inl ⟨g5, hP _ y⟩
    · omega
theorem gl_D_move (G : gl_G c s L R Z) {n a i : Nat} (hi : i ≤ s) (h : gl_D c s L R Z t n a a) : gl_D c s L R Z t n i i := by
  have key : gl_cl c s L R Z t (fun n x y => gl_D c s L R Z t n x y ∧ (x = y → ∀ i, i ≤ s → gl_D c s L R Z t n i i)) := by
    intro r x y hr hx q
    refine ⟨gl_D_cl r x y hr hx (gl_pf_mono (fun n i j z => z.1) q), ?_⟩
    intro e i hi
    subst e
    exact gl_D_cl r i i hr hi (gl_pf0 (fun n i j z => gl_D_le G n i j z.1) hx (fun n z => z.2 rfl i hi) q)
  exact (h _ key).2 rfl i hi
theorem gl_D_emp (G : gl_G c s L R Z) (n : Nat) : gl_D c s L R Z t n s s ↔ gl_D c s L R Z t n 0 0 :=
  ⟨gl_D_move G (Nat.zero_le _), gl_D_move G (Nat.le_refl _)⟩
end
end
section
/-! The machine of the component over sets: what it keeps between two descriptors -/
/-- the number of a descriptor: rule r, place k in it, node nd, text place pl -/
def gl_d (r k nd pl : Nat) : Nat := ((4 * r + k) * 45 + nd) * 9 + pl
/-- a sound descriptor -/
def gl_VD (c s : Nat) (L R Z t : Nat → Int32) (r k nd pl : Nat) : Prop :=
  r < c ∧ k ≤ gl_N Z r ∧ nd < 45 ∧ nd / 9 = gl_N L r ∧ nd % 9 ≤ s ∧ pl ≤ s ∧ gl_pf s R t (gl_D c s L R Z t) r k (nd % 9) pl
/-- a descriptor that has been handled -/
def gl_dn (s : Nat) (R Z t : Nat → Int32) (Se : Nat → Prop) (Ca En : Nat → Nat → Prop) (Op : Nat → Prop) (r k nd pl : Nat) : Prop :=
  (k = gl_N Z r → En nd pl) ∧ (k < gl_N Z r → 5 ≤ gl_N R (3 * r + k) → pl < s → t pl = nI (gl_N R (3 * r + k)) → Se (gl_d r (k + 1) nd (pl + 1))) ∧ (k < gl_N Z r → gl_N R (3 * r + k) < 5 → Ca (9 * gl_N R (3 * r + k) + pl) ((4 * r + (k + 1)) * 45 + nd) ∧ Op (9 * gl_N R (3 * r + k) + pl))
def gl_inv (c s : Nat) (L R Z t : Nat → Int32) (Ex Se Pe : Nat → Prop) (Ca En : Nat → Nat → Prop) (Op : Nat → Prop) : Prop :=
  (∀ d, Se d → ∃ r k nd pl, d = gl_d r k nd pl ∧ gl_VD c s L R Z t r k nd pl) ∧
  (∀ n j, En n j → n < 45 ∧ n % 9 ≤ s ∧ j ≤ s ∧ gl_D c s L R Z t (n / 9) (n % 9) j) ∧
  (∀ n x, Ca n x → ∃ r k nd, x = (4 * r + (k + 1)) * 45 + nd ∧ n < 45 ∧ k < gl_N Z r ∧ gl_N R (3 * r + k) = n / 9 ∧ gl_VD c s L R Z t r k nd (n % 9)) ∧
  (∀ n, Op n → n < 45 ∧ n % 9 ≤ s ∧ ∀ r, r < c → gl_N L r = n / 9 → Se (gl_d r 0 n (n % 9))) ∧
  (∀ r k nd pl, gl_VD c s L R Z t r k nd pl → Se (gl_d r k nd pl) → ¬ Pe (gl_d r k nd pl) → ¬ Ex (gl_d r k nd pl) → gl_dn s R Z t Se Ca En Op r k nd pl) ∧
  (∀ n x j, Ca n x → En n j → Se (x * 9 + j)) ∧
  (∀ n x, Ca n x → Op n) ∧
  (∀ d, Pe d → Se d)
theorem gl_d_inj {r k nd pl r' k' nd' pl' : Nat} (h : gl_d r k nd pl = gl_d r' k' nd' pl') (h1 : k ≤ 3) (h2 : nd < 45) (h3 : pl ≤ 8) (h1' : k' ≤ 3) (h2' : nd' < 45) (h3' : pl' ≤ 8) : r = r' ∧ k = k' ∧ nd = nd' ∧ pl = pl' := by
  unfold gl_d at h
  have e1 : pl = pl' := by omega
  have e2 : (4 * r + k) * 45 + nd = (4 * r' + k') * 45 + nd' := by omega
  have e3 : nd = nd' := by omega
  have e4 : 4 * r + k = 4 * r' + k' := by omega
  omega
theorem gl_d_dec {r k nd pl : Nat} (h2 : nd < 45) (h3 : pl ≤ 8) : gl_d r k nd pl / 9 / 45 = 4 * r + k ∧ gl_d r k nd pl / 9 % 45 = nd ∧ gl_d r k nd pl % 9 = pl := by
  have e : gl_d r k nd pl = ((4 * r + k) * 45 + nd) * 9 + pl := rfl
  have e1 : gl_d r k nd pl / 9 = (4 * r + k) * 45 + nd := by omega
  rw [e1]
  omega
section
variable {c s : Nat} {L R Z t : Nat → Int32} {Ex Se Pe : Nat → Prop} {Ca En : Nat → Nat → Prop} {Op : Nat → Prop}
theorem gl_VD_b (G : gl_G c s L R Z) {r k nd pl : Nat} (v : gl_VD c s L R Z t r k nd pl) : r < 12 ∧ k ≤ 3 ∧ nd < 45 ∧ pl ≤ 8 ∧ gl_d r k nd pl < 19440 := by
  have g1 := G.1
  have g2 := G.2.1
  obtain ⟨h1, h2, h3, h4, h5, h6, h7⟩ := v
  have g3 := (G.2.2 r h1).2.1.1
  have e : gl_d r k nd pl = ((4 * r + k) * 45 + nd) * 9 + pl := rfl
  omega
theorem gl_VD_inj (G : gl_G c s L R Z) {r k nd pl r' k' nd' pl' : Nat} (v : gl_VD c s L R Z t r k nd pl) (v' : gl_VD c s L R Z t r' k' nd' pl') (h : gl_d r k nd pl = gl_d r' k' nd' pl') : r = r' ∧ k = k' ∧ nd = nd' ∧ pl = pl' := by
  have a := gl_VD_b G v
  have b := gl_VD_b G v'
  exact gl_d_inj h a.2.1 a.2.2.1 a.2.2.2.1 b.2.1 b.2.2.1 b.2.2.2.1
theorem gl_VD_let {r k nd pl : Nat} (v : gl_VD c s L R Z t r k nd pl) (hk : k < gl_N Z r) (h5 : 5 ≤ gl_N R (3 * r + k)) (hp : pl < s) (ht : t pl = nI (gl_N R (3 * r + k))) : gl_VD c s L R Z t r (k + 1) nd (pl + 1) := by
  obtain ⟨h1, h2, h3, h4, h6, h7, h8⟩ := v
  exact ⟨h1, hk, h3, h4, h6, hp, pl, h8, Or.inr ⟨h5, hp, rfl, ht⟩⟩
theorem gl_VD_name {r k nd n j : Nat} (v : gl_VD c s L R Z t r k nd (n % 9)) (hn : n < 45) (hk : k < gl_N Z r) (hg : gl_N R (3 * r + k) = n / 9) (hD : gl_D c s L R Z t (n / 9) (n % 9) j) (hj : j ≤ s) : gl_VD c s L R Z t r (k + 1) nd j := by
  obtain ⟨h1, h2, h3, h4, h6, h7, h8⟩ := v
  refine ⟨h1, hk, h3, h4, h6, hj, n % 9, h8, Or.inl ⟨by omega, ?_⟩⟩
  rw [hg]
  exact hD
theorem gl_VD_0 {r n : Nat} (hr : r < c) (hn : n < 45) (hs : n % 9 ≤ s) (hl : gl_N L r = n / 9) : gl_VD c s L R Z t r 0 n (n % 9) :=
  ⟨hr, Nat.zero_le _, hn, hl.symm, hs, hs, rfl⟩
theorem gl_dn_mono {Se' : Nat → Prop} {Ca' En' : Nat → Nat → Prop} {Op' : Nat → Prop} (h1 : ∀ e, Se e → Se' e) (h2 : ∀ n x, Ca n x → Ca' n x) (h3 : ∀ n x, En n x → En' n x) (h4 : ∀ n, Op n → Op' n) {r k nd pl : Nat} (h : gl_dn s R Z t Se Ca En Op r k nd pl) : gl_dn s R Z t Se' Ca' En' Op' r k nd pl :=
  ⟨fun q => h3 _ _ (h.1 q), fun q1 q2 q3 q4 => h1 _ (h.2.1 q1 q2 q3 q4), fun q1 q2 => ⟨h2 _ _ (h.2.2 q1 q2).1, h4 _ (h.2.2 q1 q2).2⟩⟩
theorem gl_inv_add (I : gl_inv c s L R Z t Ex Se Pe Ca En Op) {A Se' Pe' : Nat → Prop} (hA : ∀ e, A e → ∃ r k nd pl, e = gl_d r k nd pl ∧ gl_VD c s L R Z t r k nd pl) (h1 : ∀ e, Se' e ↔ Se e ∨ A e) (h2 : ∀ e, Pe' e ↔ Pe e ∨ (A e ∧ ¬ Se e)) : gl_inv c s L R Z t Ex Se' Pe' Ca En Op := by
  obtain ⟨s1, s2, s3, c1, c2, c3, c4, pp⟩ := I
  have m : ∀ e, Se e → Se' e := fun e q => (h1 e).mpr (Or.inl q)
  refine ⟨fun d h => ((h1 d).mp h).elim (s1 d) (hA d), s2, s3, fun n h => ⟨(c1 n h).1, (c1 n h).2.1, fun r hr e => m _ ((c1 n h).2.2 r hr e)⟩, ?_, fun n x j a b => m _ (c3 n x j a b), c4, ?_⟩
  · intro r k nd pl v hs hp hx
    have hse : Se (gl_d r k nd pl) := by
      rcases Classical.em (Se (gl_d r k nd pl)) with q | q
      · exact q
      · exact absurd ((h2 _).mpr (Or.inr ⟨((h1 _).mp hs).resolve_left q, q⟩)) hp
    exact gl_dn_mono m (fun _ _ q => q) (fun _ _ q => q) (fun _ q => q) (c2 r k nd pl v hse (fun q => hp ((h2 _).mpr (Or.inl q))) hx)
  · intro d h
    rcases (h2 d).mp h with q | q
    · exact m _ (pp d q)
    · exact (h1 d).mpr (Or.inr q.1)
theorem gl_inv_en (I : gl_inv c s L R Z t Ex Se Pe Ca En Op) {nd pl : Nat} (hn : nd < 45) (hs : nd % 9 ≤ s) (hp : pl ≤ s) (hD : gl_D c s L R Z t (nd / 9) (nd % 9) pl) (hC : ∀ x, Ca nd x → Se (x * 9 + pl)) {En' : Nat → Nat → Prop} (h : ∀ n j, En' n j ↔ En n j ∨ (n = nd ∧ j = pl)) : gl_inv c s L R Z t Ex Se Pe Ca En' Op := by
  obtain ⟨s1, s2, s3, c1, c2, c3, c4, pp⟩ := I
  refine ⟨s1, ?_, s3, c1, ?_, ?_, c4, pp⟩
  · intro n j q
    rcases (h n j).mp q with q | ⟨rfl, rfl⟩
    · exact s2 n j q
    · exact ⟨hn, hs, hp, hD⟩
  · intro r k nd pl v q1 q2 q3
    exact gl_dn_mono (fun _ q => q) (fun _ _ q => q) (fun n j q => (h n j).mpr (Or.inl q)) (fun _ q => q) (c2 r k nd pl v q1 q2 q3)
  · intro n x j q1 q2
    rcases (h n j).mp q2 with q | ⟨rfl, rfl⟩
    · exact c3 n x j q1 q
    · exact hC x q1
theorem gl_inv_op (I : gl_inv c s L R Z t Ex Se Pe Ca En Op) {n : Nat} (hn : n < 45) (hs : n % 9 ≤ s) (hC : ∀ r, r < c → gl_N L r = n / 9 → Se (gl_d r 0 n (n % 9))) {Op' : Nat → Prop} (h : ∀ m, Op' m ↔ Op m ∨ m = n) : gl_inv c s L R Z t Ex Se Pe Ca En Op' := by
  obtain ⟨s1, s2, s3, c1, c2, c3, c4, pp⟩ := I
  have m : ∀ e, Op e → Op' e := fun e q => (h e).mpr (Or.inl q)
  refine ⟨s1, s2, s3, ?_, ?_, c3, fun n x q => m _ (c4 n x q), pp⟩
  · intro n' q
    rcases (h n').mp q with q | rfl
    · exact c1 n' q
    · exact ⟨hn, hs, hC⟩
  · intro r k nd pl v q1 q2 q3
    exact gl_dn_mono (fun _ q => q) (fun _ _ q => q) (fun _ _ q => q) m (c2 r k nd pl v q1 q2 q3)
theorem gl_inv_ca (I : gl_inv c s L R Z t Ex Se Pe Ca En Op) {n x : Nat} (hV : ∃ r k nd, x = (4 * r + (k + 1)) * 45 + nd ∧ n < 45 ∧ k < gl_N Z r ∧ gl_N R (3 * r + k) = n / 9 ∧ gl_VD c s L R Z t r k nd (n % 9)) (hO : Op n) (hE : ∀ j, En n j → Se (x * 9 + j)) {Ca' : Nat → Nat → Prop} (h : ∀ m y, Ca' m y ↔ Ca m y ∨ (m = n ∧ y = x)) : gl_inv c s L R Z t Ex Se Pe Ca' En Op := by
  obtain ⟨s1, s2, s3, c1, c2, c3, c4, pp⟩ := I
  have m : ∀ n x, Ca n x → Ca' n x := fun n x q => (h n x).mpr (Or.inl q)
  refine ⟨s1, s2, ?_, c1, ?_, ?_, ?_, pp⟩
  · intro n' x' q
    rcases (h n' x').mp q with q | ⟨rfl, rfl⟩
    · exact s3 n' x' q
    · exact hV
  · intro r k nd pl v q1 q2 q3
    exact gl_dn_mono (fun _ q => q) m (fun _ _ q => q) (fun _ q => q) (c2 r k nd pl v q1 q2 q3)
  · intro n' x' j q1 q2
    rcases (h n' x').mp q1 with q | ⟨rfl, rfl⟩
    · exact c3 n' x' j q q2
    · exact hE j q2
  · intro n' x' q
    rcases (h n' x').mp q with q | ⟨rfl, rfl⟩
    · exact c4 n' x' q
    · exact hO
theorem gl_inv_done (G : gl_G c s L R Z) {r k nd pl : Nat} (I : gl_inv c s L R Z t (fun e => e = gl_d r k nd pl) Se Pe Ca En Op) (v : gl_VD c s L R Z t r k nd pl) (hd : gl_dn s R Z t Se Ca En Op r k nd pl) : gl_inv c s L R Z t (fun _ => False) Se Pe Ca En Op := by
  obtain ⟨s1, s2, s3, c1, c2, c3, c4, pp⟩ := I
  refine ⟨s1, s2, s3, c1, ?_, c3, c4, pp⟩
  intro r' k' nd' pl' v' q1 q2 _
  rcases Classical.em (gl_d r' k' nd' pl' = gl_d r k nd pl) with e | e
  · obtain ⟨rfl, rfl, rfl, rfl⟩ := gl_VD_inj G v' v e
    exact hd
  · exact c2 r' k' nd' pl' v' q1 q2 e
theorem gl_inv_pop (I : gl_inv c s L R Z t (fun _ => False) Se Pe Ca En Op) {d : Nat} {Pe' : Nat → Prop} (h : ∀ e, Pe' e ↔ Pe e ∧ e ≠ d) : gl_inv c s L R Z t (fun e => e = d) Se Pe' Ca En Op := by
  obtain ⟨s1, s2, s3, c1, c2, c3, c4, pp⟩ := I
  refine ⟨s1, s2, s3, c1, ?_, c3, c4, fun e q => pp e ((h e).mp q).1⟩
  intro r k nd pl v q1 q2 q3
  exact c2 r k nd pl v q1 (fun q => q2 ((h _).mpr ⟨q, q3⟩)) id
theorem gl_inv_0 (h1 : ∀ e, ¬ Se e) (h2 : ∀ e, ¬ Pe e) (h3 : ∀ n x, ¬ Ca n x) (h4 : ∀ n x, ¬ En n x) (h5 : ∀ n, ¬ Op n) : gl_inv c s L R Z t (fun _ => False) Se Pe Ca En Op :=
  ⟨fun d q => absurd q (h1 d), fun n j q => absurd q (h4 n j), fun n x q => absurd q (h3 n x), fun n q => absurd q (h5 n), fun _ _ _ _ _ q => absurd q (h1 _), fun n x _ q => absurd q (h3 n x), fun n x q => absurd q (h3 n x), fun d q => absurd q (h2 d)⟩
theorem gl_inv_end (G : gl_G c s L R Z) (I : gl_inv c s L R Z t (fun _ => False) Se Pe Ca En Op) (hP : ∀ d, ¬ Pe d) {n i : Nat} (hn : n < 5) (hi : i ≤ s) (hO : Op (9 * n + i)) (j : Nat) : En (9 * n + i) j ↔ gl_D c s L R Z t n i j := by
  have g2 := G.2.1
  obtain ⟨s1, s2, s3, c1, c2, c3, c4, pp⟩ := I
  constructor
  · intro h
    have a := (s2 _ _ h).2.2.2
    rw [show (9 * n + i) / 9 = n by omega, show (9 * n + i) % 9 = i by omega] at a
    exact a
  · intro h
    have key : gl_cl c s L R Z t (fun n i j => n < 5 → i ≤ s → Op (9 * n + i) → En (9 * n + i) j) := by
      intro r i j hr hi q hn5 _ ho
      have co := c1 _ ho
      have e1 : (9 * gl_N L r + i) / 9 = gl_N L r := by omega
      have e2 : (9 * gl_N L r + i) % 9 = i := by omega
      have walk : ∀ k m, k ≤ gl_N Z r → gl_pf s R t (fun n i j => n < 5 → i ≤ s → Op (9 * n + i) → En (9 * n + i) j) r k i m → gl_VD c s L R Z t r k (9 * gl_N L r + i) m ∧ Se (gl_d r k (9 * gl_N L r + i) m) := by
        intro k
        induction k with
        | zero =>
          intro m _ e
          have e : i = m := e
          subst e
          have a := gl_VD_0 (c := c) (s := s) (L := L) (R := R) (Z := Z) (t := t) hr co.1 co.2.1 e1.symm
          have b := co.2.2 r hr e1.symm
          rw [e2] at a b
          exact ⟨a, b⟩
        | succ k ih =>
          intro m hk q
          obtain ⟨m', q1, q2⟩ := q
          obtain ⟨v, w⟩ := ih m' (by omega) q1
          have dn := c2 r k _ m' v w (hP _) id
          have hm' := v.2.2.2.2.2.1
          rcases q2 with ⟨g5, q2⟩ | ⟨g5, p1, p2, p3⟩
          · have ca := dn.2.2 (by omega) g5
            have en := q2 g5 hm' ca.2
            have d1 := s2 _ _ en
            have f1 : (9 * gl_N R (3 * r + k) + m') / 9 = gl_N R (3 * r + k) := by omega
            have f2 : (9 * gl_N R (3 * r + k) + m') % 9 = m' := by omega
            refine ⟨gl_VD_name (n := 9 * gl_N R (3 * r + k) + m') ?_ d1.1 (by omega) f1.symm d1.2.2.2 d1.2.2.1, c3 _ _ _ ca.1 en⟩
            rw [f2]
            exact v
          · subst p2
            exact ⟨gl_VD_let v (by omega) g5 p1 p3, dn.2.1 (by omega) g5 p1 p3⟩
      obtain ⟨v, w⟩ := walk (gl_N Z r) j (Nat.le_refl _) q
      exact (c2 r _ _ j v w (hP _) id).1 rfl
    exact h _ key hn hi hO
end
end
section
/-! bits of an int -/
theorem gl_nf {x : Bool} (h : ¬ x = false) : x = true := by cases x; exact absurd rfl h; rfl
theorem gl_bt1 {i : Nat} (hi : i < 32) : bt 1 i = decide (i = 0) := (by decide +kernel : ∀ i, i < 32 → bt 1 i = decide (i = 0)) i hi
theorem gl_one {n i : Nat} (hn : n < 32) (hi : i < 32) : bt ((1 : Int32) <<< (nI n &&& 31)) i = decide (i = n) :=
  (by decide +kernel : ∀ n, n < 32 → ∀ i, i < 32 → bt ((1 : Int32) <<< (nI n &&& 31)) i = decide (i = n)) n hn i hi
theorem gl_b1 {P : Prop} : nI (gl_b P) = 1 ↔ P := by
  rcases Classical.em P with h | h
  · rw [gl_b_t h]; exact ⟨fun _ => h, fun _ => rfl⟩
  · rw [gl_b_f h]; exact ⟨fun q => absurd q (by decide), fun q => absurd q h⟩
theorem gl_b0 {P : Prop} : nI (gl_b P) = 0 ↔ ¬ P := by
  rcases Classical.em P with h | h
  · rw [gl_b_t h]; exact ⟨fun q => absurd q (by decide), fun q => absurd h q⟩
  · rw [gl_b_f h]; exact ⟨fun _ => h, fun _ => rfl⟩
theorem gl_tst (x : Int32) {n : Nat} (hn : n < 32) : (x &&& ((1 : Int32) <<< (nI n &&& 31))) = 0 ↔ bt x n = false := by
  constructor
  · intro h
    have a : bt (x &&& ((1 : Int32) <<< (nI n &&& 31))) n = bt 0 n := by rw [h]
    rw [b_and, gl_one hn hn, b_0, decide_eq_true rfl, Bool.and_true] at a
    exact a
  · intro h
    apply b_ext
    intro i hi
    rw [b_and, gl_one hn hi, b_0]
    by_cases e : i = n
    · rw [e, h, Bool.false_and]
    · rw [decide_eq_false e, Bool.and_false]
theorem gl_01 {x : Int32} {v : Bool} (key : ∀ i, i < 32 → bt x i = (decide (i = 0) && v)) : x = nI (gl_b (v = true)) := by
  rcases Classical.em (v = true) with h | h
  · rw [gl_b_t h]
    apply b_ext
    intro i hi
    rw [key i hi, h, Bool.and_true]
    exact (gl_bt1 hi).symm
  · rw [gl_b_f h]
    apply b_ext
    intro i hi
    rw [key i hi, Bool.eq_false_iff.mpr h, Bool.and_false]
    exact (b_0 i).symm
theorem gl_shr (x : Int32) {n : Nat} (hn : n < 32) : (x >>> (nI n &&& 31)) &&& 1 = nI (gl_b (bt x n = true)) := by
  apply gl_01
  intro i hi
  rw [b_and, b_sshr n hn x hi, gl_bt1 hi]
  by_cases e : i = 0
  · rw [e, if_pos (by omega), Nat.add_zero, Bool.and_comm]
  · rw [decide_eq_false e, Bool.and_false, Bool.false_and]
theorem gl_ush (x : Int32) {n : Nat} (hn : n < 32) : ((x.toUInt32 >>> ((nI n).toUInt32 &&& Int32.toUInt32 31)).toInt32) &&& 1 = nI (gl_b (bt x n = true)) := by
  apply gl_01
  intro i hi
  rw [b_and, b_ushr n hn x, gl_bt1 hi]
  by_cases e : i = 0
  · rw [e, Nat.add_zero, Bool.and_comm]
  · rw [decide_eq_false e, Bool.and_false, Bool.false_and]
theorem gl_sb (x : Int32) {n : Nat} (hn : n < 32) : (x >>> (nI n &&& 31)) &&& 1 = 1 ↔ bt x n = true := by rw [gl_shr x hn, gl_b1]
theorem gl_ub (x : Int32) {n : Nat} (hn : n < 32) : ((x.toUInt32 >>> ((nI n).toUInt32 &&& Int32.toUInt32 31)).toInt32) &&& 1 = 1 ↔ bt x n = true := by rw [gl_ush x hn, gl_b1]
/-! an array of words as one row of bits -/
def gl_bit (a : Nat → Int32) (e : Nat) : Bool := bt (a (e / 32)) (e % 32)
theorem gl_set (a : Nat → Int32) (d e : Nat) : gl_bit (upd a (d / 32) (a (d / 32) ||| ((1 : Int32) <<< (nI (d % 32) &&& 31)))) e = (gl_bit a e || decide (e = d)) := by
  have hd := Nat.mod_lt d (show 0 < 32 by decide)
  have he := Nat.mod_lt e (show 0 < 32 by decide)
  unfold gl_bit
  by_cases h : e / 32 = d / 32
  · have q : (e % 32 = d % 32) ↔ e = d := by omega
    rw [h, pk_us, b_or, gl_one hd he, decide_eq_decide.mpr q]
  · rw [pk_un h, decide_eq_false (fun q => h (by rw [q])), Bool.or_false]
theorem gl_clr (a : Nat → Int32) (d e : Nat) : gl_bit (upd a (d / 32) (a (d / 32) &&& (((1 : Int32) <<< (nI (d % 32) &&& 31)) ^^^ (-1)))) e = (gl_bit a e && !decide (e = d)) := by
  have hd := Nat.mod_lt d (show 0 < 32 by decide)
  have he := Nat.mod_lt e (show 0 < 32 by decide)
  unfold gl_bit
  by_cases h : e / 32 = d / 32
  · have q : (e % 32 = d % 32) ↔ e = d := by omega
    rw [h, pk_us, b_and, b_xor, b_m1 _ he, gl_one hd he, decide_eq_decide.mpr q, Bool.xor_true]
  · rw [pk_un h, decide_eq_false (fun q => h (by rw [q])), Bool.not_false, Bool.and_true]
/-! the component's arrays as sets -/
def gl_S (a : Nat → Int32) (e : Nat) : Prop := e < 19456 ∧ gl_bit a e = true
def gl_C (a : Nat → Int32) (n x : Nat) : Prop := n < 45 ∧ x < 2160 ∧ gl_bit a (2176 * n + x) = true
def gl_E (a : Nat → Int32) (n j : Nat) : Prop := n < 45 ∧ j < 32 ∧ gl_bit a (32 * n + j) = true
def gl_O (a : Nat → Int32) (n : Nat) : Prop := n < 45 ∧ a n ≠ 0
theorem gl_S_iff {a : Nat → Int32} {d : Nat} (hd : d < 19456) : gl_S a d ↔ bt (a (d / 32)) (d % 32) = true := ⟨fun h => h.2, fun h => ⟨hd, h⟩⟩
theorem gl_C_iff {a : Nat → Int32} {n x : Nat} (hn : n < 45) (hx : x < 2160) : gl_C a n x ↔ bt (a (68 * n + x / 32)) (x % 32) = true := by
  unfold gl_C gl_bit
  rw [show (2176 * n + x) / 32 = 68 * n + x / 32 by omega, show (2176 * n + x) % 32 = x % 32 by omega]
  exact ⟨fun h => h.2.2, fun h => ⟨hn, hx, h⟩⟩
theorem gl_E_iff {a : Nat → Int32} {n j : Nat} (hn : n < 45) (hj : j < 32) : gl_E a n j ↔ bt (a n) j = true := by
  unfold gl_E gl_bit
  rw [show (32 * n + j) / 32 = n by omega, show (32 * n + j) % 32 = j by omega]
  exact ⟨fun h => h.2.2, fun h => ⟨hn, hj, h⟩⟩
theorem gl_S_set {a : Nat → Int32} {d : Nat} (hd : d < 19456) (e : Nat) : gl_S (upd a (d / 32) (a (d / 32) ||| ((1 : Int32) <<< (nI (d % 32) &&& 31)))) e ↔ gl_S a e ∨ e = d := by
  unfold gl_S
  rw [gl_set, Bool.or_eq_true, decide_eq_true_eq]
  constructor
  · rintro ⟨h1, h2 | h2⟩
    · exact Or.inl ⟨h1, h2⟩
    · exact Or.inr h2
  · rintro (⟨h1, h2⟩ | h2)
    · exact ⟨h1, Or.inl h2⟩
    · exact ⟨by omega, Or.inr h2⟩
theorem gl_S_clr {a : Nat → Int32} (d e : Nat) : gl_S (upd a (d / 32) (a (d / 32) &&& (((1 : Int32) <<< (nI (d % 32) &&& 31)) ^^^ (-1)))) e ↔ gl_S a e ∧ e ≠ d := by
  unfold gl_S
  rw [gl_clr, Bool.and_eq_true, Bool.not_eq_true', decide_eq_false_iff_not, and_assoc]
theorem gl_C_set {a : Nat → Int32} {n x : Nat} (hn : n < 45) (hx : x < 2160) (m y : Nat) : gl_C (upd a (68 * n + x / 32) (a (68 * n + x / 32) ||| ((1 : Int32) <<< (nI (x % 32) &&& 31)))) m y ↔ gl_C a m y ∨ (m = n ∧ y = x) := by
  have q := gl_set a (2176 * n + x) (2176 * m + y)
  rw [show (2176 * n + x) / 32 = 68 * n + x / 32 by omega, show (2176 * n + x) % 32 = x % 32 by omega] at q
  unfold gl_C
  rw [q, Bool.or_eq_true, decide_eq_true_eq]
  constructor
  · rintro ⟨h1, h2, h3 | h3⟩
    · exact Or.inl ⟨h1, h2, h3⟩
    · exact Or.inr (by omega)
  · rintro (⟨h1, h2, h3⟩ | ⟨rfl, rfl⟩)
    · exact ⟨h1, h2, Or.inl h3⟩
    · exact ⟨hn, hx, Or.inr rfl⟩
theorem gl_E_set {a : Nat → Int32} {n x : Nat} (hn : n < 45) (hx : x < 32) (m y : Nat) : gl_E (upd a n (a n ||| ((1 : Int32) <<< (nI x &&& 31)))) m y ↔ gl_E a m y ∨ (m = n ∧ y = x) := by
  have q := gl_set a (32 * n + x) (32 * m + y)
  rw [show (32 * n + x) / 32 = n by omega, show (32 * n + x) % 32 = x by omega] at q
  unfold gl_E
  rw [q, Bool.or_eq_true, decide_eq_true_eq]
  constructor
  · rintro ⟨h1, h2, h3 | h3⟩
    · exact Or.inl ⟨h1, h2, h3⟩
    · exact Or.inr (by omega)
  · rintro (⟨h1, h2, h3⟩ | ⟨rfl, rfl⟩)
    · exact ⟨h1, h2, Or.inl h3⟩
    · exact ⟨hn, hx, Or.inr rfl⟩
theorem gl_O_set {a : Nat → Int32} {n : Nat} (hn : n < 45) (m : Nat) : gl_O (upd a n 1) m ↔ gl_O a m ∨ m = n := by
  unfold gl_O
  by_cases h : m = n
  · subst h
    rw [pk_us]
    exact ⟨fun _ => Or.inr rfl, fun _ => ⟨hn, by decide⟩⟩
  · rw [pk_un h]
    exact ⟨Or.inl, fun q => q.elim id (fun e => absurd e h)⟩
/-- the counter is the number of the pending ones, and these are seen -/
def gl_CI (o : Int32) (se pe : Nat → Int32) : Prop := o = nI (gl_cn (gl_S pe) 19456) ∧ ∀ e, gl_S pe e → gl_S se e
/-- the descriptors of A have been added -/
def gl_X (A : Nat → Prop) (se pe : Nat → Int32) (o' : Int32) (se' pe' : Nat → Int32) : Prop :=
  gl_CI o' se' pe' ∧ (∀ e, gl_S se' e ↔ gl_S se e ∨ A e) ∧ (∀ e, gl_S pe' e ↔ gl_S pe e ∨ (A e ∧ ¬ gl_S se e))
theorem gl_X_0 {A : Nat → Prop} {o : Int32} {se pe : Nat → Int32} (h : gl_CI o se pe) (hA : ∀ e, A e → gl_S se e) : gl_X A se pe o se pe :=
  ⟨h, fun e => ⟨Or.inl, fun q => q.elim id (hA e)⟩, fun e => ⟨Or.inl, fun q => q.elim id (fun z => absurd (hA e z.1) z.2)⟩⟩
theorem gl_X_iff {A B : Nat → Prop} {o' : Int32} {se pe se' pe' : Nat → Int32} (h : gl_X A se pe o' se' pe') (hA : ∀ e, A e ↔ B e) : gl_X B se pe o' se' pe' := by
  have e : A = B := funext fun e => propext (hA e)
  rw [← e]
  exact h
theorem gl_X_trans {A B : Nat → Prop} {o1 o2 : Int32} {se pe se1 pe1 se2 pe2 : Nat → Int32} (h1 : gl_X A se pe o1 se1 pe1) (h2 : gl_X B se1 pe1 o2 se2 pe2) : gl_X (fun e => A e ∨ B e) se pe o2 se2 pe2 := by
  refine ⟨h2.1, fun e => ?_, fun e => ?_⟩
  · rw [h2.2.1, h1.2.1, or_assoc]
  · rw [h2.2.2, h1.2.2, h1.2.1]
    rcases Classical.em (A e) with a | a <;> rcases Classical.em (B e) with b | b <;> rcases Classical.em (gl_S se e) with z | z <;> simp [a, b, z]
theorem gl_X_H {A : Nat → Prop} {o' : Int32} {se pe se' pe' : Nat → Int32} (h : gl_X A se pe o' se' pe') {e : Nat} (q : gl_S se e ∧ ¬ gl_S pe e) : gl_S se' e ∧ ¬ gl_S pe' e :=
  ⟨(h.2.1 e).mpr (Or.inl q.1), fun z => ((h.2.2 e).mp z).elim q.2 (fun y => y.2 q.1)⟩
theorem gl_X_one {d : Nat} {o : Int32} {se pe : Nat → Int32} (hd : d < 19456) (hc : gl_CI o se pe) (hb : bt (se (d / 32)) (d % 32) = false) : gl_X (fun e => e = d) se pe (o + 1) (upd se (d / 32) (se (d / 32) ||| ((1 : Int32) <<< (nI (d % 32) &&& 31)))) (upd pe (d / 32) (pe (d / 32) ||| ((1 : Int32) <<< (nI (d % 32) &&& 31)))) := by
  have n1 : ¬ gl_S se d := fun q => by
    have z := (gl_S_iff hd).mp q
    rw [hb] at z
    exact absurd z (by decide)
  have n2 : ¬ gl_S pe d := fun q => n1 (hc.2 d q)
  refine ⟨⟨?_, ?_⟩, fun e => gl_S_set hd e, fun e => ?_⟩
  · rw [hc.1, nI_1, gl_cn_eq (Q := fun e => gl_S pe e ∨ e = d) (fun k _ => gl_S_set hd k), gl_cn_add n2 hd]
  · intro e q
    rcases (gl_S_set hd e).mp q with q | q
    · exact (gl_S_set hd e).mpr (Or.inl (hc.2 e q))
    · exact (gl_S_set hd e).mpr (Or.inr q)
  · rw [gl_S_set hd e]
    constructor
    · rintro (q | rfl)
      · exact Or.inl q
      · exact Or.inr ⟨rfl, n1⟩
    · rintro (q | q)
      · exact Or.inl q
      · exact Or.inr q.1
theorem gl_if {c d A B : Prop} (e : c ↔ d) (f : d → A) (g : ¬ d → B) : (c → A) ∧ (¬ c → B) := ⟨fun h => f (e.mp h), fun h => g (fun q => h (e.mpr q))⟩
section
variable {fc fs : Int32} {L R Z T ca en op : Nat → Int32}
theorem gl_add {o : Int32} {se pe : Nat → Int32} {post : SX → Prop} {p0 p1 p2 : Int32} {lb nd pl : Nat} (e0 : p0 = nI lb) (e1 : p1 = nI nd) (e2 : p2 = nI pl) (h1 : lb < 48) (h2 : nd < 45) (h3 : pl < 9) (hc : gl_CI o se pe) (H : ∀ o' se' pe', gl_X (fun e => e = (lb * 45 + nd) * 9 + pl) se pe o' se' pe' → post (fc, fs, o', L, R, Z, T, se', pe', ca, en, op)) : wpX_add post (fc, fs, o, L, R, Z, T, se, pe, ca, en, op) p0 p1 p2 := by
  subst e0 e1 e2
  have hd : (lb * 45 + nd) * 9 + pl < 19440 := by omega
  have e1 : (((nI lb * 45) + nI nd) * 9) + nI pl = nI ((lb * 45 + nd) * 9 + pl) := by
    rw [show nI lb * 45 = nI (lb * 45) from pk_mul lb 45, nI_add, show nI (lb * 45 + nd) * 9 = nI ((lb * 45 + nd) * 9) from pk_mul _ 9, nI_add]
  intro x4 e4
  rw [e1] at e4
  generalize (lb * 45 + nd) * 9 + pl = d at hd e4 H
  subst e4
  have e2 : nI d &&& 31 = nI (d % 32) := pk_andN (by omega) 5 (by decide)
  have e3 : nI d >>> ((5 : Int32) &&& 31) = nI (d / 32) := pk_shrN (by omega) _ 5 (by decide)
  have hm := Nat.mod_lt d (show 0 < 32 by decide)
  intro x5 e5
  rw [e2] at e5
  subst e5
  rw [e3, nI_clamp (n := d / 32) (by omega)]
  have hv : vp_in (nI (d / 32)) 608 := vp_in_nI (by omega) (by decide)
  refine ⟨hv, gl_if (gl_tst _ hm) (fun hb => ⟨hv, hv, nm_e ⟨hv, hv, nm_e (nm_e (H _ _ _ (gl_X_one (by omega) hc hb)))⟩⟩) (fun hb => H _ _ _ (gl_X_0 hc ?_))⟩
  intro e q
  have q : e = d := q
  rw [q]
  exact (gl_S_iff (by omega)).mpr (gl_nf hb)
theorem gl_call19 {post : SX → Prop} {c nd : Nat} (hc12 : c ≤ 12) (hL : ∀ r, r < c → gl_N L r < 5 ∧ L r = nI (gl_N L r)) (hn : nd < 45) : ∀ n r o se pe, r ≤ c → c - r < n → gl_CI o se pe → (∀ o' se' pe', gl_X (fun e => ∃ q, r ≤ q ∧ q < c ∧ gl_N L q = nd / 9 ∧ e = gl_d q 0 nd (nd % 9)) se pe o' se' pe' → post (nI c, fs, o', L, R, Z, T, se', pe', ca, en, op)) → wX_call_19 post (nI nd) n (nI r) (nI c) fs o L R Z T se pe ca en op := by
  intro n
  induction n with
  | zero => intro r o se pe _ h; omega
  | succ n ih =>
  intro r o se pe hr hf hci H
  refine pk_le c r (fun h => H _ _ _ (gl_X_0 hci ?_)) (fun h => ⟨vp_in_nI (by omega) (by decide), by decide, ?_⟩)
  · rintro e ⟨q, h1, h2, _⟩
    omega
  · have hd : nI nd / 9 = nI (nd / 9) := pk_div (d := 9) (by omega) (by decide) (by decide)
    refine gl_if (d := gl_N L r = nd / 9) ?_ (fun hl => ⟨by decide, ?_⟩) (fun hl => nm_r (nI_1 r) ?_)
    · have a := hL r h
      rw [nI_clamp (n := r) (by omega), a.2, hd, nI_eq (by omega) (by omega)]
    · refine gl_add (lb := 4 * r) (nd := nd) (pl := nd % 9) (pk_mul 4 r) rfl (pk_rem (d := 9) (by omega) (by decide) (by decide)) (by omega) hn (by omega) hci ?_
      intro o1 se1 pe1 h1
      refine nm_r (nI_1 r) (ih (r + 1) o1 se1 pe1 (by omega) (by omega) h1.1 (fun o2 se2 pe2 h2 => H _ _ _ (gl_X_iff (gl_X_trans h1 h2) ?_)))
      intro e
      constructor
      · rintro (q | ⟨q, q1, q2, q3, q4⟩)
        · exact ⟨r, Nat.le_refl _, h, hl, q⟩
        · exact ⟨q, by omega, q2, q3, q4⟩
      · rintro ⟨q, q1, q2, q3, q4⟩
        rcases Nat.lt_or_ge r q with z | z
        · exact Or.inr ⟨q, z, q2, q3, q4⟩
        · have z : q = r := by omega
          subst z
          exact Or.inl q4
    · refine ih (r + 1) o se pe (by omega) (by omega) hci (fun o2 se2 pe2 h2 => H _ _ _ (gl_X_iff h2 ?_))
      intro e
      constructor
      · rintro ⟨q, q1, q2, q3, q4⟩
        exact ⟨q, by omega, q2, q3, q4⟩
      · rintro ⟨q, q1, q2, q3, q4⟩
        rcases Nat.lt_or_ge r q with z | z
        · exact ⟨q, z, q2, q3, q4⟩
        · have z : q = r := by omega
          subst z
          exact absurd q3 hl
theorem gl_call {o : Int32} {se pe : Nat → Int32} {post : SX → Prop} {p0 : Int32} {c nd : Nat} (e0 : p0 = nI nd) (hc12 : c ≤ 12) (hL : ∀ r, r < c → gl_N L r < 5 ∧ L r = nI (gl_N L r)) (hn : nd < 45) (hci : gl_CI o se pe) (H : ∀ o' se' pe' op', gl_X (fun e => ¬ gl_O op nd ∧ ∃ q, q < c ∧ gl_N L q = nd / 9 ∧ e = gl_d q 0 nd (nd % 9)) se pe o' se' pe' → (∀ m, gl_O op' m ↔ gl_O op m ∨ m = nd) → post (nI c, fs, o', L, R, Z, T, se', pe', ca, en, op')) : wpX_call post (nI c, fs, o, L, R, Z, T, se, pe, ca, en, op) p0 := by
  subst e0
  have hv : vp_in (nI nd) 45 := vp_in_nI hn (by decide)
  refine ⟨hv, ?_⟩
  rw [nI_clamp (n := nd) (by omega)]
  refine br_c (fun h => ⟨hv, nm_e ⟨c + 1, ?_⟩⟩) (fun h => H _ _ _ _ (gl_X_0 hci ?_) ?_)
  · have ho : ¬ gl_O op nd := fun q => q.2 h
    refine gl_call19 hc12 hL hn (c + 1) 0 o se pe (Nat.zero_le _) (by omega) hci (fun o' se' pe' hX => H _ _ _ _ (gl_X_iff hX ?_) (gl_O_set hn))
    intro e
    exact ⟨fun ⟨q, q1, q2⟩ => ⟨ho, q, q2⟩, fun ⟨_, q, q2⟩ => ⟨q, Nat.zero_le _, q2⟩⟩
  · intro e q
    exact absurd ⟨hn, h⟩ q.1
  · intro m
    exact ⟨Or.inl, fun q => q.elim id (fun e => by rw [e]; exact ⟨hn, h⟩)⟩
theorem gl_fin33 {post : SX → Prop} {nd pl : Nat} (hn : nd < 45) (hp : pl < 9) : ∀ n k o se pe, k ≤ 2160 → 2160 - k < n → gl_CI o se pe → (∀ o' se' pe', gl_X (fun e => ∃ x, k ≤ x ∧ x < 2160 ∧ gl_C ca nd x ∧ e = x * 9 + pl) se pe o' se' pe' → post (fc, fs, o', L, R, Z, T, se', pe', ca, en, op)) → wX_finish_33 post (nI nd) (nI pl) n (nI k) fc fs o L R Z T se pe ca en op := by
  intro n
  induction n with
  | zero => intro k o se pe _ h; omega
  | succ n ih =>
  intro k o se pe hk hf hci H
  have ei : 68 * nI nd + (nI k >>> ((5 : Int32) &&& 31)) = nI (68 * nd + k / 32) := by
    rw [pk_shrN (by omega) _ 5 (by decide), show (68 : Int32) * nI nd = nI (68 * nd) from pk_mul 68 nd, nI_add]
  refine pk_le 2160 k (fun h => H _ _ _ (gl_X_0 hci ?_)) (fun h => ⟨?_, ?_⟩)
  · rintro e ⟨q, h1, h2, _⟩
    omega
  · rw [ei]
    exact vp_in_nI (by omega) (by decide)
  · refine gl_if (d := gl_C ca nd k) ?_ (fun hl => ⟨by decide, by decide, ?_⟩) (fun hl => nm_r (nI_1 k) ?_)
    · rw [ei, nI_clamp (n := 68 * nd + k / 32) (by omega), pk_andN (n := k) (m := 31) (by omega) 5 (by decide), gl_ub _ (Nat.mod_lt _ (by decide)), gl_C_iff hn h]
    · refine gl_add (lb := k / 45) (nd := k % 45) (pl := pl) (pk_div (d := 45) (by omega) (by decide) (by decide)) (pk_rem (d := 45) (by omega) (by decide) (by decide)) rfl (by omega) (by omega) hp hci ?_
      intro o1 se1 pe1 h1
      refine nm_r (nI_1 k) (ih (k + 1) o1 se1 pe1 (by omega) (by omega) h1.1 (fun o2 se2 pe2 h2 => H _ _ _ (gl_X_iff (gl_X_trans h1 h2) ?_)))
      intro e
      have ek : k / 45 * 45 + k % 45 = k := by omega
      constructor
      · rintro (q | ⟨q, q1, q2, q3, q4⟩)
        · exact ⟨k, Nat.le_refl _, h, hl, by rw [ek] at q; exact q⟩
        · exact ⟨q, by omega, q2, q3, q4⟩
      · rintro ⟨q, q1, q2, q3, q4⟩
        rcases Nat.lt_or_ge k q with z | z
        · exact Or.inr ⟨q, z, q2, q3, q4⟩
        · have z : q = k := by omega
          subst z
          exact Or.inl (by rw [ek]; exact q4)
    · refine ih (k + 1) o se pe (by omega) (by omega) hci (fun o2 se2 pe2 h2 => H _ _ _ (gl_X_iff h2 ?_))
      intro e
      constructor
      · rintro ⟨q, q1, q2, q3, q4⟩
        exact ⟨q, by omega, q2, q3, q4⟩
      · rintro ⟨q, q1, q2, q3, q4⟩
        rcases Nat.lt_or_ge k q with z | z
        · exact ⟨q, z, q2, q3, q4⟩
        · have z : q = k := by omega
          subst z
          exact absurd q3 hl
theorem gl_fin {o : Int32} {se pe : Nat → Int32} {post : SX → Prop} {p0 p1 : Int32} {nd pl : Nat} (e0 : p0 = nI nd) (e1 : p1 = nI pl) (hn : nd < 45) (hp : pl < 9) (hci : gl_CI o se pe) (H0 : gl_E en nd pl → post (fc, fs, o, L, R, Z, T, se, pe, ca, en, op)) (H : ∀ o' se' pe' en', gl_X (fun e => ∃ x, x < 2160 ∧ gl_C ca nd x ∧ e = x * 9 + pl) se pe o' se' pe' → (∀ m j, gl_E en' m j ↔ gl_E en m j ∨ (m = nd ∧ j = pl)) → post (fc, fs, o', L, R, Z, T, se', pe', ca, en', op)) : wpX_finish post (fc, fs, o, L, R, Z, T, se, pe, ca, en, op) p0 p1 := by
  subst e0 e1
  have hv : vp_in (nI nd) 45 := vp_in_nI hn (by decide)
  refine ⟨hv, ?_⟩
  rw [nI_clamp (n := nd) (by omega)]
  refine gl_if (d := gl_E en nd pl) ?_ H0 (fun h => ⟨hv, hv, nm_e ⟨2161, ?_⟩⟩)
  · rw [gl_sb _ (by omega), gl_E_iff hn (by omega)]
  · refine gl_fin33 hn hp 2161 0 o se pe (by omega) (by omega) hci (fun o' se' pe' hX => H _ _ _ _ (gl_X_iff hX ?_) (gl_E_set hn (by omega)))
    intro e
    exact ⟨fun ⟨q, q1, q2⟩ => ⟨q, q2⟩, fun ⟨q, q2⟩ => ⟨q, Nat.zero_le _, q2⟩⟩
end
end
section
section
variable {fs : Int32} {L R Z T ca en op : Nat → Int32}
theorem gl_att62 {post : SX → Prop} {c n lb cl : Nat} (hc12 : c ≤ 12) (hL : ∀ r, r < c → gl_N L r < 5 ∧ L r = nI (gl_N L r)) (hn : n < 45) (hlb : lb < 48) (hcl : cl < 45) : ∀ f p o se pe, p ≤ 9 → 9 - p < f → gl_CI o se pe → (∀ o' se' pe' op', gl_X (fun e => (∃ j, p ≤ j ∧ j < 9 ∧ gl_E en n j ∧ e = (lb * 45 + cl) * 9 + j) ∨ (¬ gl_O op n ∧ ∃ q, q < c ∧ gl_N L q = n / 9 ∧ e = gl_d q 0 n (n % 9))) se pe o' se' pe' → (∀ m, gl_O op' m ↔ gl_O op m ∨ m = n) → post (nI c, fs, o', L, R, Z, T, se', pe', ca, en, op')) → wX_attend_62 post (nI n) (nI lb) (nI cl) f (nI p) (nI c) fs o L R Z T se pe ca en op := by
  intro f
  induction f with
  | zero => intro p o se pe _ h; omega
  | succ f ih =>
  intro p o se pe hp hf hci H
  refine pk_le 9 p (fun h => ?_) (fun h => ⟨vp_in_nI hn (by decide), ?_⟩)
  · refine gl_call rfl hc12 hL hn hci (fun o' se' pe' op' hX hO => H _ _ _ _ (gl_X_iff hX ?_) hO)
    intro e
    constructor
    · exact Or.inr
    · rintro (⟨j, j1, j2, _⟩ | q)
      · omega
      · exact q
  · rw [nI_clamp (n := n) (by omega)]
    refine gl_if (d := gl_E en n p) ?_ (fun hl => ?_) (fun hl => nm_r (nI_1 p) ?_)
    · rw [gl_sb _ (by omega), gl_E_iff hn (by omega)]
    · refine gl_add (lb := lb) (nd := cl) (pl := p) rfl rfl rfl hlb hcl h hci ?_
      intro o1 se1 pe1 h1
      refine nm_r (nI_1 p) (ih (p + 1) o1 se1 pe1 (by omega) (by omega) h1.1 (fun o2 se2 pe2 op2 h2 hO => H _ _ _ _ (gl_X_iff (gl_X_trans h1 h2) ?_) hO))
      intro e
      constructor
      · rintro (q | (⟨q, q1, q2, q3, q4⟩ | q))
        · exact Or.inl ⟨p, Nat.le_refl _, h, hl, q⟩
        · exact Or.inl ⟨q, by omega, q2, q3, q4⟩
        · exact Or.inr q
      · rintro (⟨q, q1, q2, q3, q4⟩ | q)
        · rcases Nat.lt_or_ge p q with z | z
          · exact Or.inr (Or.inl ⟨q, z, q2, q3, q4⟩)
          · have z : q = p := by omega
            subst z
            exact Or.inl q4
        · exact Or.inr (Or.inr q)
    · refine ih (p + 1) o se pe (by omega) (by omega) hci (fun o2 se2 pe2 op2 h2 hO => H _ _ _ _ (gl_X_iff h2 ?_) hO)
      intro e
      constructor
      · rintro (⟨q, q1, q2, q3, q4⟩ | q)
        · exact Or.inl ⟨q, by omega, q2, q3, q4⟩
        · exact Or.inr q
      · rintro (⟨q, q1, q2, q3, q4⟩ | q)
        · rcases Nat.lt_or_ge p q with z | z
          · exact Or.inl ⟨q, z, q2, q3, q4⟩
          · have z : q = p := by omega
            subst z
            exact absurd q3 hl
        · exact Or.inr q
theorem gl_att {o : Int32} {se pe : Nat → Int32} {post : SX → Prop} {p0 p1 p2 : Int32} {c n lb cl : Nat} (e0 : p0 = nI n) (e1 : p1 = nI lb) (e2 : p2 = nI cl) (hc12 : c ≤ 12) (hL : ∀ r, r < c → gl_N L r < 5 ∧ L r = nI (gl_N L r)) (hn : n < 45) (hlb : lb < 48) (hcl : cl < 45) (hci : gl_CI o se pe) (H0 : gl_C ca n (lb * 45 + cl) → post (nI c, fs, o, L, R, Z, T, se, pe, ca, en, op)) (H : ∀ o' se' pe' ca' op', gl_X (fun e => (∃ j, j < 9 ∧ gl_E en n j ∧ e = (lb * 45 + cl) * 9 + j) ∨ (¬ gl_O op n ∧ ∃ q, q < c ∧ gl_N L q = n / 9 ∧ e = gl_d q 0 n (n % 9))) se pe o' se' pe' → (∀ m y, gl_C ca' m y ↔ gl_C ca m y ∨ (m = n ∧ y = lb * 45 + cl)) → (∀ m, gl_O op' m ↔ gl_O op m ∨ m = n) → post (nI c, fs, o', L, R, Z, T, se', pe', ca', en, op')) : wpX_attend post (nI c, fs, o, L, R, Z, T, se, pe, ca, en, op) p0 p1 p2 := by
  subst e0 e1 e2
  have hx : lb * 45 + cl < 2160 := by omega
  have q1 : nI lb * 45 + nI cl = nI (lb * 45 + cl) := by
    rw [show nI lb * 45 = nI (lb * 45) from pk_mul lb 45, nI_add]
  have big : ∀ o se pe ca, gl_CI o se pe → (∀ o' se' pe' op', gl_X (fun e => (∃ j, j < 9 ∧ gl_E en n j ∧ e = (lb * 45 + cl) * 9 + j) ∨ (¬ gl_O op n ∧ ∃ q, q < c ∧ gl_N L q = n / 9 ∧ e = gl_d q 0 n (n % 9))) se pe o' se' pe' → (∀ m, gl_O op' m ↔ gl_O op m ∨ m = n) → post (nI c, fs, o', L, R, Z, T, se', pe', ca, en, op')) → wX_attend_62 post (nI n) (nI lb) (nI cl) 10 (nI 0) (nI c) fs o L R Z T se pe ca en op := by
    intro o se pe ca hci H
    refine gl_att62 hc12 hL hn hlb hcl 10 0 o se pe (by omega) (by omega) hci (fun o' se' pe' op' hX hO => H _ _ _ _ (gl_X_iff hX ?_) hO)
    intro e
    constructor
    · rintro (⟨q, q1, q2⟩ | q)
      · exact Or.inl ⟨q, q2⟩
      · exact Or.inr q
    · rintro (⟨q, q2⟩ | q)
      · exact Or.inl ⟨q, Nat.zero_le _, q2⟩
      · exact Or.inr q
  intro x4 e4
  rw [q1] at e4
  generalize lb * 45 + cl = x at hx e4 H H0 big
  subst e4
  have q2 : nI x &&& 31 = nI (x % 32) := pk_andN (by omega) 5 (by decide)
  have q3 : 68 * nI n + (nI x >>> ((5 : Int32) &&& 31)) = nI (68 * n + x / 32) := by
    rw [pk_shrN (by omega) _ 5 (by decide), show (68 : Int32) * nI n = nI (68 * n) from pk_mul 68 n, nI_add]
  have hm := Nat.mod_lt x (show 0 < 32 by decide)
  intro x5 e5
  rw [q3] at e5
  subst e5
  intro x6 e6
  rw [q2] at e6
  subst e6
  rw [nI_clamp (n := 68 * n + x / 32) (by omega)]
  have hv : vp_in (nI (68 * n + x / 32)) 3060 := vp_in_nI (by omega) (by decide)
  refine ⟨hv, gl_if (gl_tst _ hm) (fun hb => ⟨hv, hv, nm_e ⟨10, big _ _ _ _ hci (fun o' se' pe' op' hX hO => H _ _ _ _ _ hX (gl_C_set hn hx) hO)⟩⟩) (fun hb => H0 ?_)⟩
  exact (gl_C_iff hn hx).mpr (gl_nf hb)
end
/-- what grows -/
def gl_M (se pe op se' pe' op' : Nat → Int32) : Prop :=
  (∀ e, gl_S se e → gl_S se' e) ∧ (∀ e, gl_S se e ∧ ¬ gl_S pe e → gl_S se' e ∧ ¬ gl_S pe' e) ∧ (∀ n, gl_O op n → gl_O op' n)
theorem gl_M_rf {se pe op : Nat → Int32} : gl_M se pe op se pe op := ⟨fun _ q => q, fun _ q => q, fun _ q => q⟩
theorem gl_M_tr {a b c a' b' c' a'' b'' c'' : Nat → Int32} (h : gl_M a b c a' b' c') (k : gl_M a' b' c' a'' b'' c'') : gl_M a b c a'' b'' c'' :=
  ⟨fun e q => k.1 e (h.1 e q), fun e q => k.2.1 e (h.2.1 e q), fun e q => k.2.2 e (h.2.2 e q)⟩
theorem gl_M_X {A : Nat → Prop} {o' : Int32} {se pe se' pe' op op' : Nat → Int32} (h : gl_X A se pe o' se' pe') (ho : ∀ n, gl_O op n → gl_O op' n) : gl_M se pe op se' pe' op' :=
  ⟨fun e q => (h.2.1 e).mpr (Or.inl q), fun _ q => gl_X_H h q, ho⟩
/-- the invariant over the arrays -/
def gl_I (c s : Nat) (L R Z T : Nat → Int32) (Ex : Nat → Prop) (se pe ca en op : Nat → Int32) : Prop :=
  gl_inv c s L R Z T Ex (gl_S se) (gl_S pe) (gl_C ca) (gl_E en) (gl_O op)
section
variable {c s : Nat} {L R Z T : Nat → Int32}
theorem gl_handle {o : Int32} {se pe ca en op : Nat → Int32} (G : gl_G c s L R Z) {post : SX → Prop} {p0 p1 p2 : Int32} {r k nd pl : Nat} (e0 : p0 = nI (4 * r + k)) (e1 : p1 = nI nd) (e2 : p2 = nI pl) (v : gl_VD c s L R Z T r k nd pl) (hci : gl_CI o se pe) (I : gl_I c s L R Z T (fun e => e = gl_d r k nd pl) se pe ca en op) (H : ∀ o' se' pe' ca' en' op', gl_CI o' se' pe' → gl_I c s L R Z T (fun _ => False) se' pe' ca' en' op' → gl_M se pe op se' pe' op' → post (nI c, nI s, o', L, R, Z, T, se', pe', ca', en', op')) : wpX_handle post (nI c, nI s, o, L, R, Z, T, se, pe, ca, en, op) p0 p1 p2 := by
  subst e0 e1 e2
  have hb := gl_VD_b G v
  have hs8 := G.2.1
  have GR := G.2.2 r v.1
  have hL : ∀ r, r < c → gl_N L r < 5 ∧ L r = nI (gl_N L r) := fun r hr => (G.2.2 r hr).1
  have hk3 := v.2.1
  have ex4 : nI (4 * r + k) >>> ((2 : Int32) &&& 31) = nI r := by
    rw [pk_shrN (by omega) _ 2 (by decide)]
    exact congrArg nI (by omega)
  have ex5 : nI (4 * r + k) &&& 3 = nI k := by
    rw [pk_andN (by omega) 2 (by decide)]
    exact congrArg nI (by omega)
  intro x4 e4
  rw [ex4] at e4
  subst e4
  intro x5 e5
  rw [ex5] at e5
  subst e5
  refine ⟨vp_in_nI hb.1 (by decide), ?_⟩
  rw [nI_clamp (n := r) (by omega)]
  have hz := GR.2.1
  refine gl_if (d := k = gl_N Z r) ?_ (fun hk => ?_) (fun hk => ⟨?_, ?_⟩)
  · rw [hz.2, nI_eq (by omega) (by omega)]
  · have hD : gl_D c s L R Z T (nd / 9) (nd % 9) pl := by
      rw [v.2.2.2.1]
      refine gl_D_cl r _ _ v.1 v.2.2.2.2.1 ?_
      rw [← hk]
      exact v.2.2.2.2.2.2
    have hdn : ∀ Se Ca (En : Nat → Nat → Prop) Op, En nd pl → gl_dn s R Z T Se Ca En Op r k nd pl := fun Se Ca En Op q => ⟨fun _ => q, fun z => absurd z (by omega), fun z => absurd z (by omega)⟩
    refine gl_fin rfl rfl hb.2.2.1 (by omega) hci (fun hE => H _ _ _ _ _ _ hci (gl_inv_done G I v (hdn _ _ _ _ hE)) gl_M_rf) (fun o' se' pe' en' hX hE => H _ _ _ _ _ _ hX.1 ?_ (gl_M_X hX (fun _ q => q)))
    have I1 := gl_inv_add I (A := fun e => ∃ x, x < 2160 ∧ gl_C ca nd x ∧ e = x * 9 + pl) (by
      rintro e ⟨x, hx, hc, rfl⟩
      obtain ⟨r', k', nd', rfl, a1, a2, a3, a4⟩ := I.2.2.1 nd x hc
      exact ⟨r', k' + 1, nd', pl, rfl, gl_VD_name a4 a1 a2 a3 hD v.2.2.2.2.2.1⟩) hX.2.1 hX.2.2
    have I2 := gl_inv_en I1 hb.2.2.1 v.2.2.2.2.1 v.2.2.2.2.2.1 hD (fun x hx => (hX.2.1 _).mpr (Or.inr ⟨x, hx.2.1, hx, rfl⟩)) hE
    exact gl_inv_done G I2 v (hdn _ _ _ _ ((hE _ _).mpr (Or.inr ⟨rfl, rfl⟩)))
  · rw [show (3 : Int32) * nI r = nI (3 * r) from pk_mul 3 r, nI_add]
    exact vp_in_nI (by omega) (by decide)
  · have hkz : k < gl_N Z r := by omega
    have hg := GR.2.2 k hkz
    have er : R (3 * nI r + nI k).toNatClampNeg = nI (gl_N R (3 * r + k)) := by
      rw [show (3 : Int32) * nI r = nI (3 * r) from pk_mul 3 r, nI_add, nI_clamp (n := 3 * r + k) (by omega)]
      exact hg.2
    refine nm_r er ?_
    refine pk_lt (gl_N R (3 * r + k)) 5 (fun h5 => ?_) (fun h5 => pk_le s pl (fun h => ?_) (fun h => ⟨vp_in_nI (by omega) (by decide), ?_⟩))
    · have en0 : 9 * nI (gl_N R (3 * r + k)) + nI pl = nI (9 * gl_N R (3 * r + k) + pl) := by
        rw [show (9 : Int32) * nI (gl_N R (3 * r + k)) = nI (9 * gl_N R (3 * r + k)) from pk_mul 9 _, nI_add]
      have d9 : (9 * gl_N R (3 * r + k) + pl) / 9 = gl_N R (3 * r + k) := by omega
      have m9 : (9 * gl_N R (3 * r + k) + pl) % 9 = pl := by omega
      have hdn : ∀ Se (Ca : Nat → Nat → Prop) En (Op : Nat → Prop), Ca (9 * gl_N R (3 * r + k) + pl) ((4 * r + (k + 1)) * 45 + nd) → Op (9 * gl_N R (3 * r + k) + pl) → gl_dn s R Z T Se Ca En Op r k nd pl := fun Se Ca En Op q w => ⟨fun z => absurd z hk, fun _ z => absurd z (by omega), fun _ _ => ⟨q, w⟩⟩
      have hn45 : 9 * gl_N R (3 * r + k) + pl < 45 := by omega
      have hpl : (9 * gl_N R (3 * r + k) + pl) % 9 ≤ s := by rw [m9]; exact v.2.2.2.2.2.1
      have hV : gl_VD c s L R Z T r k nd ((9 * gl_N R (3 * r + k) + pl) % 9) := by rw [m9]; exact v
      generalize 9 * gl_N R (3 * r + k) + pl = n at en0 d9 hdn hn45 hpl hV
      refine gl_att (lb := 4 * r + (k + 1)) en0 (nI_1 (4 * r + k)) rfl G.1 hL hn45 (by omega) hb.2.2.1 hci (fun hC => H _ _ _ _ _ _ hci (gl_inv_done G I v (hdn _ _ _ _ hC (I.2.2.2.2.2.2.1 _ _ hC))) gl_M_rf) (fun o' se' pe' ca' op' hX hC hO => H _ _ _ _ _ _ hX.1 ?_ (gl_M_X hX (fun m q => (hO m).mpr (Or.inl q))))
      have I1 := gl_inv_add I (A := fun e => (∃ j, j < 9 ∧ gl_E en n j ∧ e = ((4 * r + (k + 1)) * 45 + nd) * 9 + j) ∨ (¬ gl_O op n ∧ ∃ q, q < c ∧ gl_N L q = n / 9 ∧ e = gl_d q 0 n (n % 9))) (by
        rintro e (⟨j, j1, j2, rfl⟩ | ⟨_, q, q1, q2, rfl⟩)
        · have w := I.2.1 n j j2
          exact ⟨r, k + 1, nd, j, rfl, gl_VD_name hV hn45 hkz d9.symm w.2.2.2 w.2.2.1⟩
        · exact ⟨q, 0, n, n % 9, rfl, gl_VD_0 q1 hn45 hpl q2⟩) hX.2.1 hX.2.2
      have I2 := gl_inv_op I1 hn45 hpl (by
        intro r' hr' hl
        rcases Classical.em (gl_O op n) with z | z
        · exact (I1.2.2.2.1 n z).2.2 r' hr' hl
        · exact (hX.2.1 _).mpr (Or.inr (Or.inr ⟨z, r', hr', hl, rfl⟩))) hO
      have I3 := gl_inv_ca I2 ⟨r, k, nd, rfl, hn45, hkz, d9.symm, hV⟩ ((hO n).mpr (Or.inr rfl)) (fun j hj => (hX.2.1 _).mpr (Or.inr (Or.inl ⟨j, by have := (I.2.1 n j hj).2.2.1; omega, hj, rfl⟩))) hC
      exact gl_inv_done G I3 v (hdn _ _ _ _ ((hC _ _).mpr (Or.inr ⟨rfl, rfl⟩)) ((hO n).mpr (Or.inr rfl)))
    · exact H _ _ _ _ _ _ hci (gl_inv_done G I v ⟨fun z => absurd z hk, fun _ _ z => absurd z (by omega), fun _ z => absurd z (by omega)⟩) gl_M_rf
    · rw [nI_clamp (n := pl) (by omega)]
      refine br_c (fun ht => ?_) (fun ht => ?_)
      · refine gl_add (lb := 4 * r + (k + 1)) (nd := nd) (pl := pl + 1) (nI_1 (4 * r + k)) rfl (nI_1 pl) (by omega) hb.2.2.1 (by omega) hci (fun o' se' pe' hX => H _ _ _ _ _ _ hX.1 ?_ (gl_M_X hX (fun _ q => q)))
        have I1 := gl_inv_add I (A := fun e => e = ((4 * r + (k + 1)) * 45 + nd) * 9 + (pl + 1)) (by
          intro e q
          exact ⟨r, k + 1, nd, pl + 1, q, gl_VD_let v hkz h5 h ht⟩) hX.2.1 hX.2.2
        exact gl_inv_done G I1 v ⟨fun z => absurd z hk, fun _ _ _ _ => (hX.2.1 _).mpr (Or.inr rfl), fun _ z => absurd z (by omega)⟩
      · exact H _ _ _ _ _ _ hci (gl_inv_done G I v ⟨fun z => absurd z hk, fun _ _ _ z => absurd z ht, fun _ z => absurd z (by omega)⟩) gl_M_rf
/-- between two descriptors -/
def gl_K (c s : Nat) (L R Z T : Nat → Int32) (o : Int32) (se pe ca en op : Nat → Int32) : Prop :=
  gl_CI o se pe ∧ gl_I c s L R Z T (fun _ => False) se pe ca en op
theorem gl_hw2 (G : gl_G c s L R Z) {post : SX → Prop} {w : Nat} (hw : w < 608) : ∀ n k o se pe ca en op, k ≤ 32 → 32 - k < n → gl_K c s L R Z T o se pe ca en op → (∀ o' se' pe' ca' en' op', gl_K c s L R Z T o' se' pe' ca' en' op' → gl_M se pe op se' pe' op' → (∀ e, 32 * w + k ≤ e → e < 32 * w + 32 → gl_S pe e → gl_S se' e ∧ ¬ gl_S pe' e) → post (nI c, nI s, o', L, R, Z, T, se', pe', ca', en', op')) → wX_handleWord_2 post (nI w) n (nI k) (nI c) (nI s) o L R Z T se pe ca en op := by
  intro n
  induction n with
  | zero => intro k o se pe ca en op _ h; omega
  | succ n ih =>
  intro k o se pe ca en op hk hf K H
  have hv : vp_in (nI w) 608 := vp_in_nI hw (by decide)
  refine pk_le 32 k (fun h => H _ _ _ _ _ _ K gl_M_rf (fun e a b => by omega)) (fun h => ⟨hv, ?_⟩)
  have hd : 32 * w + k < 19456 := by omega
  have dd : (32 * w + k) / 32 = w := by omega
  have dm : (32 * w + k) % 32 = k := by omega
  have pS : ∀ a, gl_S a (32 * w + k) ↔ bt (a w) k = true := fun a => by
    rw [gl_S_iff hd, dd, dm]
  rw [nI_clamp (n := w) (by omega)]
  refine gl_if (d := gl_S pe (32 * w + k)) ?_ (fun hp => ⟨hv, hv, nm_e (nm_e (nm_r (e' := nI (32 * w + k)) ?_ ⟨by decide, nm_r (e' := nI ((32 * w + k) / 9)) ?_ ⟨by decide, by decide, by decide, ?_⟩⟩))⟩) (fun hp => nm_r (nI_1 k) ?_)
  · rw [gl_ub _ h, pS]
  · rw [show (32 : Int32) * nI w = nI (32 * w) from pk_mul 32 w, nI_add]
  · exact pk_div (d := 9) (by omega) (by decide) (by decide)
  · have hse : gl_S se (32 * w + k) := K.1.2 _ hp
    have clr := gl_S_clr (a := pe) (32 * w + k)
    rw [dd, dm] at clr
    generalize hpe : upd pe w (pe w &&& (((1 : Int32) <<< (nI k &&& 31)) ^^^ (-1))) = pe1 at clr
    have ci1 : gl_CI (o - 1) se pe1 := by
      refine ⟨?_, fun e q => K.1.2 e ((clr e).mp q).1⟩
      have a := gl_cn_add (P := gl_S pe1) (a := 32 * w + k) (fun q => ((clr _).mp q).2 rfl) (N := 19456) hd
      rw [gl_cn_eq (Q := gl_S pe) (fun e _ => ⟨fun q => q.elim (fun z => ((clr e).mp z).1) (fun z => by rw [z]; exact hp), fun q => (Classical.em (e = 32 * w + k)).elim Or.inr (fun z => Or.inl ((clr e).mpr ⟨q, z⟩))⟩)] at a
      rw [K.1.1, a, nI_pred]
    have I1 := gl_inv_pop K.2 clr
    obtain ⟨r, k', nd, pl, ed, v⟩ := K.2.1 _ hse
    have hb := gl_VD_b G v
    have dec := gl_d_dec (r := r) (k := k') hb.2.2.1 hb.2.2.2.1
    rw [← ed] at dec
    have ed' : (fun e => e = 32 * w + k) = (fun e => e = gl_d r k' nd pl) := by rw [ed]
    rw [ed'] at I1
    refine gl_handle G (r := r) (k := k') (nd := nd) (pl := pl) ?_ ?_ ?_ v ci1 I1 ?_
    · rw [← dec.1]
      exact pk_div (d := 45) (by omega) (by decide) (by decide)
    · rw [← dec.2.1]
      exact pk_rem (d := 45) (by omega) (by decide) (by decide)
    · rw [← dec.2.2]
      exact pk_rem (d := 9) (by omega) (by decide) (by decide)
    · intro o2 se2 pe2 ca2 en2 op2 ci2 I2 M2
      refine nm_r (nI_1 k) (ih (k + 1) o2 se2 pe2 ca2 en2 op2 (by omega) (by omega) ⟨ci2, I2⟩ ?_)
      intro o3 se3 pe3 ca3 en3 op3 K3 M3 hE
      have popH : ∀ e, gl_S se e ∧ ¬ gl_S pe e → gl_S se e ∧ ¬ gl_S pe1 e := fun e q => ⟨q.1, fun z => q.2 ((clr e).mp z).1⟩
      refine H _ _ _ _ _ _ K3 ⟨fun e q => M3.1 e (M2.1 e q), fun e q => M3.2.1 e (M2.2.1 e (popH e q)), fun m q => M3.2.2 m (M2.2.2 m q)⟩ ?_
      intro e a b q
      rcases Classical.em (gl_S pe2 e) with z | z
      · rcases Classical.em (e = 32 * w + k) with y | y
        · exact M3.2.1 e (M2.2.1 e ⟨K.1.2 e q, fun x => ((clr e).mp x).2 y⟩)
        · exact hE e (by omega) b z
      · exact M3.2.1 e ⟨M2.1 e (K.1.2 e q), z⟩
  · refine ih (k + 1) o se pe ca en op (by omega) (by omega) K (fun o3 se3 pe3 ca3 en3 op3 K3 M3 hE => H _ _ _ _ _ _ K3 M3 ?_)
    intro e a b q
    rcases Classical.em (e = 32 * w + k) with y | y
    · rw [y] at q
      exact absurd q hp
    · exact hE e (by omega) b q
theorem gl_run18 (G : gl_G c s L R Z) {post : SX → Prop} {J : Int32 → Int32 → Int32 → Int32 → (Nat → Int32) → (Nat → Int32) → (Nat → Int32) → (Nat → Int32) → (Nat → Int32) → (Nat → Int32) → (Nat → Int32) → (Nat → Int32) → (Nat → Int32) → Prop} {i : Nat} : ∀ n w o se pe ca en op, w ≤ 608 → 608 - w < n → gl_K c s L R Z T o se pe ca en op → (∀ o' se' pe' ca' en' op', gl_K c s L R Z T o' se' pe' ca' en' op' → gl_M se pe op se' pe' op' → (∀ e, 32 * w ≤ e → gl_S pe e → gl_S se' e ∧ ¬ gl_S pe' e) → J (nI (i + 1)) (nI c) (nI s) o' L R Z T se' pe' ca' en' op') → wX_run_18 post J (nI i) n (nI w) (nI c) (nI s) o L R Z T se pe ca en op := by
  intro n
  induction n with
  | zero => intro w o se pe ca en op _ h; omega
  | succ n ih =>
  intro w o se pe ca en op hw hf K H
  refine pk_le 608 w (fun h => nm_r (nI_1 i) (H _ _ _ _ _ _ K gl_M_rf (fun e a q => by have := q.1; omega))) (fun h => ⟨vp_in_nI h (by decide), ?_⟩)
  rw [nI_clamp (n := w) (by omega)]
  refine br_c (fun h0 => nm_r (nI_1 w) ?_) (fun h0 => ⟨33, ?_⟩)
  · refine ih (w + 1) o se pe ca en op (by omega) (by omega) K (fun o3 se3 pe3 ca3 en3 op3 K3 M3 hE => H _ _ _ _ _ _ K3 M3 ?_)
    intro e a q
    rcases Nat.lt_or_ge e (32 * (w + 1)) with z | z
    · have z1 : e / 32 = w := by omega
      have q2 := (gl_S_iff q.1).mp q
      rw [z1, h0, b_0] at q2
      exact absurd q2 (by decide)
    · exact hE e z q
  · refine gl_hw2 G h 33 0 o se pe ca en op (by omega) (by omega) K ?_
    intro o2 se2 pe2 ca2 en2 op2 K2 M2 hE2
    refine nm_r (nI_1 w) (ih (w + 1) o2 se2 pe2 ca2 en2 op2 (by omega) (by omega) K2 (fun o3 se3 pe3 ca3 en3 op3 K3 M3 hE => H _ _ _ _ _ _ K3 (gl_M_tr M2 M3) ?_))
    intro e a q
    rcases Nat.lt_or_ge e (32 * w + 32) with z | z
    · exact M3.2.1 e (hE2 e (by omega) z q)
    · rcases Classical.em (gl_S pe2 e) with y | y
      · exact hE e (by omega) y
      · exact M3.2.1 e ⟨M2.1 e (K.1.2 e q), y⟩
theorem gl_run2 (G : gl_G c s L R Z) {post : SX → Prop} : ∀ n i o se pe ca en op, 19441 - i < n → i ≤ gl_cn (fun e => gl_S se e ∧ ¬ gl_S pe e) 19456 → gl_K c s L R Z T o se pe ca en op → (∀ o' se' pe' ca' en' op', gl_K c s L R Z T o' se' pe' ca' en' op' → gl_M se pe op se' pe' op' → (∀ e, ¬ gl_S pe' e) → post (nI c, nI s, o', L, R, Z, T, se', pe', ca', en', op')) → wX_run_2 post n (nI i) (nI c) (nI s) o L R Z T se pe ca en op := by
  intro n
  induction n with
  | zero => intro i o se pe ca en op h; omega
  | succ n ih =>
  intro i o se pe ca en op hf hi K H
  have hmax : gl_cn (fun e => gl_S se e ∧ ¬ gl_S pe e) 19456 ≤ 19440 := gl_cn_full (fun e _ q => by
    obtain ⟨r, k, nd, pl, ed, v⟩ := K.2.1 e q.1
    rw [ed]
    exact (gl_VD_b G v).2.2.2.2)
  have hpm := gl_cn_le (gl_S pe) 19456
  have ho := K.1.1
  refine pk_le 19441 i (fun h => absurd h (by omega)) (fun h => pk_le (gl_cn (gl_S pe) 19456) 0 (fun h0 => H _ _ _ _ _ _ K gl_M_rf ?_) (fun h0 => ⟨609, ?_⟩) ho)
  · intro e q
    exact gl_cn_0 (P := gl_S pe) (N := 19456) (by omega) e q.1 q
  · refine gl_run18 G 609 0 o se pe ca en op (by omega) (by omega) K ?_
    intro o2 se2 pe2 ca2 en2 op2 K2 M2 hE
    have hex : ∃ e, gl_S pe e := by
      rcases Classical.em (∃ e, gl_S pe e) with z | z
      · exact z
      · have := gl_cn_F (P := gl_S pe) (N := 19456) (fun e _ q => z ⟨e, q⟩)
        omega
    obtain ⟨e0, he0⟩ := hex
    have lt := gl_cn_lt (P := fun e => gl_S se e ∧ ¬ gl_S pe e) (Q := fun e => gl_S se2 e ∧ ¬ gl_S pe2 e) (a := e0) (fun q => q.2 he0) (hE e0 (by omega) he0) (N := 19456) (fun e _ q => M2.2.1 e q) he0.1
    exact ih (i + 1) o2 se2 pe2 ca2 en2 op2 (by omega) (by omega) K2 (fun o3 se3 pe3 ca3 en3 op3 K3 M3 hP => H _ _ _ _ _ _ K3 (gl_M_tr M2 M3) hP)
end
end
section
section
variable {fc fs : Int32} {L R Z T : Nat → Int32}
theorem gl_start58 {post : SX → Prop} {o : Int32} {se pe ca : Nat → Int32} : ∀ n k en op, k ≤ 45 → 45 - k < n → (∀ j, j < k → en j = 0 ∧ op j = 0) → (∀ en' op', (∀ j, j < 45 → en' j = 0 ∧ op' j = 0) → post (fc, fs, o, L, R, Z, T, se, pe, ca, en', op')) → wX_start_58 post fc fs o n (nI k) L R Z T se pe ca en op := by
  intro n
  induction n with
  | zero => intro k en op _ h; omega
  | succ n ih =>
  intro k en op hk hf h0 H
  refine pk_le 45 k (fun h => H _ _ (fun j hj => h0 j (by omega))) (fun h => ⟨vp_in_nI h (by decide), nm_e ⟨vp_in_nI h (by decide), nm_e (nm_r (nI_1 k) ?_)⟩⟩)
  refine ih (k + 1) _ _ (by omega) (by omega) ?_ H
  intro j hj
  rw [nI_clamp (n := k) (by omega)]
  by_cases e : j = k
  · rw [e, pk_us, pk_us]
    exact ⟨rfl, rfl⟩
  · rw [pk_un e, pk_un e]
    exact h0 j (by omega)
theorem gl_start36 {post : SX → Prop} {o : Int32} {se pe en op : Nat → Int32} : ∀ n k ca, k ≤ 3060 → 3060 - k < n → (∀ j, j < k → ca j = 0) → (∀ ca' en' op', (∀ j, j < 3060 → ca' j = 0) → (∀ j, j < 45 → en' j = 0 ∧ op' j = 0) → post (fc, fs, o, L, R, Z, T, se, pe, ca', en', op')) → wX_start_36 post fc fs o n (nI k) L R Z T se pe ca en op := by
  intro n
  induction n with
  | zero => intro k ca _ h; omega
  | succ n ih =>
  intro k ca hk hf h0 H
  refine pk_le 3060 k (fun h => ⟨46, gl_start58 46 0 en op (by omega) (by omega) (fun j hj => absurd hj (by omega)) (fun en' op' q => H _ _ _ (fun j hj => h0 j (by omega)) q)⟩) (fun h => ⟨vp_in_nI h (by decide), nm_e (nm_r (nI_1 k) ?_)⟩)
  refine ih (k + 1) _ (by omega) (by omega) ?_ H
  intro j hj
  rw [nI_clamp (n := k) (by omega)]
  by_cases e : j = k
  · rw [e, pk_us]
  · rw [pk_un e]
    exact h0 j (by omega)
theorem gl_start7 {post : SX → Prop} {o : Int32} {ca en op : Nat → Int32} : ∀ n k se pe, k ≤ 608 → 608 - k < n → (∀ j, j < k → se j = 0 ∧ pe j = 0) → (∀ se' pe' ca' en' op', (∀ j, j < 608 → se' j = 0 ∧ pe' j = 0) → (∀ j, j < 3060 → ca' j = 0) → (∀ j, j < 45 → en' j = 0 ∧ op' j = 0) → post (fc, fs, o, L, R, Z, T, se', pe', ca', en', op')) → wX_start_7 post fc fs o n (nI k) L R Z T se pe ca en op := by
  intro n
  induction n with
  | zero => intro k se pe _ h; omega
  | succ n ih =>
  intro k se pe hk hf h0 H
  refine pk_le 608 k (fun h => ⟨3061, gl_start36 3061 0 ca (by omega) (by omega) (fun j hj => absurd hj (by omega)) (fun ca' en' op' q1 q2 => H _ _ _ _ _ (fun j hj => h0 j (by omega)) q1 q2)⟩) (fun h => ⟨vp_in_nI h (by decide), nm_e ⟨vp_in_nI h (by decide), nm_e (nm_r (nI_1 k) ?_)⟩⟩)
  refine ih (k + 1) _ _ (by omega) (by omega) ?_ H
  intro j hj
  rw [nI_clamp (n := k) (by omega)]
  by_cases e : j = k
  · rw [e, pk_us, pk_us]
    exact ⟨rfl, rfl⟩
  · rw [pk_un e, pk_un e]
    exact h0 j (by omega)
theorem gl_start {post : SX → Prop} {o : Int32} {se pe ca en op : Nat → Int32} (H : ∀ se' pe' ca' en' op', (∀ j, j < 608 → se' j = 0 ∧ pe' j = 0) → (∀ j, j < 3060 → ca' j = 0) → (∀ j, j < 45 → en' j = 0 ∧ op' j = 0) → post (fc, fs, 0, L, R, Z, T, se', pe', ca', en', op')) : wpX_start post (fc, fs, o, L, R, Z, T, se, pe, ca, en, op) :=
  ⟨609, gl_start7 609 0 se pe (by omega) (by omega) (fun j hj => absurd hj (by omega)) H⟩
end
section
variable {c s : Nat} {L R Z T : Nat → Int32}
theorem gl_K0 {se pe ca en op : Nat → Int32} (h1 : ∀ j, j < 608 → se j = 0 ∧ pe j = 0) (h2 : ∀ j, j < 3060 → ca j = 0) (h3 : ∀ j, j < 45 → en j = 0 ∧ op j = 0) : gl_K c s L R Z T 0 se pe ca en op := by
  have nS : ∀ a : Nat → Int32, (∀ j, j < 608 → a j = 0) → ∀ e, ¬ gl_S a e := by
    intro a ha e q
    have z := (gl_S_iff q.1).mp q
    have hl := q.1
    rw [ha (e / 32) (by omega), b_0] at z
    exact absurd z (by decide)
  have n1 := nS se (fun j hj => (h1 j hj).1)
  have n2 := nS pe (fun j hj => (h1 j hj).2)
  refine ⟨⟨?_, fun e q => absurd q (n2 e)⟩, gl_inv_0 n1 n2 ?_ ?_ ?_⟩
  · rw [gl_cn_F (P := gl_S pe) (fun k _ => n2 k)]
    rfl
  · intro n x q
    have z := (gl_C_iff q.1 q.2.1).mp q
    have l1 := q.1
    have l2 := q.2.1
    rw [h2 _ (by omega), b_0] at z
    exact absurd z (by decide)
  · intro n x q
    have z := (gl_E_iff q.1 q.2.1).mp q
    rw [(h3 _ q.1).1, b_0] at z
    exact absurd z (by decide)
  · intro n q
    exact q.2 (h3 _ q.1).2
theorem gl_endsOf (G : gl_G c s L R Z) {o : Int32} {se pe ca en op : Nat → Int32} {post : Int32 → SX → Prop} {p0 p1 : Int32} {g i : Nat} (e0 : p0 = nI g) (e1 : p1 = nI i) (hg : g < 8) (hi : i ≤ s) (H : ∀ x o' se' pe' ca' en' op', (∀ j, j < 32 → (bt x j = true ↔ gl_sf s T (gl_D c s L R Z T) g i j)) → post x (nI c, nI s, o', L, R, Z, T, se', pe', ca', en', op')) : wpX_endsOf post (nI c, nI s, o, L, R, Z, T, se, pe, ca, en, op) p0 p1 := by
  subst e0 e1
  have hs8 := G.2.1
  have hL : ∀ r, r < c → gl_N L r < 5 ∧ L r = nI (gl_N L r) := fun r hr => (G.2.2 r hr).1
  refine pk_lt g 5 (fun h5 => ?_) (fun h5 => pk_le s i (fun h => H _ _ _ _ _ _ _ ?_) (fun h => ⟨vp_in_nI (by omega) (by decide), ?_⟩))
  · have en0 : 9 * nI g + nI i = nI (9 * g + i) := by
      rw [show (9 : Int32) * nI g = nI (9 * g) from pk_mul 9 g, nI_add]
    refine gl_start ?_
    intro se1 pe1 ca1 en1 op1 h1 h2 h3
    have K0 := gl_K0 (c := c) (s := s) (L := L) (R := R) (Z := Z) (T := T) h1 h2 h3
    refine gl_call en0 G.1 hL (by omega) K0.1 ?_
    intro o2 se2 pe2 op2 hX hO
    have d9 : (9 * g + i) / 9 = g := by omega
    have m9 : (9 * g + i) % 9 = i := by omega
    have I1 := gl_inv_add K0.2 (A := fun e => ¬ gl_O op1 (9 * g + i) ∧ ∃ q, q < c ∧ gl_N L q = (9 * g + i) / 9 ∧ e = gl_d q 0 (9 * g + i) ((9 * g + i) % 9)) (by
      rintro e ⟨_, q, q1, q2, rfl⟩
      exact ⟨q, 0, _, _, rfl, gl_VD_0 q1 (by omega) (by omega) q2⟩) hX.2.1 hX.2.2
    have no : ¬ gl_O op1 (9 * g + i) := fun q => q.2 (h3 _ q.1).2
    have I2 := gl_inv_op I1 (by omega) (by omega) (fun r hr hl => (hX.2.1 _).mpr (Or.inr ⟨no, r, hr, hl, rfl⟩)) hO
    refine ⟨19442, gl_run2 G 19442 0 o2 se2 pe2 ca1 en1 op2 (by omega) (Nat.zero_le _) ⟨hX.1, I2⟩ ?_⟩
    intro o3 se3 pe3 ca3 en3 op3 K3 M3 hP
    have fin := gl_inv_end G K3.2 hP h5 hi (M3.2.2 _ ((hO _).mpr (Or.inr rfl)))
    refine ⟨?_, ?_⟩
    · rw [en0]
      exact vp_in_nI (by omega) (by decide)
    · rw [en0, nI_clamp (n := 9 * g + i) (by omega)]
      refine H _ _ _ _ _ _ _ ?_
      intro j hj
      rw [← gl_E_iff (by omega) hj, fin j]
      exact ⟨fun q => Or.inl ⟨h5, q⟩, fun q => q.elim (fun z => z.2) (fun z => absurd z.1 (by omega))⟩
  · intro j hj
    rw [b_0]
    exact ⟨fun q => absurd q (by decide), fun q => q.elim (fun z => absurd z.1 (by omega)) (fun z => absurd z.2.1 (by omega))⟩
  · rw [nI_clamp (n := i) (by omega)]
    refine br_c (fun ht => H _ _ _ _ _ _ _ ?_) (fun ht => H _ _ _ _ _ _ _ ?_)
    · intro j hj
      rw [nI_1, gl_one (by omega) hj, decide_eq_true_eq]
      exact ⟨fun q => Or.inr ⟨h5, h, q, ht⟩, fun q => q.elim (fun z => absurd z.1 (by omega)) (fun z => z.2.2.1)⟩
    · intro j hj
      rw [b_0]
      exact ⟨fun q => absurd q (by decide), fun q => q.elim (fun z => absurd z.1 (by omega)) (fun z => absurd z.2.2.2 ht)⟩
end
end
section
/-! the reference: a sign, two signs, a row -/
def gl_T (s : Nat) (tb : Nat → Int32) (n i j : Nat) : Prop := n < 5 ∧ i ≤ j ∧ j ≤ s ∧ tb (81 * n + 9 * i + j) ≠ 0
def gl_TB (tb : Nat → Int32) : Prop := ∀ x, x < 405 → (tb x = 0 ∨ tb x = 1) ∧ (tb x ≠ 0 → x / 9 % 9 ≤ x % 9)
/-- a row by its number q, and by size and signs -/
def gl_Row (q z x0 x1 x2 : Int32) : Prop :=
  (q = 0 ∧ z = 0) ∨ (∃ a, a < 8 ∧ q = nI (a + 1) ∧ z = 1 ∧ x0 = nI a) ∨ (∃ a b, a < 8 ∧ b < 8 ∧ q = nI ((a + 1) * 9 + (b + 1)) ∧ z = 2 ∧ x0 = nI a ∧ x1 = nI b) ∨ (∃ a b d, a < 8 ∧ b < 8 ∧ d < 8 ∧ q = nI ((a + 1) * 81 + (b + 1) * 9 + (d + 1)) ∧ z = 3 ∧ x0 = nI a ∧ x1 = nI b ∧ x2 = nI d)
theorem gl_nar (P : Prop) : narrow .boolean (.int (nI (gl_b P))) = .int (nI (gl_b P)) := by
  rcases Classical.em P with h | h
  · rw [gl_b_t h]; rfl
  · rw [gl_b_f h]; rfl
theorem gl_ifb {P A B : Prop} (f : ¬ P → A) (g : P → B) : (nI (gl_b P) = 0 → A) ∧ (¬ nI (gl_b P) = 0 → B) :=
  ⟨fun h => f (gl_b0.mp h), fun h => g (Classical.byContradiction (fun q => h (gl_b0.mpr q)))⟩
theorem gl_pb {post : Int32 → Prop} {P Q : Prop} (h : post (nI (gl_b P))) (e : P ↔ Q) : post (nI (gl_b Q)) := by
  rw [← gl_b_eq e]; exact h
theorem gl_pt {post : Int32 → Prop} {P : Prop} (h : post (nI (gl_b P))) (e : P) : post 1 := by
  rw [gl_b_t e] at h; exact h
theorem gl_pn {post : Int32 → Prop} {P : Prop} (h : post (nI (gl_b P))) (e : ¬ P) : post 0 := by
  rw [gl_b_f e] at h; exact h
section
variable {fc fs : Int32} {L Q T tb : Nat → Int32} {s : Nat}
theorem gl_ysf {post : Int32 → Prop} {p0 p1 p2 : Int32} {g i j : Nat} (e0 : p0 = nI g) (e1 : p1 = nI i) (e2 : p2 = nI j) (hg : g < 8) (hij : i ≤ j) (hj : j ≤ s) (hs : s ≤ 8) (hT : gl_TB tb) (H : post (nI (gl_b (gl_sf s T (gl_T s tb) g i j)))) : wpY_signFits post (fc, fs, L, Q, T, tb) p0 p1 p2 := by
  subst e0 e1 e2
  refine pk_le g 4 (fun h => ?_) (fun h => pk_eq j (i + 1) (fun h1 => pk_le 8 i (fun h8 => absurd h8 (by omega)) (fun h8 => ⟨vp_in_nI h8 (by decide), ?_⟩)) (fun h1 => gl_pn H ?_) rfl (nI_1 i))
  · have ei : 81 * nI g + 9 * nI i + nI j = nI (81 * g + 9 * i + j) := by
      rw [show (81 : Int32) * nI g = nI (81 * g) from pk_mul 81 g, show (9 : Int32) * nI i = nI (9 * i) from pk_mul 9 i, nI_add, nI_add]
    show vp_in (81 * nI g + 9 * nI i + nI j) 405 ∧ _
    rw [ei, nI_clamp (n := 81 * g + 9 * i + j) (by omega)]
    have hx : 81 * g + 9 * i + j < 405 := by omega
    have e : nI (gl_b (gl_sf s T (gl_T s tb) g i j)) = tb (81 * g + 9 * i + j) := by
      rcases (hT _ hx).1 with z | z
      · rw [z, gl_b_f]
        · rfl
        · rintro (q | q)
          · exact q.2.2.2.2 z
          · exact absurd q.1 (by omega)
      · rw [z, gl_b_t]
        · rfl
        · exact Or.inl ⟨by omega, by omega, hij, hj, by rw [z]; decide⟩
    rw [← e]
    exact ⟨vp_in_nI hx (by decide), gl_nar _, H⟩
  · rw [nI_clamp (n := i) (by omega)]
    refine br_c (fun ht => gl_pt H ?_) (fun ht => gl_pn H ?_)
    · exact Or.inr ⟨h, by omega, h1, ht⟩
    · rintro (q | q)
      · exact absurd q.1 (by omega)
      · exact ht q.2.2.2
  · rintro (q | q)
    · exact absurd q.1 (by omega)
    · exact h1 q.2.2.1
theorem gl_y2 {post : Int32 → Prop} {a b i j : Nat} (ha : a < 8) (hb : b < 8) (hj : j ≤ s) (hs : s ≤ 8) (hT : gl_TB tb) : ∀ n m, i ≤ m → m ≤ j + 1 → j + 1 - m < n → post (nI (gl_b (∃ q, m ≤ q ∧ q ≤ j ∧ gl_sf s T (gl_T s tb) a i q ∧ gl_sf s T (gl_T s tb) b q j))) → wY_twoFit_3 post (nI a) (nI b) (nI i) (nI j) fc fs L Q T tb n (nI m) := by
  intro n
  induction n with
  | zero => intro m _ _ h; omega
  | succ n ih =>
  intro m him hm hf H
  have next : ¬ (gl_sf s T (gl_T s tb) a i m ∧ gl_sf s T (gl_T s tb) b m j) → m ≤ j → wY_twoFit_3 post (nI a) (nI b) (nI i) (nI j) fc fs L Q T tb n (nI (m + 1)) := by
    intro hn hmj
    refine ih (m + 1) (by omega) (by omega) (by omega) (gl_pb H ?_)
    constructor
    · rintro ⟨q, q1, q2, q3⟩
      rcases Nat.lt_or_ge m q with z | z
      · exact ⟨q, z, q2, q3⟩
      · have z : q = m := by omega
        rw [z] at q3
        exact absurd q3 hn
    · rintro ⟨q, q1, q2, q3⟩
      exact ⟨q, by omega, q2, q3⟩
  refine pk_lt j m (fun h => gl_pn H ?_) (fun h => ?_)
  · rintro ⟨q, q1, q2, _⟩
    omega
  · refine gl_ysf rfl rfl rfl ha him (by omega) hs hT (gl_ifb (fun z => nm_r (nI_1 m) (next (fun w => z w.1) h)) (fun z => ?_))
    refine gl_ysf rfl rfl rfl hb h hj hs hT (gl_ifb (fun w => nm_r (nI_1 m) (next (fun y => w y.2) h)) (fun w => gl_pt H ?_))
    exact ⟨m, Nat.le_refl _, h, z, w⟩
theorem gl_ytwo {post : Int32 → Prop} {p0 p1 p2 p3 : Int32} {a b i j : Nat} (e0 : p0 = nI a) (e1 : p1 = nI b) (e2 : p2 = nI i) (e3 : p3 = nI j) (ha : a < 8) (hb : b < 8) (hij : i ≤ j) (hj : j ≤ s) (hs : s ≤ 8) (hT : gl_TB tb) (H : post (nI (gl_b (∃ q, i ≤ q ∧ q ≤ j ∧ gl_sf s T (gl_T s tb) a i q ∧ gl_sf s T (gl_T s tb) b q j)))) : wpY_twoFit post (fc, fs, L, Q, T, tb) p0 p1 p2 p3 := by
  subst e0 e1 e2 e3
  exact ⟨j + 1 - i + 1, gl_y2 ha hb hj hs hT _ i (Nat.le_refl _) (by omega) (by omega) H⟩
theorem gl_y3 {post : Int32 → Prop} {a b d i j : Nat} (ha : a < 8) (hb : b < 8) (hd : d < 8) (hj : j ≤ s) (hs : s ≤ 8) (hT : gl_TB tb) : ∀ n m, i ≤ m → m ≤ j + 1 → j + 1 - m < n → post (nI (gl_b (∃ q, m ≤ q ∧ q ≤ j ∧ gl_sf s T (gl_T s tb) a i q ∧ ∃ p, q ≤ p ∧ p ≤ j ∧ gl_sf s T (gl_T s tb) b q p ∧ gl_sf s T (gl_T s tb) d p j))) → wY_rowFits_77 post (nI i) (nI j) (nI d) (nI b) (nI a) fc fs L Q T tb n (nI m) := by
  intro n
  induction n with
  | zero => intro m _ _ h; omega
  | succ n ih =>
  intro m him hm hf H
  have next : ¬ (gl_sf s T (gl_T s tb) a i m ∧ ∃ p, m ≤ p ∧ p ≤ j ∧ gl_sf s T (gl_T s tb) b m p ∧ gl_sf s T (gl_T s tb) d p j) → m ≤ j → wY_rowFits_77 post (nI i) (nI j) (nI d) (nI b) (nI a) fc fs L Q T tb n (nI (m + 1)) := by
    intro hn hmj
    refine ih (m + 1) (by omega) (by omega) (by omega) (gl_pb H ?_)
    constructor
    · rintro ⟨q, q1, q2, q3⟩
      rcases Nat.lt_or_ge m q with z | z
      · exact ⟨q, z, q2, q3⟩
      · have z : q = m := by omega
        rw [z] at q3
        exact absurd q3 hn
    · rintro ⟨q, q1, q2, q3⟩
      exact ⟨q, by omega, q2, q3⟩
  refine pk_lt j m (fun h => gl_pn H ?_) (fun h => ?_)
  · rintro ⟨q, q1, q2, _⟩
    omega
  · refine gl_ysf rfl rfl rfl ha him (by omega) hs hT (gl_ifb (fun z => nm_r (nI_1 m) (next (fun w => z w.1) h)) (fun z => ?_))
    refine gl_ytwo rfl rfl rfl rfl hb hd h hj hs hT (gl_ifb (fun w => nm_r (nI_1 m) (next (fun y => w y.2) h)) (fun w => gl_pt H ?_))
    exact ⟨m, Nat.le_refl _, h, z, w⟩
theorem gl_T_le (n i j : Nat) (h : gl_T s tb n i j) : i ≤ j ∧ j ≤ s := ⟨h.2.1, h.2.2.1⟩
theorem gl_yrow {R Z : Nat → Int32} {r : Nat} {post : Int32 → Prop} {p0 p1 p2 : Int32} {i j : Nat} (e0 : p0 = Q r) (e1 : p1 = nI i) (e2 : p2 = nI j) (hR : gl_Row (Q r) (Z r) (R (3 * r)) (R (3 * r + 1)) (R (3 * r + 2))) (hij : i ≤ j) (hj : j ≤ s) (hs : s ≤ 8) (hT : gl_TB tb) (H : post (nI (gl_b (gl_pf s R T (gl_T s tb) r (gl_N Z r) i j)))) : wpY_rowFits post (fc, fs, L, Q, T, tb) p0 p1 p2 := by
  subst e0 e1 e2
  have le2 : ∀ g x y, gl_sf s T (gl_T s tb) g x y → x ≤ y ∧ y ≤ s := fun g x y q => gl_sf_le gl_T_le q
  rcases hR with ⟨h1, h2⟩ | ⟨a, ha, h1, h2, h3⟩ | ⟨a, b, ha, hb, h1, h2, h3, h4⟩ | ⟨a, b, d, ha, hb, hd, h1, h2, h3, h4, h5⟩
  · have hz : gl_N Z r = 0 := by unfold gl_N; rw [h2]; rfl
    rw [hz] at H
    rw [h1]
    exact br_t rfl (pk_eq i j (fun e => gl_pt H e) (fun e => gl_pn H e))
  · have hz : gl_N Z r = 1 := by unfold gl_N; rw [h2]; rfl
    have g0 : gl_N R (3 * r + 0) = a := by unfold gl_N; rw [Nat.add_zero, h3, nI_clamp (by omega)]
    rw [hz] at H
    rw [h1]
    refine br_f (nI_ne0 (by omega) (by omega)) ⟨by decide, nm_r (e' := nI a) ?_ (pk_le 9 (a + 1) (fun z => absurd z (by omega)) (fun _ => ?_))⟩
    · rw [show nI (a + 1) - nI (a + 1) / 9 * 9 = nI ((a + 1) % 9) from pk_rem (d := 9) (by omega) (by decide) (by decide), Nat.mod_eq_of_lt (by omega), nI_pred]
    · refine gl_ysf rfl rfl rfl ha hij hj hs hT ⟨gl_nar _, gl_pb H ?_⟩
      constructor
      · rintro ⟨m, e, q⟩
        have e : i = m := e
        subst e
        rw [g0] at q
        exact q
      · intro q
        exact ⟨i, rfl, by rw [g0]; exact q⟩
  · have hz : gl_N Z r = 2 := by unfold gl_N; rw [h2]; rfl
    have g0 : gl_N R (3 * r + 0) = a := by unfold gl_N; rw [Nat.add_zero, h3, nI_clamp (by omega)]
    have g1 : gl_N R (3 * r + 1) = b := by unfold gl_N; rw [h4, nI_clamp (by omega)]
    rw [hz] at H
    rw [h1]
    generalize hc : (a + 1) * 9 + (b + 1) = q
    have hq : q < 729 := by omega
    refine br_f (nI_ne0 (by omega) (by omega)) ⟨by decide, nm_r (e' := nI b) ?_ (pk_le 9 q (fun _ => ⟨by decide, by decide, nm_r (e' := nI a) ?_ (pk_le 81 q (fun z => absurd z (by omega)) (fun _ => ?_))⟩) (fun z => absurd z (by omega)))⟩
    · rw [show nI q - nI q / 9 * 9 = nI (q % 9) from pk_rem (d := 9) (by omega) (by decide) (by decide), show q % 9 = b + 1 by omega, nI_pred]
    · rw [show nI q / 9 = nI (q / 9) from pk_div (d := 9) (by omega) (by decide) (by decide), show nI (q / 9) - nI (q / 9) / 9 * 9 = nI (q / 9 % 9) from pk_rem (d := 9) (by omega) (by decide) (by decide), show q / 9 % 9 = a + 1 by omega, nI_pred]
    · refine gl_ytwo rfl rfl rfl rfl ha hb hij hj hs hT ⟨gl_nar _, gl_pb H ?_⟩
      constructor
      · rintro ⟨m, ⟨m', e, q1⟩, q2⟩
        have e : i = m' := e
        subst e
        rw [g0] at q1
        rw [g1] at q2
        have l1 := le2 _ _ _ q1
        have l2 := le2 _ _ _ q2
        exact ⟨m, l1.1, l2.1, q1, q2⟩
      · rintro ⟨m, _, _, q1, q2⟩
        exact ⟨m, ⟨i, rfl, by rw [g0]; exact q1⟩, by rw [g1]; exact q2⟩
  · have hz : gl_N Z r = 3 := by unfold gl_N; rw [h2]; rfl
    have g0 : gl_N R (3 * r + 0) = a := by unfold gl_N; rw [Nat.add_zero, h3, nI_clamp (by omega)]
    have g1 : gl_N R (3 * r + 1) = b := by unfold gl_N; rw [h4, nI_clamp (by omega)]
    have g2 : gl_N R (3 * r + 2) = d := by unfold gl_N; rw [h5, nI_clamp (by omega)]
    rw [hz] at H
    rw [h1]
    generalize hc : (a + 1) * 81 + (b + 1) * 9 + (d + 1) = q
    have hq : q < 729 := by omega
    refine br_f (nI_ne0 (by omega) (by omega)) ⟨by decide, nm_r (e' := nI d) ?_ (pk_le 9 q (fun _ => ⟨by decide, by decide, nm_r (e' := nI b) ?_ (pk_le 81 q (fun _ => ⟨by decide, nm_r (e' := nI a) ?_ ⟨j + 1 - i + 1, ?_⟩⟩) (fun z => absurd z (by omega)))⟩) (fun z => absurd z (by omega)))⟩
    · rw [show nI q - nI q / 9 * 9 = nI (q % 9) from pk_rem (d := 9) (by omega) (by decide) (by decide), show q % 9 = d + 1 by omega, nI_pred]
    · rw [show nI q / 9 = nI (q / 9) from pk_div (d := 9) (by omega) (by decide) (by decide), show nI (q / 9) - nI (q / 9) / 9 * 9 = nI (q / 9 % 9) from pk_rem (d := 9) (by omega) (by decide) (by decide), show q / 9 % 9 = b + 1 by omega, nI_pred]
    · rw [show nI q / 81 = nI (q / 81) from pk_div (d := 81) (by omega) (by decide) (by decide), show q / 81 = a + 1 by omega, nI_pred]
    · refine gl_y3 ha hb hd hj hs hT _ i (Nat.le_refl _) (by omega) (by omega) (gl_pb H ?_)
      constructor
      · rintro ⟨m, ⟨m', ⟨m0, e, q0⟩, q1⟩, q2⟩
        have e : i = m0 := e
        subst e
        rw [g0] at q0
        rw [g1] at q1
        rw [g2] at q2
        have l0 := le2 _ _ _ q0
        have l1 := le2 _ _ _ q1
        have l2 := le2 _ _ _ q2
        exact ⟨m', l0.1, by omega, q0, m, l1.1, l2.1, q1, q2⟩
      · rintro ⟨m', _, _, q0, m, _, _, q1, q2⟩
        exact ⟨m, ⟨m', ⟨i, rfl, by rw [g0]; exact q0⟩, by rw [g1]; exact q1⟩, by rw [g2]; exact q2⟩
end
end
section
/-! the reference: the table -/
def gl_P (c s : Nat) (L R Z T tb : Nat → Int32) : Prop := gl_TB tb ∧ ∀ n i j, gl_T s tb n i j → gl_D c s L R Z T n i j
noncomputable def gl_ct (tb : Nat → Int32) : Nat := gl_cn (fun x => tb x ≠ 0) 405
/-- what a stretch of filling does: Cov are the cells that it asks -/
def gl_F (c s : Nat) (L R Z T : Nat → Int32) (Cov : Nat → Nat → Nat → Prop) (fr : Int32) (tb : Nat → Int32) (fr' : Int32) (tb' : Nat → Int32) : Prop :=
  gl_P c s L R Z T tb' ∧ (∀ x, x < 405 → tb x ≠ 0 → tb' x ≠ 0) ∧ ((fr' = 0 ∧ fr = 0 ∧ tb' = tb ∧ ∀ r i j, Cov r i j → gl_pf s R T (gl_T s tb) r (gl_N Z r) i j → gl_T s tb (gl_N L r) i j) ∨ (fr' = 1 ∧ (fr = 1 ∨ gl_ct tb < gl_ct tb')))
def gl_cd : Nat → Nat
  | 0 => 0
  | k + 1 => gl_cd k + (if k / 9 % 9 ≤ k % 9 then 1 else 0)
theorem gl_cd_eq : ∀ N, gl_cn (fun x => x / 9 % 9 ≤ x % 9) N = gl_cd N
  | 0 => rfl
  | N + 1 => by
    simp only [gl_cn, gl_cd]
    rw [gl_cd_eq N]
    by_cases h : N / 9 % 9 ≤ N % 9
    · rw [gl_b_t h, if_pos h]
    · rw [gl_b_f h, if_neg h]
theorem gl_ct_le {tb : Nat → Int32} (h : gl_TB tb) : gl_ct tb ≤ 225 := by
  have a : gl_ct tb ≤ gl_cn (fun x => x / 9 % 9 ≤ x % 9) 405 := gl_cn_mono (fun k hk q => (h k hk).2 q)
  rw [gl_cd_eq] at a
  exact Nat.le_trans a (by decide +kernel)
section
variable {c s : Nat} {L R Z T : Nat → Int32}
theorem gl_F_01 {Cov : Nat → Nat → Nat → Prop} {fr fr' : Int32} {tb tb' : Nat → Int32} (h : gl_F c s L R Z T Cov fr tb fr' tb') : fr' = 0 ∨ fr' = 1 := h.2.2.elim (fun q => Or.inl q.1) (fun q => Or.inr q.1)
theorem gl_F_sm {Cov : Nat → Nat → Nat → Prop} {fr : Int32} {tb : Nat → Int32} (hf : fr = 0 ∨ fr = 1) (hP : gl_P c s L R Z T tb) (h : ∀ r i j, Cov r i j → gl_pf s R T (gl_T s tb) r (gl_N Z r) i j → gl_T s tb (gl_N L r) i j) : gl_F c s L R Z T Cov fr tb fr tb :=
  ⟨hP, fun _ _ q => q, hf.elim (fun e => Or.inl ⟨e, e, rfl, h⟩) (fun e => Or.inr ⟨e, Or.inl e⟩)⟩
theorem gl_F_tr {C1 C2 C3 : Nat → Nat → Nat → Prop} {f f1 f2 : Int32} {t t1 t2 : Nat → Int32} (h : gl_F c s L R Z T C1 f t f1 t1) (k : gl_F c s L R Z T C2 f1 t1 f2 t2) (hC : ∀ r i j, C3 r i j → C1 r i j ∨ C2 r i j) : gl_F c s L R Z T C3 f t f2 t2 := by
  refine ⟨k.1, fun x hx q => k.2.1 x hx (h.2.1 x hx q), ?_⟩
  have m1 : gl_ct t ≤ gl_ct t1 := gl_cn_mono h.2.1
  have m2 : gl_ct t1 ≤ gl_ct t2 := gl_cn_mono k.2.1
  rcases k.2.2 with ⟨a1, a2, a3, a4⟩ | ⟨a1, a2⟩
  · rcases h.2.2 with ⟨b1, b2, b3, b4⟩ | ⟨b1, b2⟩
    · subst a3
      subst b3
      exact Or.inl ⟨a1, b2, rfl, fun r i j q z => (hC r i j q).elim (fun y => b4 r i j y z) (fun y => a4 r i j y z)⟩
    · rw [b1] at a2
      exact absurd a2 (by decide)
  · refine Or.inr ⟨a1, ?_⟩
    rcases h.2.2 with ⟨b1, b2, b3, b4⟩ | ⟨b1, b2⟩
    · rcases a2 with a2 | a2
      · rw [b1] at a2
        exact absurd a2 (by decide)
      · exact Or.inr (by omega)
    · rcases b2 with b2 | b2
      · exact Or.inl b2
      · exact Or.inr (by omega)
/-- one cell is set -/
theorem gl_F_up (G : gl_G c s L R Z) {Cov : Nat → Nat → Nat → Prop} {fr : Int32} {tb : Nat → Int32} {r i j : Nat} (hr : r < c) (hij : i ≤ j) (hj : j ≤ s) (hP : gl_P c s L R Z T tb) (h0 : tb (81 * gl_N L r + 9 * i + j) = 0) (h : gl_pf s R T (gl_T s tb) r (gl_N Z r) i j) : gl_F c s L R Z T Cov fr tb 1 (upd tb (81 * gl_N L r + 9 * i + j) 1) := by
  have hl := (G.2.2 r hr).1.1
  have hs8 := G.2.1
  have hD : gl_D c s L R Z T (gl_N L r) i j := gl_D_cl r i j hr (by omega) (gl_pf_mono (fun n i j q => hP.2 n i j q) h)
  have up : ∀ x, tb x ≠ 0 → upd tb (81 * gl_N L r + 9 * i + j) 1 x ≠ 0 := by
    intro x q
    by_cases e : x = 81 * gl_N L r + 9 * i + j
    · rw [e, pk_us]; decide
    · rw [pk_un e]; exact q
  refine ⟨⟨?_, ?_⟩, fun x _ q => up x q, Or.inr ⟨rfl, Or.inr ?_⟩⟩
  · intro x hx
    by_cases e : x = 81 * gl_N L r + 9 * i + j
    · rw [e, pk_us]
      exact ⟨Or.inr rfl, fun _ => by omega⟩
    · rw [pk_un e]
      exact hP.1 x hx
  · intro n' i' j' q
    by_cases e : 81 * n' + 9 * i' + j' = 81 * gl_N L r + 9 * i + j
    · have q1 := q.2.1
      have q2 := q.2.2.1
      have e1 : j' = j := by omega
      have e2 : i' = i := by omega
      have e3 : n' = gl_N L r := by omega
      rw [e1, e2, e3]
      exact hD
    · refine hP.2 n' i' j' ⟨q.1, q.2.1, q.2.2.1, ?_⟩
      have z := q.2.2.2
      rw [pk_un e] at z
      exact z
  · exact gl_cn_lt (a := 81 * gl_N L r + 9 * i + j) (fun q => q h0) (by rw [pk_us]; decide) (fun x _ q => up x q) (by omega)
theorem gl_fill21 (G : gl_G c s L R Z) {Q : Nat → Int32} (hQ : ∀ r, r < c → gl_Row (Q r) (Z r) (R (3 * r)) (R (3 * r + 1)) (R (3 * r + 2))) {post : Int32 → SY → Prop} {J : Int32 → Int32 → (Nat → Int32) → (Nat → Int32) → (Nat → Int32) → (Nat → Int32) → Prop} {r i : Nat} (hr : r < c) (hi : i ≤ s) : ∀ n j fr tb, i ≤ j → j ≤ s + 1 → s + 1 - j < n → (fr = 0 ∨ fr = 1) → gl_P c s L R Z T tb → (∀ fr' tb', gl_F c s L R Z T (fun r' i' j' => r' = r ∧ i' = i ∧ j ≤ j' ∧ j' ≤ s) fr tb fr' tb' → J fr' (nI (i + 1)) L Q T tb') → wY_fill_21 post J (nI r) (nI i) (nI c) (nI s) n fr (nI j) L Q T tb := by
  have hs8 := G.2.1
  have hc12 := G.1
  have hl := (G.2.2 r hr).1
  intro n
  induction n with
  | zero => intro j fr tb _ _ h; omega
  | succ n ih =>
  intro j fr tb hij hj hf h01 hP H
  refine pk_lt s j (fun h => nm_r (nI_1 i) (H _ _ (gl_F_sm h01 hP ?_))) (fun h => pk_le 9 j (fun h9 => absurd h9 (by omega)) (fun h9 => ⟨vp_in_nI (by omega) (by decide), nm_r (e' := nI (81 * gl_N L r + 9 * i + j)) ?_ ⟨vp_in_nI (by omega) (by decide), ?_⟩⟩))
  · rintro r' i' j' ⟨_, _, a, b⟩
    omega
  · rw [nI_clamp (n := r) (by omega), hl.2, show (81 : Int32) * nI (gl_N L r) = nI (81 * gl_N L r) from pk_mul 81 _, show (9 : Int32) * nI i = nI (9 * i) from pk_mul 9 i, nI_add, nI_add]
  · rw [nI_clamp (n := 81 * gl_N L r + 9 * i + j) (by omega), nI_clamp (n := r) (by omega)]
    have step : ∀ fr1 tb1, gl_F c s L R Z T (fun r' i' j' => r' = r ∧ i' = i ∧ j' = j) fr tb fr1 tb1 → wY_fill_21 post J (nI r) (nI i) (nI c) (nI s) n fr1 (nI (j + 1)) L Q T tb1 := by
      intro fr1 tb1 F1
      refine ih (j + 1) fr1 tb1 (by omega) (by omega) (by omega) (gl_F_01 F1) F1.1 (fun fr2 tb2 F2 => H _ _ (gl_F_tr F1 F2 ?_))
      rintro r' i' j' ⟨a1, a2, a3, a4⟩
      rcases Nat.lt_or_ge j j' with z | z
      · exact Or.inr ⟨a1, a2, z, a4⟩
      · exact Or.inl ⟨a1, a2, by omega⟩
    refine br_c (fun h0 => ⟨vp_in_nI (by omega) (by decide), ?_⟩) (fun h0 => nm_r (nI_1 j) (step fr tb (gl_F_sm h01 hP ?_)))
    · refine gl_yrow rfl rfl rfl (hQ r hr) hij h hs8 hP.1 (gl_ifb (fun z => nm_r (nI_1 j) (step fr tb (gl_F_sm h01 hP ?_))) (fun z => ⟨vp_in_nI (by omega) (by decide), nm_e (nm_r (nI_1 j) (step 1 _ (gl_F_up G hr hij h hP h0 z)))⟩))
      rintro r' i' j' ⟨rfl, rfl, rfl⟩ q
      exact absurd q z
    · rintro r' i' j' ⟨rfl, rfl, rfl⟩ q
      exact ⟨hl.1, hij, h, h0⟩
theorem gl_n01 {x : Int32} (h : x = 0 ∨ x = 1) : narrow .boolean (.int x) = .int x := by
  rcases h with h | h <;> rw [h] <;> rfl
theorem gl_fill4 (G : gl_G c s L R Z) {Q : Nat → Int32} (hQ : ∀ r, r < c → gl_Row (Q r) (Z r) (R (3 * r)) (R (3 * r + 1)) (R (3 * r + 2))) {post : Int32 → SY → Prop} {r : Nat} (hr : r < c) : ∀ n i fr tb, i ≤ s + 1 → s + 1 - i < n → (fr = 0 ∨ fr = 1) → gl_P c s L R Z T tb → (∀ fr' tb', gl_F c s L R Z T (fun r' i' j' => r' = r ∧ i ≤ i' ∧ i' ≤ j' ∧ j' ≤ s) fr tb fr' tb' → post fr' (nI c, nI s, L, Q, T, tb')) → wY_fill_4 post (nI r) (nI c) (nI s) n fr (nI i) L Q T tb := by
  have hs8 := G.2.1
  intro n
  induction n with
  | zero => intro i fr tb _ h; omega
  | succ n ih =>
  intro i fr tb hi hf h01 hP H
  refine pk_lt s i (fun h => ⟨gl_n01 h01, H _ _ (gl_F_sm h01 hP ?_)⟩) (fun h => pk_le 9 i (fun h9 => absurd h9 (by omega)) (fun h9 => ⟨s + 1 - i + 1, ?_⟩))
  · rintro r' i' j' ⟨_, a, b, d⟩
    omega
  · refine gl_fill21 G hQ hr h _ i fr tb (Nat.le_refl _) (by omega) (by omega) h01 hP ?_
    intro fr1 tb1 F1
    refine ih (i + 1) fr1 tb1 (by omega) (by omega) (gl_F_01 F1) F1.1 (fun fr2 tb2 F2 => H _ _ (gl_F_tr F1 F2 ?_))
    rintro r' i' j' ⟨a1, a2, a3, a4⟩
    rcases Nat.lt_or_ge i i' with z | z
    · exact Or.inr ⟨a1, z, a3, a4⟩
    · exact Or.inl ⟨a1, by omega, by omega, a4⟩
theorem gl_fillAll4 (G : gl_G c s L R Z) {Q : Nat → Int32} (hQ : ∀ r, r < c → gl_Row (Q r) (Z r) (R (3 * r)) (R (3 * r + 1)) (R (3 * r + 2))) {post : Int32 → SY → Prop} : ∀ n r fr tb, r ≤ c → c - r < n → (fr = 0 ∨ fr = 1) → gl_P c s L R Z T tb → (∀ fr' tb', gl_F c s L R Z T (fun r' i' j' => r ≤ r' ∧ r' < c ∧ i' ≤ j' ∧ j' ≤ s) fr tb fr' tb' → post fr' (nI c, nI s, L, Q, T, tb')) → wY_fillAll_4 post n fr (nI r) (nI c) (nI s) L Q T tb := by
  have hs8 := G.2.1
  have hc12 := G.1
  intro n
  induction n with
  | zero => intro r fr tb _ h; omega
  | succ n ih =>
  intro r fr tb hr hf h01 hP H
  refine pk_le c r (fun h => ⟨gl_n01 h01, H _ _ (gl_F_sm h01 hP ?_)⟩) (fun h => pk_le 12 r (fun h9 => absurd h9 (by omega)) (fun h9 => ⟨s + 2, ?_⟩))
  · rintro r' i' j' ⟨a, b, d⟩
    omega
  · have cov : ∀ r' i' j', (r ≤ r' ∧ r' < c ∧ i' ≤ j' ∧ j' ≤ s) → (r' = r ∧ 0 ≤ i' ∧ i' ≤ j' ∧ j' ≤ s) ∨ (r + 1 ≤ r' ∧ r' < c ∧ i' ≤ j' ∧ j' ≤ s) := by
      intro r' i' j' a
      omega
    refine gl_fill4 G hQ h (s + 2) 0 0 tb (by omega) (by omega) (Or.inl rfl) hP ?_
    intro fr1 tb1 F1
    refine br_c (fun z => nm_r (nI_1 r) ?_) (fun z => nm_r (nI_1 r) ?_)
    · have F1' : gl_F c s L R Z T (fun r' i' j' => r' = r ∧ 0 ≤ i' ∧ i' ≤ j' ∧ j' ≤ s) fr tb fr tb1 := by
        rcases F1.2.2 with ⟨a1, a2, a3, a4⟩ | ⟨a1, a2⟩
        · subst a3
          exact gl_F_sm h01 F1.1 a4
        · rw [a1] at z
          exact absurd z (by decide)
      exact ih (r + 1) fr tb1 (by omega) (by omega) h01 F1.1 (fun fr2 tb2 F2 => H _ _ (gl_F_tr F1' F2 cov))
    · have F1' : gl_F c s L R Z T (fun r' i' j' => r' = r ∧ 0 ≤ i' ∧ i' ≤ j' ∧ j' ≤ s) fr tb 1 tb1 := by
        rcases F1.2.2 with ⟨a1, a2, a3, a4⟩ | ⟨a1, a2⟩
        · exact absurd a1 z
        · exact ⟨F1.1, F1.2.1, Or.inr ⟨rfl, a2.elim (fun q => absurd q (by decide)) Or.inr⟩⟩
      exact ih (r + 1) 1 tb1 (by omega) (by omega) (Or.inr rfl) F1.1 (fun fr2 tb2 F2 => H _ _ (gl_F_tr F1' F2 cov))
/-- the table is closed -/
def gl_Cl (c s : Nat) (L R Z T tb : Nat → Int32) : Prop := ∀ r i j, r < c → i ≤ j → j ≤ s → gl_pf s R T (gl_T s tb) r (gl_N Z r) i j → gl_T s tb (gl_N L r) i j
theorem gl_work26 (G : gl_G c s L R Z) {Q : Nat → Int32} (hQ : ∀ r, r < c → gl_Row (Q r) (Z r) (R (3 * r)) (R (3 * r + 1)) (R (3 * r + 2))) {post : SY → Prop} (H : ∀ tb', gl_P c s L R Z T tb' → gl_Cl c s L R Z T tb' → post (nI c, nI s, L, Q, T, tb')) : ∀ n k mo tb, k ≤ 300 → 300 - k < n → gl_P c s L R Z T tb → ((mo = 0 ∧ gl_Cl c s L R Z T tb) ∨ (mo = 1 ∧ k ≤ gl_ct tb)) → wY_work_26 post n mo (nI k) (nI c) (nI s) L Q T tb := by
  intro n
  induction n with
  | zero => intro k mo tb _ h; omega
  | succ n ih =>
  intro k mo tb hk hf hP hM
  have h225 := gl_ct_le hP.1
  rcases hM with ⟨m0, hC⟩ | ⟨m1, hl⟩
  · exact pk_le 300 k (fun h => H tb hP hC) (fun h => br_t m0 (H tb hP hC))
  · refine pk_le 300 k (fun h => absurd h (by omega)) (fun h => br_f (by rw [m1]; decide) ⟨c + 1, ?_⟩)
    refine gl_fillAll4 G hQ (c + 1) 0 0 tb (Nat.zero_le _) (by omega) (Or.inl rfl) hP ?_
    intro fr1 tb1 F1
    refine nm_r (nI_1 k) (ih (k + 1) fr1 tb1 (by omega) (by omega) F1.1 ?_)
    rcases F1.2.2 with ⟨a1, a2, a3, a4⟩ | ⟨a1, a2⟩
    · subst a3
      exact Or.inl ⟨a1, fun r i j q1 q2 q3 q => a4 r i j ⟨Nat.zero_le _, q1, q2, q3⟩ q⟩
    · exact Or.inr ⟨a1, a2.elim (fun q => absurd q (by decide)) (fun q => by omega)⟩
theorem gl_T_D (G : gl_G c s L R Z) {tb : Nat → Int32} (hP : gl_P c s L R Z T tb) (hC : gl_Cl c s L R Z T tb) : gl_T s tb = gl_D c s L R Z T := by
  funext n i j
  refine propext ⟨hP.2 n i j, fun h => h _ ?_⟩
  intro r i j hr hi q
  have l := gl_pf_le gl_T_le hi q
  exact hC r i j hr l.1 l.2 q
theorem gl_work2 (G : gl_G c s L R Z) {Q : Nat → Int32} (hQ : ∀ r, r < c → gl_Row (Q r) (Z r) (R (3 * r)) (R (3 * r + 1)) (R (3 * r + 2))) {post : SY → Prop} (H : ∀ tb', gl_TB tb' → gl_T s tb' = gl_D c s L R Z T → post (nI c, nI s, L, Q, T, tb')) : ∀ n k tb, k ≤ 405 → 405 - k < n → (∀ x, x < k → tb x = 0) → wY_work_2 post (nI c) (nI s) n (nI k) L Q T tb := by
  have hs8 := G.2.1
  intro n
  induction n with
  | zero => intro k tb _ h; omega
  | succ n ih =>
  intro k tb hk hf h0
  refine pk_le 405 k (fun h => ⟨301, ?_⟩) (fun h => ⟨vp_in_nI h (by decide), nm_e (nm_r (nI_1 k) (ih (k + 1) _ (by omega) (by omega) ?_))⟩)
  · have hP : gl_P c s L R Z T tb := by
      refine ⟨fun x hx => ⟨Or.inl (h0 x (by omega)), fun q => absurd (h0 x (by omega)) q⟩, fun n i j q => ?_⟩
      have q1 := q.1
      have q2 := q.2.1
      have q3 := q.2.2.1
      exact absurd (h0 _ (by omega)) q.2.2.2
    exact gl_work26 G hQ (fun tb' h1 h2 => H tb' h1.1 (gl_T_D G h1 h2)) 301 0 1 tb (by omega) (by omega) hP (Or.inr ⟨rfl, Nat.zero_le _⟩)
  · intro x hx
    rw [nI_clamp (n := k) (by omega)]
    by_cases e : x = k
    · rw [e, pk_us]
      rfl
    · rw [pk_un e]
      exact h0 x (by omega)
theorem gl_work (G : gl_G c s L R Z) {Q tb : Nat → Int32} (hQ : ∀ r, r < c → gl_Row (Q r) (Z r) (R (3 * r)) (R (3 * r + 1)) (R (3 * r + 2))) {post : SY → Prop} (H : ∀ tb', gl_TB tb' → gl_T s tb' = gl_D c s L R Z T → post (nI c, nI s, L, Q, T, tb')) : wpY_work post (nI c, nI s, L, Q, T, tb) :=
  ⟨406, gl_work2 G hQ H 406 0 tb (by omega) (by omega) (fun x hx => absurd hx (by omega))⟩
end
end
section
/-! the component's doesFit; the checks of both sides -/
section
variable {c s : Nat} {L R Z T : Nat → Int32}
theorem gl_df25 (G : gl_G c s L R Z) {post : Int32 → SX → Prop} {J : Int32 → Int32 → Int32 → Int32 → Int32 → (Nat → Int32) → (Nat → Int32) → (Nat → Int32) → (Nat → Int32) → (Nat → Int32) → (Nat → Int32) → (Nat → Int32) → (Nat → Int32) → (Nat → Int32) → Prop} {r j k : Nat} {x2 rc : Int32} (hr : r < c) (hk : k < gl_N Z r) (hj : j ≤ s) : ∀ n p nx o se pe ca en op, p ≤ j + 1 → j + 1 - p < n → (∀ nx' o' se' pe' ca' en' op', (∀ q, q < 32 → (bt nx' q = true ↔ bt nx q = true ∨ ∃ m, p ≤ m ∧ m ≤ j ∧ bt rc m = true ∧ gl_sf s T (gl_D c s L R Z T) (gl_N R (3 * r + k)) m q)) → J nx' (nI (k + 1)) (nI c) (nI s) o' L R Z T se' pe' ca' en' op') → wX_doesFit_25 post J (nI r) x2 (nI j) rc (nI k) n nx (nI p) (nI c) (nI s) o L R Z T se pe ca en op := by
  have hs8 := G.2.1
  have hc12 := G.1
  have GR := G.2.2 r hr
  have hz3 := GR.2.1.1
  have hg := GR.2.2 k hk
  have ei : 3 * nI r + nI k = nI (3 * r + k) := by
    rw [show (3 : Int32) * nI r = nI (3 * r) from pk_mul 3 r, nI_add]
  intro n
  induction n with
  | zero => intro p nx o se pe ca en op _ h; omega
  | succ n ih =>
  intro p nx o se pe ca en op hp hf H
  refine pk_lt j p (fun h => nm_r (nI_1 k) (H _ _ _ _ _ _ _ ?_)) (fun h => gl_if (gl_sb rc (by omega)) (fun hb => ⟨?_, ?_⟩) (fun hb => nm_r (nI_1 p) (ih (p + 1) nx o se pe ca en op (by omega) (by omega) (fun nx' o' se' pe' ca' en' op' hn => H _ _ _ _ _ _ _ ?_))))
  · intro q hq
    exact ⟨Or.inl, fun z => z.elim id (fun ⟨m, m1, m2, _⟩ => by omega)⟩
  · rw [ei]
    exact vp_in_nI (by omega) (by decide)
  · refine gl_endsOf G (g := gl_N R (3 * r + k)) (i := p) ?_ rfl hg.1 (by omega) ?_
    · rw [ei, nI_clamp (n := 3 * r + k) (by omega)]
      exact hg.2
    · intro x o1 se1 pe1 ca1 en1 op1 hx
      refine nm_e (nm_r (nI_1 p) (ih (p + 1) _ o1 se1 pe1 ca1 en1 op1 (by omega) (by omega) (fun nx' o' se' pe' ca' en' op' hn => H _ _ _ _ _ _ _ ?_)))
      intro q hq
      rw [hn q hq, b_or, Bool.or_eq_true, hx q hq]
      constructor
      · rintro ((a | a) | ⟨m, m1, m2⟩)
        · exact Or.inl a
        · exact Or.inr ⟨p, Nat.le_refl _, h, hb, a⟩
        · exact Or.inr ⟨m, by omega, m2⟩
      · rintro (a | ⟨m, m1, m2, m3, m4⟩)
        · exact Or.inl (Or.inl a)
        · rcases Nat.lt_or_ge p m with z | z
          · exact Or.inr ⟨m, z, m2, m3, m4⟩
          · have z : m = p := by omega
            rw [z] at m4
            exact Or.inl (Or.inr m4)
  · intro q hq
    rw [hn q hq]
    constructor
    · rintro (a | ⟨m, m1, m2⟩)
      · exact Or.inl a
      · exact Or.inr ⟨m, by omega, m2⟩
    · rintro (a | ⟨m, m1, m2, m3, m4⟩)
      · exact Or.inl a
      · rcases Nat.lt_or_ge p m with z | z
        · exact Or.inr ⟨m, z, m2, m3, m4⟩
        · have z : m = p := by omega
          rw [z] at m3
          exact absurd m3 hb
theorem gl_df8 (G : gl_G c s L R Z) {post : Int32 → SX → Prop} {r i j : Nat} (hr : r < c) (hij : i ≤ j) (hj : j ≤ s) (H : ∀ o' se' pe' ca' en' op', post (nI (gl_b (gl_pf s R T (gl_D c s L R Z T) r (gl_N Z r) i j))) (nI c, nI s, o', L, R, Z, T, se', pe', ca', en', op')) : ∀ n k rc o se pe ca en op, k ≤ gl_N Z r → gl_N Z r - k < n → (∀ q, q ≤ j → (bt rc q = true ↔ gl_pf s R T (gl_D c s L R Z T) r k i q)) → wX_doesFit_8 post (nI r) (nI i) (nI j) n rc (nI k) (nI c) (nI s) o L R Z T se pe ca en op := by
  have hs8 := G.2.1
  have hc12 := G.1
  have GR := G.2.2 r hr
  have hz := GR.2.1
  intro n
  induction n with
  | zero => intro k rc o se pe ca en op _ h; omega
  | succ n ih =>
  intro k rc o se pe ca en op hk hf hb
  refine ⟨vp_in_nI (by omega) (by decide), ?_⟩
  rw [nI_clamp (n := r) (by omega)]
  refine pk_le (gl_N Z r) k (fun h => ?_) (fun h => ⟨j + 2, ?_⟩) hz.2
  · have e : k = gl_N Z r := by omega
    subst e
    refine gl_if (gl_sb rc (by omega)) (fun q => gl_pt (post := fun x => post x _) (H _ _ _ _ _ _) ((hb j (Nat.le_refl _)).mp q)) (fun q => gl_pn (post := fun x => post x _) (H _ _ _ _ _ _) (fun z => q ((hb j (Nat.le_refl _)).mpr z)))
  · refine gl_df25 G hr h hj (j + 2) i 0 o se pe ca en op (by omega) (by omega) ?_
    intro nx' o' se' pe' ca' en' op' hn
    refine ih (k + 1) nx' o' se' pe' ca' en' op' (by omega) (by omega) ?_
    intro q hq
    rw [hn q (by omega), b_0]
    constructor
    · rintro (a | ⟨m, m1, m2, m3, m4⟩)
      · exact absurd a (by decide)
      · exact ⟨m, (hb m m2).mp m3, m4⟩
    · rintro ⟨m, m3, m4⟩
      have l1 := gl_pf_le (gl_D_le G) (show i ≤ s by omega) m3
      have l2 := gl_sf_le (gl_D_le G) m4
      exact Or.inr ⟨m, l1.1, by omega, (hb m (by omega)).mpr m3, m4⟩
theorem gl_doesFit (G : gl_G c s L R Z) {o : Int32} {se pe ca en op : Nat → Int32} {post : Int32 → SX → Prop} {p0 p1 p2 : Int32} {r i j : Nat} (e0 : p0 = nI r) (e1 : p1 = nI i) (e2 : p2 = nI j) (hr : r < c) (hij : i ≤ j) (hj : j ≤ s) (H : ∀ o' se' pe' ca' en' op', post (nI (gl_b (gl_pf s R T (gl_D c s L R Z T) r (gl_N Z r) i j))) (nI c, nI s, o', L, R, Z, T, se', pe', ca', en', op')) : wpX_doesFit post (nI c, nI s, o, L, R, Z, T, se, pe, ca, en, op) p0 p1 p2 := by
  subst e0 e1 e2
  have hs8 := G.2.1
  refine nm_e ⟨gl_N Z r + 1, gl_df8 G hr hij hj H _ 0 _ o se pe ca en op (Nat.zero_le _) (by omega) ?_⟩
  intro q hq
  rw [gl_one (by omega) (by omega), decide_eq_true_eq]
  exact ⟨fun e => e.symm, fun e => e.symm⟩
end
theorem gl_5n (x : Int32) : 5 ≤ x ↔ ¬ x ≤ 4 := by
  rw [Int32.le_iff_toInt_le, Int32.le_iff_toInt_le, show (5 : Int32).toInt = 5 by decide, show (4 : Int32).toInt = 4 by decide]
  omega
/-- a name, a sign, a stretch, a rule, or not -/
def gl_nN (x : Int32) : Prop := x < 0 ∨ 5 ≤ x
def gl_nS (x : Int32) : Prop := x < 0 ∨ 7 < x
def gl_nT (s : Nat) (x y : Int32) : Prop := x < 0 ∨ y < x ∨ nI s < y
def gl_nR (c : Nat) (x : Int32) : Prop := x < 0 ∨ nI c ≤ x
theorem gl_cN (x : Int32) : gl_nN x ∨ ∃ a, a < 5 ∧ x = nI a := by
  rcases pk_ix x (n := 5) (by decide) with h | h | h
  · exact Or.inl (Or.inl h)
  · exact Or.inl (Or.inr h)
  · exact Or.inr h
theorem gl_cS (x : Int32) : gl_nS x ∨ ∃ a, a < 8 ∧ x = nI a := by
  by_cases h : x < 0
  · exact Or.inl (Or.inl h)
  · by_cases h7 : 7 < x
    · exact Or.inl (Or.inr h7)
    · obtain ⟨j, hj, e⟩ := nI_of2 (M := 7) (n := 7) (by decide) h (Int32.not_lt.mp h7)
      exact Or.inr ⟨j, by omega, e⟩
theorem gl_cT {s : Nat} (hs : s ≤ 8) (x y : Int32) : gl_nT s x y ∨ ∃ i j, i ≤ j ∧ j ≤ s ∧ x = nI i ∧ y = nI j := by
  by_cases h : x < 0
  · exact Or.inl (Or.inl h)
  · by_cases h1 : y < x
    · exact Or.inl (Or.inr (Or.inl h1))
    · by_cases h2 : nI s < y
      · exact Or.inl (Or.inr (Or.inr h2))
      · obtain ⟨i, hi, rfl⟩ := nI_of h
        have hy : ¬ y < 0 := fun z => h1 (by
          rw [Int32.lt_iff_toInt_lt] at z ⊢
          rw [nI_toInt hi]
          rw [show (0 : Int32).toInt = 0 by decide] at z
          omega)
        obtain ⟨j, hj, rfl⟩ := nI_of hy
        rw [nI_ltI hj hi] at h1
        rw [nI_ltI (by omega) hj] at h2
        exact Or.inr ⟨i, j, by omega, by omega, rfl, rfl⟩
theorem gl_cR {c : Nat} (hc : c ≤ 12) (x : Int32) : gl_nR c x ∨ ∃ r, r < c ∧ x = nI r := by
  rcases pk_ix x (n := c) (by omega) with h | h | h
  · exact Or.inl (Or.inl h)
  · exact Or.inl (Or.inr h)
  · exact Or.inr h
theorem gl_xNn {post : Int32 → Prop} {x : Int32} (h : gl_nN x) (H : post 0) : wpX_isName post x :=
  br_c (fun _ => H) (fun a => br_t (h.resolve_left a) H)
theorem gl_xNy {post : Int32 → Prop} {x : Int32} {a : Nat} (e : x = nI a) (h : a < 5) (H : post 1) : wpX_isName post x := by
  subst e
  exact br_f (nI_pos (by omega)) (br_f (nI_ge (b := 5) h (by decide)) H)
theorem gl_xSn {post : Int32 → Prop} {x : Int32} (h : gl_nS x) (H : post 0) : wpX_isSign post x :=
  br_c (fun _ => H) (fun a => br_t (h.resolve_left a) H)
theorem gl_xSy {post : Int32 → Prop} {x : Int32} {a : Nat} (e : x = nI a) (h : a < 8) (H : post 1) : wpX_isSign post x := by
  subst e
  exact br_f (nI_pos (by omega)) (br_f (nI_nlt (a := 7) (by omega) (by decide)) H)
theorem gl_ySn {post : Int32 → Prop} {v : SY} {x : Int32} (h : gl_nS x) (H : post 1) : wpY_badSign post v x :=
  br_c (fun _ => H) (fun a => br_f (fun z => absurd (h.resolve_left a) (Int32.not_lt.mpr z)) H)
theorem gl_ySy {post : Int32 → Prop} {v : SY} {x : Int32} {a : Nat} (e : x = nI a) (h : a < 8) (H : post 0) : wpY_badSign post v x := by
  subst e
  exact br_f (nI_pos (by omega)) (br_t (nI_le (b := 7) (by omega) (by decide)) H)
section
variable {fc o : Int32} {s c : Nat} {L R Z T se pe ca en op Q tb : Nat → Int32}
theorem gl_xTn {post : Int32 → Prop} {x y : Int32} (h : gl_nT s x y) (H : post 0) : wpX_isStretch post (fc, nI s, o, L, R, Z, T, se, pe, ca, en, op) x y :=
  br_c (fun _ => H) (fun a => br_c (fun _ => H) (fun b => br_t ((h.resolve_left a).resolve_left b) H))
theorem gl_xTy {post : Int32 → Prop} {x y : Int32} {i j : Nat} (e1 : x = nI i) (e2 : y = nI j) (hs : s ≤ 8) (hij : i ≤ j) (hj : j ≤ s) (H : post 1) : wpX_isStretch post (fc, nI s, o, L, R, Z, T, se, pe, ca, en, op) x y := by
  subst e1 e2
  exact br_f (nI_pos (by omega)) (br_f (nI_nlt hij (by omega)) (br_f (nI_nlt hj (by omega)) H))
theorem gl_yTn {post : Int32 → Prop} {x y : Int32} (h : gl_nT s x y) (H : post 1) : wpY_badStretch post (fc, nI s, L, Q, T, tb) x y :=
  br_c (fun _ => H) (fun a => br_c (fun _ => H) (fun b => br_f (fun z => absurd ((h.resolve_left a).resolve_left b) (Int32.not_lt.mpr z)) H))
theorem gl_yTy {post : Int32 → Prop} {x y : Int32} {i j : Nat} (e1 : x = nI i) (e2 : y = nI j) (hs : s ≤ 8) (hij : i ≤ j) (hj : j ≤ s) (H : post 0) : wpY_badStretch post (fc, nI s, L, Q, T, tb) x y := by
  subst e1 e2
  exact br_f (nI_pos (by omega)) (br_f (nI_nlt hij (by omega)) (br_t (nI_le hj (by omega)) H))
theorem gl_xRn {fs : Int32} {post : Int32 → Prop} {x : Int32} (h : gl_nR c x) (H : post 0) : wpX_isRule post (nI c, fs, o, L, R, Z, T, se, pe, ca, en, op) x :=
  br_c (fun _ => H) (fun a => br_t (h.resolve_left a) H)
theorem gl_xRy {fs : Int32} {post : Int32 → Prop} {x : Int32} {r : Nat} (e : x = nI r) (hc : c ≤ 12) (h : r < c) (H : post 1) : wpX_isRule post (nI c, fs, o, L, R, Z, T, se, pe, ca, en, op) x := by
  subst e
  exact br_f (nI_pos (by omega)) (br_f (nI_ge h (by omega)) H)
theorem gl_yRn {fs : Int32} {post : Int32 → Prop} {x : Int32} (h : gl_nR c x) (H : post 1) : wpY_badRule post (nI c, fs, L, Q, T, tb) x :=
  br_c (fun _ => H) (fun a => br_t (h.resolve_left a) H)
theorem gl_yRy {fs : Int32} {post : Int32 → Prop} {x : Int32} {r : Nat} (e : x = nI r) (hc : c ≤ 12) (h : r < c) (H : post 0) : wpY_badRule post (nI c, fs, L, Q, T, tb) x := by
  subst e
  exact br_f (nI_pos (by omega)) (br_f (nI_ge h (by omega)) (br_t (nI_le (b := 11) (by omega) (by decide)) H))
end
end
section
/-! the relation -/
def gl_W (c s : Nat) (L R Z Q : Nat → Int32) : Prop :=
  c ≤ 12 ∧ s ≤ 8 ∧ (∀ r, r < c → gl_N L r < 5 ∧ L r = nI (gl_N L r)) ∧ (∀ r, r < c → gl_Row (Q r) (Z r) (R (3 * r)) (R (3 * r + 1)) (R (3 * r + 2)))
theorem gl_Row_G {Q Z R : Nat → Int32} {r : Nat} (h : gl_Row (Q r) (Z r) (R (3 * r)) (R (3 * r + 1)) (R (3 * r + 2))) : (gl_N Z r ≤ 3 ∧ Z r = nI (gl_N Z r)) ∧ ∀ k, k < gl_N Z r → gl_N R (3 * r + k) < 8 ∧ R (3 * r + k) = nI (gl_N R (3 * r + k)) := by
  have one : ∀ x a : Nat, a < 8 → R x = nI a → gl_N R x < 8 ∧ R x = nI (gl_N R x) := by
    intro x a ha e
    have g : gl_N R x = a := by unfold gl_N; rw [e, nI_clamp (by omega)]
    rw [g]
    exact ⟨ha, e⟩
  have zz : ∀ z : Nat, z ≤ 3 → Z r = nI z → gl_N Z r = z := by
    intro z hz e
    unfold gl_N; rw [e, nI_clamp (by omega)]
  rcases h with ⟨h1, h2⟩ | ⟨a, ha, h1, h2, h3⟩ | ⟨a, b, ha, hb, h1, h2, h3, h4⟩ | ⟨a, b, d, ha, hb, hd, h1, h2, h3, h4, h5⟩
  · have e := zz 0 (by omega) h2
    rw [e]
    exact ⟨⟨by omega, h2⟩, fun k hk => absurd hk (by omega)⟩
  · have e := zz 1 (by omega) h2
    rw [e]
    refine ⟨⟨by omega, h2⟩, fun k hk => ?_⟩
    have k0 : k = 0 := by omega
    subst k0
    exact one _ a ha h3
  · have e := zz 2 (by omega) h2
    rw [e]
    refine ⟨⟨by omega, h2⟩, fun k hk => ?_⟩
    have k0 : k = 0 ∨ k = 1 := by omega
    rcases k0 with k0 | k0
    · subst k0
      exact one _ a ha h3
    · subst k0
      exact one _ b hb h4
  · have e := zz 3 (by omega) h2
    rw [e]
    refine ⟨⟨by omega, h2⟩, fun k hk => ?_⟩
    have k0 : k = 0 ∨ k = 1 ∨ k = 2 := by omega
    rcases k0 with k0 | k0 | k0
    · subst k0
      exact one _ a ha h3
    · subst k0
      exact one _ b hb h4
    · subst k0
      exact one _ d hd h5
theorem gl_W_G {c s : Nat} {L R Z Q : Nat → Int32} (h : gl_W c s L R Z Q) : gl_G c s L R Z :=
  ⟨h.1, h.2.1, fun r hr => ⟨h.2.2.1 r hr, gl_Row_G (h.2.2.2 r hr)⟩⟩
theorem gl_W_s {c s s' : Nat} {L R Z Q : Nat → Int32} (h : gl_W c s L R Z Q) (hs : s' ≤ 8) : gl_W c s' L R Z Q := ⟨h.1, hs, h.2.2⟩
/-- the relation: rules, text and sizes are the same; a row's number says its size and its signs -/
def i_Rel (k : Nat) (u : SX) (v : SY) : Prop :=
  ∃ (c s : Nat) (o : Int32) (L R Z T se pe ca en op Q tb : Nat → Int32), u = (nI c, nI s, o, L, R, Z, T, se, pe, ca, en, op) ∧ v = (nI c, nI s, L, Q, T, tb) ∧ gl_W c s L R Z Q
theorem gl_mk {k c s : Nat} {o : Int32} {L R Z T se pe ca en op Q tb : Nat → Int32} (h : gl_W c s L R Z Q) : i_Rel k (nI c, nI s, o, L, R, Z, T, se, pe, ca, en, op) (nI c, nI s, L, Q, T, tb) :=
  ⟨c, s, o, L, R, Z, T, se, pe, ca, en, op, Q, tb, rfl, rfl, h⟩
theorem i_up {k : Nat} {u : SX} {v : SY} (h : i_Rel k u v) : i_Rel (k + 4) u v := h
theorem i_vc0 : wpX_init (fun u => wpY_init (fun v => i_Rel 0 u v)) :=
  gl_mk (k := 0) (c := 0) (s := 0) ⟨by omega, by omega, fun r hr => absurd hr (by omega), fun r hr => absurd hr (by omega)⟩
theorem i_vc_clear {k : Nat} {u : SX} {v : SY} (I : i_Rel k u v) (hk : k + 4 ≤ 2048) : wpX_clear (fun r u' => wpY_clear (fun r' v' => r' = r ∧ i_Rel (k + 4) u' v') v) u := by
  obtain ⟨c, s, o, L, R, Z, T, se, pe, ca, en, op, Q, tb, rfl, rfl, W⟩ := I
  exact ⟨rfl, gl_mk (c := 0) ⟨by omega, W.2.1, fun r hr => absurd hr (by omega), fun r hr => absurd hr (by omega)⟩⟩
theorem i_vc_rules {k : Nat} {u : SX} {v : SY} (I : i_Rel k u v) (hk : k + 4 ≤ 2048) : wpX_rules (fun r => wpY_rules (fun r' => r' = r ∧ i_Rel (k + 4) u v) v) u := by
  obtain ⟨c, s, o, L, R, Z, T, se, pe, ca, en, op, Q, tb, rfl, rfl, W⟩ := I
  exact ⟨rfl, gl_mk W⟩
theorem i_vc_length {k : Nat} {u : SX} {v : SY} (I : i_Rel k u v) (hk : k + 4 ≤ 2048) : wpX_length (fun r => wpY_length (fun r' => r' = r ∧ i_Rel (k + 4) u v) v) u := by
  obtain ⟨c, s, o, L, R, Z, T, se, pe, ca, en, op, Q, tb, rfl, rfl, W⟩ := I
  exact ⟨rfl, gl_mk W⟩
theorem i_vc_push {k : Nat} {u : SX} {v : SY} (I : i_Rel k u v) (hk : k + 4 ≤ 2048) (v1 : Int32) : wpX_push (fun r u' => wpY_push (fun r' v' => r' = r ∧ i_Rel (k + 4) u' v') v v1) u v1 := by
  obtain ⟨c, s, o, L, R, Z, T, se, pe, ca, en, op, Q, tb, rfl, rfl, W⟩ := I
  have hs := W.2.1
  by_cases h5 : v1 < 5
  · exact br_t h5 (br_t h5 ⟨rfl, gl_mk W⟩)
  · by_cases h7 : v1 ≤ 7
    · refine br_f h5 (br_t h7 (pk_eq s 8 (fun e => ?_) (fun e => ?_)))
      · exact br_f h5 (br_t h7 (br_f (nI_ge (a := 7) (by omega) (by omega)) ⟨rfl, gl_mk W⟩))
      · refine ⟨vp_in_nI (by omega) (by decide), nm_e (nm_r (nI_1 s) (br_f h5 (br_t h7 (br_t (nI_le (b := 7) (by omega) (by decide)) ⟨vp_in_nI (by omega) (by decide), nm_e (nm_r (nI_1 s) ⟨rfl, ?_⟩)⟩))))⟩
        exact gl_mk (gl_W_s W (by omega))
    · exact br_f h5 (br_f h7 (br_f h5 (br_f h7 ⟨rfl, gl_mk W⟩)))
theorem i_vc_pop {k : Nat} {u : SX} {v : SY} (I : i_Rel k u v) (hk : k + 4 ≤ 2048) : wpX_pop (fun r u' => wpY_pop (fun r' v' => r' = r ∧ i_Rel (k + 4) u' v') v) u := by
  obtain ⟨c, s, o, L, R, Z, T, se, pe, ca, en, op, Q, tb, rfl, rfl, W⟩ := I
  have hs := W.2.1
  refine pk_eq s 0 (fun e => ?_) (fun e => ?_)
  · subst e
    exact br_t rfl ⟨rfl, gl_mk W⟩
  · obtain ⟨m, rfl⟩ : ∃ m, s = m + 1 := ⟨s - 1, by omega⟩
    refine nm_r (nI_pred m) ⟨vp_in_nI (by omega) (by decide), br_f (nI_ne0 (by omega) (by omega)) (nm_r (nI_pred m) ⟨vp_in_nI (by omega) (by decide), rfl, ?_⟩)⟩
    exact gl_mk (gl_W_s W (by omega))
/-! the answers -/
section
variable {c s : Nat} {L R Z T Q tb : Nat → Int32} {fc fs : Int32}
theorem gl_ysD {post : Int32 → Prop} {p0 p1 p2 : Int32} {g i j : Nat} (e0 : p0 = nI g) (e1 : p1 = nI i) (e2 : p2 = nI j) (hg : g < 8) (hij : i ≤ j) (hj : j ≤ s) (hs : s ≤ 8) (hT : gl_TB tb) (hD : gl_T s tb = gl_D c s L R Z T) (H : post (nI (gl_b (gl_sf s T (gl_D c s L R Z T) g i j)))) : wpY_signFits post (fc, fs, L, Q, T, tb) p0 p1 p2 := by
  refine gl_ysf e0 e1 e2 hg hij hj hs hT ?_
  rw [hD]
  exact H
theorem gl_yrD {r : Nat} {post : Int32 → Prop} {p0 p1 p2 : Int32} {i j : Nat} (e0 : p0 = Q r) (e1 : p1 = nI i) (e2 : p2 = nI j) (hR : gl_Row (Q r) (Z r) (R (3 * r)) (R (3 * r + 1)) (R (3 * r + 2))) (hij : i ≤ j) (hj : j ≤ s) (hs : s ≤ 8) (hT : gl_TB tb) (hD : gl_T s tb = gl_D c s L R Z T) (H : post (nI (gl_b (gl_pf s R T (gl_D c s L R Z T) r (gl_N Z r) i j)))) : wpY_rowFits post (fc, fs, L, Q, T, tb) p0 p1 p2 := by
  refine gl_yrow e0 e1 e2 hR hij hj hs hT ?_
  rw [hD]
  exact H
end
theorem gl_bb {x : Int32} {n : Nat} {P : Prop} (hn : n < 32) (h : bt x n = true ↔ P) : (x >>> (nI n &&& 31)) &&& 1 = nI (gl_b P) := by
  rw [gl_shr x hn, gl_b_eq h]
/-- the last step of a 0 or 1 answer of the reference -/
theorem gl_ans {P : Prop} {A : Int32 → Prop} (h : A (nI (gl_b P))) : (nI (gl_b P) = 0 → A 0) ∧ (¬ nI (gl_b P) = 0 → A 1) :=
  gl_ifb (fun z => gl_pn h z) (fun z => gl_pt h z)
theorem i_vc_accepts {k : Nat} {u : SX} {v : SY} (I : i_Rel k u v) (hk : k + 4 ≤ 2048) : wpX_accepts (fun r u' => wpY_accepts (fun r' v' => r' = r ∧ i_Rel (k + 4) u' v') v) u := by
  obtain ⟨c, s, o, L, R, Z, T, se, pe, ca, en, op, Q, tb, rfl, rfl, W⟩ := I
  have G := gl_W_G W
  have hs := W.2.1
  unfold wpX_accepts
  refine gl_endsOf G (g := 0) (i := 0) rfl rfl (by omega) (by omega) ?_
  intro x o1 se1 pe1 ca1 en1 op1 hx
  unfold wpY_accepts
  refine gl_work G W.2.2.2 ?_
  intro tb1 h1 h2
  refine gl_ysD (g := 0) (i := 0) (j := s) rfl rfl rfl (by omega) (by omega) (Nat.le_refl _) hs h1 h2 ?_
  refine gl_ans (A := fun r => r = _ ∧ _) ⟨?_, gl_mk W⟩
  exact (gl_bb (by omega) (hx s (by omega))).symm
theorem i_vc_fits {k : Nat} {u : SX} {v : SY} (I : i_Rel k u v) (hk : k + 4 ≤ 2048) (v1 : Int32) (v2 : Int32) (v3 : Int32) : wpX_fits (fun r u' => wpY_fits (fun r' v' => r' = r ∧ i_Rel (k + 4) u' v') v v1 v2 v3) u v1 v2 v3 := by
  obtain ⟨c, s, o, L, R, Z, T, se, pe, ca, en, op, Q, tb, rfl, rfl, W⟩ := I
  have G := gl_W_G W
  have hs := W.2.1
  unfold wpX_fits wpY_fits
  rcases gl_cS v1 with hn | ⟨g, hg, rfl⟩
  · exact gl_xSn hn (br_t rfl (gl_ySn hn (br_f (by decide) ⟨rfl, gl_mk W⟩)))
  · refine gl_xSy rfl hg (br_f (by decide) ?_)
    rcases gl_cT hs v2 v3 with hn | ⟨i, j, hij, hj, rfl, rfl⟩
    · exact gl_xTn hn (br_t rfl (gl_ySy rfl hg (br_t rfl (gl_yTn hn (br_f (by decide) ⟨rfl, gl_mk W⟩)))))
    · refine gl_xTy rfl rfl hs hij hj (br_f (by decide) ?_)
      refine gl_endsOf G rfl rfl hg (by omega) ?_
      intro x o1 se1 pe1 ca1 en1 op1 hx
      refine gl_ySy rfl hg (br_t rfl (gl_yTy rfl rfl hs hij hj (br_t rfl ?_)))
      refine gl_work G W.2.2.2 ?_
      intro tb1 h1 h2
      refine gl_ysD rfl rfl rfl hg hij hj hs h1 h2 ?_
      refine gl_ans (A := fun r => r = _ ∧ _) ⟨?_, gl_mk W⟩
      exact (gl_bb (by omega) (hx j (by omega))).symm
theorem i_vc_ruleFits {k : Nat} {u : SX} {v : SY} (I : i_Rel k u v) (hk : k + 4 ≤ 2048) (v1 : Int32) (v2 : Int32) (v3 : Int32) : wpX_ruleFits (fun r u' => wpY_ruleFits (fun r' v' => r' = r ∧ i_Rel (k + 4) u' v') v v1 v2 v3) u v1 v2 v3 := by
  obtain ⟨c, s, o, L, R, Z, T, se, pe, ca, en, op, Q, tb, rfl, rfl, W⟩ := I
  have G := gl_W_G W
  have hs := W.2.1
  have hc := W.1
  unfold wpX_ruleFits wpY_ruleFits
  rcases gl_cR hc v1 with hn | ⟨r, hr, rfl⟩
  · exact gl_xRn hn (br_t rfl (gl_yRn hn (br_f (by decide) ⟨rfl, gl_mk W⟩)))
  · refine gl_xRy rfl hc hr (br_f (by decide) ?_)
    rcases gl_cT hs v2 v3 with hn | ⟨i, j, hij, hj, rfl, rfl⟩
    · exact gl_xTn hn (br_t rfl (gl_yRy rfl hc hr (br_t rfl (gl_yTn hn (br_f (by decide) ⟨rfl, gl_mk W⟩)))))
    · refine gl_xTy rfl rfl hs hij hj (br_f (by decide) ?_)
      refine gl_doesFit G rfl rfl rfl hr hij hj ?_
      intro o1 se1 pe1 ca1 en1 op1
      have fin : ∀ x : Int32, x = nI (gl_b (gl_pf s R T (gl_D c s L R Z T) r (gl_N Z r) i j)) → wpY_ruleFits (fun r' v' => r' = x ∧ i_Rel (k + 4) (nI c, nI s, o1, L, R, Z, T, se1, pe1, ca1, en1, op1) v') (nI c, nI s, L, Q, T, tb) (nI r) (nI i) (nI j) := by
        intro x ex
        unfold wpY_ruleFits
        refine gl_yRy rfl hc hr (br_t rfl (gl_yTy rfl rfl hs hij hj (br_t rfl ?_)))
        refine gl_work G W.2.2.2 ?_
        intro tb1 h1 h2
        refine ⟨vp_in_nI (by omega) (by decide), ?_⟩
        refine gl_yrD (r := r) (congrArg Q (nI_clamp (by omega))) rfl rfl (W.2.2.2 r hr) hij hj hs h1 h2 ?_
        exact gl_ans (A := fun r => r = _ ∧ _) ⟨ex.symm, gl_mk W⟩
      exact gl_ifb (fun z => fin 0 (by rw [gl_b_f z]; rfl)) (fun z => fin 1 (by rw [gl_b_t z]; rfl))
theorem i_vc_empty {k : Nat} {u : SX} {v : SY} (I : i_Rel k u v) (hk : k + 4 ≤ 2048) (v1 : Int32) : wpX_empty (fun r u' => wpY_empty (fun r' v' => r' = r ∧ i_Rel (k + 4) u' v') v v1) u v1 := by
  obtain ⟨c, s, o, L, R, Z, T, se, pe, ca, en, op, Q, tb, rfl, rfl, W⟩ := I
  have G := gl_W_G W
  have hs := W.2.1
  unfold wpX_empty wpY_empty
  rcases gl_cN v1 with hn | ⟨a, ha, rfl⟩
  · refine gl_xNn hn (br_t rfl (br_c (fun _ => ⟨rfl, gl_mk W⟩) (fun h => br_f ((gl_5n v1).mp (hn.resolve_left h)) ⟨rfl, gl_mk W⟩)))
  · refine gl_xNy rfl ha (br_f (by decide) ?_)
    refine gl_endsOf G rfl rfl (by omega) (Nat.le_refl s) ?_
    intro x o1 se1 pe1 ca1 en1 op1 hx
    refine br_f (nI_pos (by omega)) (br_t (nI_le (b := 4) (by omega) (by decide)) ?_)
    refine gl_work G W.2.2.2 ?_
    intro tb1 h1 h2
    refine gl_ysD (i := 0) (j := 0) rfl rfl rfl (by omega) (by omega) (by omega) hs h1 h2 ?_
    refine gl_ans (A := fun r => r = _ ∧ _) ⟨?_, gl_mk W⟩
    refine Eq.trans (congrArg nI (gl_b_eq ?_)) (gl_bb (by omega) (hx s (by omega))).symm
    have e := gl_D_emp (t := T) G a
    constructor
    · rintro (q | q)
      · exact Or.inl ⟨q.1, e.mpr q.2⟩
      · exact absurd q.1 (by omega)
    · rintro (q | q)
      · exact Or.inl ⟨q.1, e.mp q.2⟩
      · exact absurd q.1 (by omega)
end
section
/-! ends, stretches, longest, ways, nextLetter -/
section
variable {c s : Nat} {L R Z T Q tb : Nat → Int32}
theorem gl_ends34 {post : Int32 → SY → Prop} {g i : Nat} (hg : g < 8) (hs : s ≤ 8) (hT : gl_TB tb) (hD : gl_T s tb = gl_D c s L R Z T) (H : ∀ y, (∀ q, q < 32 → (bt y q = true ↔ i ≤ q ∧ q ≤ s ∧ gl_sf s T (gl_D c s L R Z T) g i q)) → post y (nI c, nI s, L, Q, T, tb)) : ∀ n j y, i ≤ j → j ≤ s + 1 → s + 1 - j < n → (∀ q, q < 32 → (bt y q = true ↔ i ≤ q ∧ q < j ∧ gl_sf s T (gl_D c s L R Z T) g i q)) → wY_ends_34 post (nI g) (nI i) (nI c) (nI s) L Q T tb n y (nI j) := by
  intro n
  induction n with
  | zero => intro j y _ _ h; omega
  | succ n ih =>
  intro j y hij hj hf hy
  refine pk_lt s j (fun h => H _ ?_) (fun h => pk_le 9 j (fun h9 => absurd h9 (by omega)) (fun h9 => ?_))
  · intro q hq
    rw [hy q hq, show (q < j ↔ q ≤ s) by omega]
  · refine gl_ysD rfl rfl rfl hg hij h hs hT hD (gl_ifb (fun z => nm_r (nI_1 j) (ih (j + 1) y (by omega) (by omega) (by omega) ?_)) (fun z => nm_e (nm_r (nI_1 j) (ih (j + 1) _ (by omega) (by omega) (by omega) ?_))))
    · intro q hq
      rw [hy q hq]
      constructor
      · rintro ⟨a, b, d⟩
        exact ⟨a, by omega, d⟩
      · rintro ⟨a, b, d⟩
        rcases Nat.lt_or_ge q j with w | w
        · exact ⟨a, w, d⟩
        · have w : q = j := by omega
          rw [w] at d
          exact absurd d z
    · intro q hq
      rw [b_or, Bool.or_eq_true, hy q hq, gl_one (by omega) hq, decide_eq_true_eq]
      constructor
      · rintro (⟨a, b, d⟩ | rfl)
        · exact ⟨a, by omega, d⟩
        · exact ⟨hij, by omega, z⟩
      · rintro ⟨a, b, d⟩
        rcases Nat.lt_or_ge q j with w | w
        · exact Or.inl ⟨a, w, d⟩
        · exact Or.inr (by omega)
end
theorem i_vc_ends {k : Nat} {u : SX} {v : SY} (I : i_Rel k u v) (hk : k + 4 ≤ 2048) (v1 : Int32) (v2 : Int32) : wpX_ends (fun r u' => wpY_ends (fun r' v' => r' = r ∧ i_Rel (k + 4) u' v') v v1 v2) u v1 v2 := by
  obtain ⟨c, s, o, L, R, Z, T, se, pe, ca, en, op, Q, tb, rfl, rfl, W⟩ := I
  have G := gl_W_G W
  have hs := W.2.1
  unfold wpX_ends wpY_ends
  rcases gl_cS v1 with hn | ⟨g, hg, rfl⟩
  · exact gl_xSn hn (br_t rfl (gl_ySn hn (br_f (by decide) ⟨rfl, gl_mk W⟩)))
  · refine gl_xSy rfl hg (br_f (by decide) ?_)
    by_cases h0 : v2 < 0
    · exact br_t h0 (gl_ySy rfl hg (br_t rfl (br_t h0 ⟨rfl, gl_mk W⟩)))
    · obtain ⟨i, hi, rfl⟩ := nI_of h0
      refine br_f h0 (pk_lt s i (fun h => ?_) (fun h => ?_))
      · exact gl_ySy rfl hg (br_t rfl (br_f h0 (br_f (nI_ge h hi) ⟨rfl, gl_mk W⟩)))
      · refine gl_endsOf G rfl rfl hg h ?_
        intro x o1 se1 pe1 ca1 en1 op1 hx
        refine gl_ySy rfl hg (br_t rfl (br_f h0 (br_t (nI_le h (by omega)) ?_)))
        refine gl_work G W.2.2.2 ?_
        intro tb1 h1 h2
        refine ⟨s + 2, gl_ends34 hg hs h1 h2 ?_ (s + 2) i 0 (Nat.le_refl _) (by omega) (by omega) ?_⟩
        · intro y hy
          refine ⟨b_ext (fun q hq => ?_), gl_mk W⟩
          rw [Bool.eq_iff_iff, hy q hq, hx q hq]
          constructor
          · rintro ⟨_, _, a⟩
            exact a
          · intro a
            have l := gl_sf_le (gl_D_le G) a
            exact ⟨l.1, l.2, a⟩
        · intro q hq
          rw [b_0]
          exact ⟨fun z => absurd z (by decide), fun z => absurd z.2.1 (by omega)⟩
/-- the sum of the counts -/
noncomputable def gl_tot (P : Nat → Nat → Prop) (m : Nat) : Nat → Nat
  | 0 => 0
  | k + 1 => gl_tot P m k + gl_cn (P k) m
section
variable {c s : Nat} {L R Z T Q tb : Nat → Int32}
theorem gl_st32 {post : Int32 → SX → Prop} {J : Int32 → Int32 → Int32 → Int32 → Int32 → (Nat → Int32) → (Nat → Int32) → (Nat → Int32) → (Nat → Int32) → (Nat → Int32) → (Nat → Int32) → (Nat → Int32) → (Nat → Int32) → (Nat → Int32) → Prop} {x1 fc o x : Int32} {se pe ca en op : Nat → Int32} {i a : Nat} {P : Nat → Prop} (hs : s ≤ 8) (hx : ∀ j, j < 32 → (bt x j = true ↔ P j)) (H : J (nI (a + gl_cn P (s + 1))) (nI (i + 1)) fc (nI s) o L R Z T se pe ca en op) : ∀ n j, j ≤ s + 1 → s + 1 - j < n → wX_stretches_32 post J x1 (nI i) x fc (nI s) o L R Z T se pe ca en op n (nI (a + gl_cn P j)) (nI j) := by
  intro n
  induction n with
  | zero => intro j _ h; omega
  | succ n ih =>
  intro j hj hf
  refine pk_lt s j (fun h => nm_r (nI_1 i) ?_) (fun h => nm_r ?_ (nm_r (nI_1 j) (ih (j + 1) (by omega) (by omega))))
  · have e : j = s + 1 := by omega
    rw [e]
    exact H
  · rw [gl_bb (by omega) (hx j (by omega)), nI_add]
    exact congrArg nI (Nat.add_assoc _ _ _)
theorem gl_st13 (G : gl_G c s L R Z) {post : Int32 → SX → Prop} {g : Nat} (hg : g < 8) (H : ∀ o se pe ca en op, post (nI (gl_tot (fun i j => gl_sf s T (gl_D c s L R Z T) g i j) (s + 1) (s + 1))) (nI c, nI s, o, L, R, Z, T, se, pe, ca, en, op)) : ∀ n i o se pe ca en op, i ≤ s + 1 → s + 1 - i < n → wX_stretches_13 post (nI g) n (nI (gl_tot (fun i j => gl_sf s T (gl_D c s L R Z T) g i j) (s + 1) i)) (nI i) (nI c) (nI s) o L R Z T se pe ca en op := by
  have hs := G.2.1
  intro n
  induction n with
  | zero => intro i o se pe ca en op _ h; omega
  | succ n ih =>
  intro i o se pe ca en op hi hf
  refine pk_lt s i (fun h => ?_) (fun h => ?_)
  · have e : i = s + 1 := by omega
    rw [e]
    exact H _ _ _ _ _ _
  · refine gl_endsOf G rfl rfl hg h ?_
    intro x o1 se1 pe1 ca1 en1 op1 hx
    exact ⟨s + 2, gl_st32 (P := fun j => gl_sf s T (gl_D c s L R Z T) g i j) hs hx (ih (i + 1) o1 se1 pe1 ca1 en1 op1 (by omega) (by omega)) (s + 2) 0 (by omega) (by omega)⟩
theorem gl_ys29 {post : Int32 → SY → Prop} {J : Int32 → Int32 → Prop} {g i a : Nat} (hg : g < 8) (hs : s ≤ 8) (hT : gl_TB tb) (hD : gl_T s tb = gl_D c s L R Z T) (H : J (nI (a + gl_cn (fun j => gl_sf s T (gl_D c s L R Z T) g i j) (s + 1))) (nI (i + 1))) : ∀ n j, i ≤ j → j ≤ s + 1 → s + 1 - j < n → wY_stretches_29 post J (nI g) (nI i) (nI c) (nI s) L Q T tb n (nI (a + gl_cn (fun j => gl_sf s T (gl_D c s L R Z T) g i j) j)) (nI j) := by
  intro n
  induction n with
  | zero => intro j _ _ h; omega
  | succ n ih =>
  intro j hij hj hf
  have nx := ih (j + 1) (by omega)
  simp only [gl_cn] at nx
  refine pk_lt s j (fun h => nm_r (nI_1 i) ?_) (fun h => gl_ysD rfl rfl rfl hg hij h hs hT hD (gl_ifb (fun z => nm_r (nI_1 j) ?_) (fun z => nm_r (nI_1 _) (nm_r (nI_1 j) ?_))))
  · have e : j = s + 1 := by omega
    rw [e]
    exact H
  · rw [gl_b_f z] at nx
    exact nx (by omega) (by omega)
  · rw [gl_b_t z] at nx
    exact nx (by omega) (by omega)
theorem gl_ys18 {post : Int32 → SY → Prop} (G : gl_G c s L R Z) {g : Nat} (hg : g < 8) (hT : gl_TB tb) (hD : gl_T s tb = gl_D c s L R Z T) (H : post (nI (gl_tot (fun i j => gl_sf s T (gl_D c s L R Z T) g i j) (s + 1) (s + 1))) (nI c, nI s, L, Q, T, tb)) : ∀ n i, i ≤ s + 1 → s + 1 - i < n → wY_stretches_18 post (nI g) (nI c) (nI s) L Q T tb n (nI (gl_tot (fun i j => gl_sf s T (gl_D c s L R Z T) g i j) (s + 1) i)) (nI i) := by
  have hs := G.2.1
  intro n
  induction n with
  | zero => intro i _ h; omega
  | succ n ih =>
  intro i hi hf
  refine pk_lt s i (fun h => ?_) (fun h => ⟨s + 2, ?_⟩)
  · have e : i = s + 1 := by omega
    rw [e]
    exact H
  · have w := gl_ys29 (post := post) (Q := Q) (J := wY_stretches_18 post (nI g) (nI c) (nI s) L Q T tb n) (a := gl_tot (fun i j => gl_sf s T (gl_D c s L R Z T) g i j) (s + 1) i) (i := i) hg hs hT hD (ih (i + 1) (by omega) (by omega)) (s + 2) i (Nat.le_refl _) (by omega) (by omega)
    rw [gl_cn_F (N := i) (fun q hq z => by have := gl_sf_le (gl_D_le G) z; omega)] at w
    exact w
end
theorem i_vc_stretches {k : Nat} {u : SX} {v : SY} (I : i_Rel k u v) (hk : k + 4 ≤ 2048) (v1 : Int32) : wpX_stretches (fun r u' => wpY_stretches (fun r' v' => r' = r ∧ i_Rel (k + 4) u' v') v v1) u v1 := by
  obtain ⟨c, s, o, L, R, Z, T, se, pe, ca, en, op, Q, tb, rfl, rfl, W⟩ := I
  have G := gl_W_G W
  have hs := W.2.1
  unfold wpX_stretches wpY_stretches
  rcases gl_cS v1 with hn | ⟨g, hg, rfl⟩
  · exact gl_xSn hn (br_t rfl (gl_ySn hn (br_f (by decide) ⟨rfl, gl_mk W⟩)))
  · refine gl_xSy rfl hg (br_f (by decide) ⟨s + 2, ?_⟩)
    refine gl_st13 G hg ?_ (s + 2) 0 o se pe ca en op (by omega) (by omega)
    intro o1 se1 pe1 ca1 en1 op1
    refine gl_ySy rfl hg (br_t rfl ?_)
    refine gl_work G W.2.2.2 ?_
    intro tb1 h1 h2
    exact ⟨s + 2, gl_ys18 G hg h1 h2 ⟨rfl, gl_mk W⟩ (s + 2) 0 (by omega) (by omega)⟩
/-- the longest: one row of places, from j on, n of them -/
noncomputable def gl_lg (P : Nat → Prop) (i : Nat) : Nat → Nat → Int32 → Int32
  | 0, _, x => x
  | n + 1, j, x => gl_lg P i n (j + 1) (@ite Int32 (P j ∧ ¬ nI j - nI i ≤ x) (Classical.propDecidable _) (nI j - nI i) x)
noncomputable def gl_lo (P : Nat → Nat → Prop) (s : Nat) : Nat → Nat → Int32 → Int32
  | 0, _, x => x
  | n + 1, i, x => gl_lo P s n (i + 1) (gl_lg (P i) i (s + 1 - i) i x)
theorem gl_lg_y {P : Nat → Prop} {i n j : Nat} {x : Int32} (h : P j ∧ ¬ nI j - nI i ≤ x) : gl_lg P i (n + 1) j x = gl_lg P i n (j + 1) (nI j - nI i) := by
  rw [gl_lg, if_pos h]
theorem gl_lg_n {P : Nat → Prop} {i n j : Nat} {x : Int32} (h : ¬ (P j ∧ ¬ nI j - nI i ≤ x)) : gl_lg P i (n + 1) j x = gl_lg P i n (j + 1) x := by
  rw [gl_lg, if_neg h]
section
variable {c s : Nat} {L R Z T Q tb : Nat → Int32}
theorem gl_lx33 {post : Int32 → SX → Prop} {J : Int32 → Int32 → Int32 → Int32 → Int32 → (Nat → Int32) → (Nat → Int32) → (Nat → Int32) → (Nat → Int32) → (Nat → Int32) → (Nat → Int32) → (Nat → Int32) → (Nat → Int32) → (Nat → Int32) → Prop} {x1 fc o x : Int32} {se pe ca en op : Nat → Int32} {i : Nat} {P : Nat → Prop} (hs : s ≤ 8) (hx : ∀ j, j < 32 → (bt x j = true ↔ P j)) : ∀ n j y, j ≤ s + 1 → s + 1 - j < n → J (gl_lg P i (s + 1 - j) j y) (nI (i + 1)) fc (nI s) o L R Z T se pe ca en op → wX_longest_33 post J x1 (nI i) x fc (nI s) o L R Z T se pe ca en op n y (nI j) := by
  intro n
  induction n with
  | zero => intro j y _ h; omega
  | succ n ih =>
  intro j y hj hf H
  refine pk_lt s j (fun h => nm_r (nI_1 i) ?_) (fun h => ?_)
  · have e : s + 1 - j = 0 := by omega
    rw [e] at H
    exact H
  · have e : s + 1 - j = (s + 1 - (j + 1)) + 1 := by omega
    rw [e] at H
    refine gl_if (Iff.trans (gl_sb x (by omega)) (hx j (by omega))) (fun hp => br_c (fun hl => nm_r (nI_1 j) (ih (j + 1) _ (by omega) (by omega) ?_)) (fun hl => nm_e (nm_r (nI_1 j) (ih (j + 1) _ (by omega) (by omega) ?_)))) (fun hp => nm_r (nI_1 j) (ih (j + 1) _ (by omega) (by omega) ?_))
    · rw [gl_lg_n (fun z => z.2 hl)] at H
      exact H
    · rw [gl_lg_y ⟨hp, hl⟩] at H
      exact H
    · rw [gl_lg_n (fun z => hp z.1)] at H
      exact H
theorem gl_lx14 (G : gl_G c s L R Z) {post : Int32 → SX → Prop} {g : Nat} (hg : g < 8) : ∀ n i y o se pe ca en op, i ≤ s + 1 → s + 1 - i < n → (∀ o se pe ca en op, post (gl_lo (fun i j => gl_sf s T (gl_D c s L R Z T) g i j) s (s + 1 - i) i y) (nI c, nI s, o, L, R, Z, T, se, pe, ca, en, op)) → wX_longest_14 post (nI g) n y (nI i) (nI c) (nI s) o L R Z T se pe ca en op := by
  have hs := G.2.1
  intro n
  induction n with
  | zero => intro i y o se pe ca en op _ h; omega
  | succ n ih =>
  intro i y o se pe ca en op hi hf H
  refine pk_lt s i (fun h => ?_) (fun h => ?_)
  · have e : s + 1 - i = 0 := by omega
    rw [e] at H
    exact H _ _ _ _ _ _
  · have e : s + 1 - i = (s + 1 - (i + 1)) + 1 := by omega
    rw [e] at H
    refine gl_endsOf G rfl rfl hg h ?_
    intro x o1 se1 pe1 ca1 en1 op1 hx
    refine ⟨s + 2, gl_lx33 (P := fun j => gl_sf s T (gl_D c s L R Z T) g i j) hs hx (s + 2) i y (by omega) (by omega) (ih (i + 1) _ o1 se1 pe1 ca1 en1 op1 (by omega) (by omega) ?_)⟩
    intro o se pe ca en op
    exact H o se pe ca en op
theorem gl_ly30 {post : Int32 → SY → Prop} {J : Int32 → Int32 → Prop} {g i : Nat} (hg : g < 8) (hs : s ≤ 8) (hT : gl_TB tb) (hD : gl_T s tb = gl_D c s L R Z T) : ∀ n j y, i ≤ j → j ≤ s + 1 → s + 1 - j < n → J (gl_lg (fun j => gl_sf s T (gl_D c s L R Z T) g i j) i (s + 1 - j) j y) (nI (i + 1)) → wY_longest_30 post J (nI g) (nI i) (nI c) (nI s) L Q T tb n y (nI j) := by
  intro n
  induction n with
  | zero => intro j y _ _ h; omega
  | succ n ih =>
  intro j y hij hj hf H
  refine pk_lt s j (fun h => nm_r (nI_1 i) ?_) (fun h => ?_)
  · have e : s + 1 - j = 0 := by omega
    rw [e] at H
    exact H
  · have e : s + 1 - j = (s + 1 - (j + 1)) + 1 := by omega
    rw [e] at H
    refine br_c (fun hl => nm_r (nI_1 j) (ih (j + 1) _ (by omega) (by omega) (by omega) ?_)) (fun hl => gl_ysD rfl rfl rfl hg hij h hs hT hD (gl_ifb (fun z => nm_r (nI_1 j) (ih (j + 1) _ (by omega) (by omega) (by omega) ?_)) (fun z => nm_e (nm_r (nI_1 j) (ih (j + 1) _ (by omega) (by omega) (by omega) ?_)))))
    · rw [gl_lg_n (fun z => z.2 hl)] at H
      exact H
    · rw [gl_lg_n (fun w => z w.1)] at H
      exact H
    · rw [gl_lg_y ⟨z, hl⟩] at H
      exact H
theorem gl_ly19 {post : Int32 → SY → Prop} {g : Nat} (hg : g < 8) (hs : s ≤ 8) (hT : gl_TB tb) (hD : gl_T s tb = gl_D c s L R Z T) : ∀ n i y, i ≤ s + 1 → s + 1 - i < n → post (gl_lo (fun i j => gl_sf s T (gl_D c s L R Z T) g i j) s (s + 1 - i) i y) (nI c, nI s, L, Q, T, tb) → wY_longest_19 post (nI g) (nI c) (nI s) L Q T tb n y (nI i) := by
  intro n
  induction n with
  | zero => intro i y _ h; omega
  | succ n ih =>
  intro i y hi hf H
  refine pk_lt s i (fun h => ?_) (fun h => ⟨s + 2, ?_⟩)
  · have e : s + 1 - i = 0 := by omega
    rw [e] at H
    exact H
  · have e : s + 1 - i = (s + 1 - (i + 1)) + 1 := by omega
    rw [e] at H
    exact gl_ly30 hg hs hT hD (s + 2) i y (Nat.le_refl _) (by omega) (by omega) (ih (i + 1) _ (by omega) (by omega) H)
end
theorem i_vc_longest {k : Nat} {u : SX} {v : SY} (I : i_Rel k u v) (hk : k + 4 ≤ 2048) (v1 : Int32) : wpX_longest (fun r u' => wpY_longest (fun r' v' => r' = r ∧ i_Rel (k + 4) u' v') v v1) u v1 := by
  obtain ⟨c, s, o, L, R, Z, T, se, pe, ca, en, op, Q, tb, rfl, rfl, W⟩ := I
  have G := gl_W_G W
  have hs := W.2.1
  unfold wpX_longest wpY_longest
  rcases gl_cS v1 with hn | ⟨g, hg, rfl⟩
  · exact gl_xSn hn (br_t rfl (gl_ySn hn (br_f (by decide) ⟨rfl, gl_mk W⟩)))
  · refine gl_xSy rfl hg (br_f (by decide) ⟨s + 2, ?_⟩)
    refine gl_lx14 G hg (s + 2) 0 (-2) o se pe ca en op (by omega) (by omega) ?_
    intro o1 se1 pe1 ca1 en1 op1
    refine gl_ySy rfl hg (br_t rfl ?_)
    refine gl_work G W.2.2.2 ?_
    intro tb1 h1 h2
    exact ⟨s + 2, gl_ly19 hg hs h1 h2 (s + 2) 0 (-2) (by omega) (by omega) ⟨rfl, gl_mk W⟩⟩
section
variable {c s : Nat} {L R Z T Q tb : Nat → Int32}
theorem gl_wx27 (G : gl_G c s L R Z) {post : Int32 → SX → Prop} {x1 : Int32} {i j : Nat} (hij : i ≤ j) (hj : j ≤ s) (H : ∀ o se pe ca en op, post (nI (gl_cn (fun r => L r = x1 ∧ gl_pf s R T (gl_D c s L R Z T) r (gl_N Z r) i j) c)) (nI c, nI s, o, L, R, Z, T, se, pe, ca, en, op)) : ∀ n r o se pe ca en op, r ≤ c → c - r < n → wX_ways_27 post x1 (nI i) (nI j) n (nI (gl_cn (fun r => L r = x1 ∧ gl_pf s R T (gl_D c s L R Z T) r (gl_N Z r) i j) r)) (nI r) (nI c) (nI s) o L R Z T se pe ca en op := by
  have hc := G.1
  intro n
  induction n with
  | zero => intro r o se pe ca en op _ h; omega
  | succ n ih =>
  intro r o se pe ca en op hr hf
  have nx := ih (r + 1)
  simp only [gl_cn] at nx
  refine pk_le c r (fun h => ?_) (fun h => ⟨vp_in_nI (by omega) (by decide), ?_⟩)
  · have e : r = c := by omega
    rw [e]
    exact H _ _ _ _ _ _
  · rw [nI_clamp (n := r) (by omega)]
    refine br_c (fun hl => ?_) (fun hl => nm_r (nI_1 r) ?_)
    · refine gl_doesFit G rfl rfl rfl h hij hj ?_
      intro o1 se1 pe1 ca1 en1 op1
      refine gl_ifb (fun z => nm_r (nI_1 r) ?_) (fun z => nm_r (nI_1 _) (nm_r (nI_1 r) ?_))
      · rw [gl_b_f (fun w => z w.2)] at nx
        exact nx o1 se1 pe1 ca1 en1 op1 (by omega) (by omega)
      · rw [gl_b_t ⟨hl, z⟩] at nx
        exact nx o1 se1 pe1 ca1 en1 op1 (by omega) (by omega)
    · rw [gl_b_f (fun w => hl w.1)] at nx
      exact nx o se pe ca en op (by omega) (by omega)
theorem gl_wy33 (W : gl_W c s L R Z Q) (hT : gl_TB tb) (hD : gl_T s tb = gl_D c s L R Z T) {post : Int32 → SY → Prop} {x1 : Int32} {i j : Nat} (hij : i ≤ j) (hj : j ≤ s) (H : post (nI (gl_cn (fun r => L r = x1 ∧ gl_pf s R T (gl_D c s L R Z T) r (gl_N Z r) i j) c)) (nI c, nI s, L, Q, T, tb)) : ∀ n r, r ≤ c → c - r < n → wY_ways_33 post x1 (nI i) (nI j) (nI c) (nI s) L Q T tb n (nI (gl_cn (fun r => L r = x1 ∧ gl_pf s R T (gl_D c s L R Z T) r (gl_N Z r) i j) r)) (nI r) := by
  have hc := W.1
  intro n
  induction n with
  | zero => intro r _ h; omega
  | succ n ih =>
  intro r hr hf
  have nx := ih (r + 1)
  simp only [gl_cn] at nx
  refine pk_le c r (fun h => ?_) (fun h => pk_le 12 r (fun h9 => absurd h9 (by omega)) (fun h9 => ⟨vp_in_nI (by omega) (by decide), ?_⟩))
  · have e : r = c := by omega
    rw [e]
    exact H
  · rw [nI_clamp (n := r) (by omega)]
    refine br_c (fun hl => ⟨vp_in_nI (by omega) (by decide), ?_⟩) (fun hl => nm_r (nI_1 r) ?_)
    · refine gl_yrD rfl rfl rfl (W.2.2.2 r h) hij hj W.2.1 hT hD ?_
      refine gl_ifb (fun z => nm_r (nI_1 r) ?_) (fun z => nm_r (nI_1 _) (nm_r (nI_1 r) ?_))
      · rw [gl_b_f (fun w => z w.2)] at nx
        exact nx (by omega) (by omega)
      · rw [gl_b_t ⟨hl, z⟩] at nx
        exact nx (by omega) (by omega)
    · rw [gl_b_f (fun w => hl w.1)] at nx
      exact nx (by omega) (by omega)
end
theorem i_vc_ways {k : Nat} {u : SX} {v : SY} (I : i_Rel k u v) (hk : k + 4 ≤ 2048) (v1 : Int32) (v2 : Int32) (v3 : Int32) : wpX_ways (fun r u' => wpY_ways (fun r' v' => r' = r ∧ i_Rel (k + 4) u' v') v v1 v2 v3) u v1 v2 v3 := by
  obtain ⟨c, s, o, L, R, Z, T, se, pe, ca, en, op, Q, tb, rfl, rfl, W⟩ := I
  have G := gl_W_G W
  have hs := W.2.1
  have hc := W.1
  unfold wpX_ways wpY_ways
  rcases gl_cN v1 with hn | ⟨a, ha, rfl⟩
  · exact gl_xNn hn (br_t rfl (br_c (fun _ => ⟨rfl, gl_mk W⟩) (fun h => br_f ((gl_5n v1).mp (hn.resolve_left h)) ⟨rfl, gl_mk W⟩)))
  · refine gl_xNy rfl ha (br_f (by decide) ?_)
    rcases gl_cT hs v2 v3 with hn | ⟨i, j, hij, hj, rfl, rfl⟩
    · exact gl_xTn hn (br_t rfl (br_f (nI_pos (by omega)) (br_t (nI_le (b := 4) (by omega) (by decide)) (gl_yTn hn (br_f (by decide) ⟨rfl, gl_mk W⟩)))))
    · refine gl_xTy rfl rfl hs hij hj (br_f (by decide) ⟨c + 1, ?_⟩)
      refine gl_wx27 G hij hj ?_ (c + 1) 0 o se pe ca en op (Nat.zero_le _) (by omega)
      intro o1 se1 pe1 ca1 en1 op1
      refine br_f (nI_pos (by omega)) (br_t (nI_le (b := 4) (by omega) (by decide)) (gl_yTy rfl rfl hs hij hj (br_t rfl ?_)))
      refine gl_work G W.2.2.2 ?_
      intro tb1 h1 h2
      exact ⟨c + 1, gl_wy33 W h1 h2 hij hj ⟨rfl, gl_mk W⟩ (c + 1) 0 (Nat.zero_le _) (by omega)⟩
end
section
/-! nextLetter, write, drop, rule -/
/-- one letter tried -/
noncomputable def gl_nl (c s : Nat) (L R Z T : Nat → Int32) (q : Nat) (x : Int32) : Int32 :=
  @ite Int32 (gl_sf (s + 1) (upd T s (nI q)) (gl_D c (s + 1) L R Z (upd T s (nI q))) 0 0 (s + 1)) (Classical.propDecidable _) (nI q) x
section
variable {c s : Nat} {L R Z T Q : Nat → Int32}
theorem gl_nlX (W : gl_W c s L R Z Q) (hs : s < 8) {post : Int32 → SX → Prop} {n q : Nat} (h5 : 4 ≤ q) (h7 : q < 7) {x o : Int32} {se pe ca en op : Nat → Int32} (H : ∀ o' se' pe' ca' en' op', wX_nextLetter_26 post n (gl_nl c s L R Z T (q + 1) x) (nI q) (nI c) (nI (s + 1)) o' L R Z (upd T s (nI (q + 1))) se' pe' ca' en' op') : wX_nextLetter_26 post (n + 1) x (nI (q + 1)) (nI c) (nI (s + 1)) o L R Z T se pe ca en op := by
  have G := gl_W_G (gl_W_s W (s' := s + 1) (by omega))
  refine br_f (nI_nlt (b := 5) (by omega) (by omega)) ⟨?_, nm_r (e' := upd T s (nI (q + 1))) ?_ ?_⟩
  · rw [nI_pred]
    exact vp_in_nI (by omega) (by decide)
  · rw [nI_pred, nI_clamp (by omega)]
  · refine gl_endsOf G (g := 0) (i := 0) rfl rfl (by omega) (by omega) ?_
    intro y o1 se1 pe1 ca1 en1 op1 hy
    refine gl_if (Iff.trans (gl_sb y (by omega)) (hy (s + 1) (by omega))) (fun z => nm_r (pk_m1 q) ?_) (fun z => nm_r (pk_m1 q) ?_)
    · have w := H o1 se1 pe1 ca1 en1 op1
      unfold gl_nl at w
      rw [if_pos z] at w
      exact w
    · have w := H o1 se1 pe1 ca1 en1 op1
      unfold gl_nl at w
      rw [if_neg z] at w
      exact w
theorem gl_nlY (W : gl_W c s L R Z Q) (hs : s < 8) {post : Int32 → SY → Prop} {n q : Nat} (h5 : 4 ≤ q) (h7 : q < 7) {x : Int32} {tb : Nat → Int32} (H : ∀ tb', wY_nextLetter_16 post n (gl_nl c s L R Z T (q + 1) x) (nI q) (nI c) (nI s) L Q (upd T s (nI (q + 1))) tb') : wY_nextLetter_16 post (n + 1) x (nI (q + 1)) (nI c) (nI s) L Q T tb := by
  have W1 := gl_W_s W (s' := s + 1) (by omega)
  have G := gl_W_G W1
  refine br_f (nI_ge (a := 4) (by omega) (by omega)) ⟨vp_in_nI (by omega) (by decide), nm_r (e' := upd T s (nI (q + 1))) ?_ (nm_r (nI_1 s) ?_)⟩
  · rw [nI_clamp (by omega)]
  · refine gl_work G W1.2.2.2 ?_
    intro tb1 h1 h2
    refine gl_ysD (g := 0) (i := 0) (j := s + 1) rfl rfl rfl (by omega) (by omega) (by omega) (by omega) h1 h2 ?_
    have w := H tb1
    unfold gl_nl at w
    refine gl_ifb (fun z => nm_r (nI_pred s) (nm_r (pk_m1 q) ?_)) (fun z => nm_r (nI_pred s) (nm_r (pk_m1 q) ?_))
    · rw [if_neg z] at w
      exact w
    · rw [if_pos z] at w
      exact w
end
theorem i_vc_nextLetter {k : Nat} {u : SX} {v : SY} (I : i_Rel k u v) (hk : k + 4 ≤ 2048) : wpX_nextLetter (fun r u' => wpY_nextLetter (fun r' v' => r' = r ∧ i_Rel (k + 4) u' v') v) u := by
  obtain ⟨c, s, o, L, R, Z, T, se, pe, ca, en, op, Q, tb, rfl, rfl, W⟩ := I
  have hs := W.2.1
  refine pk_eq s 8 (fun e => ?_) (fun e => ?_)
  · exact br_f (nI_ge (a := 7) (by omega) (by omega)) ⟨rfl, gl_mk W⟩
  · have hs8 : s < 8 := by omega
    refine nm_r (nI_1 s) ⟨4, ?_⟩
    refine gl_nlX W hs8 (q := 6) (by omega) (by omega) ?_
    intro o1 se1 pe1 ca1 en1 op1
    refine gl_nlX W hs8 (q := 5) (by omega) (by omega) ?_
    intro o2 se2 pe2 ca2 en2 op2
    refine gl_nlX W hs8 (q := 4) (by omega) (by omega) ?_
    intro o3 se3 pe3 ca3 en3 op3
    refine br_t (nI_lt (b := 5) (by omega) (by decide)) (nm_r (nI_pred s) ?_)
    refine br_t (nI_le (b := 7) (by omega) (by decide)) ⟨4, ?_⟩
    refine gl_nlY W hs8 (q := 6) (by omega) (by omega) ?_
    intro tb1
    refine gl_nlY W hs8 (q := 5) (by omega) (by omega) ?_
    intro tb2
    refine gl_nlY W hs8 (q := 4) (by omega) (by omega) ?_
    intro tb3
    exact br_t (nI_le (b := 4) (by omega) (by decide)) ⟨rfl, gl_mk W⟩
/-! write -/
section
variable {L R Z se pe ca en op Q tb : Nat → Int32} {fc fs fo : Int32}
theorem gl_w53 (x1 : Int32) : ∀ k (x4 : Int32) (T : Nat → Int32), k ≤ 8 → ∃ T', (∀ post : Int32 → SX → Prop, post x1 (fc, x1, fo, L, R, Z, T', se, pe, ca, en, op) → wX_write_53 post x1 fc fs fo (k + 1) x4 (nI k + (-1)) L R Z T se pe ca en op) ∧ (∀ post : Int32 → SY → Prop, post x1 (fc, x1, L, Q, T', tb) → wY_write_53 post x1 fc fs (k + 1) x4 (nI k + (-1)) L Q T tb) := by
  intro k
  induction k with
  | zero =>
    intro x4 T _
    exact ⟨T, fun post h => br_t (by decide) h, fun post h => br_t (by decide) h⟩
  | succ k ih =>
    intro x4 T hk
    obtain ⟨T', hX, hY⟩ := ih (x4 / 3) (upd T k (5 + (x4 - x4 / 3 * 3))) (by omega)
    refine ⟨T', fun post h => ?_, fun post h => ?_⟩
    · rw [pk_m1]
      refine br_f (nI_pos (by omega)) ⟨by decide, vp_in_nI (by omega) (by decide), nm_r (e' := upd T k (5 + (x4 - x4 / 3 * 3))) ?_ ⟨by decide, nm_e (nm_e (hX post h))⟩⟩
      rw [nI_clamp (by omega)]
    · rw [pk_m1]
      refine br_f (nI_pos (by omega)) ⟨by decide, vp_in_nI (by omega) (by decide), nm_r (e' := upd T k (5 + (x4 - x4 / 3 * 3))) ?_ ⟨by decide, nm_e (nm_e (hY post h))⟩⟩
      rw [nI_clamp (by omega)]
theorem gl_p3 {k : Nat} (h : k ≤ 8) : 3 ^ k ≤ 6561 := by
  have := Nat.pow_le_pow_right (show 0 < 3 by decide) h
  omega
theorem gl_wX17 {T : Nat → Int32} {post : Int32 → SX → Prop} {m : Nat} {x2 : Int32} (hm : m ≤ 8) (H : (x2 < 0 → post (-2) (fc, fs, fo, L, R, Z, T, se, pe, ca, en, op)) ∧ (¬ x2 < 0 → (x2 < nI (3 ^ m) → wX_write_53 post (nI m) fc fs fo (m + 1) x2 (nI m + (-1)) L R Z T se pe ca en op) ∧ (¬ x2 < nI (3 ^ m) → post (-2) (fc, fs, fo, L, R, Z, T, se, pe, ca, en, op)))) : ∀ n k, k ≤ m → m - k < n → wX_write_17 post (nI m) x2 fc fs fo L R Z T se pe ca en op n (nI (3 ^ k)) (nI k) := by
  intro n
  induction n with
  | zero => intro k _ h; omega
  | succ n ih =>
  intro k hk hf
  refine pk_le m k (fun h => ?_) (fun h => nm_r (e' := nI (3 ^ (k + 1))) ?_ (nm_r (nI_1 k) (ih (k + 1) (by omega) (by omega))))
  · have e : k = m := by omega
    subst e
    exact br_c H.1 (fun h0 => br_c (fun h1 => nm_r (Int32.sub_eq_add_neg _ _) ⟨k + 1, (H.2 h0).1 h1⟩) (H.2 h0).2)
  · rw [show nI (3 ^ k) * 3 = nI (3 ^ k * 3) from pk_mul _ 3, Nat.pow_succ]
theorem gl_wY17 {T : Nat → Int32} {post : Int32 → SY → Prop} {m : Nat} {x2 : Int32} (hm : m ≤ 8) (H : (x2 < 0 → post (-2) (fc, fs, L, Q, T, tb)) ∧ (¬ x2 < 0 → (x2 < nI (3 ^ m) → wY_write_53 post (nI m) fc fs (m + 1) x2 (nI m + (-1)) L Q T tb) ∧ (¬ x2 < nI (3 ^ m) → post (-2) (fc, fs, L, Q, T, tb)))) : ∀ n k, k ≤ m → m - k < n → wY_write_17 post (nI m) x2 fc fs L Q T tb n (nI (3 ^ k)) (nI k) := by
  intro n
  induction n with
  | zero => intro k _ h; omega
  | succ n ih =>
  intro k hk hf
  refine pk_le m k (fun h => ?_) (fun h => nm_r (e' := nI (3 ^ (k + 1))) ?_ (nm_r (nI_1 k) (ih (k + 1) (by omega) (by omega))))
  · have e : k = m := by omega
    subst e
    exact br_c H.1 (fun h0 => br_c (fun h1 => nm_r (Int32.sub_eq_add_neg _ _) ⟨k + 1, (H.2 h0).1 h1⟩) (H.2 h0).2)
  · rw [show 3 * nI (3 ^ k) = nI (3 * 3 ^ k) from pk_mul 3 _, Nat.pow_succ, Nat.mul_comm]
end
theorem i_vc_write {k : Nat} {u : SX} {v : SY} (I : i_Rel k u v) (hk : k + 4 ≤ 2048) (v1 : Int32) (v2 : Int32) : wpX_write (fun r u' => wpY_write (fun r' v' => r' = r ∧ i_Rel (k + 4) u' v') v v1 v2) u v1 v2 := by
  obtain ⟨c, s, o, L, R, Z, T, se, pe, ca, en, op, Q, tb, rfl, rfl, W⟩ := I
  by_cases h0 : v1 < 0
  · exact br_t h0 (br_t h0 ⟨rfl, gl_mk W⟩)
  · by_cases h8 : v1 ≤ 8
    · obtain ⟨m, hm, rfl⟩ := nI_of2 (M := 8) (n := 8) (by decide) h0 h8
      obtain ⟨T', hX, hY⟩ := gl_w53 (L := L) (R := R) (Z := Z) (se := se) (pe := pe) (ca := ca) (en := en) (op := op) (Q := Q) (tb := tb) (fc := nI c) (fs := nI s) (fo := o) (nI m) m v2 T hm
      refine br_f h0 (br_t h8 ⟨m + 1, gl_wX17 hm (br_c (fun a => ?_) (fun a => br_c (fun b => hX _ ?_) (fun b => ?_))) (m + 1) 0 (Nat.zero_le _) (by omega)⟩)
      · exact br_f h0 (br_t h8 ⟨m + 1, gl_wY17 hm (br_t a ⟨rfl, gl_mk W⟩) (m + 1) 0 (Nat.zero_le _) (by omega)⟩)
      · exact br_f h0 (br_t h8 ⟨m + 1, gl_wY17 hm (br_f a (br_t b (hY _ ⟨rfl, gl_mk (gl_W_s W hm)⟩))) (m + 1) 0 (Nat.zero_le _) (by omega)⟩)
      · exact br_f h0 (br_t h8 ⟨m + 1, gl_wY17 hm (br_f a (br_f b ⟨rfl, gl_mk W⟩)) (m + 1) 0 (Nat.zero_le _) (by omega)⟩)
    · exact br_f h0 (br_f h8 (br_f h0 (br_f h8 ⟨rfl, gl_mk W⟩)))
/-! drop -/
/-- the places from lo on below hi take what lies w further on -/
def gl_sh (w : Nat) (a : Nat → Int32) (lo hi : Nat) : Nat → Int32 := fun j => if lo ≤ j ∧ j < hi then a (j + w) else a j
theorem gl_sh_y {w lo hi j : Nat} {a : Nat → Int32} (h1 : lo ≤ j) (h2 : j < hi) : gl_sh w a lo hi j = a (j + w) := if_pos ⟨h1, h2⟩
theorem gl_sh_n {w lo hi j : Nat} {a : Nat → Int32} (h : ¬ (lo ≤ j ∧ j < hi)) : gl_sh w a lo hi j = a j := if_neg h
theorem gl_sh_0 (w : Nat) (a : Nat → Int32) (lo : Nat) : gl_sh w a lo lo = a := by
  funext j
  exact gl_sh_n (by omega)
theorem gl_sh_s {w lo hi : Nat} {a : Nat → Int32} (h : lo ≤ hi) : upd (gl_sh w a lo hi) hi (gl_sh w a lo hi (hi + w)) = gl_sh w a lo (hi + 1) := by
  funext j
  by_cases e : j = hi
  · rw [e, pk_us, gl_sh_y h (by omega), gl_sh_n (by omega)]
  · rw [pk_un e]
    by_cases q : lo ≤ j ∧ j < hi
    · rw [gl_sh_y q.1 q.2, gl_sh_y q.1 (by omega)]
    · rw [gl_sh_n q, gl_sh_n (by omega)]
section
variable {L R Z T se pe ca en op Q tb : Nat → Int32} {fs fo : Int32}
theorem gl_dX52 {post : Int32 → SX → Prop} {J : Int32 → (Nat → Int32) → (Nat → Int32) → (Nat → Int32) → (Nat → Int32) → (Nat → Int32) → (Nat → Int32) → (Nat → Int32) → (Nat → Int32) → (Nat → Int32) → Prop} {fc : Int32} {d e : Nat} (hd : d ≤ e) (he : e < 11) (H : J (nI (e + 2)) L (gl_sh 3 R (3 * d) (3 * (e + 1))) Z T se pe ca en op) : ∀ n k, k ≤ 3 → 3 - k < n → wX_drop_52 post J (nI (e + 1)) fc fs fo n (nI k) L (gl_sh 3 R (3 * d) (3 * e + k)) Z T se pe ca en op := by
  intro n
  induction n with
  | zero => intro k _ h; omega
  | succ n ih =>
  intro k hk hf
  have e1 : 3 * nI (e + 1) + nI k = nI (3 * e + k + 3) := by
    rw [show 3 * nI (e + 1) = nI (3 * (e + 1)) from pk_mul 3 _, nI_add]
    exact congrArg nI (by omega)
  have e2 : 3 * nI (e + 1) - 3 + nI k = nI (3 * e + k) := by
    rw [show 3 * nI (e + 1) = nI (3 * (e + 1)) from pk_mul 3 _, show nI (3 * (e + 1)) - 3 = nI (3 * (e + 1) - 3) from pk_sub (b := 3) (by omega), nI_add]
    exact congrArg nI (by omega)
  refine pk_le 3 k (fun h => nm_r (nI_1 (e + 1)) ?_) (fun h => ⟨?_, ?_, nm_r (e' := gl_sh 3 R (3 * d) (3 * e + (k + 1))) ?_ (nm_r (nI_1 k) (ih (k + 1) (by omega) (by omega)))⟩)
  · have q : 3 * e + k = 3 * (e + 1) := by omega
    rw [q]
    exact H
  · rw [e1]
    exact vp_in_nI (by omega) (by decide)
  · rw [e2]
    exact vp_in_nI (by omega) (by decide)
  · rw [e1, e2, nI_clamp (by omega), nI_clamp (by omega)]
    exact gl_sh_s (by omega)
theorem gl_dX14 {post : Int32 → SX → Prop} {c d : Nat} (hc : c ≤ 12) (hdc : d < c) (H : post (nI (c - 1)) (nI (c - 1), fs, fo, gl_sh 1 L d (c - 1), gl_sh 3 R (3 * d) (3 * (c - 1)), gl_sh 1 Z d (c - 1), T, se, pe, ca, en, op)) : ∀ n e, d ≤ e → e + 1 ≤ c → c - e < n → wX_drop_14 post (nI c) fs fo n (nI (e + 1)) (gl_sh 1 L d e) (gl_sh 3 R (3 * d) (3 * e)) (gl_sh 1 Z d e) T se pe ca en op := by
  intro n
  induction n with
  | zero => intro e _ _ h; omega
  | succ n ih =>
  intro e hd he hf
  have p1 : nI (e + 1) - 1 = nI e := nI_pred e
  refine pk_le c (e + 1) (fun h => nm_r (e' := nI (c - 1)) (pk_sub (b := 1) (by omega)) ?_) (fun h => ⟨vp_in_nI (by omega) (by decide), ?_, nm_r (e' := gl_sh 1 L d (e + 1)) ?_ ⟨vp_in_nI (by omega) (by decide), ?_, nm_r (e' := gl_sh 1 Z d (e + 1)) ?_ ⟨4, ?_⟩⟩⟩)
  · have q : e = c - 1 := by omega
    rw [q]
    exact H
  · rw [p1]
    exact vp_in_nI (by omega) (by decide)
  · rw [p1, nI_clamp (by omega), nI_clamp (by omega)]
    exact gl_sh_s hd
  · rw [p1]
    exact vp_in_nI (by omega) (by decide)
  · rw [p1, nI_clamp (by omega), nI_clamp (by omega)]
    exact gl_sh_s hd
  · exact gl_dX52 hd (by omega) (ih (e + 1) (by omega) (by omega) (by omega)) 4 0 (by omega) (by omega)
theorem gl_dY12 {post : Int32 → SY → Prop} {c d : Nat} (hc : c ≤ 12) (hdc : d < c) (H : post (nI (c - 1)) (nI (c - 1), fs, gl_sh 1 L d (c - 1), gl_sh 1 Q d (c - 1), T, tb)) : ∀ n e, d ≤ e → e + 1 ≤ c → c - e < n → wY_drop_12 post (nI c) fs n (nI e) (gl_sh 1 L d e) (gl_sh 1 Q d e) T tb := by
  have pc : nI c - 1 = nI (c - 1) := pk_sub (b := 1) (by omega)
  intro n
  induction n with
  | zero => intro e _ _ h; omega
  | succ n ih =>
  intro e hd he hf
  have p1 : nI e + 1 = nI (e + 1) := nI_1 e
  refine pk_le (c - 1) e (fun h => nm_r pc ?_) (fun h => pk_le 11 e (fun h9 => absurd h9 (by omega)) (fun h9 => ⟨?_, vp_in_nI (by omega) (by decide), nm_r (e' := gl_sh 1 L d (e + 1)) ?_ ⟨?_, vp_in_nI (by omega) (by decide), nm_r (e' := gl_sh 1 Q d (e + 1)) ?_ (nm_r p1 (ih (e + 1) (by omega) (by omega) (by omega)))⟩⟩)) pc
  · have q : e = c - 1 := by omega
    rw [q]
    exact H
  · rw [p1]
    exact vp_in_nI (by omega) (by decide)
  · rw [p1, nI_clamp (by omega), nI_clamp (by omega)]
    exact gl_sh_s hd
  · rw [p1]
    exact vp_in_nI (by omega) (by decide)
  · rw [p1, nI_clamp (by omega), nI_clamp (by omega)]
    exact gl_sh_s hd
end
theorem gl_W_drop {c s d : Nat} {L R Z Q : Nat → Int32} (W : gl_W c s L R Z Q) (hd : d < c) : gl_W (c - 1) s (gl_sh 1 L d (c - 1)) (gl_sh 3 R (3 * d) (3 * (c - 1))) (gl_sh 1 Z d (c - 1)) (gl_sh 1 Q d (c - 1)) := by
  have hc := W.1
  refine ⟨by omega, W.2.1, fun r hr => ?_, fun r hr => ?_⟩
  · unfold gl_N
    rcases Nat.lt_or_ge r d with h | h
    · rw [gl_sh_n (by omega)]
      exact W.2.2.1 r (by omega)
    · rw [gl_sh_y h hr]
      exact W.2.2.1 (r + 1) (by omega)
  · rcases Nat.lt_or_ge r d with h | h
    · rw [gl_sh_n (j := r) (by omega), gl_sh_n (j := r) (by omega), gl_sh_n (j := 3 * r) (by omega), gl_sh_n (j := 3 * r + 1) (by omega), gl_sh_n (j := 3 * r + 2) (by omega)]
      exact W.2.2.2 r (by omega)
    · rw [gl_sh_y (j := r) h hr, gl_sh_y (j := r) h hr, gl_sh_y (j := 3 * r) (by omega) (by omega), gl_sh_y (j := 3 * r + 1) (by omega) (by omega), gl_sh_y (j := 3 * r + 2) (by omega) (by omega)]
      exact W.2.2.2 (r + 1) (by omega)
theorem i_vc_drop {k : Nat} {u : SX} {v : SY} (I : i_Rel k u v) (hk : k + 4 ≤ 2048) (v1 : Int32) : wpX_drop (fun r u' => wpY_drop (fun r' v' => r' = r ∧ i_Rel (k + 4) u' v') v v1) u v1 := by
  obtain ⟨c, s, o, L, R, Z, T, se, pe, ca, en, op, Q, tb, rfl, rfl, W⟩ := I
  have hc := W.1
  unfold wpX_drop wpY_drop
  rcases gl_cR hc v1 with hn | ⟨d, hd, rfl⟩
  · exact gl_xRn hn (br_t rfl (gl_yRn hn (br_f (by decide) ⟨rfl, gl_mk W⟩)))
  · refine gl_xRy rfl hc hd (br_f (by decide) (nm_r (nI_1 d) ⟨c + 1, ?_⟩))
    have wx := fun post H => gl_dX14 (L := L) (R := R) (Z := Z) (T := T) (se := se) (pe := pe) (ca := ca) (en := en) (op := op) (fs := nI s) (fo := o) (post := post) hc hd H (c + 1) d (Nat.le_refl _) hd (by omega)
    have wy := fun post H => gl_dY12 (L := L) (Q := Q) (T := T) (tb := tb) (fs := nI s) (post := post) hc hd H (c + 1) d (Nat.le_refl _) hd (by omega)
    simp only [gl_sh_0] at wx wy
    refine wx _ ?_
    refine gl_yRy rfl hc hd (br_t rfl ⟨c + 1, ?_⟩)
    refine wy _ ?_
    exact ⟨rfl, gl_mk (gl_W_drop W hd)⟩
end
section
/-! rule -/
theorem gl_rem9 {q : Nat} (hq : q < 729) : nI q - nI q / 9 * 9 = nI (q % 9) := pk_rem (d := 9) (by omega) (by decide) (by decide)
theorem gl_div9 {q : Nat} (hq : q < 729) : nI q / 9 = nI (q / 9) := pk_div (d := 9) (by omega) (by decide) (by decide)
theorem gl_r0 {q : Nat} (hq : q < 729) : nI q - nI q / 9 * 9 = 0 ↔ q % 9 = 0 := by
  rw [gl_rem9 hq, ← nI_0, nI_eq (by omega) (by omega)]
theorem gl_rs_0 {post : Int32 → Prop} {n k : Nat} (H : post (nI k)) : wX_rowSize_17 post (n + 1) (nI k) (nI 0) := br_t (by decide) H
theorem gl_rs_e {post : Int32 → Prop} {n k q : Nat} (h0 : 0 < q) (hq : q < 729) (h : q % 9 = 0) (H : post (-1)) : wX_rowSize_17 post (n + 1) (nI k) (nI q) :=
  br_f (nI_nle h0 (by omega)) ⟨by decide, br_t ((gl_r0 hq).mpr h) H⟩
theorem gl_rs_s {post : Int32 → Prop} {n k q : Nat} (h0 : 0 < q) (hq : q < 729) (h : q % 9 ≠ 0) (H : wX_rowSize_17 post n (nI (k + 1)) (nI (q / 9))) : wX_rowSize_17 post (n + 1) (nI k) (nI q) :=
  br_f (nI_nle h0 (by omega)) ⟨by decide, br_f (fun z => h ((gl_r0 hq).mp z)) (nm_r (nI_1 k) ⟨by decide, nm_r (gl_div9 hq) H⟩)⟩
theorem gl_xrs {post : Int32 → Prop} {q : Nat} (hq : q < 729) (H : wX_rowSize_17 post 4 (nI 0) (nI q)) : wpX_rowSize post (nI q) :=
  br_f (nI_pos (by omega)) (br_t (nI_lt (b := 729) hq (by decide)) ⟨4, H⟩)
def gl_bad (q : Nat) : Prop := (q ≠ 0 ∧ q % 9 = 0) ∨ (9 ≤ q ∧ q % 9 ≠ 0 ∧ q / 9 % 9 = 0)
theorem gl_xbad {post : Int32 → Prop} {q : Nat} (hq : q < 729) (h : gl_bad q) (H : post (-1)) : wpX_rowSize post (nI q) := by
  refine gl_xrs hq ?_
  rcases h with h | h
  · exact gl_rs_e (by omega) hq h.2 H
  · exact gl_rs_s (by omega) hq h.2.1 (gl_rs_e (by omega) (by omega) h.2.2 H)
section
variable {L Q T tb : Nat → Int32} {fc fs : Int32}
theorem gl_yb42 {post : Int32 → Prop} {q : Nat} (hq : q < 729) (H : post 0) : wY_badRow_42 post (nI q) fc fs L Q T tb := by
  refine pk_le q 80 (fun _ => H) (fun h => ⟨by decide, br_f ?_ H⟩)
  rw [show nI q / 81 = nI (q / 81) from pk_div (d := 81) (by omega) (by decide) (by decide)]
  exact nI_ne0 (by omega) (by omega)
theorem gl_m9 {q : Nat} (hq : q < 729) : (nI q / 9) - (nI q / 9) / 9 * 9 = 0 ↔ q / 9 % 9 = 0 := by
  rw [gl_div9 hq]
  exact gl_r0 (by omega)
theorem gl_ybad {post : Int32 → Prop} {q : Nat} (hq : q < 729) (h : gl_bad q) (H : post 1) : wpY_badRow post (fc, fs, L, Q, T, tb) (nI q) := by
  refine br_f (nI_pos (by omega)) (br_t (nI_le (b := 728) (by omega) (by decide)) ?_)
  rcases h with h | h
  · exact br_f (nI_ne0 (by omega) (by omega)) ⟨by decide, br_t ((gl_r0 hq).mpr h.2) H⟩
  · exact br_f (nI_ne0 (by omega) (by omega)) ⟨by decide, br_f (fun z => h.2.1 ((gl_r0 hq).mp z)) (br_f (nI_ge (a := 8) (by omega) (by omega)) ⟨by decide, by decide, br_t ((gl_m9 hq).mpr h.2.2) H⟩)⟩
theorem gl_yok {post : Int32 → Prop} {q : Nat} (hq : q < 729) (h : ¬ gl_bad q) (H : post 0) : wpY_badRow post (fc, fs, L, Q, T, tb) (nI q) := by
  refine br_f (nI_pos (by omega)) (br_t (nI_le (b := 728) (by omega) (by decide)) ?_)
  refine pk_eq q 0 (fun _ => H) (fun h0 => ⟨by decide, br_f (fun z => h (Or.inl ⟨h0, (gl_r0 hq).mp z⟩)) (pk_le q 8 (fun _ => gl_yb42 hq H) (fun h8 => ⟨by decide, by decide, br_f (fun z => ?_) (gl_yb42 hq H)⟩))⟩)
  have z1 := (gl_m9 hq).mp z
  rcases Nat.eq_zero_or_pos (q % 9) with w | w
  · exact h (Or.inl ⟨h0, w⟩)
  · exact h (Or.inr ⟨h8, by omega, z1⟩)
end
section
variable {L R Z T se pe ca en op : Nat → Int32} {fs fo : Int32} {c : Nat}
theorem gl_61e {post : Int32 → SX → Prop} {n : Nat} {x4 x5 : Int32} (h : x5 < 0) (H : post (nI (c + 1) - 1) (nI (c + 1), fs, fo, L, R, Z, T, se, pe, ca, en, op)) : wX_rule_61 post (nI c) fs fo (n + 1) x4 x5 L R Z T se pe ca en op :=
  br_t h (nm_r (nI_1 c) H)
theorem gl_61s {post : Int32 → SX → Prop} {n k q v : Nat} {x4 : Int32} (hc : c < 12) (hk : k < 3) (e4 : x4 = nI q) (hq : q < 729) (hv : q % 9 = v + 1) (H : wX_rule_61 post (nI c) fs fo n (nI (q / 9)) (nI k + (-1)) L (upd R (3 * c + k) (nI v)) Z T se pe ca en op) : wX_rule_61 post (nI c) fs fo (n + 1) x4 (nI k) L R Z T se pe ca en op := by
  subst e4
  have ei : 3 * nI c + nI k = nI (3 * c + k) := by
    rw [show 3 * nI c = nI (3 * c) from pk_mul 3 c, nI_add]
  refine br_f (nI_pos (by omega)) ⟨by decide, ?_, nm_r (e' := upd R (3 * c + k) (nI v)) ?_ ⟨by decide, nm_r (gl_div9 hq) (nm_e H)⟩⟩
  · rw [ei]
    exact vp_in_nI (by omega) (by decide)
  · rw [ei, nI_clamp (by omega), gl_rem9 hq, hv, nI_pred]
/-- what a good row is to both sides -/
def gl_gd (c q z : Nat) (R R' : Nat → Int32) : Prop := (∀ x, x < 3 * c → R' x = R x) ∧ gl_Row (nI q) (nI z) (R' (3 * c)) (R' (3 * c + 1)) (R' (3 * c + 2))
theorem gl_good {q : Nat} (hq : q < 729) (h : ¬ gl_bad q) (hc : c < 12) : ∃ z R', z ≤ 3 ∧ gl_gd c q z R R' ∧ (∀ post : Int32 → Prop, post (nI z) → wpX_rowSize post (nI q)) ∧ (∀ (post : Int32 → SX → Prop) (L Z : Nat → Int32), post (nI (c + 1) - 1) (nI (c + 1), fs, fo, L, R', Z, T, se, pe, ca, en, op) → wX_rule_61 post (nI c) fs fo 4 (nI q) (nI z - 1) L R Z T se pe ca en op) := by
  have b1 : q ≠ 0 → q % 9 ≠ 0 := fun a b => h (Or.inl ⟨a, b⟩)
  have b2 : 9 ≤ q → q / 9 % 9 ≠ 0 := fun a b => h (Or.inr ⟨a, b1 (by omega), b⟩)
  rcases Nat.eq_zero_or_pos q with h0 | h0
  · subst h0
    exact ⟨0, R, by omega, ⟨fun _ _ => rfl, Or.inl ⟨rfl, rfl⟩⟩, fun post H => gl_xrs hq (gl_rs_0 H), fun post L Z H => gl_61e (by decide) H⟩
  · have n1 := b1 (by omega)
    obtain ⟨d, hd⟩ : ∃ d, q % 9 = d + 1 := ⟨q % 9 - 1, by omega⟩
    rcases Nat.lt_or_ge q 9 with h9 | h9
    · refine ⟨1, upd R (3 * c + 0) (nI d), by omega, ⟨fun x hx => pk_un (by omega), Or.inr (Or.inl ⟨d, by omega, congrArg nI (by omega), rfl, pk_us⟩)⟩, fun post H => gl_xrs hq (gl_rs_s h0 hq n1 ?_), fun post L Z H => gl_61s (k := 0) hc (by omega) rfl hq hd (gl_61e (by decide) H)⟩
      rw [show q / 9 = 0 by omega]
      exact gl_rs_0 H
    · have n2 := b2 h9
      obtain ⟨b, hb⟩ : ∃ b, q / 9 % 9 = b + 1 := ⟨q / 9 % 9 - 1, by omega⟩
      rcases Nat.lt_or_ge q 81 with h81 | h81
      · refine ⟨2, upd (upd R (3 * c + 1) (nI d)) (3 * c + 0) (nI b), by omega, ⟨fun x hx => ?_, Or.inr (Or.inr (Or.inl ⟨b, d, by omega, by omega, congrArg nI (by omega), rfl, pk_us, ?_⟩))⟩, fun post H => gl_xrs hq (gl_rs_s h0 hq n1 (gl_rs_s (by omega) (by omega) n2 ?_)), fun post L Z H => gl_61s (k := 1) hc (by omega) rfl hq hd (gl_61s (k := 0) hc (by omega) rfl (by omega) hb (gl_61e (by decide) H))⟩
        · rw [pk_un (by omega), pk_un (by omega)]
        · rw [pk_un (by omega), pk_us]
        · rw [show q / 9 / 9 = 0 by omega]
          exact gl_rs_0 H
      · obtain ⟨a, ha⟩ : ∃ a, q / 9 / 9 % 9 = a + 1 := ⟨q / 9 / 9 % 9 - 1, by omega⟩
        refine ⟨3, upd (upd (upd R (3 * c + 2) (nI d)) (3 * c + 1) (nI b)) (3 * c + 0) (nI a), by omega, ⟨fun x hx => ?_, Or.inr (Or.inr (Or.inr ⟨a, b, d, by omega, by omega, by omega, congrArg nI (by omega), rfl, pk_us, ?_, ?_⟩))⟩, fun post H => gl_xrs hq (gl_rs_s h0 hq n1 (gl_rs_s (by omega) (by omega) n2 (gl_rs_s (by omega) (by omega) (by omega) ?_))), fun post L Z H => gl_61s (k := 2) hc (by omega) rfl hq hd (gl_61s (k := 1) hc (by omega) rfl (by omega) hb (gl_61s (k := 0) hc (by omega) rfl (by omega) ha (gl_61e (by decide) H)))⟩
        · rw [pk_un (by omega), pk_un (by omega), pk_un (by omega)]
        · rw [pk_un (by omega), pk_us]
        · rw [pk_un (by omega), pk_un (by omega), pk_us]
        · rw [show q / 9 / 9 / 9 = 0 by omega]
          exact gl_rs_0 H
end
theorem gl_W_new {c s q z a : Nat} {L R R' Z Q : Nat → Int32} (W : gl_W c s L R Z Q) (hc : c < 12) (ha : a < 5) (g : gl_gd c q z R R') : gl_W (c + 1) s (upd L c (nI a)) R' (upd Z c (nI z)) (upd Q c (nI q)) := by
  refine ⟨by omega, W.2.1, fun r hr => ?_, fun r hr => ?_⟩
  · unfold gl_N
    by_cases e : r = c
    · rw [e, pk_us, nI_clamp (by omega)]
      exact ⟨ha, rfl⟩
    · rw [pk_un e]
      exact W.2.2.1 r (by omega)
  · by_cases e : r = c
    · rw [e, pk_us, pk_us]
      exact g.2
    · rw [pk_un e, pk_un e, g.1 (3 * r) (by omega), g.1 (3 * r + 1) (by omega), g.1 (3 * r + 2) (by omega)]
      exact W.2.2.2 r (by omega)
theorem i_vc_rule {k : Nat} {u : SX} {v : SY} (I : i_Rel k u v) (hk : k + 4 ≤ 2048) (v1 : Int32) (v2 : Int32) : wpX_rule (fun r u' => wpY_rule (fun r' v' => r' = r ∧ i_Rel (k + 4) u' v') v v1 v2) u v1 v2 := by
  obtain ⟨c, s, o, L, R, Z, T, se, pe, ca, en, op, Q, tb, rfl, rfl, W⟩ := I
  have hc := W.1
  unfold wpX_rule wpY_rule
  rcases gl_cN v1 with hn | ⟨a, ha, rfl⟩
  · exact gl_xNn hn (br_t rfl (br_c (fun _ => ⟨rfl, gl_mk W⟩) (fun h => br_f ((gl_5n v1).mp (hn.resolve_left h)) ⟨rfl, gl_mk W⟩)))
  · refine gl_xNy rfl ha (br_f (by decide) ?_)
    have y1 : ¬ nI a < 0 := nI_pos (by omega)
    have y2 : nI a ≤ 4 := nI_le (b := 4) (by omega) (by decide)
    rcases pk_ix v2 (n := 729) (by decide) with h | h | ⟨q, hq, rfl⟩
    · exact br_t h (br_f (by decide) (br_f y1 (br_t y2 (br_t h (br_f (by decide) ⟨rfl, gl_mk W⟩)))))
    · have h0 : ¬ v2 < 0 := fun z => by
        have h' := Int32.le_iff_toInt_le.mp h
        have z' := Int32.lt_iff_toInt_lt.mp z
        rw [nI_toInt (by decide)] at h'
        rw [show (0 : Int32).toInt = 0 by decide] at z'
        omega
      have h1 : ¬ v2 < 729 := Int32.not_lt.mpr h
      have h2 : ¬ v2 ≤ 728 := fun z => by
        have h' := Int32.le_iff_toInt_le.mp h
        have z' := Int32.le_iff_toInt_le.mp z
        rw [nI_toInt (by decide)] at h'
        rw [show (728 : Int32).toInt = 728 by decide] at z'
        omega
      exact br_f h0 (br_f h1 (br_f (by decide) (br_f y1 (br_t y2 (br_f h0 (br_f h2 (br_f (by decide) ⟨rfl, gl_mk W⟩)))))))
    · rcases Classical.em (gl_bad q) with hb | hb
      · exact gl_xbad hq hb (br_f (by decide) (br_f y1 (br_t y2 (gl_ybad hq hb (br_f (by decide) ⟨rfl, gl_mk W⟩)))))
      · rcases Nat.lt_or_ge c 12 with h12 | h12
        · obtain ⟨z, R', hz, g, hX, h61⟩ := gl_good (R := R) (T := T) (se := se) (pe := pe) (ca := ca) (en := en) (op := op) (fs := nI s) (fo := o) hq hb h12
          refine hX _ (br_t (nI_pos' (by omega)) (pk_eq c 12 (fun e => absurd e (by omega)) (fun _ => ⟨vp_in_nI h12 (by decide), nm_r (e' := upd L c (nI a)) (by rw [nI_clamp (by omega)]) ⟨vp_in_nI h12 (by decide), nm_r (e' := upd Z c (nI z)) (by rw [nI_clamp (by omega)]) (nm_e ⟨4, h61 _ _ _ ?_⟩)⟩⟩)))
          refine br_f y1 (br_t y2 (gl_yok hq hb (br_t rfl (br_t (nI_le (b := 11) (by omega) (by decide)) ⟨vp_in_nI h12 (by decide), nm_r (e' := upd L c (nI a)) (by rw [nI_clamp (by omega)]) ⟨vp_in_nI h12 (by decide), nm_r (e' := upd Q c (nI q)) (by rw [nI_clamp (by omega)]) (nm_r (nI_1 c) ⟨(nI_pred c).symm, gl_mk (gl_W_new W h12 ha g)⟩)⟩⟩))))
        · have e : c = 12 := by omega
          subst e
          obtain ⟨z, R', hz, g, hX, h61⟩ := gl_good (c := 0) (R := R) (T := T) (se := se) (pe := pe) (ca := ca) (en := en) (op := op) (fs := nI s) (fo := o) hq hb (by omega)
          exact hX _ (br_t (nI_pos' (by omega)) (br_t rfl (br_f y1 (br_t y2 (gl_yok hq hb (br_t rfl (br_f (nI_ge (a := 11) (by omega) (by omega)) ⟨rfl, gl_mk W⟩)))))))
end
