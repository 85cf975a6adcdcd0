section
/-! rows of kit/rows and of the example large-2 (starting texts), pasted -/
theorem pk_us {f : Nat → Int32} {k : Nat} {x : Int32} : upd f k x k = x := if_pos rfl
theorem pk_un {f : Nat → Int32} {k j : Nat} {x : Int32} (h : j ≠ k) : upd f k x j = f j := if_neg h
theorem pk_sub {a b : Nat} (h : b ≤ a) : nI a - nI b = nI (a - b) := by
  obtain ⟨c, rfl⟩ : ∃ c, a = c + b := ⟨a - b, by omega⟩
  rw [← nI_add, Int32.add_sub_cancel, Nat.add_sub_cancel]
theorem pk_m1 (n : Nat) : nI (n + 1) + (-1) = nI n := by
  rw [← nI_1, Int32.add_assoc, show (1 : Int32) + (-1) = 0 from rfl, Int32.add_zero]
theorem pk_mul (a b : Nat) : nI a * nI b = nI (a * b) := (Int32.ofNat_mul a b).symm
theorem pk_sub_toInt {a b : Nat} (ha : a < 2 ^ 30) (hb : b < 2 ^ 30) : (nI a - nI b).toInt = (a : Int) - b := by
  rw [Int32.toInt_sub, nI_toInt (by omega), nI_toInt (by omega)]
  exact Int.bmod_eq_of_le (by omega) (by omega)
theorem pk_sneg {a b : Nat} (hb : b < 2 ^ 30) (h : a < b) : nI a - nI b < 0 := by
  rw [Int32.lt_iff_toInt_lt, pk_sub_toInt (by omega) hb, show (0 : Int32).toInt = 0 from by decide]
  omega
theorem pk_ix (x : Int32) {n : Nat} (hn : n < 2 ^ 31) : x < 0 ∨ nI n ≤ x ∨ ∃ j : Nat, j < n ∧ x = nI j := by
  by_cases h : x < 0
  · exact Or.inl h
  · obtain ⟨j, hj, rfl⟩ := nI_of h
    by_cases h2 : j < n
    · exact Or.inr (Or.inr ⟨j, h2, rfl⟩)
    · exact Or.inr (Or.inl (nI_le (by omega) hj))
theorem pk_le {x y : Int32} {A B : Prop} (a b : Nat) (f : a ≤ b → A) (g : b < a → B) (hx : x = nI a := by rfl) (hy : y = nI b := by rfl) (ha : a < 2 ^ 31 := by omega) (hb : b < 2 ^ 31 := by omega) : (x ≤ y → A) ∧ (¬ x ≤ y → B) := by
  subst hx hy
  rw [nI_leI ha hb]
  exact ⟨f, fun z => g (by omega)⟩
theorem pk_lt {x y : Int32} {A B : Prop} (a b : Nat) (f : a < b → A) (g : b ≤ a → B) (hx : x = nI a := by rfl) (hy : y = nI b := by rfl) (ha : a < 2 ^ 31 := by omega) (hb : b < 2 ^ 31 := by omega) : (x < y → A) ∧ (¬ x < y → B) := by
  subst hx hy
  rw [nI_ltI ha hb]
  exact ⟨f, fun z => g (by omega)⟩
theorem pk_eq {x y : Int32} {A B : Prop} (a b : Nat) (f : a = b → A) (g : a ≠ b → B) (hx : x = nI a := by rfl) (hy : y = nI b := by rfl) (ha : a < 2 ^ 31 := by omega) (hb : b < 2 ^ 31 := by omega) : (x = y → A) ∧ (¬ x = y → B) := by
  subst hx hy
  rw [nI_eq ha hb]
  exact ⟨f, g⟩
theorem pk_in {x : Int32} (n N : Nat) (h : n < N) (hx : x = nI n := by rfl) (hN : N < 2 ^ 31 := by omega) : vp_in x N := by
  subst hx
  exact vp_in_nI h hN
theorem pk_cl {x : Int32} (n : Nat) (hx : x = nI n := by rfl) (h : n < 2 ^ 31 := by omega) : x.toNatClampNeg = n := by
  subst hx
  exact nI_clamp h
theorem pk_tn {n : Nat} (h : n < 2 ^ 32) : (nI n).toBitVec.toNat = n := Nat.mod_eq_of_lt h
theorem pk_and (x : Int32) {m : Int32} (k : Nat) (hm : m.toBitVec.toNat = 2 ^ k - 1) : x &&& m = nI (x.toBitVec.toNat % 2 ^ k) := by
  apply Int32.toBitVec_inj.mp
  apply BitVec.eq_of_toNat_eq
  rw [Int32.toBitVec_and, BitVec.toNat_and, hm, Nat.and_two_pow_sub_one_eq_mod]
  show _ = (BitVec.ofNat 32 _).toNat
  rw [BitVec.toNat_ofNat]
  exact (Nat.mod_eq_of_lt (Nat.lt_of_le_of_lt (Nat.mod_le _ _) x.toBitVec.isLt)).symm
theorem pk_andN {n : Nat} (h : n < 2 ^ 32) {m : Int32} (k : Nat) (hm : m.toBitVec.toNat = 2 ^ k - 1) : nI n &&& m = nI (n % 2 ^ k) := by
  rw [pk_and _ k hm, pk_tn h]
theorem pk_andE (x : Int32) {m : Int32} (k : Nat) (hm : m.toBitVec.toNat = 2 ^ k - 1) : ∃ j : Nat, j < 2 ^ k ∧ x &&& m = nI j := ⟨_, Nat.mod_lt _ (Nat.two_pow_pos k), pk_and x k hm⟩
theorem pk_andIn (x : Int32) {m : Int32} (k : Nat) (hm : m.toBitVec.toNat = 2 ^ k - 1) (hk : k ≤ 30) : vp_in (x &&& m) (2 ^ k) := by
  obtain ⟨j, hj, e⟩ := pk_andE x k hm
  rw [e]
  exact vp_in_nI hj (Nat.lt_of_le_of_lt (Nat.pow_le_pow_right (by decide) hk) (by decide))
theorem pk_least (P : Nat → Prop) (h : ∃ k, P k) : ∃ k, P k ∧ ∀ j, j < k → ¬ P j := by
  obtain ⟨k, hk⟩ := h
  induction k using Nat.strongRecOn with
  | ind k ih =>
    by_cases e : ∃ j, j < k ∧ P j
    · obtain ⟨j, hj, pj⟩ := e
      exact ih j hj pj
    · exact ⟨k, hk, fun j hj pj => e ⟨j, hj, pj⟩⟩
def bt (x : Int32) (i : Nat) : Bool := x.toBitVec.getLsbD i
theorem b_ext {x y : Int32} (h : ∀ i, i < 32 → bt x i = bt y i) : x = y := Int32.toBitVec_inj.mp (BitVec.eq_of_getLsbD_eq (fun i hi => h i hi))
theorem b_or (x y : Int32) (i : Nat) : bt (x ||| y) i = (bt x i || bt y i) := by unfold bt; rw [Int32.toBitVec_or, BitVec.getLsbD_or]
theorem b_and (x y : Int32) (i : Nat) : bt (x &&& y) i = (bt x i && bt y i) := by unfold bt; rw [Int32.toBitVec_and, BitVec.getLsbD_and]
theorem b_xor (x y : Int32) (i : Nat) : bt (x ^^^ y) i = (bt x i ^^ bt y i) := by unfold bt; rw [Int32.toBitVec_xor, BitVec.getLsbD_xor]
theorem b_big {x : Int32} {i : Nat} (h : 32 ≤ i) : bt x i = false := BitVec.getLsbD_of_ge _ _ h
theorem b_m1 : ∀ i, i < 32 → bt (-1) i = true := by decide +kernel
theorem b_0 (i : Nat) : bt 0 i = false := BitVec.getLsbD_zero
theorem s_l : ∀ n, n < 32 → ((nI n &&& 31).toBitVec.smod 32).toNat = n := by decide +kernel
theorem s_u : ∀ n, n < 32 → (((nI n).toUInt32 &&& Int32.toUInt32 31).toBitVec % 32).toNat = n := by decide +kernel
theorem b_shl (n : Nat) (hn : n < 32) (x : Int32) {i : Nat} (hi : i < 32) : bt (x <<< (nI n &&& 31)) i = (decide (n ≤ i) && bt x (i - n)) := by
  unfold bt
  rw [Int32.toBitVec_shiftLeft]
  show (x.toBitVec <<< ((nI n &&& 31).toBitVec.smod 32).toNat).getLsbD i = _
  rw [s_l n hn, BitVec.getLsbD_shiftLeft]
  rcases Nat.lt_or_ge i n with h | h
  · simp [h, Nat.not_le.mpr h]
  · simp [hi, h, Nat.not_lt.mpr h]
theorem b_ushr (n : Nat) (hn : n < 32) (x : Int32) (i : Nat) : bt ((x.toUInt32 >>> ((nI n).toUInt32 &&& Int32.toUInt32 31)).toInt32) i = bt x (n + i) := by
  show (x.toUInt32 >>> ((nI n).toUInt32 &&& Int32.toUInt32 31)).toBitVec.getLsbD i = x.toUInt32.toBitVec.getLsbD (n + i)
  rw [UInt32.toBitVec_shiftRight]
  show (x.toUInt32.toBitVec >>> (((nI n).toUInt32 &&& Int32.toUInt32 31).toBitVec % 32).toNat).getLsbD i = _
  rw [s_u n hn, BitVec.getLsbD_ushiftRight]
noncomputable def b01 (P : Prop) : Nat := @ite Nat P (Classical.propDecidable P) 1 0
theorem b01_t {P : Prop} (h : P) : b01 P = 1 := by unfold b01; rw [if_pos h]
theorem b01_f {P : Prop} (h : ¬ P) : b01 P = 0 := by unfold b01; rw [if_neg h]
theorem b01_le (P : Prop) : b01 P ≤ 1 := by
  rcases Classical.em P with h | h
  · rw [b01_t h]; omega
  · rw [b01_f h]; omega
theorem b01_mono {P Q : Prop} (h : P → Q) : b01 P ≤ b01 Q := by
  rcases Classical.em P with hp | hp
  · rw [b01_t hp, b01_t (h hp)]; omega
  · rw [b01_f hp]; omega
noncomputable def cn (P : Nat → Prop) : Nat → Nat
  | 0 => 0
  | k + 1 => cn P k + b01 (P k)
theorem cn_mono {P Q : Nat → Prop} : ∀ {N : Nat}, (∀ k, k < N → P k → Q k) → cn P N ≤ cn Q N
  | 0, _ => Nat.le_refl _
  | N + 1, h => by
    have a := cn_mono (P := P) (Q := Q) (N := N) (fun k hk => h k (by omega))
    have b := b01_mono (h N (by omega))
    simp only [cn]; omega
theorem cn_lt {P Q : Nat → Prop} {a : Nat} (hp : ¬ P a) (hq : Q a) : ∀ {N : Nat}, (∀ k, k < N → P k → Q k) → a < N → cn P N < cn Q N
  | 0, _, h => by omega
  | N + 1, h, ha => by
    simp only [cn]
    rcases Nat.lt_or_ge a N with z | z
    · have x := cn_lt hp hq (N := N) (fun k hk => h k (by omega)) z
      have b := b01_mono (h N (by omega))
      omega
    · have e : a = N := by omega
      subst e
      have x := cn_mono (P := P) (Q := Q) (N := a) (fun k hk => h k (by omega))
      rw [b01_t hq, b01_f hp]; omega
theorem cn_le (P : Nat → Prop) : ∀ N, cn P N ≤ N
  | 0 => Nat.le_refl _
  | N + 1 => by have := cn_le P N; have := b01_le (P N); simp only [cn]; omega
theorem cn_eq {P Q : Nat → Prop} {N : Nat} (h : ∀ k, k < N → (P k ↔ Q k)) : cn P N = cn Q N :=
  Nat.le_antisymm (cn_mono fun k hk => (h k hk).mp) (cn_mono fun k hk => (h k hk).mpr)
theorem cn_add {P : Nat → Prop} {a : Nat} (hp : ¬ P a) : ∀ {N : Nat}, a < N → cn (fun k => P k ∨ k = a) N = cn P N + 1
  | 0, h => by omega
  | N + 1, h => by
    simp only [cn]
    rcases Nat.lt_or_ge a N with z | z
    · rw [cn_add hp z]
      have : b01 (P N ∨ N = a) = b01 (P N) := Nat.le_antisymm (b01_mono fun q => q.elim id (fun e => by omega)) (b01_mono Or.inl)
      omega
    · have e : a = N := by omega
      subst e
      rw [cn_eq (P := fun k => P k ∨ k = a) (Q := P) (fun k hk => ⟨fun q => q.elim id (fun e => by omega), Or.inl⟩), b01_t (Or.inr rfl), b01_f hp]
end
section
/-! counts, bits, refs: plain rows -/
theorem gf_cnrem {P : Nat → Prop} {a N : Nat} (hp : P a) (ha : a < N) : cn (fun k => P k ∧ k ≠ a) N + 1 = cn P N := by
  rw [← cn_add (P := fun k => P k ∧ k ≠ a) (a := a) (fun h => h.2 rfl) ha]
  exact cn_eq fun k _ => ⟨fun h => h.elim And.left (fun e => e ▸ hp), fun h => (Classical.em (k = a)).elim Or.inr (fun e => Or.inl ⟨h, e⟩)⟩
theorem gf_cninj {P : Nat → Prop} {M : Nat} (f : Nat → Nat) : ∀ (N : Nat) (Q : Nat → Prop), (∀ i, i < N → P i → f i < M ∧ Q (f i)) → (∀ i j, i < N → j < N → P i → P j → f i = f j → i = j) → cn P N ≤ cn Q M := by
  intro N
  induction N with
  | zero => intro Q _ _; exact Nat.zero_le _
  | succ N ih =>
    intro Q h inj
    rcases Classical.em (P N) with hp | hp
    · have h1 := h N (by omega) hp
      have h2 := ih (fun k => Q k ∧ k ≠ f N) (fun i hi pi => ⟨(h i (by omega) pi).1, (h i (by omega) pi).2, fun e => by
        have := inj i N (by omega) (by omega) pi hp e
        omega⟩) (fun i j hi hj => inj i j (by omega) (by omega))
      have h3 := gf_cnrem (P := Q) h1.2 h1.1
      show cn P N + b01 (P N) ≤ _
      rw [b01_t hp]
      omega
    · show cn P N + b01 (P N) ≤ _
      rw [b01_f hp]
      exact ih Q (fun i hi pi => h i (by omega) pi) (fun i j hi hj => inj i j (by omega) (by omega))
theorem gf_cnT : ∀ m, cn (fun _ => True) m = m
  | 0 => rfl
  | m + 1 => by
    show cn (fun _ => True) m + b01 True = m + 1
    rw [gf_cnT m, b01_t trivial]
theorem gf_pig {Q : Nat → Prop} {M : Nat} (m : Nat) (f : Nat → Nat) (h : ∀ i, i < m → f i < M ∧ Q (f i)) (inj : ∀ i j, i < m → j < m → f i = f j → i = j) : m ≤ cn Q M := by
  have := gf_cninj (P := fun _ => True) f m Q (fun i hi _ => h i hi) (fun i j hi hj _ _ => inj i j hi hj)
  rwa [gf_cnT] at this
theorem gf_choice {P : Nat → Prop} {G : Nat → Nat → Prop} (h : ∀ o, P o → ∃ i, G o i) : ∃ g : Nat → Nat, ∀ o, P o → G o (g o) :=
  ⟨fun o => @dite Nat (P o) (Classical.propDecidable _) (fun q => Classical.choose (h o q)) (fun _ => 0), fun o q => by
    show G o (@dite Nat (P o) (Classical.propDecidable _) (fun q => Classical.choose (h o q)) (fun _ => 0))
    rw [dif_pos q]
    exact Classical.choose_spec (h o q)⟩
theorem gf_cnbij {P Q : Nat → Prop} {N M : Nat} (f : Nat → Nat) (h : ∀ i, i < N → P i → f i < M ∧ Q (f i)) (inj : ∀ i j, i < N → j < N → P i → P j → f i = f j → i = j) (sur : ∀ o, o < M ∧ Q o → ∃ i, i < N ∧ P i ∧ f i = o) : cn P N = cn Q M := by
  obtain ⟨g, hg⟩ := gf_choice sur
  refine Nat.le_antisymm (gf_cninj f N Q h inj) (gf_cninj g M P (fun o ho q => ⟨(hg o ⟨ho, q⟩).1, (hg o ⟨ho, q⟩).2.1⟩) ?_)
  intro o p ho hp qo qp e
  rw [← (hg o ⟨ho, qo⟩).2.2, ← (hg p ⟨hp, qp⟩).2.2, e]
theorem gf_cnpos {P : Nat → Prop} {a N : Nat} (h : P a) (ha : a < N) : 0 < cn P N := by
  have := gf_cnrem (P := P) h ha
  omega
theorem gf_cn0 {P : Nat → Prop} {N : Nat} (h : cn P N = 0) : ∀ a, a < N → ¬ P a := by
  intro a ha hp
  have := gf_cnpos (P := P) hp ha
  omega
theorem gf_cnz {P : Nat → Prop} {N : Nat} (h : ∀ a, a < N → ¬ P a) : cn P N = 0 := by
  have h1 : cn P N = cn (fun _ => False) N := cn_eq fun k hk => ⟨fun p => h k hk p, fun f => f.elim⟩
  have h2 : ∀ m, cn (fun _ => False) m = 0 := by
    intro m
    induction m with
    | zero => rfl
    | succ m ih =>
      show cn (fun _ => False) m + b01 False = 0
      rw [ih, b01_f (fun z => z)]
  rw [h1, h2]
theorem gf_cnfull {P : Nat → Prop} {N : Nat} (h : N ≤ cn P N) : ∀ a, a < N → P a := by
  intro a ha
  rcases Classical.em (P a) with p | p
  · exact p
  · have h1 := cn_lt (P := P) (Q := fun _ => True) (a := a) p trivial (N := N) (fun _ _ _ => trivial) ha
    rw [gf_cnT] at h1
    omega
theorem gf_cnsplit {P Q : Nat → Prop} : ∀ N, cn (fun c => P c ∧ Q c) N + cn (fun c => P c ∧ ¬ Q c) N = cn P N
  | 0 => rfl
  | N + 1 => by
    have ih := gf_cnsplit (P := P) (Q := Q) N
    show cn (fun c => P c ∧ Q c) N + b01 (P N ∧ Q N) + (cn (fun c => P c ∧ ¬ Q c) N + b01 (P N ∧ ¬ Q N)) = cn P N + b01 (P N)
    have e : b01 (P N ∧ Q N) + b01 (P N ∧ ¬ Q N) = b01 (P N) := by
      rcases Classical.em (P N) with p | p
      · rcases Classical.em (Q N) with q | q
        · rw [b01_t ⟨p, q⟩, b01_f (fun z => z.2 q), b01_t p]
        · rw [b01_f (fun z => q z.2), b01_t ⟨p, q⟩, b01_t p]
      · rw [b01_f (fun z => p z.1), b01_f (fun z => p z.1), b01_f p]
    omega
theorem gf_cnup {P : Nat → Prop} : ∀ {a b : Nat}, a ≤ b → cn P a ≤ cn P b := by
  intro a b h
  induction h with
  | refl => exact Nat.le_refl _
  | step _ ih =>
    refine Nat.le_trans ih ?_
    show _ ≤ cn P _ + b01 _
    omega
theorem gf_rklt {P : Nat → Prop} {a b : Nat} (h : a < b) (hp : P a) : cn P a < cn P b := by
  have h1 := gf_cnup (P := P) (a := a + 1) (b := b) h
  have h2 : cn P (a + 1) = cn P a + 1 := by
    show cn P a + b01 (P a) = _
    rw [b01_t hp]
  omega
theorem gf_rksur {P : Nat → Prop} : ∀ {N x : Nat}, x < cn P N → ∃ c, c < N ∧ P c ∧ cn P c = x
  | 0, x, h => by
    have h : x < 0 := h
    omega
  | N + 1, x, h => by
    have h : x < cn P N + b01 (P N) := h
    rcases Nat.lt_or_ge x (cn P N) with z | z
    · obtain ⟨c, h1, h2, h3⟩ := gf_rksur z
      exact ⟨c, by omega, h2, h3⟩
    · rcases Classical.em (P N) with p | p
      · rw [b01_t p] at h
        exact ⟨N, by omega, p, by omega⟩
      · rw [b01_f p] at h
        omega
theorem gf_nar0 : vp_nar .boolean 0 = 0 := rfl
theorem gf_nar1 : vp_nar .boolean 1 = 1 := rfl
theorem gf_nar01 {x : Int32} (h : x = 0 ∨ x = 1) : vp_nar .boolean x = x := by
  rcases h with rfl | rfl <;> rfl
theorem gf_m1 {d : Nat} (h : d < 2 ^ 31) : nI d ≠ -1 := by
  intro e
  have h1 := nI_pos h
  rw [e] at h1
  exact h1 (by decide)
theorem gf_bset (x : Int32) {c : Nat} (hc : c < 32) {i : Nat} (hi : i < 32) : bt (x ||| ((1 : Int32) <<< (nI c &&& 31))) i = (bt x i || decide (i = c)) := by
  rw [b_or, b_shl c hc 1 hi]
  congr 1
  rcases Nat.lt_trichotomy i c with h | h | h
  · rw [decide_eq_false (by omega), decide_eq_false (by omega)]; rfl
  · subst h
    rw [decide_eq_true (Nat.le_refl _), decide_eq_true rfl, Nat.sub_self]; decide
  · rw [decide_eq_true (by omega), decide_eq_false (by omega)]
    have : ∀ j, j < 32 → 0 < j → bt 1 j = false := by decide +kernel
    rw [this (i - c) (by omega) (by omega)]; rfl
theorem gf_bmono (x y : Int32) (i : Nat) (h : bt x i = true) : bt (x ||| y) i = true := by rw [b_or, h]; rfl
theorem gf_bclr (x y : Int32) {i : Nat} (hi : i < 32) : bt (x &&& (y ^^^ (-1))) i = (bt x i && !bt y i) := by
  rw [b_and, b_xor, b_m1 i hi]
  cases bt x i <;> cases bt y i <;> rfl
theorem gf_btest (x : Int32) {c : Nat} (hc : c < 32) : ((x.toUInt32 >>> ((nI c).toUInt32 &&& Int32.toUInt32 31)).toInt32 &&& 1) = 0 ↔ bt x c = false := by
  have b1 : ∀ j, j < 32 → bt 1 j = decide (j = 0) := by decide +kernel
  constructor
  · intro h
    have h1 : bt (((x.toUInt32 >>> ((nI c).toUInt32 &&& Int32.toUInt32 31)).toInt32) &&& 1) 0 = bt 0 0 := by rw [h]
    rw [b_and, b_ushr c hc, b_0, b1 0 (by omega)] at h1
    simpa using h1
  · intro h
    apply b_ext
    intro i hi
    rw [b_and, b_ushr c hc, b_0, b1 i hi]
    rcases Nat.eq_zero_or_pos i with z | z
    · subst z; rw [Nat.add_zero, h]; rfl
    · rw [decide_eq_false (by omega), Bool.and_false]
theorem gf_div {C R N c : Nat} (hN : N = R * C) (h : c < N) : c / C < R := by
  subst hN
  exact Nat.div_lt_of_lt_mul (Nat.mul_comm R C ▸ h)
theorem gf_idx {C R N r t : Nat} (hN : N = R * C) (hr : r < R) (ht : t < C) : r * C + t < N ∧ (r * C + t) / C = r ∧ (r * C + t) % C = t := by
  subst hN
  have h0 : 0 < C := by omega
  refine ⟨?_, ?_, ?_⟩
  · have h1 : (r + 1) * C ≤ R * C := Nat.mul_le_mul_right C hr
    rw [Nat.add_mul] at h1
    omega
  · rw [Nat.mul_comm, Nat.mul_add_div h0, Nat.div_eq_of_lt ht, Nat.add_zero]
  · rw [Nat.mul_comm, Nat.mul_add_mod, Nat.mod_eq_of_lt ht]
/-! reachability: the least set -/
def gf_Rc (E : Nat → Nat → Prop) (S : Nat → Prop) (x : Nat) : Prop := ∀ T : Nat → Prop, (∀ y, S y → T y) → (∀ y z, T y → E y z → T z) → T x
theorem gf_Rc_in {E : Nat → Nat → Prop} {S : Nat → Prop} {x : Nat} (h : S x) : gf_Rc E S x := fun _ h1 _ => h1 x h
theorem gf_Rc_st {E : Nat → Nat → Prop} {S : Nat → Prop} {x y : Nat} (h : gf_Rc E S x) (e : E x y) : gf_Rc E S y := fun T h1 h2 => h2 x y (h T h1 h2) e
/-! refs -/
def gf_vr (S : Nat → Prop) (x : Int32) : Prop := x = -1 ∨ ∃ d, S d ∧ x = nI d
def gf_rr (S : Nat → Prop) (φ : Nat → Nat) (e x y : Int32) : Prop := (x = -1 ∧ y = e) ∨ ∃ d, S d ∧ x = nI d ∧ y = nI (φ d)
def gf_ex (fl : Nat → Int32) (c d : Nat) : Prop := d < 32 ∧ (fl (2 * c) = nI d ∨ fl (2 * c + 1) = nI d)
def gf_U (N : Nat) (us : Nat → Int32) (c : Nat) : Prop := c < N ∧ us c ≠ 0
theorem gf_rr_vr {S : Nat → Prop} {φ : Nat → Nat} {e x y : Int32} (h : gf_rr S φ e x y) : gf_vr S x := by
  rcases h with ⟨h, _⟩ | ⟨d, h1, h2, _⟩
  · exact Or.inl h
  · exact Or.inr ⟨d, h1, h2⟩
theorem gf_vr_mono {S T : Nat → Prop} {x : Int32} (h : gf_vr S x) (m : ∀ d, S d → T d) : gf_vr T x := by
  rcases h with h | ⟨d, h1, h2⟩
  · exact Or.inl h
  · exact Or.inr ⟨d, m d h1, h2⟩
theorem gf_rr_mono {S T : Nat → Prop} {φ ψ : Nat → Nat} {e x y : Int32} (h : gf_rr S φ e x y) (m : ∀ d, S d → T d ∧ ψ d = φ d) : gf_rr T ψ e x y := by
  rcases h with h | ⟨d, h1, h2, h3⟩
  · exact Or.inl h
  · exact Or.inr ⟨d, (m d h1).1, h2, by rw [(m d h1).2]; exact h3⟩
/-- a closed valid set: an edge leads into it -/
theorem gf_vr_ex {S : Nat → Prop} {fl : Nat → Int32} {c d : Nat} (b : ∀ x, S x → x < 32) (h : gf_vr S (fl (2 * c)) ∧ gf_vr S (fl (2 * c + 1))) (e : gf_ex fl c d) : S d := by
  have key : ∀ x : Int32, gf_vr S x → x = nI d → S d := by
    intro x hx ex
    rcases hx with hx | ⟨d', h1, h2⟩
    · exact absurd (ex.symm.trans hx) (gf_m1 (by have := e.1; omega))
    · rw [h2] at ex
      have := (nI_eq (by have := b d' h1; omega) (by have := e.1; omega)).mp ex
      exact this ▸ h1
  rcases e.2 with h1 | h1
  · exact key _ h.1 h1
  · exact key _ h.2 h1
end
section
/-! the relation's parts, in plain terms -/
def gf_cf (R C N nr nw : Nat) : Prop := 3 ≤ R ∧ R ≤ 8 ∧ 2 ≤ C ∧ C ≤ 4 ∧ N = R * C ∧ N ≤ 32 ∧ 2 ≤ nr ∧ nr ≤ 8 ∧ 1 ≤ nw ∧ nw ≤ 4
def gf_HM (C N : Nat) (ho : Nat → Int32) : Prop := ∀ c, c < N → ho c = nI (c / C)
def gf_TP (R C N : Nat) (us tp : Nat → Int32) : Prop := ∀ r, r < R → ∃ t, t ≤ C ∧ tp r = nI t ∧ ∀ c, c < N → us c ≠ 0 → c / C = r → c % C < t
def gf_FV (N : Nat) (us fl : Nat → Int32) : Prop := ∀ c, gf_U N us c → gf_vr (gf_U N us) (fl (2 * c)) ∧ gf_vr (gf_U N us) (fl (2 * c + 1))
def gf_RM (C N : Nat) (us fl rm : Nat → Int32) : Prop := ∀ c d, gf_U N us c → gf_ex fl c d → c / C ≠ d / C → bt (rm (d / C)) c = true
def gf_CZ (R : Nat) (ch : Nat → Int32) : Prop := ∀ r, r < R → ch r = 0
def gf_B1 (ma : Nat → Int32) : Prop := ∀ c, c < 32 → ma c = 0 ∨ ma c = 1
def gf_WP (gc : Nat) (fl ma gr : Nat → Int32) (K Q : Nat → Prop) : Prop := ∀ T : Nat → Prop,
  (∀ i g d, i < gc → K g → gr i = nI g → gf_ex fl g d → K d → ma d = 0 → T d) →
  (∀ d, Q d → K d → ma d = 0 → T d) →
  (∀ c d, K c → T c → ma c = 0 → gf_ex fl c d → K d → ma d = 0 → T d) → ∀ x, K x → ma x = 0 → T x
def gf_KI (N gc : Nat) (us fl ma gr : Nat → Int32) (K Q : Nat → Prop) : Prop :=
  (∀ c, K c → gf_U N us c) ∧
  (∀ c, K c → gf_vr K (fl (2 * c)) ∧ gf_vr K (fl (2 * c + 1))) ∧
  (∀ c, gf_U N us c → ma c ≠ 0 → K c) ∧
  (∀ i, i < gc → ∃ g, K g ∧ ma g ≠ 0 ∧ gr i = nI g) ∧
  (∀ i j, i < gc → j < gc → gr i = gr j → i = j) ∧ gf_WP gc fl ma gr K Q
def gf_BI (N nr nw : Nat) (us rt wa va fl yr yw yv y0 y1 : Nat → Int32) (φ : Nat → Nat) (H : Nat → Prop) : Prop :=
  (∀ c, H c → gf_U N us c ∧ (1 ≤ φ c ∧ φ c ≤ 32) ∧ gf_rr H φ 0 (fl (2 * c)) (y0 (φ c)) ∧ gf_rr H φ 0 (fl (2 * c + 1)) (y1 (φ c)) ∧ yv (φ c) = va c) ∧
  (∀ c d, H c → H d → φ c = φ d → c = d) ∧
  (∀ i, i < nr → gf_rr H φ 0 (rt i) (yr i)) ∧ (∀ i, nr ≤ i → i < 8 → yr i = 0) ∧
  (∀ i, i < nw → gf_rr H φ 0 (wa i) (yw i)) ∧ (∀ i, nw ≤ i → i < 4 → yw i = 0)
def gf_CY (N nr gc : Nat) (cyc fnd yfn : Int32) (us fl ma gr rt yk : Nat → Int32) (φ : Nat → Nat) (H : Nat → Prop) : Prop :=
  (cyc = 0 ∧ gc = 0) ∨ (cyc = 1 ∧ ∃ K : Nat → Prop, gf_KI N gc us fl ma gr K (fun _ => False) ∧ (∀ i, i < nr → gf_vr K (rt i)) ∧
    (∀ c, H c → (yk (φ c) ≠ 0 ↔ K c)) ∧ yfn = fnd + nI (cn (fun c => K c ∧ ma c = 0) 32))
def gf_YV (y0 y1 : Nat → Int32) : Prop := ∀ o, o ≤ 32 → (∃ p, p ≤ 32 ∧ y0 o = nI p) ∧ (∃ p, p ≤ 32 ∧ y1 o = nI p)
def gf_HP (R C N : Nat) (us fl ma ho tp rm ch : Nat → Int32) : Prop := gf_HM C N ho ∧ gf_TP R C N us tp ∧ gf_FV N us fl ∧ gf_RM C N us fl rm ∧ gf_CZ R ch ∧ gf_B1 ma
def gf_RL (R C N nr nw gc : Nat) (cyc fnd : Int32) (rt wa va fl us ma ho tp rm ch gr : Nat → Int32) (yfn : Int32) (yr yw yv y0 y1 yk : Nat → Int32) : Prop :=
  gf_cf R C N nr nw ∧ gf_HP R C N us fl ma ho tp rm ch ∧ gf_YV y0 y1 ∧ ∃ (φ : Nat → Nat) (H : Nat → Prop), gf_BI N nr nw us rt wa va fl yr yw yv y0 y1 φ H ∧ gf_CY N nr gc cyc fnd yfn us fl ma gr rt yk φ H
theorem gf_cn32 {N : Nat} {us : Nat → Int32} {c : Nat} (hN : N ≤ 32) (h : gf_U N us c) : c < 32 := Nat.lt_of_lt_of_le h.1 hN
/-! marking -/
section
variable {R C N nr nw gc : Nat} {cyc fnd wk : Int32} {rt wa va fl us ma ho tp od lv rm ch gr re fw wo : Nat → Int32}
variable {K Q Q' : Nat → Prop} {c d : Nat}
theorem gf_KI_32 (hN : N ≤ 32) (h : (gf_KI N gc us fl ma gr K Q)) {x : Nat} (hx : K x) : x < 32 := gf_cn32 hN (h.1 x hx)
theorem gf_KI_le (hN : N ≤ 32) (h : (gf_KI N gc us fl ma gr K Q)) : gc + cn (fun c => K c ∧ ma c = 0) 32 ≤ 32 := by
  obtain ⟨g, hg⟩ := gf_choice (P := fun i => i < gc) h.2.2.2.1
  have h1 := gf_pig (Q := fun c => K c ∧ ¬ ma c = 0) (M := 32) gc g (fun i hi => ⟨gf_KI_32 hN h (hg i hi).1, (hg i hi).1, (hg i hi).2.1⟩) (fun i j hi hj e => h.2.2.2.2.1 i j hi hj (by rw [(hg i hi).2.2, (hg j hj).2.2, e]))
  have h2 := gf_cnsplit (P := K) (Q := fun c => ma c = 0) 32
  have h3 := cn_le K 32
  omega
theorem gf_KI_Q (h : (gf_KI N gc us fl ma gr K Q)) (hQ : ∀ x, K x → Q x → ma x = 0 → Q' x) : (gf_KI N gc us fl ma gr K Q') :=
  ⟨h.1, h.2.1, h.2.2.1, h.2.2.2.1, h.2.2.2.2.1, fun T a b e => h.2.2.2.2.2 T a (fun d hd hk hm => b d (hQ d hk hd hm) hk hm) e⟩
theorem gf_upd1 {f : Nat → Int32} {k j : Nat} (h : f j ≠ 0) : upd f k 1 j ≠ 0 := by
  by_cases e : j = k
  · rw [e, pk_us]; decide
  · rw [pk_un e]; exact h
theorem gf_upd0 {f : Nat → Int32} {k j : Nat} (h : upd f k 1 j = 0) : j ≠ k ∧ f j = 0 := by
  by_cases e : j = k
  · rw [e, pk_us] at h
    exact absurd h (by decide)
  · rw [pk_un e] at h
    exact ⟨e, h⟩
theorem gf_KI_grey (hN : N ≤ 32) (h : (gf_KI N gc us fl ma gr K Q)) (hd : K d) (hm : ma d = 0) (hQ : ∀ x, K x → Q x → Q' x ∨ x = d) : (gf_KI N (gc + 1) us fl (upd ma d 1) (upd gr gc (nI d)) K Q') := by
  have b := fun x (hx : K x) => gf_KI_32 hN h hx
  obtain ⟨h1, h2, h3, h4, h5, h6⟩ := h
  have hne : ∀ i, i < gc → gr i ≠ nI d := by
    intro i hi e
    obtain ⟨g, a1, a2, a3⟩ := h4 i hi
    rw [a3] at e
    have := (nI_eq (by have := b g a1; omega) (by have := b d hd; omega)).mp e
    rw [this] at a2
    exact a2 hm
  refine ⟨h1, h2, fun c hc hmc => ?_, fun i hi => ?_, fun i j hi hj e => ?_, ?_⟩
  · by_cases e : c = d
    · rw [e]; exact hd
    · rw [pk_un e] at hmc
      exact h3 c hc hmc
  · by_cases e : i = gc
    · refine ⟨d, hd, ?_, by rw [e, pk_us]⟩
      rw [pk_us]; decide
    · obtain ⟨g, a1, a2, a3⟩ := h4 i (by omega)
      exact ⟨g, a1, gf_upd1 a2, by rw [pk_un e]; exact a3⟩
  · by_cases ei : i = gc
    · by_cases ej : j = gc
      · omega
      · rw [ei, pk_us, pk_un ej] at e
        exact absurd e.symm (hne j (by omega))
    · by_cases ej : j = gc
      · rw [ej, pk_us, pk_un ei] at e
        exact absurd e (hne i (by omega))
      · rw [pk_un ei, pk_un ej] at e
        exact h5 i j (by omega) (by omega) e
  · intro T t1 t2 t3 x hx hmx
    obtain ⟨x1, x2⟩ := gf_upd0 hmx
    have key := h6 (fun y => T y ∨ y = d) (fun i g y hi hg e ex hy hmy => ?_) (fun y qy ky hmy => ?_) (fun c y kc tc hmc ex ky hmy => ?_) x hx x2
    · exact key.elim id (fun e => absurd e x1)
    · by_cases ey : y = d
      · exact Or.inr ey
      · exact Or.inl (t1 i g y (by omega) hg (by rw [pk_un (by omega)]; exact e) ex hy (by rw [pk_un ey]; exact hmy))
    · by_cases ey : y = d
      · exact Or.inr ey
      · exact Or.inl (t2 y ((hQ y ky qy).elim id (fun e => absurd e ey)) ky (by rw [pk_un ey]; exact hmy))
    · by_cases ey : y = d
      · exact Or.inr ey
      · by_cases ec : c = d
        · subst ec
          exact Or.inl (t1 gc c y (by omega) hd (by rw [pk_us]) ex ky (by rw [pk_un ey]; exact hmy))
        · exact Or.inl (t3 c y kc (tc.elim id (fun e => absurd e ec)) (by rw [pk_un ec]; exact hmc) ex ky (by rw [pk_un ey]; exact hmy))
theorem gf_cn_grey (h32 : d < 32) (hd : K d) (hm : ma d = 0) : cn (fun c => K c ∧ upd ma d 1 c = 0) 32 + 1 = cn (fun c => K c ∧ ma c = 0) 32 := by
  have h1 := gf_cnrem (P := fun c => K c ∧ ma c = 0) (a := d) ⟨hd, hm⟩ h32
  rw [← h1]
  congr 1
  refine cn_eq fun c _ => ⟨fun h => ?_, fun h => ⟨h.1.1, by rw [pk_un h.2]; exact h.1.2⟩⟩
  obtain ⟨a, b⟩ := gf_upd0 h.2
  exact ⟨⟨h.1, b⟩, a⟩
theorem gf_KI_pop (hN : N ≤ 32) (h : (gf_KI N (gc + 1) us fl ma gr K Q)) (hc : K c) (e : gr gc = nI c) : (gf_KI N gc us fl ma gr K (fun d => Q d ∨ gf_ex fl c d)) := by
  have b := fun x (hx : K x) => gf_KI_32 hN h hx
  obtain ⟨h1, h2, h3, h4, h5, h6⟩ := h
  refine ⟨h1, h2, h3, fun i hi => h4 i (by omega), fun i j hi hj => h5 i j (by omega) (by omega), fun T t1 t2 t3 => h6 T (fun i g d hi hg eg ex hd hm => ?_) (fun d hd => t2 d (Or.inl hd)) t3⟩
  by_cases z : i = gc
  · subst z
    rw [e] at eg
    have := (nI_eq (by have := b c hc; omega) (by have := b g hg; omega)).mp eg
    subst this
    exact t2 d (Or.inr ex) hd hm
  · exact t1 i g d (by omega) hg eg ex hd hm
theorem gf_KI_store (h : (gf_KI N gc us fl ma gr K Q)) {j : Nat} {v : Int32} (ho : ∀ d, d < 32 → fl j = nI d → ma d ≠ 0) (hv : gf_vr K v) : (gf_KI N gc us (upd fl j v) ma gr K Q) := by
  obtain ⟨h1, h2, h3, h4, h5, h6⟩ := h
  have key : ∀ g d, gf_ex fl g d → ma d = 0 → gf_ex (upd fl j v) g d := by
    intro g d ex hm
    refine ⟨ex.1, ?_⟩
    rcases ex.2 with e | e
    · left
      rw [pk_un (fun z => ho d ex.1 (by rw [← z]; exact e) hm)]; exact e
    · right
      rw [pk_un (fun z => ho d ex.1 (by rw [← z]; exact e) hm)]; exact e
  have kv : ∀ i, gf_vr K (fl i) → gf_vr K (upd fl j v i) := by
    intro i hi
    by_cases z : i = j
    · rw [z, pk_us]; exact hv
    · rw [pk_un z]; exact hi
  exact ⟨h1, fun c hc => ⟨kv _ (h2 c hc).1, kv _ (h2 c hc).2⟩, h3, h4, h5, fun T t1 t2 t3 => h6 T (fun i g d hi hg eg ex hd hm => t1 i g d hi hg eg (key g d ex hm) hd hm) t2 (fun c d kc tc hmc ex kd hm => t3 c d kc tc hmc (key c d ex hm) kd hm)⟩
theorem gf_fl2 {v w : Int32} {x : Nat} (z : x ≠ c) : upd (upd fl (2 * c) v) (2 * c + 1) w (2 * x) = fl (2 * x) ∧ upd (upd fl (2 * c) v) (2 * c + 1) w (2 * x + 1) = fl (2 * x + 1) := by
  constructor
  · rw [pk_un (by omega), pk_un (by omega)]
  · rw [pk_un (by omega), pk_un (by omega)]
theorem gf_fl1 {v w : Int32} : upd (upd fl (2 * c) v) (2 * c + 1) w (2 * c) = v ∧ upd (upd fl (2 * c) v) (2 * c + 1) w (2 * c + 1) = w := by
  constructor
  · rw [pk_un (by omega), pk_us]
  · rw [pk_us]
theorem gf_exn {v w : Int32} {x y : Nat} (z : x ≠ c) : gf_ex (upd (upd fl (2 * c) v) (2 * c + 1) w) x y ↔ gf_ex fl x y := by
  unfold gf_ex
  rw [(gf_fl2 z).1, (gf_fl2 z).2]
theorem gf_KI_alloc (hN : N ≤ 32) (h : (gf_KI N gc us fl ma gr K Q)) (hc : c < N) (hu : us c = 0) : (gf_KI N gc (upd us c 1) (upd (upd fl (2 * c) (-1)) (2 * c + 1) (-1)) (upd ma c 1) gr (fun x => K x ∨ x = c) Q) := by
  obtain ⟨h1, h2, h3, h4, h5, h6⟩ := h
  have nc : ∀ x, K x → x ≠ c := by
    intro x hx e
    rw [e] at hx
    exact (h1 c hx).2 hu
  refine ⟨fun x hx => ?_, fun x hx => ?_, fun x hx hm => ?_, fun i hi => ?_, h5, ?_⟩
  · rcases hx with hx | hx
    · exact ⟨(h1 x hx).1, gf_upd1 (h1 x hx).2⟩
    · subst hx
      exact ⟨hc, by rw [pk_us]; decide⟩
  · rcases hx with hx | hx
    · rw [(gf_fl2 (nc x hx)).1, (gf_fl2 (nc x hx)).2]
      exact ⟨gf_vr_mono (h2 x hx).1 (fun _ => Or.inl), gf_vr_mono (h2 x hx).2 (fun _ => Or.inl)⟩
    · subst hx
      rw [gf_fl1.1, gf_fl1.2]
      exact ⟨Or.inl rfl, Or.inl rfl⟩
  · by_cases e : x = c
    · exact Or.inr e
    · rw [pk_un e] at hm
      refine Or.inl (h3 x ⟨hx.1, ?_⟩ hm)
      have := hx.2
      rwa [pk_un e] at this
  · obtain ⟨g, a1, a2, a3⟩ := h4 i hi
    exact ⟨g, Or.inl a1, gf_upd1 a2, a3⟩
  · intro T t1 t2 t3 x hx hm
    obtain ⟨x1, x2⟩ := gf_upd0 hm
    have kx : K x := hx.elim id (fun e => absurd e x1)
    refine h6 T (fun i g d hi hg eg ex hd hm => t1 i g d hi (Or.inl hg) eg ((gf_exn (nc g hg)).mpr ex) (Or.inl hd) (by rw [pk_un (nc d hd)]; exact hm)) (fun d hq hd hm => t2 d hq (Or.inl hd) (by rw [pk_un (nc d hd)]; exact hm)) (fun a d ka ta hma ex kd hm => t3 a d (Or.inl ka) ta (by rw [pk_un (nc a ka)]; exact hma) ((gf_exn (nc a ka)).mpr ex) (Or.inl kd) (by rw [pk_un (nc d kd)]; exact hm)) x kx x2
theorem gf_RcU (hN : N ≤ 32) (fv : (gf_FV N us fl)) {S : Nat → Prop} (hS : ∀ x, S x → gf_U N us x) {x : Nat} (h : gf_Rc (gf_ex fl) S x) : gf_U N us x :=
  h (gf_U N us) hS (fun y z hy e => gf_vr_ex (fun x hx => gf_cn32 hN hx) (fv y hy) e)
theorem gf_RcV (hN : N ≤ 32) (fv : (gf_FV N us fl)) {S : Nat → Prop} (hS : ∀ x, S x → gf_U N us x) {x : Nat} (h : gf_Rc (gf_ex fl) S x) : gf_vr (gf_Rc (gf_ex fl) S) (fl (2 * x)) ∧ gf_vr (gf_Rc (gf_ex fl) S) (fl (2 * x + 1)) := by
  have hx := gf_RcU hN fv hS h
  constructor
  · rcases (fv x hx).1 with e | ⟨d, hd, e⟩
    · exact Or.inl e
    · exact Or.inr ⟨d, gf_Rc_st h ⟨gf_cn32 hN hd, Or.inl e⟩, e⟩
  · rcases (fv x hx).2 with e | ⟨d, hd, e⟩
    · exact Or.inl e
    · exact Or.inr ⟨d, gf_Rc_st h ⟨gf_cn32 hN hd, Or.inr e⟩, e⟩
theorem gf_KI_begin (hN : N ≤ 32) (fv : (gf_FV N us fl)) {S : Nat → Prop} (hS : ∀ x, S x → gf_U N us x) (hm : ∀ c, c < N → ma c = 0) : (gf_KI N 0 us fl ma gr (gf_Rc (gf_ex fl) S) S) := by
  refine ⟨fun c hc => gf_RcU hN fv hS hc, fun c hc => gf_RcV hN fv hS hc, fun c hc h => absurd (hm c hc.1) h, fun i hi => absurd hi (Nat.not_lt_zero _), fun i j hi => absurd hi (Nat.not_lt_zero _), ?_⟩
  intro T _ t2 t3 x hx _
  have z : ∀ y, gf_Rc (gf_ex fl) S y → ma y = 0 := fun y hy => hm y (gf_RcU hN fv hS hy).1
  have key := hx (fun y => gf_Rc (gf_ex fl) S y ∧ T y) (fun y hy => ⟨gf_Rc_in hy, t2 y hy (gf_Rc_in hy) (z y (gf_Rc_in hy))⟩) (fun y w hy e => ⟨gf_Rc_st hy.1 e, t3 y w hy.1 hy.2 (z y hy.1) e (gf_Rc_st hy.1 e) (z w (gf_Rc_st hy.1 e))⟩)
  exact key.2
theorem gf_KI_revive (hN : N ≤ 32) (fv : (gf_FV N us fl)) (h : (gf_KI N gc us fl ma gr K (fun _ => False))) (hc : gf_U N us c) : (gf_KI N gc us fl ma gr (fun x => K x ∨ gf_Rc (gf_ex fl) (fun y => y = c) x) (fun y => y = c)) := by
  have b := fun x (hx : K x) => gf_KI_32 hN h hx
  obtain ⟨h1, h2, h3, h4, h5, h6⟩ := h
  have hS : ∀ x, x = c → gf_U N us x := fun x e => e ▸ hc
  refine ⟨fun x hx => hx.elim (h1 x) (fun z => gf_RcU hN fv hS z), fun x hx => ?_, fun x hx hm => Or.inl (h3 x hx hm), fun i hi => ?_, h5, ?_⟩
  · rcases hx with hx | hx
    · exact ⟨gf_vr_mono (h2 x hx).1 (fun _ => Or.inl), gf_vr_mono (h2 x hx).2 (fun _ => Or.inl)⟩
    · have := gf_RcV hN fv hS hx
      exact ⟨gf_vr_mono this.1 (fun _ => Or.inr), gf_vr_mono this.2 (fun _ => Or.inr)⟩
  · obtain ⟨g, a1, a2, a3⟩ := h4 i hi
    exact ⟨g, Or.inl a1, a2, a3⟩
  · intro T t1 t2 t3 x hx hm
    have old : ∀ y, K y → ma y = 0 → T y := h6 T (fun i g d hi hg eg ex hd hm => t1 i g d hi (Or.inl hg) eg ex (Or.inl hd) hm) (fun d f => f.elim) (fun a d ka ta hma ex kd hm => t3 a d (Or.inl ka) ta hma ex (Or.inl kd) hm)
    rcases hx with hx | hx
    · exact old x hx hm
    · have key := hx (fun y => gf_Rc (gf_ex fl) (fun y => y = c) y ∧ (ma y = 0 → T y)) (fun y hy => ⟨gf_Rc_in hy, fun hm => t2 y hy (Or.inr (gf_Rc_in hy)) hm⟩) (fun y w hy e => ⟨gf_Rc_st hy.1 e, fun hmw => ?_⟩)
      · exact key.2 hm
      · by_cases z : ma y = 0
        · exact t3 y w (Or.inr hy.1) (hy.2 z) z e (Or.inr (gf_Rc_st hy.1 e)) hmw
        · exact old w (gf_vr_ex b (h2 y (h3 y (gf_RcU hN fv hS hy.1) z)) e) hmw
theorem gf_KI_done (h : (gf_KI N 0 us fl ma gr K (fun _ => False))) : ∀ x, K x → ma x ≠ 0 := by
  intro x hx hm
  exact h.2.2.2.2.2 (fun _ => False) (fun i g d hi => absurd hi (Nat.not_lt_zero _)) (fun _ f _ _ => f) (fun _ _ _ f => f.elim) x hx hm
end
end
section
/-! the two graphs: reachable sets correspond; an isomorphism of heaps carries the relation over -/
def gf_ey (y0 y1 : Nat → Int32) (o p : Nat) : Prop := 1 ≤ p ∧ p ≤ 32 ∧ (y0 o = nI p ∨ y1 o = nI p)
def gf_IS (N nr nw gc : Nat) (us0 va0 fl0 ma0 rt0 wa0 gr0 us va fl ma rt wa gr : Nat → Int32) (dn : Nat → Nat) : Prop :=
  (∀ x, gf_U N us x → gf_U N us0 (dn x) ∧ va x = va0 (dn x) ∧ ma x = ma0 (dn x) ∧ gf_rr (gf_U N us) dn (-1) (fl (2 * x)) (fl0 (2 * dn x)) ∧ gf_rr (gf_U N us) dn (-1) (fl (2 * x + 1)) (fl0 (2 * dn x + 1))) ∧
  (∀ x y, gf_U N us x → gf_U N us y → dn x = dn y → x = y) ∧
  (∀ i, i < nr → gf_rr (gf_U N us) dn (-1) (rt i) (rt0 i)) ∧ (∀ i, i < nw → gf_rr (gf_U N us) dn (-1) (wa i) (wa0 i)) ∧ (∀ i, i < gc → gf_rr (gf_U N us) dn (-1) (gr i) (gr0 i))
section
variable {R C N nr nw gc : Nat} {cyc fnd wk : Int32} {rt wa va fl us ma ho tp od lv rm ch gr re fw wo : Nat → Int32} {yfn : Int32} {yr yw yv y0 y1 yk ys : Nat → Int32}
variable {H K : Nat → Prop} {φ : Nat → Nat}
theorem gf_BI_32 (hN : N ≤ 32) (h : (gf_BI N nr nw us rt wa va fl yr yw yv y0 y1 φ H)) {x : Nat} (hx : H x) : x < 32 := gf_cn32 hN (h.1 x hx).1
theorem gf_rr_n {S : Nat → Prop} {ψ : Nat → Nat} {e x y : Int32} {d : Nat} (b : ∀ z, S z → z < 32) (h : gf_rr S ψ e x y) (hx : x = nI d) (hd : d < 32) : S d ∧ y = nI (ψ d) := by
  rcases h with ⟨a, _⟩ | ⟨d', h1, h2, h3⟩
  · exact absurd (hx.symm.trans a) (gf_m1 (by omega))
  · rw [h2] at hx
    have := (nI_eq (by have := b d' h1; omega) (by omega)).mp hx
    subst this
    exact ⟨h1, h3⟩
theorem gf_rr_m {S : Nat → Prop} {ψ : Nat → Nat} {e x y : Int32} (b : ∀ z, S z → z < 32) (h : gf_rr S ψ e x y) (hx : x = -1) : y = e := by
  rcases h with ⟨_, a⟩ | ⟨d', h1, h2, _⟩
  · exact a
  · exact absurd (h2.symm.trans hx) (gf_m1 (by have := b d' h1; omega))
theorem gf_BI_ex (hN : N ≤ 32) (h : (gf_BI N nr nw us rt wa va fl yr yw yv y0 y1 φ H)) {c d : Nat} (hc : H c) (e : gf_ex fl c d) : H d ∧ gf_ey y0 y1 (φ c) (φ d) := by
  obtain ⟨_, _, r0, r1, _⟩ := h.1 c hc
  have b := fun z (hz : H z) => gf_BI_32 hN h hz
  rcases e.2 with e1 | e1
  · have := gf_rr_n b r0 e1 e.1
    exact ⟨this.1, (h.1 d this.1).2.1.1, (h.1 d this.1).2.1.2, Or.inl this.2⟩
  · have := gf_rr_n b r1 e1 e.1
    exact ⟨this.1, (h.1 d this.1).2.1.1, (h.1 d this.1).2.1.2, Or.inr this.2⟩
theorem gf_BI_ey (hN : N ≤ 32) (h : (gf_BI N nr nw us rt wa va fl yr yw yv y0 y1 φ H)) {c p : Nat} (hc : H c) (e : gf_ey y0 y1 (φ c) p) : ∃ d, H d ∧ gf_ex fl c d ∧ φ d = p := by
  obtain ⟨_, _, r0, r1, _⟩ := h.1 c hc
  obtain ⟨p1, p2, e⟩ := e
  have key : ∀ x y, gf_rr H φ 0 x y → y = nI p → ∃ d, H d ∧ x = nI d ∧ φ d = p := by
    intro x y r ey
    rcases r with ⟨_, a⟩ | ⟨d, h1, h2, h3⟩
    · exact absurd (ey.symm.trans a) (nI_ne0 (by omega) (by omega))
    · have := (h.1 d h1).2.1
      exact ⟨d, h1, h2, (nI_eq (by omega) (by omega)).mp (h3.symm.trans ey)⟩
  rcases e with e | e
  · obtain ⟨d, h1, h2, h3⟩ := key _ _ r0 e
    exact ⟨d, h1, ⟨gf_BI_32 hN h h1, Or.inl h2⟩, h3⟩
  · obtain ⟨d, h1, h2, h3⟩ := key _ _ r1 e
    exact ⟨d, h1, ⟨gf_BI_32 hN h h1, Or.inr h2⟩, h3⟩
theorem gf_RcH (hN : N ≤ 32) (h : (gf_BI N nr nw us rt wa va fl yr yw yv y0 y1 φ H)) {S : Nat → Prop} (hS : ∀ c, S c → H c) {c : Nat} (hc : gf_Rc (gf_ex fl) S c) : H c :=
  hc H hS (fun _ _ hy e => (gf_BI_ex hN h hy e).1)
/-- the reachable sets correspond -/
theorem gf_RcY (hN : N ≤ 32) (h : (gf_BI N nr nw us rt wa va fl yr yw yv y0 y1 φ H)) {S SY : Nat → Prop} (hS : ∀ c, S c → H c) (hSY : ∀ o, SY o ↔ ∃ c, S c ∧ φ c = o) (o : Nat) : gf_Rc (gf_ey y0 y1) SY o ↔ ∃ c, gf_Rc (gf_ex fl) S c ∧ φ c = o := by
  constructor
  · intro r
    refine r (fun o => ∃ c, gf_Rc (gf_ex fl) S c ∧ φ c = o) (fun o ho => ?_) (fun o p ho e => ?_)
    · obtain ⟨c, h1, h2⟩ := (hSY o).mp ho
      exact ⟨c, gf_Rc_in h1, h2⟩
    · obtain ⟨c, h1, h2⟩ := ho
      subst h2
      obtain ⟨d, _, h4, h5⟩ := gf_BI_ey hN h (gf_RcH hN h hS h1) e
      exact ⟨d, gf_Rc_st h1 h4, h5⟩
  · rintro ⟨c, h1, rfl⟩
    have := h1 (fun c => H c ∧ gf_Rc (gf_ey y0 y1) SY (φ c)) (fun c hc => ⟨hS c hc, gf_Rc_in ((hSY _).mpr ⟨c, hc, rfl⟩)⟩) (fun c d hc e => ⟨(gf_BI_ex hN h hc.1 e).1, gf_Rc_st hc.2 (gf_BI_ex hN h hc.1 e).2⟩)
    exact this.2
theorem gf_cnRc (hN : N ≤ 32) (h : (gf_BI N nr nw us rt wa va fl yr yw yv y0 y1 φ H)) {S SY P : Nat → Prop} {PY : Nat → Prop} (hS : ∀ c, S c → H c) (hSY : ∀ o, SY o ↔ ∃ c, S c ∧ φ c = o) (hP : ∀ c, H c → (P c ↔ PY (φ c))) :
    cn (fun c => gf_Rc (gf_ex fl) S c ∧ P c) 32 = cn (fun o => gf_Rc (gf_ey y0 y1) SY o ∧ PY o) 33 := by
  refine gf_cnbij φ (fun c _ hc => ?_) (fun c d _ _ hc hd e => h.2.1 c d (gf_RcH hN h hS hc.1) (gf_RcH hN h hS hd.1) e) (fun o ho => ?_)
  · have hH := gf_RcH hN h hS hc.1
    exact ⟨by have := (h.1 c hH).2.1; omega, (gf_RcY hN h hS hSY _).mpr ⟨c, hc.1, rfl⟩, (hP c hH).mp hc.2⟩
  · obtain ⟨c, h1, h2⟩ := (gf_RcY hN h hS hSY o).mp ho.2.1
    have hH := gf_RcH hN h hS h1
    exact ⟨c, gf_BI_32 hN h hH, ⟨h1, (hP c hH).mpr (h2.symm ▸ ho.2.2)⟩, h2⟩
theorem gf_rr_in {S S' : Nat → Prop} {ψ : Nat → Nat} {e x y : Int32} (h : gf_rr S ψ e x y) (b : ∀ z, S z → z < 32) (m : ∀ d, d < 32 → x = nI d → S' d) : gf_rr S' ψ e x y := by
  rcases h with h | ⟨d, h1, h2, h3⟩
  · exact Or.inl h
  · exact Or.inr ⟨d, m d (b d h1) h2, h2, h3⟩
theorem gf_BI_shrink (hN : N ≤ 32) (h : (gf_BI N nr nw us rt wa va fl yr yw yv y0 y1 φ H)) {S : Nat → Prop} (hS : ∀ c, S c → H c) (hr : ∀ i d, i < nr → d < 32 → rt i = nI d → S d) (hw : ∀ i d, i < nw → d < 32 → wa i = nI d → S d) : (gf_BI N nr nw us rt wa va fl yr yw yv y0 y1 φ (gf_Rc (gf_ex fl) S)) := by
  have b := fun z (hz : H z) => gf_BI_32 hN h hz
  refine ⟨fun c hc => ?_, fun c d hc hd => h.2.1 c d (gf_RcH hN h hS hc) (gf_RcH hN h hS hd), fun i hi => gf_rr_in (h.2.2.1 i hi) b (fun d hd e => gf_Rc_in (hr i d hi hd e)), h.2.2.2.1, fun i hi => gf_rr_in (h.2.2.2.2.1 i hi) b (fun d hd e => gf_Rc_in (hw i d hi hd e)), h.2.2.2.2.2⟩
  obtain ⟨a1, a2, a3, a4, a5⟩ := h.1 c (gf_RcH hN h hS hc)
  exact ⟨a1, a2, gf_rr_in a3 b (fun d hd e => gf_Rc_st hc ⟨hd, Or.inl e⟩), gf_rr_in a4 b (fun d hd e => gf_Rc_st hc ⟨hd, Or.inr e⟩), a5⟩
variable {us0 va0 fl0 ma0 rt0 wa0 gr0 : Nat → Int32} {dn : Nat → Nat}
theorem gf_rr_c {S S0 : Nat → Prop} {ψ : Nat → Nat} {x b y : Int32} (hS : ∀ z, S z → dn z < 32) (h0 : ∀ z, S0 z → z < 32) (h : gf_rr S dn (-1) x b) (r : gf_rr S0 ψ 0 b y) : gf_rr (fun x => S x ∧ S0 (dn x)) (fun x => ψ (dn x)) 0 x y := by
  rcases h with ⟨h1, h2⟩ | ⟨d, h1, h2, h3⟩
  · exact Or.inl ⟨h1, gf_rr_m h0 r h2⟩
  · have := gf_rr_n h0 r h3 (hS d h1)
    exact Or.inr ⟨d, ⟨h1, this.1⟩, h2, this.2⟩
theorem gf_vr_c {S S0 : Nat → Prop} {x b : Int32} (hS : ∀ z, S z → dn z < 32) (h0 : ∀ z, S0 z → z < 32) (h : gf_rr S dn (-1) x b) (r : gf_vr S0 b) : gf_vr (fun x => S x ∧ S0 (dn x)) x := by
  rcases h with ⟨h1, h2⟩ | ⟨d, h1, h2, h3⟩
  · exact Or.inl h1
  · rcases r with r | ⟨d', r1, r2⟩
    · exact absurd (h3.symm.trans r) (gf_m1 (by have := hS d h1; omega))
    · have := (nI_eq (by have := hS d h1; omega) (by have := h0 d' r1; omega)).mp (h3.symm.trans r2)
      subst this
      exact Or.inr ⟨d, ⟨h1, r1⟩, h2⟩
theorem gf_IS_ex (hN : N ≤ 32) (h : (gf_IS N nr nw gc us0 va0 fl0 ma0 rt0 wa0 gr0 us va fl ma rt wa gr dn)) {x d : Nat} (hx : gf_U N us x) (e : gf_ex fl0 (dn x) d) : ∃ z, gf_U N us z ∧ dn z = d ∧ gf_ex fl x z := by
  obtain ⟨_, _, _, r0, r1⟩ := h.1 x hx
  have key : ∀ a b, gf_rr (gf_U N us) dn (-1) a b → b = nI d → ∃ z, gf_U N us z ∧ dn z = d ∧ a = nI z := by
    intro a b r eb
    rcases r with ⟨_, r⟩ | ⟨z, h1, h2, h3⟩
    · exact absurd (eb.symm.trans r) (gf_m1 (by have := e.1; omega))
    · have h4 := gf_cn32 hN (h.1 z h1).1
      exact ⟨z, h1, (nI_eq (by omega) (by have := e.1; omega)).mp (h3.symm.trans eb), h2⟩
  rcases e.2 with e1 | e1
  · obtain ⟨z, h1, h2, h3⟩ := key _ _ r0 e1
    exact ⟨z, h1, h2, gf_cn32 hN h1, Or.inl h3⟩
  · obtain ⟨z, h1, h2, h3⟩ := key _ _ r1 e1
    exact ⟨z, h1, h2, gf_cn32 hN h1, Or.inr h3⟩
theorem gf_IS_FV (h : (gf_IS N nr nw gc us0 va0 fl0 ma0 rt0 wa0 gr0 us va fl ma rt wa gr dn)) : (gf_FV N us fl) := fun c hc => ⟨gf_rr_vr (h.1 c hc).2.2.2.1, gf_rr_vr (h.1 c hc).2.2.2.2⟩
theorem gf_IS_BI (hN : N ≤ 32) (h : (gf_IS N nr nw gc us0 va0 fl0 ma0 rt0 wa0 gr0 us va fl ma rt wa gr dn)) (B : (gf_BI N nr nw us0 rt0 wa0 va0 fl0 yr yw yv y0 y1 φ H)) : (gf_BI N nr nw us rt wa va fl yr yw yv y0 y1 (fun x => φ (dn x)) (fun x => gf_U N us x ∧ H (dn x))) := by
  have b := fun z (hz : H z) => gf_BI_32 hN B hz
  have bd : ∀ z, gf_U N us z → dn z < 32 := fun z hz => gf_cn32 hN (h.1 z hz).1
  refine ⟨fun x hx => ?_, fun x y hx hy e => h.2.1 x y hx.1 hy.1 (B.2.1 _ _ hx.2 hy.2 e), fun i hi => gf_rr_c bd b (h.2.2.1 i hi) (B.2.2.1 i hi), B.2.2.2.1, fun i hi => gf_rr_c bd b (h.2.2.2.1 i hi) (B.2.2.2.2.1 i hi), B.2.2.2.2.2⟩
  obtain ⟨a1, a2, a3, a4, a5⟩ := h.1 x hx.1
  obtain ⟨c1, c2, c3, c4, c5⟩ := B.1 (dn x) hx.2
  exact ⟨hx.1, c2, gf_rr_c bd b a4 c3, gf_rr_c bd b a5 c4, by rw [a2]; exact c5⟩
theorem gf_IS_sur (hN : N ≤ 32) (h : (gf_IS N nr nw gc us0 va0 fl0 ma0 rt0 wa0 gr0 us va fl ma rt wa gr dn)) (I : (gf_KI N gc us0 fl0 ma0 gr0 K (fun _ => False))) : ∀ o, K o → ma0 o = 0 → ∃ x, gf_U N us x ∧ dn x = o := by
  refine I.2.2.2.2.2 (fun o => ∃ x, gf_U N us x ∧ dn x = o) (fun i g d hi hg eg ex hd hm => ?_) (fun _ f => f.elim) (fun c d kc tc hmc ex kd hm => ?_)
  · have hg32 := gf_KI_32 hN I hg
    rcases h.2.2.2.2 i hi with ⟨_, r⟩ | ⟨x, h1, h2, h3⟩
    · exact absurd (eg.symm.trans r) (gf_m1 (by omega))
    · have h4 := gf_cn32 hN (h.1 x h1).1
      have : dn x = g := (nI_eq (by omega) (by omega)).mp (h3.symm.trans eg)
      subst this
      obtain ⟨z, z1, z2, _⟩ := gf_IS_ex hN h h1 ex
      exact ⟨z, z1, z2⟩
  · obtain ⟨x, h1, h2⟩ := tc
    subst h2
    obtain ⟨z, z1, z2, _⟩ := gf_IS_ex hN h h1 ex
    exact ⟨z, z1, z2⟩
theorem gf_IS_KI (hN : N ≤ 32) (h : (gf_IS N nr nw gc us0 va0 fl0 ma0 rt0 wa0 gr0 us va fl ma rt wa gr dn)) (I : (gf_KI N gc us0 fl0 ma0 gr0 K (fun _ => False))) : (gf_KI N gc us fl ma gr (fun x => gf_U N us x ∧ K (dn x)) (fun _ => False)) := by
  have bK := fun z (hz : K z) => gf_KI_32 hN I hz
  have bd : ∀ z, gf_U N us z → dn z < 32 := fun z hz => gf_cn32 hN (h.1 z hz).1
  obtain ⟨h1, h2, h3, h4, h5, h6⟩ := I
  have gx : ∀ i, i < gc → ∃ x, gf_U N us x ∧ gr i = nI x ∧ gr0 i = nI (dn x) ∧ K (dn x) ∧ ma x ≠ 0 := by
    intro i hi
    obtain ⟨g, g1, g2, g3⟩ := h4 i hi
    have hg32 := bK g g1
    rcases h.2.2.2.2 i hi with ⟨_, r⟩ | ⟨x, x1, x2, x3⟩
    · exact absurd (g3.symm.trans r) (gf_m1 (by omega))
    · have : dn x = g := (nI_eq (by have := bd x x1; omega) (by omega)).mp (x3.symm.trans g3)
      subst this
      exact ⟨x, x1, x2, x3, g1, by rw [(h.1 x x1).2.2.1]; exact g2⟩
  refine ⟨fun x hx => hx.1, fun x hx => ?_, fun x hx hm => ⟨hx, h3 _ (h.1 x hx).1 (by rw [← (h.1 x hx).2.2.1]; exact hm)⟩, fun i hi => ?_, fun i j hi hj e => ?_, ?_⟩
  · exact ⟨gf_vr_c bd bK (h.1 x hx.1).2.2.2.1 (h2 _ hx.2).1, gf_vr_c bd bK (h.1 x hx.1).2.2.2.2 (h2 _ hx.2).2⟩
  · obtain ⟨x, x1, x2, x3, x4, x5⟩ := gx i hi
    exact ⟨x, ⟨x1, x4⟩, x5, x2⟩
  · obtain ⟨x, x1, x2, x3, _⟩ := gx i hi
    obtain ⟨y, y1, y2, y3, _⟩ := gx j hj
    have : x = y := (nI_eq (by have := gf_cn32 hN x1; omega) (by have := gf_cn32 hN y1; omega)).mp (x2.symm.trans (e.trans y2))
    subst this
    exact h5 i j hi hj (x3.trans y3.symm)
  · intro T t1 _ t3 x hx hm
    have key := h6 (fun o => ∃ z, gf_U N us z ∧ dn z = o ∧ T z) (fun i g d hi hg eg ex hd hmd => ?_) (fun _ f => f.elim) (fun c d kc tc hmc ex kd hmd => ?_) (dn x) hx.2 (by rw [← (h.1 x hx.1).2.2.1]; exact hm)
    · obtain ⟨z, z1, z2, z3⟩ := key
      have := h.2.1 z x z1 hx.1 z2
      exact this ▸ z3
    · obtain ⟨y, y1, y2, y3, y4, _⟩ := gx i hi
      have : dn y = g := (nI_eq (by have := bd y y1; omega) (by have := bK g hg; omega)).mp (y3.symm.trans eg)
      subst this
      obtain ⟨z, z1, z2, z3⟩ := gf_IS_ex hN h y1 ex
      subst z2
      exact ⟨z, z1, rfl, t1 i y z hi ⟨y1, y4⟩ y2 z3 ⟨z1, hd⟩ (by rw [(h.1 z z1).2.2.1]; exact hmd)⟩
    · obtain ⟨y, y1, y2, y3⟩ := tc
      subst y2
      obtain ⟨z, z1, z2, z3⟩ := gf_IS_ex hN h y1 ex
      subst z2
      exact ⟨z, z1, rfl, t3 y z ⟨y1, kc⟩ y3 (by rw [(h.1 y y1).2.2.1]; exact hmc) z3 ⟨z1, kd⟩ (by rw [(h.1 z z1).2.2.1]; exact hmd)⟩
theorem gf_IS_cn (hN : N ≤ 32) (h : (gf_IS N nr nw gc us0 va0 fl0 ma0 rt0 wa0 gr0 us va fl ma rt wa gr dn)) (I : (gf_KI N gc us0 fl0 ma0 gr0 K (fun _ => False))) : cn (fun x => (gf_U N us x ∧ K (dn x)) ∧ ma x = 0) 32 = cn (fun o => K o ∧ ma0 o = 0) 32 := by
  have bd : ∀ z, gf_U N us z → dn z < 32 := fun z hz => gf_cn32 hN (h.1 z hz).1
  refine gf_cnbij dn (fun x _ hx => ⟨bd x hx.1.1, hx.1.2, by rw [← (h.1 x hx.1.1).2.2.1]; exact hx.2⟩) (fun x y _ _ hx hy e => h.2.1 x y hx.1.1 hy.1.1 e) (fun o ho => ?_)
  obtain ⟨x, x1, x2⟩ := gf_IS_sur hN h I o ho.2.1 ho.2.2
  subst x2
  exact ⟨x, gf_cn32 hN x1, ⟨⟨x1, ho.2.1⟩, by rw [(h.1 x x1).2.2.1]; exact ho.2.2⟩, rfl⟩
theorem gf_IS_CY (hN : N ≤ 32) (h : (gf_IS N nr nw gc us0 va0 fl0 ma0 rt0 wa0 gr0 us va fl ma rt wa gr dn)) (Y : (gf_CY N nr gc cyc fnd yfn us0 fl0 ma0 gr0 rt0 yk φ H)) : (gf_CY N nr gc cyc fnd yfn us fl ma gr rt yk (fun x => φ (dn x)) (fun x => gf_U N us x ∧ H (dn x))) := by
  rcases Y with Y | ⟨e, K, I, k1, k2, k3⟩
  · exact Or.inl Y
  · have bK := fun z (hz : K z) => gf_KI_32 hN I hz
    have bd : ∀ z, gf_U N us z → dn z < 32 := fun z hz => gf_cn32 hN (h.1 z hz).1
    refine Or.inr ⟨e, fun x => gf_U N us x ∧ K (dn x), gf_IS_KI hN h I, fun i hi => gf_vr_c bd bK (h.2.2.1 i hi) (k1 i hi), fun x hx => ?_, ?_⟩
    · rw [k2 (dn x) hx.2]
      exact ⟨fun z => ⟨hx.1, z⟩, fun z => z.2⟩
    · rw [gf_IS_cn hN h I]
      exact k3
end
end
section
/-! X: the small walks -/
theorem gf_2c (c : Nat) : (2 : Int32) * nI c = nI (2 * c) := pk_mul 2 c
theorem gf_2c1 (c : Nat) : (2 : Int32) * nI c + 1 = nI (2 * c + 1) := by rw [gf_2c, nI_1]
theorem gf_lt100 {x : Int32} (h : x < 0) : x < 100 := by
  rw [Int32.lt_iff_toInt_lt] at *
  have h0 : (0 : Int32).toInt = 0 := by decide
  have h1 : (100 : Int32).toInt = 100 := by decide
  omega
theorem gf_look (x : Int32) {nr nw : Nat} (h : nr ≤ 8) (h4 : nw ≤ 4) : (∃ j, j < nr ∧ x = nI j) ∨ (∃ j, j < nw ∧ x = nI (100 + j)) ∨ ((∀ j, j < nr → x ≠ nI j) ∧ (x < 100 ∨ nI (100 + nw) ≤ x)) := by
  by_cases h1 : ∃ j, j < nr ∧ x = nI j
  · exact Or.inl h1
  · right
    have h2 : ∀ j, j < nr → x ≠ nI j := fun j hj e => h1 ⟨j, hj, e⟩
    rcases pk_ix x (n := 100 + nw) (by omega) with z | z | ⟨j, hj, e⟩
    · exact Or.inr ⟨h2, Or.inl (gf_lt100 z)⟩
    · exact Or.inr ⟨h2, Or.inr z⟩
    · by_cases g : j < 100
      · refine Or.inr ⟨h2, Or.inl ?_⟩
        rw [e]
        exact nI_lt (b := 100) g (by decide)
      · refine Or.inl ⟨j - 100, by omega, ?_⟩
        rw [e]
        exact congrArg nI (by omega)
theorem gf_good (x : Int32) (n : Nat) : (∃ j, j < n ∧ x = nI j) ∨ (∀ j, j < n → x ≠ nI j) := by
  by_cases h1 : ∃ j, j < n ∧ x = nI j
  · exact Or.inl h1
  · exact Or.inr fun j hj e => h1 ⟨j, hj, e⟩
section
variable {R C N nr nw gc : Nat} {cyc fnd wk : Int32} {rt wa va fl us ma ho tp od lv rm ch gr re fw wo : Nat → Int32}
variable {j : Nat} {p : Int32}
theorem gx_gr_n {post : Int32 → Prop} (hn : nr ≤ 8) (h : ∀ j, j < nr → p ≠ nI j) (k : post 0) : wpX_goodRoot post ((nI R), (nI C), (nI nr), (nI nw), (nI N), cyc, fnd, (nI gc), wk, rt, wa, va, fl, us, ma, ho, tp, od, lv, rm, ch, gr, re, fw, wo) p := by
  rcases pk_ix p (n := nr) (by omega) with h1 | h1 | ⟨j, hj, e⟩
  · exact br_t h1 k
  · exact br_c (fun _ => k) (fun _ => br_t h1 k)
  · exact absurd e (h j hj)
theorem gx_gr_y {post : Int32 → Prop} (hn : nr ≤ 8) (hj : j < nr) (k : post 1) : wpX_goodRoot post ((nI R), (nI C), (nI nr), (nI nw), (nI N), cyc, fnd, (nI gc), wk, rt, wa, va, fl, us, ma, ho, tp, od, lv, rm, ch, gr, re, fw, wo) (nI j) :=
  br_f (nI_pos (by omega)) (br_f (nI_ge hj (by omega)) k)
theorem gx_gw_n {post : Int32 → Prop} (hn : nw ≤ 4) (h : ∀ j, j < nw → p ≠ nI j) (k : post 0) : wpX_goodWatch post ((nI R), (nI C), (nI nr), (nI nw), (nI N), cyc, fnd, (nI gc), wk, rt, wa, va, fl, us, ma, ho, tp, od, lv, rm, ch, gr, re, fw, wo) p := by
  rcases pk_ix p (n := nw) (by omega) with h1 | h1 | ⟨j, hj, e⟩
  · exact br_t h1 k
  · exact br_c (fun _ => k) (fun _ => br_t h1 k)
  · exact absurd e (h j hj)
theorem gx_gw_y {post : Int32 → Prop} (hn : nw ≤ 4) (hj : j < nw) (k : post 1) : wpX_goodWatch post ((nI R), (nI C), (nI nr), (nI nw), (nI N), cyc, fnd, (nI gc), wk, rt, wa, va, fl, us, ma, ho, tp, od, lv, rm, ch, gr, re, fw, wo) (nI j) :=
  br_f (nI_pos (by omega)) (br_f (nI_ge hj (by omega)) k)
theorem gx_gs_m {post : Int32 → Prop} (k : post 1) : wpX_goodSource post ((nI R), (nI C), (nI nr), (nI nw), (nI N), cyc, fnd, (nI gc), wk, rt, wa, va, fl, us, ma, ho, tp, od, lv, rm, ch, gr, re, fw, wo) (-1) := br_t rfl k
theorem gx_gs_y {post : Int32 → Prop} (hn : nr ≤ 8) (hj : j < nr) (k : post 1) : wpX_goodSource post ((nI R), (nI C), (nI nr), (nI nw), (nI N), cyc, fnd, (nI gc), wk, rt, wa, va, fl, us, ma, ho, tp, od, lv, rm, ch, gr, re, fw, wo) (nI j) :=
  br_f (gf_m1 (by omega)) (gx_gr_y hn hj (br_f (by decide) k))
theorem gx_gs_n {post : Int32 → Prop} (hn : nr ≤ 8) (h : ∀ j, j < nr → p ≠ nI j) (hm : p ≠ -1) (k : post 0) : wpX_goodSource post ((nI R), (nI C), (nI nr), (nI nw), (nI N), cyc, fnd, (nI gc), wk, rt, wa, va, fl, us, ma, ho, tp, od, lv, rm, ch, gr, re, fw, wo) p :=
  br_f hm (gx_gr_n hn h (br_t rfl k))
theorem gx_sr_m {post : Int32 → Prop} (k : post (-1)) : wpX_sourceRef post ((nI R), (nI C), (nI nr), (nI nw), (nI N), cyc, fnd, (nI gc), wk, rt, wa, va, fl, us, ma, ho, tp, od, lv, rm, ch, gr, re, fw, wo) (-1) := br_f (by decide) k
theorem gx_sr_y {post : Int32 → Prop} (hj : j < 8) (k : post (rt j)) : wpX_sourceRef post ((nI R), (nI C), (nI nr), (nI nw), (nI N), cyc, fnd, (nI gc), wk, rt, wa, va, fl, us, ma, ho, tp, od, lv, rm, ch, gr, re, fw, wo) (nI j) :=
  br_t (nI_pos' (by omega)) ⟨vp_in_nI hj (by decide), by rw [nI_clamp (by omega)]; exact k⟩
theorem gx_gf_0 {post : Int32 → Prop} (k : post 1) : wpX_goodField post ((nI R), (nI C), (nI nr), (nI nw), (nI N), cyc, fnd, (nI gc), wk, rt, wa, va, fl, us, ma, ho, tp, od, lv, rm, ch, gr, re, fw, wo) 0 := br_t rfl k
theorem gx_gf_1 {post : Int32 → Prop} (k : post 1) : wpX_goodField post ((nI R), (nI C), (nI nr), (nI nw), (nI N), cyc, fnd, (nI gc), wk, rt, wa, va, fl, us, ma, ho, tp, od, lv, rm, ch, gr, re, fw, wo) 1 := br_f (by decide) (br_t rfl k)
theorem gx_gf_n {post : Int32 → Prop} (h0 : p ≠ 0) (h1 : p ≠ 1) (k : post 0) : wpX_goodField post ((nI R), (nI C), (nI nr), (nI nw), (nI N), cyc, fnd, (nI gc), wk, rt, wa, va, fl, us, ma, ho, tp, od, lv, rm, ch, gr, re, fw, wo) p := br_f h0 (br_f h1 k)
theorem gx_gl_r {post : Int32 → Prop} (hn : nr ≤ 8) (hj : j < nr) (k : post 1) : wpX_goodLook post ((nI R), (nI C), (nI nr), (nI nw), (nI N), cyc, fnd, (nI gc), wk, rt, wa, va, fl, us, ma, ho, tp, od, lv, rm, ch, gr, re, fw, wo) (nI j) := by
  unfold wpX_goodLook
  dsimp only
  exact gx_gr_y hn hj (br_f (by decide) k)
theorem gx_gl_w {post : Int32 → Prop} (hn : nr ≤ 8) (hw : nw ≤ 4) (hj : j < nw) (k : post 1) : wpX_goodLook post ((nI R), (nI C), (nI nr), (nI nw), (nI N), cyc, fnd, (nI gc), wk, rt, wa, va, fl, us, ma, ho, tp, od, lv, rm, ch, gr, re, fw, wo) (nI (100 + j)) := by
  unfold wpX_goodLook
  dsimp only
  refine gx_gr_n hn (fun i hi e => ?_) (br_t rfl (br_f (nI_nlt (b := 100) (by omega) (by omega)) (br_f ?_ k)))
  · have := (nI_eq (by omega) (by omega)).mp e
    omega
  · rw [show (100 : Int32) + nI nw = nI (100 + nw) from nI_add 100 nw]
    exact nI_ge (by omega) (by omega)
theorem gx_gl_n {post : Int32 → Prop} (hn : nr ≤ 8) (h : ∀ j, j < nr → p ≠ nI j) (h2 : p < 100 ∨ nI (100 + nw) ≤ p) (k : post 0) : wpX_goodLook post ((nI R), (nI C), (nI nr), (nI nw), (nI N), cyc, fnd, (nI gc), wk, rt, wa, va, fl, us, ma, ho, tp, od, lv, rm, ch, gr, re, fw, wo) p := by
  unfold wpX_goodLook
  dsimp only
  refine gx_gr_n hn h (br_t rfl ?_)
  rcases h2 with h2 | h2
  · exact br_t h2 k
  · refine br_c (fun _ => k) (fun _ => br_t ?_ k)
    rw [show (100 : Int32) + nI nw = nI (100 + nw) from nI_add 100 nw]
    exact h2
theorem gx_lr_r {post : Int32 → Prop} (hj : j < 8) (k : post (rt j)) : wpX_lookRef post ((nI R), (nI C), (nI nr), (nI nw), (nI N), cyc, fnd, (nI gc), wk, rt, wa, va, fl, us, ma, ho, tp, od, lv, rm, ch, gr, re, fw, wo) (nI j) :=
  br_f (nI_ge (b := 100) (by omega) (by omega)) ⟨vp_in_nI hj (by decide), by rw [nI_clamp (by omega)]; exact k⟩
theorem gx_lr_w {post : Int32 → Prop} (hj : j < 4) (k : post (wa j)) : wpX_lookRef post ((nI R), (nI C), (nI nr), (nI nw), (nI N), cyc, fnd, (nI gc), wk, rt, wa, va, fl, us, ma, ho, tp, od, lv, rm, ch, gr, re, fw, wo) (nI (100 + j)) := by
  have e : nI (100 + j) - 100 = nI j := by
    have := pk_sub (a := 100 + j) (b := 100) (by omega)
    rw [Nat.add_sub_cancel_left] at this
    exact this
  refine br_t (nI_le (a := 100) (by omega) (by omega)) ?_
  rw [e, nI_clamp (by omega)]
  exact ⟨vp_in_nI hj (by decide), k⟩
theorem gx_grey_m {post : SX → Prop} (k : post ((nI R), (nI C), (nI nr), (nI nw), (nI N), cyc, fnd, (nI gc), wk, rt, wa, va, fl, us, ma, ho, tp, od, lv, rm, ch, gr, re, fw, wo)) : wpX_grey post ((nI R), (nI C), (nI nr), (nI nw), (nI N), cyc, fnd, (nI gc), wk, rt, wa, va, fl, us, ma, ho, tp, od, lv, rm, ch, gr, re, fw, wo) (-1) := br_t (by decide) k
theorem gx_grey_o {post : SX → Prop} {c : Nat} (hc : c < 32) (hm : ma c ≠ 0) (k : post ((nI R), (nI C), (nI nr), (nI nw), (nI N), cyc, fnd, (nI gc), wk, rt, wa, va, fl, us, ma, ho, tp, od, lv, rm, ch, gr, re, fw, wo)) : wpX_grey post ((nI R), (nI C), (nI nr), (nI nw), (nI N), cyc, fnd, (nI gc), wk, rt, wa, va, fl, us, ma, ho, tp, od, lv, rm, ch, gr, re, fw, wo) (nI c) :=
  br_f (nI_pos (by omega)) ⟨vp_in_nI hc (by decide), br_f (by rw [nI_clamp (by omega)]; exact hm) k⟩
theorem gx_grey_n {post : SX → Prop} {c : Nat} (hc : c < 32) (hm : ma c = 0) (hg : gc < 32) (k : post ((nI R), (nI C), (nI nr), (nI nw), (nI N), cyc, (fnd + 1), (nI (gc + 1)), wk, rt, wa, va, fl, us, (upd ma c 1), ho, tp, od, lv, rm, ch, (upd gr gc (nI c)), re, fw, wo)) : wpX_grey post ((nI R), (nI C), (nI nr), (nI nw), (nI N), cyc, fnd, (nI gc), wk, rt, wa, va, fl, us, ma, ho, tp, od, lv, rm, ch, gr, re, fw, wo) (nI c) := by
  have hi : vp_in (nI c) 32 := vp_in_nI hc (by decide)
  exact br_f (nI_pos (by omega)) ⟨hi, br_t (by rw [nI_clamp (by omega)]; exact hm) ⟨hi, nm_r (e' := upd ma c 1) (by rw [nI_clamp (by omega), gf_nar1]) (nm_e ⟨vp_in_nI hg (by decide), nm_r (e' := upd gr gc (nI c)) (by rw [nI_clamp (by omega)]) (nm_r (e' := nI (gc + 1)) (nI_1 gc) k)⟩)⟩⟩
/-- grey a ref of K: the pending set loses it -/
theorem gx_greyK {post : SX → Prop} {K Q Q' : Nat → Prop} {x tot : Int32} (hN : N ≤ 32) (I : (gf_KI N gc us fl ma gr K Q)) (b1 : gf_B1 ma) (ht : fnd + nI (cn (fun c => K c ∧ ma c = 0) 32) = tot) (hx : gf_vr K x) (hQ : ∀ y, K y → Q y → Q' y ∨ x = nI y)
    (k : ∀ (fnd' : Int32) (gc' : Nat) (ma' gr' : Nat → Int32), (gf_KI N gc' us fl ma' gr' K Q') → gf_B1 ma' → fnd' + nI (cn (fun c => K c ∧ ma' c = 0) 32) = tot → gc' + cn (fun c => K c ∧ ma' c = 0) 32 = gc + cn (fun c => K c ∧ ma c = 0) 32 → (∀ d, d < 32 → x = nI d → ma' d ≠ 0) → post ((nI R), (nI C), (nI nr), (nI nw), (nI N), cyc, fnd', (nI gc'), wk, rt, wa, va, fl, us, ma', ho, tp, od, lv, rm, ch, gr', re, fw, wo)) : wpX_grey post ((nI R), (nI C), (nI nr), (nI nw), (nI N), cyc, fnd, (nI gc), wk, rt, wa, va, fl, us, ma, ho, tp, od, lv, rm, ch, gr, re, fw, wo) x := by
  rcases hx with rfl | ⟨d, hd, rfl⟩
  · refine gx_grey_m (k _ _ _ _ (gf_KI_Q I (fun y ky qy _ => (hQ y ky qy).elim id (fun e => ?_))) b1 ht rfl (fun d hd e => absurd e.symm (gf_m1 (by omega))))
    exact absurd e.symm (gf_m1 (by have := gf_KI_32 hN I ky; omega))
  · have hd32 := gf_KI_32 hN I hd
    have eq : ∀ y, y < 32 → nI d = nI y → y = d := fun y hy e => ((nI_eq (by omega) (by omega)).mp e).symm
    by_cases hm : ma d = 0
    · have hc := gf_cn_grey (ma := ma) hd32 hd hm
      have hle := gf_KI_le hN I
      refine gx_grey_n hd32 hm (by omega) (k _ _ _ _ (gf_KI_grey hN I hd hm (fun y ky qy => (hQ y ky qy).elim Or.inl (fun e => Or.inr (eq y (gf_KI_32 hN I ky) e)))) (fun c hc => ?_) ?_ (by omega) (fun y hy e => ?_))
      · by_cases z : c = d
        · rw [z, pk_us]; exact Or.inr rfl
        · rw [pk_un z]; exact b1 c hc
      · rw [← ht, ← hc, ← nI_1, Int32.add_assoc, Int32.add_comm 1]
      · rw [eq y hy e, pk_us]; decide
    · refine gx_grey_o hd32 hm (k _ _ _ _ (gf_KI_Q I (fun y ky qy hy => (hQ y ky qy).elim id (fun e => ?_))) b1 ht rfl (fun y hy e => by rw [eq y hy e]; exact hm))
      rw [eq y (gf_KI_32 hN I ky) e] at hy
      exact absurd hy hm
theorem gx_roomRank {post : Int32 → Prop} {r : Nat} {p1 : Int32} (hr : r < 8) (h3 : (ch r = 0 → ¬ tp r < nI C) → post 3) (hk : ∀ k, k < 3 → ch r = 0 → tp r < nI C → post (nI k)) : wpX_roomRank post ((nI R), (nI C), (nI nr), (nI nw), (nI N), cyc, fnd, (nI gc), wk, rt, wa, va, fl, us, ma, ho, tp, od, lv, rm, ch, gr, re, fw, wo) (nI r) p1 := by
  have hi : vp_in (nI r) 8 := vp_in_nI hr (by decide)
  have e : (nI r).toNatClampNeg = r := nI_clamp (by omega)
  unfold wpX_roomRank
  dsimp only
  rw [e]
  exact ⟨hi, br_c (fun h0 => ⟨hi, br_c (fun h1 => ⟨hi, br_c (fun _ => hk 1 (by omega) h0 h1) (fun _ => ⟨hi, br_c (fun _ => hk 0 (by omega) h0 h1) (fun _ => hk 2 (by omega) h0 h1)⟩)⟩) (fun h1 => h3 (fun _ => h1))⟩) (fun h0 => h3 (fun z => absurd z h0))⟩
theorem gx_take65 {post : Int32 → SX → Prop} {b t : Nat} (cf : (gf_cf R C N nr nw)) (hb : b < R) (ht : t < C) (e : tp b = nI t) (k : ∀ lv' : Nat → Int32, post (nI (b * C + t)) ((nI R), (nI C), (nI nr), (nI nw), (nI N), cyc, fnd, (nI gc), wk, rt, wa, va, fl, (upd us (b * C + t) 1), ma, ho, (upd tp b (nI (t + 1))), od, lv', rm, ch, gr, re, fw, wo)) : wX_takeCell_65 post (nI b) (nI R) (nI C) (nI nr) (nI nw) (nI N) cyc fnd (nI gc) wk rt wa va fl us ma ho tp od lv rm ch gr re fw wo := by
  obtain ⟨c1, c2, c3, c4, c5, c6, _⟩ := cf
  have hi : vp_in (nI b) 8 := vp_in_nI (by omega) (by decide)
  have e1 : (nI b).toNatClampNeg = b := nI_clamp (by omega)
  have hx := (gf_idx c5 hb ht).1
  unfold wX_takeCell_65
  rw [e1]
  exact ⟨hi, nm_r (e' := nI (b * C + t)) (by rw [e, pk_mul, nI_add]) ⟨hi, hi, nm_r (e' := upd tp b (nI (t + 1))) (by rw [e, nI_1]) ⟨hi, hi, nm_e ⟨vp_in_nI (by omega) (by decide), nm_r (e' := upd us (b * C + t) 1) (by rw [nI_clamp (by omega), gf_nar1]) (k _)⟩⟩⟩⟩
theorem gx_take7 {post : Int32 → SX → Prop} {x1 : Int32} (cf : (gf_cf R C N nr nw)) (tops : ∀ r, r < R → ∃ t, t ≤ C ∧ tp r = nI t)
    (hn : (∀ r, r < R → ch r = 0 → ¬ tp r < nI C) → post (-1) ((nI R), (nI C), (nI nr), (nI nw), (nI N), cyc, fnd, (nI gc), wk, rt, wa, va, fl, us, ma, ho, tp, od, lv, rm, ch, gr, re, fw, wo))
    (hs : ∀ (r t : Nat) (od' lv' : Nat → Int32), r < R → ch r = 0 → tp r = nI t → t < C → post (nI (r * C + t)) ((nI R), (nI C), (nI nr), (nI nw), (nI N), cyc, fnd, (nI gc), wk, rt, wa, va, fl, (upd us (r * C + t) 1), ma, ho, (upd tp r (nI (t + 1))), od', lv', rm, ch, gr, re, fw, wo)) :
    ∀ n i x2 x3, i ≤ R → R - i < n → ((x2 = -1 ∧ x3 = 3 ∧ ∀ r, r < i → ch r = 0 → ¬ tp r < nI C) ∨ (∃ b k, b < R ∧ k < 3 ∧ x2 = nI b ∧ x3 = nI k ∧ ch b = 0 ∧ tp b < nI C)) → wX_takeCell_7 post x1 (nI R) (nI C) (nI nr) (nI nw) (nI N) cyc fnd (nI gc) wk rt wa va fl us ma ho tp od lv rm ch gr re fw wo n x2 x3 (nI i) := by
  have cf' := cf
  obtain ⟨c1, c2, c3, c4, c5, c6, _⟩ := cf
  intro n
  induction n with
  | zero => intro i x2 x3 _ h; omega
  | succ n ih =>
    intro i x2 x3 hi hm I
    rcases Nat.lt_or_ge i R with h | h
    · refine br_f (nI_ge h (by omega)) (gx_roomRank (by omega) (fun h3 => ?_) (fun k hk h0 h1 => ?_))
      · have hx : x3 ≤ 3 := by
          rcases I with ⟨_, e, _⟩ | ⟨b, k, _, hk, _, e, _⟩
          · rw [e]; decide
          · rw [e]; exact nI_le (b := 3) (by omega) (by decide)
        refine br_t hx (nm_r (e' := nI (i + 1)) (nI_1 i) (ih (i + 1) x2 x3 (by omega) (by omega) ?_))
        rcases I with ⟨e1, e2, a⟩ | I
        · refine Or.inl ⟨e1, e2, fun r hr => ?_⟩
          by_cases z : r = i
          · rw [z]; exact h3
          · exact a r (by omega)
        · exact Or.inr I
      · refine br_c (fun hx => nm_r (e' := nI (i + 1)) (nI_1 i) (ih (i + 1) x2 x3 (by omega) (by omega) ?_)) (fun _ => nm_r (e' := nI (i + 1)) (nI_1 i) (ih (i + 1) (nI i) (nI k) (by omega) (by omega) (Or.inr ⟨i, k, h, hk, rfl, rfl, h0, h1⟩)))
        rcases I with ⟨e1, e2, a⟩ | I
        · rw [e2] at hx
          exact absurd hx (nI_ge (b := 3) hk (by decide))
        · exact Or.inr I
    · refine br_t (nI_le h (by omega)) ?_
      rcases I with ⟨e1, e2, a⟩ | ⟨b, k, hb, hk, e1, e2, h0, h1⟩
      · rw [e1]
        exact br_f (by decide) (hn (fun r hr => a r (by omega)))
      · obtain ⟨t, t1, t2⟩ := tops b hb
        have ht : t < C := by
          rw [t2, nI_ltI (by omega) (by omega)] at h1
          exact h1
        rw [e1]
        have hi : vp_in (nI b) 8 := vp_in_nI (by omega) (by decide)
        exact br_t (nI_pos' (by omega)) ⟨hi, br_c (fun _ => ⟨hi, nm_e (gx_take65 cf' hb ht t2 (fun lv' => hs b t _ lv' hb h0 t2 ht))⟩) (fun _ => gx_take65 cf' hb ht t2 (fun lv' => hs b t _ lv' hb h0 t2 ht))⟩
theorem gx_take {post : Int32 → SX → Prop} {x1 : Int32} (cf : (gf_cf R C N nr nw)) (tops : ∀ r, r < R → ∃ t, t ≤ C ∧ tp r = nI t)
    (hn : (∀ r, r < R → ch r = 0 → ¬ tp r < nI C) → post (-1) ((nI R), (nI C), (nI nr), (nI nw), (nI N), cyc, fnd, (nI gc), wk, rt, wa, va, fl, us, ma, ho, tp, od, lv, rm, ch, gr, re, fw, wo))
    (hs : ∀ (r t : Nat) (od' lv' : Nat → Int32), r < R → ch r = 0 → tp r = nI t → t < C → post (nI (r * C + t)) ((nI R), (nI C), (nI nr), (nI nw), (nI N), cyc, fnd, (nI gc), wk, rt, wa, va, fl, (upd us (r * C + t) 1), ma, ho, (upd tp r (nI (t + 1))), od', lv', rm, ch, gr, re, fw, wo)) : wpX_takeCell post ((nI R), (nI C), (nI nr), (nI nw), (nI N), cyc, fnd, (nI gc), wk, rt, wa, va, fl, us, ma, ho, tp, od, lv, rm, ch, gr, re, fw, wo) x1 :=
  ⟨R + 1, gx_take7 cf tops hn hs (R + 1) 0 (-1) 3 (Nat.zero_le _) (by omega) (Or.inl ⟨rfl, rfl, fun r hr => absurd hr (Nat.not_lt_zero _)⟩)⟩
theorem gx_cl25 {post : SX → Prop} (cf : (gf_cf R C N nr nw)) (hm : (gf_HM C N ho)) (k : ∀ lv : Nat → Int32, post ((nI R), (nI C), (nI nr), (nI nw), (nI N), cyc, fnd, (nI gc), wk, rt, wa, va, fl, us, ma, ho, tp, od, lv, rm, ch, gr, re, fw, wo)) : ∀ (n i : Nat) (lv : Nat → Int32), i ≤ N → N - i < n → wX_countLive_25 post (nI R) (nI C) (nI nr) (nI nw) (nI N) cyc fnd (nI gc) wk n (nI i) rt wa va fl us ma ho tp od lv rm ch gr re fw wo := by
  obtain ⟨c1, c2, c3, c4, c5, c6, _⟩ := cf
  intro n
  induction n with
  | zero => intro i lv _ h; omega
  | succ n ih =>
    intro i lv hi hf
    rcases Nat.lt_or_ge i N with h | h
    · have hv : vp_in (nI i) 32 := vp_in_nI (by omega) (by decide)
      have hh : vp_in (ho (nI i).toNatClampNeg) 8 := by
        rw [nI_clamp (by omega), hm i h]
        have := gf_div c5 h
        exact vp_in_nI (by omega) (by decide)
      have nx : ∀ lv : Nat → Int32, wX_countLive_25 post (nI R) (nI C) (nI nr) (nI nw) (nI N) cyc fnd (nI gc) wk n (nI i + 1) rt wa va fl us ma ho tp od lv rm ch gr re fw wo := fun lv => by
        rw [nI_1 i]
        exact ih (i + 1) lv (by omega) (by omega)
      exact br_f (nI_ge h (by omega)) ⟨hv, br_c (fun _ => nm_e (nx _)) (fun _ => ⟨hv, br_c (fun _ => nm_e (nx _)) (fun _ => ⟨hv, hh, hh, nm_e (nm_e (nx _))⟩)⟩)⟩
    · exact br_t (nI_le h (by omega)) (k _)
theorem gx_cl2 {post : SX → Prop} (cf : (gf_cf R C N nr nw)) (hm : (gf_HM C N ho)) (k : ∀ lv : Nat → Int32, post ((nI R), (nI C), (nI nr), (nI nw), (nI N), cyc, fnd, (nI gc), wk, rt, wa, va, fl, us, ma, ho, tp, od, lv, rm, ch, gr, re, fw, wo)) : ∀ (n i : Nat) (lv : Nat → Int32), i ≤ R → R - i < n → wX_countLive_2 post (nI R) (nI C) (nI nr) (nI nw) (nI N) cyc fnd (nI gc) wk n (nI i) rt wa va fl us ma ho tp od lv rm ch gr re fw wo := by
  have cf' := cf
  obtain ⟨c1, c2, c3, c4, c5, c6, _⟩ := cf
  intro n
  induction n with
  | zero => intro i lv _ h; omega
  | succ n ih =>
    intro i lv hi hf
    rcases Nat.lt_or_ge i R with h | h
    · exact br_f (nI_ge h (by omega)) ⟨vp_in_nI (by omega) (by decide), nm_e (nm_r (e' := nI (i + 1)) (nI_1 i) (ih (i + 1) _ (by omega) (by omega)))⟩
    · exact br_t (nI_le h (by omega)) ⟨N + 1, gx_cl25 cf' hm k (N + 1) 0 lv (Nat.zero_le _) (by omega)⟩
theorem gx_countLive {post : SX → Prop} (cf : (gf_cf R C N nr nw)) (hm : (gf_HM C N ho)) (k : ∀ lv : Nat → Int32, post ((nI R), (nI C), (nI nr), (nI nw), (nI N), cyc, fnd, (nI gc), wk, rt, wa, va, fl, us, ma, ho, tp, od, lv, rm, ch, gr, re, fw, wo)) : wpX_countLive post ((nI R), (nI C), (nI nr), (nI nw), (nI N), cyc, fnd, (nI gc), wk, rt, wa, va, fl, us, ma, ho, tp, od, lv, rm, ch, gr, re, fw, wo) :=
  ⟨R + 1, gx_cl2 cf hm k (R + 1) 0 lv (Nat.zero_le _) (by omega)⟩
theorem gx_mark72 {post : SX → Prop} (cf : (gf_cf R C N nr nw)) (hm : (gf_HM C N ho)) (k : ∀ lv : Nat → Int32, post ((nI R), (nI C), (nI nr), (nI nw), (nI N), cyc, fnd, (nI gc), wk, rt, wa, va, fl, us, ma, ho, tp, od, lv, rm, ch, gr, re, fw, wo)) : wX_markSome_72 post (nI R) (nI C) (nI nr) (nI nw) (nI N) cyc fnd (nI gc) wk rt wa va fl us ma ho tp od lv rm ch gr re fw wo :=
  br_c (fun _ => gx_countLive cf hm k) (fun _ => k _)
theorem gx_mark2 {post : SX → Prop} {K : Nat → Prop} {tot lim : Int32} (cf : (gf_cf R C N nr nw)) (hm : (gf_HM C N ho))
    (k : ∀ (fnd : Int32) (gc : Nat) (ma gr lv : Nat → Int32), (gf_KI N gc us fl ma gr K (fun _ => False)) → gf_B1 ma → fnd + nI (cn (fun c => K c ∧ ma c = 0) 32) = tot → (lim = 32 → gc = 0) → post ((nI R), (nI C), (nI nr), (nI nw), (nI N), cyc, fnd, (nI gc), wk, rt, wa, va, fl, us, ma, ho, tp, od, lv, rm, ch, gr, re, fw, wo)) :
    ∀ (n i : Nat) (fnd : Int32) (gc : Nat) (ma gr : Nat → Int32), i ≤ 32 → 32 - i < n → i + gc + cn (fun c => K c ∧ ma c = 0) 32 ≤ 32 → (gf_KI N gc us fl ma gr K (fun _ => False)) → gf_B1 ma → fnd + nI (cn (fun c => K c ∧ ma c = 0) 32) = tot → wX_markSome_2 post lim n (nI i) (nI R) (nI C) (nI nr) (nI nw) (nI N) cyc fnd (nI gc) wk rt wa va fl us ma ho tp od lv rm ch gr re fw wo := by
  have hN : N ≤ 32 := cf.2.2.2.2.2.1
  intro n
  induction n with
  | zero => intro i fnd gc ma gr _ h; omega
  | succ n ih =>
    intro i fnd gc ma gr hi hf hc I b1 ht
    rcases Nat.lt_or_ge i 32 with h | h
    · refine br_c (fun hl => gx_mark72 cf hm (fun lv => k _ _ _ _ _ I b1 ht (fun e => ?_))) (fun hl => br_f (nI_ge (b := 32) h (by decide)) ?_)
      · rw [e] at hl
        exact absurd hl (nI_ge (b := 32) h (by decide))
      · cases gc with
        | zero => exact br_t (by rw [nI_0]; decide) (gx_mark72 cf hm (fun lv => k _ _ _ _ _ I b1 ht (fun _ => rfl)))
        | succ g =>
          obtain ⟨c, c1, c2, c3⟩ := I.2.2.2.1 g (by omega)
          have hc32 := gf_KI_32 hN I c1
          have Ip := gf_KI_pop hN I c1 c3
          refine br_f (nI_nle (by omega) (by omega)) (nm_r (e' := nI g) (nI_pred g) ⟨vp_in_nI (by omega) (by decide), nm_r (e' := nI c) (by rw [nI_clamp (by omega)]; exact c3) ?_⟩)
          rw [gf_2c1 c, gf_2c c, nI_clamp (n := 2 * c) (by omega), nI_clamp (n := 2 * c + 1) (by omega)]
          refine ⟨vp_in_nI (by omega) (by decide), gx_greyK (Q' := fun d => fl (2 * c + 1) = nI d) hN Ip b1 ht (I.2.1 c c1).1 (fun y _ qy => qy.elim (fun f => f.elim) (fun e => e.2.elim Or.inr Or.inl)) (fun fnd' gc' ma' gr' I' b1' ht' hc' _ => ?_)⟩
          refine ⟨vp_in_nI (by omega) (by decide), gx_greyK (Q' := fun _ => False) hN I' b1' ht' (I.2.1 c c1).2 (fun y _ qy => Or.inr qy) (fun fnd2 gc2 ma2 gr2 I2 b12 ht2 hc2 _ => ?_)⟩
          exact nm_r (e' := nI (i + 1)) (nI_1 i) (ih (i + 1) fnd2 gc2 ma2 gr2 (by omega) (by omega) (by omega) I2 b12 ht2)
    · have z : gc = 0 := by omega
      refine br_c (fun _ => gx_mark72 cf hm (fun lv => k _ _ _ _ _ I b1 ht (fun _ => z))) (fun _ => br_t (nI_le (a := 32) h (by omega)) (gx_mark72 cf hm (fun lv => k _ _ _ _ _ I b1 ht (fun _ => z))))
theorem gx_markSome {post : SX → Prop} {K : Nat → Prop} {tot lim : Int32} (cf : (gf_cf R C N nr nw)) (hm : (gf_HM C N ho)) (I : (gf_KI N gc us fl ma gr K (fun _ => False))) (b1 : gf_B1 ma) (ht : fnd + nI (cn (fun c => K c ∧ ma c = 0) 32) = tot)
    (k : ∀ (fnd : Int32) (gc : Nat) (ma gr lv : Nat → Int32), (gf_KI N gc us fl ma gr K (fun _ => False)) → gf_B1 ma → fnd + nI (cn (fun c => K c ∧ ma c = 0) 32) = tot → (lim = 32 → gc = 0) → post ((nI R), (nI C), (nI nr), (nI nw), (nI N), cyc, fnd, (nI gc), wk, rt, wa, va, fl, us, ma, ho, tp, od, lv, rm, ch, gr, re, fw, wo)) : wpX_markSome post ((nI R), (nI C), (nI nr), (nI nw), (nI N), cyc, fnd, (nI gc), wk, rt, wa, va, fl, us, ma, ho, tp, od, lv, rm, ch, gr, re, fw, wo) lim :=
  ⟨33, gx_mark2 cf hm k 33 0 fnd gc ma gr (by omega) (by omega) (by have := gf_KI_le cf.2.2.2.2.2.1 I; omega) I b1 ht⟩
theorem gx_copyCell {post : SX → Prop} {c t : Nat} (hc : c < 32) (ht : t < 32) (b1 : gf_B1 ma) (k : post ((nI R), (nI C), (nI nr), (nI nw), (nI N), cyc, fnd, (nI gc), wk, rt, wa, (upd va t (va c)), (upd (upd fl (2 * t) (fl (2 * c))) (2 * t + 1) (fl (2 * c + 1))), us, (upd ma t (ma c)), ho, tp, od, lv, rm, ch, gr, re, fw, wo)) : wpX_copyCell post ((nI R), (nI C), (nI nr), (nI nw), (nI N), cyc, fnd, (nI gc), wk, rt, wa, va, fl, us, ma, ho, tp, od, lv, rm, ch, gr, re, fw, wo) (nI c) (nI t) := by
  unfold wpX_copyCell
  dsimp only
  rw [gf_2c1 c, gf_2c1 t, gf_2c c, gf_2c t, nI_clamp (n := 2 * c) (by omega), nI_clamp (n := 2 * c + 1) (by omega), nI_clamp (n := 2 * t) (by omega), nI_clamp (n := 2 * t + 1) (by omega), nI_clamp (n := c) (by omega), nI_clamp (n := t) (by omega), gf_nar01 (b1 c hc)]
  have h1 : vp_in (nI c) 32 := vp_in_nI hc (by decide)
  have h2 : vp_in (nI t) 32 := vp_in_nI ht (by decide)
  exact ⟨h1, h2, nm_e ⟨vp_in_nI (by omega) (by decide), vp_in_nI (by omega) (by decide), nm_e ⟨vp_in_nI (by omega) (by decide), vp_in_nI (by omega) (by decide), nm_r (e' := upd (upd fl (2 * t) (fl (2 * c))) (2 * t + 1) (fl (2 * c + 1))) (by rw [pk_un (by omega)]) ⟨h1, h2, nm_e k⟩⟩⟩⟩
theorem gx_remember {post : SX → Prop} {c : Nat} {x : Int32} (cf : (gf_cf R C N nr nw)) (hm : (gf_HM C N ho)) (hc : c < N) (hx : x = -1 ∨ ∃ d, d < N ∧ x = nI d)
    (k : ∀ rm' : Nat → Int32, (∀ r i, bt (rm r) i = true → bt (rm' r) i = true) → (∀ d, d < N → x = nI d → c / C ≠ d / C → bt (rm' (d / C)) c = true) → post ((nI R), (nI C), (nI nr), (nI nw), (nI N), cyc, fnd, (nI gc), wk, rt, wa, va, fl, us, ma, ho, tp, od, lv, rm', ch, gr, re, fw, wo)) : wpX_remember post ((nI R), (nI C), (nI nr), (nI nw), (nI N), cyc, fnd, (nI gc), wk, rt, wa, va, fl, us, ma, ho, tp, od, lv, rm, ch, gr, re, fw, wo) (nI c) x := by
  obtain ⟨c1, c2, c3, c4, c5, c6, _⟩ := cf
  rcases hx with rfl | ⟨d, hd, rfl⟩
  · exact br_t (by decide) (k rm (fun _ _ h => h) (fun d hd e => absurd e.symm (gf_m1 (by omega))))
  · have h1 : vp_in (nI c) 32 := vp_in_nI (by omega) (by decide)
    have h2 : vp_in (nI d) 32 := vp_in_nI (by omega) (by decide)
    have h3 := gf_div c5 hd
    have h4 := gf_div c5 hc
    have h5 : vp_in (nI (d / C)) 8 := vp_in_nI (by omega) (by decide)
    have eq : ∀ y, y < N → nI d = nI y → y = d := fun y hy e => ((nI_eq (by omega) (by omega)).mp e).symm
    unfold wpX_remember
    dsimp only
    rw [nI_clamp (n := c) (by omega), nI_clamp (n := d) (by omega), hm c hc, hm d hd, nI_clamp (n := d / C) (by omega), nI_eq (by omega) (by omega)]
    refine br_f (nI_pos (by omega)) ⟨h1, h2, br_c (fun e => k rm (fun _ _ h => h) (fun y hy ey ne => ?_)) (fun ne => ⟨h2, h5, h5, nm_e (k _ (fun r i h => ?_) (fun y hy ey _ => ?_))⟩)⟩
    · rw [eq y hy ey] at ne
      exact absurd e ne
    · by_cases z : r = d / C
      · rw [z, pk_us]
        rw [z] at h
        exact gf_bmono _ _ _ h
      · rw [pk_un z]; exact h
    · rw [eq y hy ey, pk_us, gf_bset _ (by omega) (by omega), decide_eq_true rfl, Bool.or_true]
end
end
section
/-! X: trace -/
def gf_SR (nr : Nat) (rt : Nat → Int32) (c : Nat) : Prop := c < 32 ∧ ∃ i, i < nr ∧ rt i = nI c
def gf_TI (N wc : Nat) (re wo : Nat → Int32) (G : Nat → Prop) : Prop :=
  wc = cn (fun c => c < N ∧ re c ≠ 0) 32 ∧ (∀ j, j < wc → ∃ c, c < N ∧ re c ≠ 0 ∧ wo j = nI c) ∧ (∀ c, c < N → re c ≠ 0 → ∃ j, j < wc ∧ wo j = nI c) ∧ (∀ c, c < N → re c ≠ 0 → G c)
section
variable {R C N nr nw gc : Nat} {cyc fnd wk : Int32} {rt wa va fl us ma ho tp od lv rm ch gr re fw wo : Nat → Int32}
variable {G S : Nat → Prop} {wc : Nat}
theorem gx_reach {post : SX → Prop} {x : Int32} (hN : N ≤ 32) (I : (gf_TI N wc re wo G)) (hx : gf_vr (fun d => d < N ∧ G d) x)
    (k : ∀ (wc' : Nat) (re' wo' : Nat → Int32), (gf_TI N wc' re' wo' G) → wc ≤ wc' → (∀ c, re c ≠ 0 → re' c ≠ 0) → (∀ d, d < 32 → x = nI d → re' d ≠ 0) → (∀ j, j < wc → wo' j = wo j) → post ((nI R), (nI C), (nI nr), (nI nw), (nI N), cyc, fnd, (nI gc), (nI wc'), rt, wa, va, fl, us, ma, ho, tp, od, lv, rm, ch, gr, re', fw, wo')) : wpX_reach post ((nI R), (nI C), (nI nr), (nI nw), (nI N), cyc, fnd, (nI gc), (nI wc), rt, wa, va, fl, us, ma, ho, tp, od, lv, rm, ch, gr, re, fw, wo) x := by
  rcases hx with rfl | ⟨d, ⟨hd, hg⟩, rfl⟩
  · exact br_t (by decide) (k _ _ _ I (Nat.le_refl _) (fun _ h => h) (fun d hd e => absurd e.symm (gf_m1 (by omega))) (fun _ _ => rfl))
  · have eq : ∀ y, y < 32 → nI d = nI y → y = d := fun y hy e => ((nI_eq (by omega) (by omega)).mp e).symm
    have hi : vp_in (nI d) 32 := vp_in_nI (by omega) (by decide)
    by_cases z : re d = 0
    · have hlt : wc < 32 := by
        have := cn_lt (P := fun c => c < N ∧ re c ≠ 0) (Q := fun _ => True) (a := d) (fun q => q.2 z) trivial (N := 32) (fun _ _ _ => trivial) (by omega)
        rw [gf_cnT] at this
        rw [I.1]; exact this
      refine br_f (nI_pos (by omega)) ⟨hi, br_t (by rw [nI_clamp (by omega)]; exact z) ⟨hi, nm_r (e' := upd re d 1) (by rw [nI_clamp (by omega), gf_nar1]) ⟨vp_in_nI hlt (by decide), nm_r (e' := upd wo wc (nI d)) (by rw [nI_clamp (by omega)]) (nm_r (e' := nI (wc + 1)) (nI_1 wc) (k (wc + 1) _ _ ⟨?_, fun j hj => ?_, fun c hc hr => ?_, fun c hc hr => ?_⟩ (Nat.le_succ _) (fun c hc => gf_upd1 hc) (fun y hy e => ?_) (fun j hj => pk_un (by omega))))⟩⟩⟩
      · rw [I.1, ← gf_cnrem (P := fun c => c < N ∧ upd re d 1 c ≠ 0) (a := d) ⟨hd, by rw [pk_us]; decide⟩ (by omega)]
        congr 1
        refine cn_eq fun c _ => ⟨fun h => ?_, fun h => ?_⟩
        · have ne : c ≠ d := fun e => h.2 (e ▸ z)
          exact ⟨⟨h.1, gf_upd1 h.2⟩, ne⟩
        · refine ⟨h.1.1, ?_⟩
          have := h.1.2
          rwa [pk_un h.2] at this
      · by_cases e : j = wc
        · refine ⟨d, hd, ?_, by rw [e, pk_us]⟩
          rw [pk_us]; decide
        · obtain ⟨c, a1, a2, a3⟩ := I.2.1 j (by omega)
          exact ⟨c, a1, gf_upd1 a2, by rw [pk_un e]; exact a3⟩
      · by_cases e : c = d
        · exact ⟨wc, by omega, by rw [pk_us, e]⟩
        · rw [pk_un e] at hr
          obtain ⟨j, j1, j2⟩ := I.2.2.1 c hc hr
          exact ⟨j, by omega, by rw [pk_un (by omega)]; exact j2⟩
      · by_cases e : c = d
        · rw [e]; exact hg
        · rw [pk_un e] at hr
          exact I.2.2.2 c hc hr
      · rw [eq y hy e, pk_us]; decide
    · exact br_f (nI_pos (by omega)) ⟨hi, br_f (by rw [nI_clamp (by omega)]; exact z) (k _ _ _ I (Nat.le_refl _) (fun _ h => h) (fun y hy e => by rw [eq y hy e]; exact z) (fun _ _ => rfl))⟩
theorem gx_tr86 {post : Int32 → SX → Prop} (hN : N ≤ 32) (fv : (gf_FV N us fl)) (hSU : ∀ x, S x → gf_U N us x)
    (k : ∀ (wc : Nat) (re wo : Nat → Int32), (∀ c, (c < N ∧ re c ≠ 0) ↔ gf_Rc (gf_ex fl) S c) → wc = cn (gf_Rc (gf_ex fl) S) 32 → post (nI wc) ((nI R), (nI C), (nI nr), (nI nw), (nI N), cyc, fnd, (nI gc), (nI wc), rt, wa, va, fl, us, ma, ho, tp, od, lv, rm, ch, gr, re, fw, wo)) :
    ∀ (n i wc : Nat) (re wo : Nat → Int32), i ≤ wc → 32 - i < n → (gf_TI N wc re wo (gf_Rc (gf_ex fl) S)) → (∀ c, S c → re c ≠ 0) → (∀ j c d, j < i → c < 32 → wo j = nI c → gf_ex fl c d → re d ≠ 0) → wX_trace_86 post n (nI i) (nI R) (nI C) (nI nr) (nI nw) (nI N) cyc fnd (nI gc) (nI wc) rt wa va fl us ma ho tp od lv rm ch gr re fw wo := by
  intro n
  induction n with
  | zero => intro i wc re wo _ h; omega
  | succ n ih =>
    intro i wc re wo hi hf I hs hcl
    have hw : wc ≤ 32 := by rw [I.1]; exact cn_le _ _
    rcases Nat.lt_or_ge i wc with h | h
    · obtain ⟨c, c1, c2, c3⟩ := I.2.1 i h
      have hG := I.2.2.2 c c1 c2
      have hV := gf_RcV hN fv hSU hG
      have vv : ∀ x, gf_vr (gf_Rc (gf_ex fl) S) x → gf_vr (fun d => d < N ∧ gf_Rc (gf_ex fl) S d) x := fun x hx => gf_vr_mono hx (fun d hd => ⟨(gf_RcU hN fv hSU hd).1, hd⟩)
      refine br_f (nI_ge h (by omega)) (br_f (nI_ge (b := 32) (by omega) (by decide)) ⟨vp_in_nI (by omega) (by decide), nm_r (e' := nI c) (by rw [nI_clamp (by omega)]; exact c3) ?_⟩)
      rw [gf_2c1 c, gf_2c c, nI_clamp (n := 2 * c) (by omega), nI_clamp (n := 2 * c + 1) (by omega)]
      refine ⟨vp_in_nI (by omega) (by decide), gx_reach hN I (vv _ hV.1) (fun wc1 re1 wo1 I1 l1 m1 d1 w1 => ?_)⟩
      refine ⟨vp_in_nI (by omega) (by decide), gx_reach hN I1 (vv _ hV.2) (fun wc2 re2 wo2 I2 l2 m2 d2 w2 => ?_)⟩
      refine nm_r (e' := nI (i + 1)) (nI_1 i) (ih (i + 1) wc2 re2 wo2 (by omega) (by omega) I2 (fun c hc => m2 c (m1 c (hs c hc))) (fun j a d hj ha ej ex => ?_))
      by_cases z : j = i
      · subst z
        rw [w2 j (by omega), w1 j h, c3] at ej
        have := (nI_eq (by omega) (by omega)).mp ej
        subst this
        rcases ex.2 with e | e
        · exact m2 d (d1 d ex.1 e)
        · exact d2 d ex.1 e
      · have hj' : j < i := by omega
        rw [w2 j (by omega), w1 j (by omega)] at ej
        exact m2 d (m1 d (hcl j a d hj' ha ej ex))
    · have e : i = wc := by omega
      have key : ∀ c, (c < N ∧ re c ≠ 0) ↔ gf_Rc (gf_ex fl) S c := by
        intro c
        refine ⟨fun h => I.2.2.2 c h.1 h.2, fun h => ?_⟩
        refine h (fun c => c < N ∧ re c ≠ 0) (fun y hy => ⟨(hSU y hy).1, hs y hy⟩) (fun y w hy ex => ?_)
        obtain ⟨j, j1, j2⟩ := I.2.2.1 y hy.1 hy.2
        exact ⟨(gf_RcU hN fv hSU (gf_Rc_st (I.2.2.2 y hy.1 hy.2) ex)).1, hcl j y w (by omega) (by omega) j2 ex⟩
      refine br_t (nI_le h (by omega)) (k wc re wo key ?_)
      rw [I.1]
      exact cn_eq fun c _ => key c
theorem gx_tr56 {post : Int32 → SX → Prop} {x1 : Int32} (cf : (gf_cf R C N nr nw)) (fv : (gf_FV N us fl)) (hSU : ∀ x, S x → gf_U N us x) (hw : x1 ≠ 0 → ∀ i, i < nw → gf_vr S (wa i)) (hS : ∀ c, S c → gf_SR nr rt c ∨ (x1 ≠ 0 ∧ gf_SR nw wa c))
    (k : ∀ (wc : Nat) (re wo : Nat → Int32), (∀ c, (c < N ∧ re c ≠ 0) ↔ gf_Rc (gf_ex fl) S c) → wc = cn (gf_Rc (gf_ex fl) S) 32 → post (nI wc) ((nI R), (nI C), (nI nr), (nI nw), (nI N), cyc, fnd, (nI gc), (nI wc), rt, wa, va, fl, us, ma, ho, tp, od, lv, rm, ch, gr, re, fw, wo)) :
    ∀ (n i wc : Nat) (re wo : Nat → Int32), i ≤ nw → nw - i < n → (gf_TI N wc re wo (gf_Rc (gf_ex fl) S)) → (∀ c, gf_SR nr rt c → re c ≠ 0) → (∀ j d, j < i → d < 32 → wa j = nI d → re d ≠ 0) → wX_trace_56 post x1 n (nI i) (nI R) (nI C) (nI nr) (nI nw) (nI N) cyc fnd (nI gc) (nI wc) rt wa va fl us ma ho tp od lv rm ch gr re fw wo := by
  have hN : N ≤ 32 := cf.2.2.2.2.2.1
  have hnw : nw ≤ 4 := cf.2.2.2.2.2.2.2.2.2
  intro n
  induction n with
  | zero => intro i wc re wo _ h; omega
  | succ n ih =>
    intro i wc re wo hi hf I hr hcl
    have fin : (x1 ≠ 0 → i = nw) → ∃ n86 : Nat, wX_trace_86 post n86 0 (nI R) (nI C) (nI nr) (nI nw) (nI N) cyc fnd (nI gc) (nI wc) rt wa va fl us ma ho tp od lv rm ch gr re fw wo := fun hx =>
      ⟨33, gx_tr86 hN fv hSU k 33 0 wc re wo (Nat.zero_le _) (by omega) I (fun c hc => (hS c hc).elim (hr c) (fun q => by
        obtain ⟨q0, q1, j, q2, q3⟩ := q
        exact hcl j c (by have := hx q0; omega) q1 q3)) (fun j c d hj => absurd hj (Nat.not_lt_zero _))⟩
    rcases Nat.lt_or_ge i nw with h | h
    · refine br_f (nI_ge h (by omega)) (br_c (fun z => fin (fun q => absurd z q)) (fun z => ⟨vp_in_nI (by omega) (by decide), ?_⟩))
      rw [nI_clamp (n := i) (by omega)]
      refine gx_reach hN I (gf_vr_mono (hw z i h) (fun d hd => ⟨(hSU d hd).1, gf_Rc_in hd⟩)) (fun wc1 re1 wo1 I1 l1 m1 d1 w1 => ?_)
      refine nm_r (e' := nI (i + 1)) (nI_1 i) (ih (i + 1) wc1 re1 wo1 (by omega) (by omega) I1 (fun c hc => m1 c (hr c hc)) (fun j d hj hd e => ?_))
      by_cases y : j = i
      · subst y
        exact d1 d hd e
      · exact m1 d (hcl j d (by omega) hd e)
    · exact br_t (nI_le h (by omega)) (fin (fun _ => by omega))
theorem gx_tr30 {post : Int32 → SX → Prop} {x1 : Int32} (cf : (gf_cf R C N nr nw)) (fv : (gf_FV N us fl)) (hSU : ∀ x, S x → gf_U N us x) (hrt : ∀ i, i < nr → gf_vr S (rt i)) (hw : x1 ≠ 0 → ∀ i, i < nw → gf_vr S (wa i)) (hS : ∀ c, S c → gf_SR nr rt c ∨ (x1 ≠ 0 ∧ gf_SR nw wa c))
    (k : ∀ (wc : Nat) (re wo : Nat → Int32), (∀ c, (c < N ∧ re c ≠ 0) ↔ gf_Rc (gf_ex fl) S c) → wc = cn (gf_Rc (gf_ex fl) S) 32 → post (nI wc) ((nI R), (nI C), (nI nr), (nI nw), (nI N), cyc, fnd, (nI gc), (nI wc), rt, wa, va, fl, us, ma, ho, tp, od, lv, rm, ch, gr, re, fw, wo)) :
    ∀ (n i wc : Nat) (re wo : Nat → Int32), i ≤ nr → nr - i < n → (gf_TI N wc re wo (gf_Rc (gf_ex fl) S)) → (∀ j d, j < i → d < 32 → rt j = nI d → re d ≠ 0) → wX_trace_30 post x1 n (nI i) (nI R) (nI C) (nI nr) (nI nw) (nI N) cyc fnd (nI gc) (nI wc) rt wa va fl us ma ho tp od lv rm ch gr re fw wo := by
  have hN : N ≤ 32 := cf.2.2.2.2.2.1
  have hnr : nr ≤ 8 := cf.2.2.2.2.2.2.2.1
  intro n
  induction n with
  | zero => intro i wc re wo _ h; omega
  | succ n ih =>
    intro i wc re wo hi hf I hcl
    rcases Nat.lt_or_ge i nr with h | h
    · refine br_f (nI_ge h (by omega)) ⟨vp_in_nI (by omega) (by decide), ?_⟩
      rw [nI_clamp (n := i) (by omega)]
      refine gx_reach hN I (gf_vr_mono (hrt i h) (fun d hd => ⟨(hSU d hd).1, gf_Rc_in hd⟩)) (fun wc1 re1 wo1 I1 l1 m1 d1 w1 => ?_)
      refine nm_r (e' := nI (i + 1)) (nI_1 i) (ih (i + 1) wc1 re1 wo1 (by omega) (by omega) I1 (fun j d hj hd e => ?_))
      by_cases y : j = i
      · subst y
        exact d1 d hd e
      · exact m1 d (hcl j d (by omega) hd e)
    · exact br_t (nI_le h (by omega)) ⟨nw + 1, gx_tr56 cf fv hSU hw hS k (nw + 1) 0 wc re wo (Nat.zero_le _) (by omega) I (fun c hc => by
        obtain ⟨q1, j, q2, q3⟩ := hc
        exact hcl j c (by omega) q1 q3) (fun j d hj => absurd hj (Nat.not_lt_zero _))⟩
theorem gx_tr7 {post : Int32 → SX → Prop} {x1 : Int32} (cf : (gf_cf R C N nr nw)) (fv : (gf_FV N us fl)) (hSU : ∀ x, S x → gf_U N us x) (hrt : ∀ i, i < nr → gf_vr S (rt i)) (hw : x1 ≠ 0 → ∀ i, i < nw → gf_vr S (wa i)) (hS : ∀ c, S c → gf_SR nr rt c ∨ (x1 ≠ 0 ∧ gf_SR nw wa c))
    (k : ∀ (wc : Nat) (re wo : Nat → Int32), (∀ c, (c < N ∧ re c ≠ 0) ↔ gf_Rc (gf_ex fl) S c) → wc = cn (gf_Rc (gf_ex fl) S) 32 → post (nI wc) ((nI R), (nI C), (nI nr), (nI nw), (nI N), cyc, fnd, (nI gc), (nI wc), rt, wa, va, fl, us, ma, ho, tp, od, lv, rm, ch, gr, re, fw, wo)) :
    ∀ (n i : Nat) (re : Nat → Int32), i ≤ N → N - i < n → (∀ j, j < i → re j = 0) → wX_trace_7 post x1 (nI R) (nI C) (nI nr) (nI nw) (nI N) cyc fnd (nI gc) 0 n (nI i) rt wa va fl us ma ho tp od lv rm ch gr re fw wo := by
  have hN : N ≤ 32 := cf.2.2.2.2.2.1
  intro n
  induction n with
  | zero => intro i re _ h; omega
  | succ n ih =>
    intro i re hi hf hz
    rcases Nat.lt_or_ge i N with h | h
    · refine br_f (nI_ge h (by omega)) ⟨vp_in_nI (by omega) (by decide), nm_r (e' := upd re i 0) (by rw [nI_clamp (by omega), gf_nar0]) (nm_r (e' := nI (i + 1)) (nI_1 i) (ih (i + 1) _ (by omega) (by omega) (fun j hj => ?_)))⟩
      by_cases y : j = i
      · rw [y, pk_us]
      · rw [pk_un y]
        exact hz j (by omega)
    · have z : ∀ c, c < N → ¬ re c ≠ 0 := fun c hc q => q (hz c (by omega))
      exact br_t (nI_le h (by omega)) ⟨nr + 1, gx_tr30 cf fv hSU hrt hw hS k (nr + 1) 0 0 re wo (Nat.zero_le _) (by omega) ⟨(gf_cnz (fun c _ q => z c q.1 q.2)).symm, fun j hj => absurd hj (Nat.not_lt_zero _), fun c hc q => absurd q (z c hc), fun c hc q => absurd q (z c hc)⟩ (fun j d hj => absurd hj (Nat.not_lt_zero _))⟩
theorem gx_trace {post : Int32 → SX → Prop} {x1 : Int32} (cf : (gf_cf R C N nr nw)) (fv : (gf_FV N us fl)) (hSU : ∀ x, S x → gf_U N us x) (hrt : ∀ i, i < nr → gf_vr S (rt i)) (hw : x1 ≠ 0 → ∀ i, i < nw → gf_vr S (wa i)) (hS : ∀ c, S c → gf_SR nr rt c ∨ (x1 ≠ 0 ∧ gf_SR nw wa c))
    (k : ∀ (wc : Nat) (re wo : Nat → Int32), (∀ c, (c < N ∧ re c ≠ 0) ↔ gf_Rc (gf_ex fl) S c) → wc = cn (gf_Rc (gf_ex fl) S) 32 → post (nI wc) ((nI R), (nI C), (nI nr), (nI nw), (nI N), cyc, fnd, (nI gc), (nI wc), rt, wa, va, fl, us, ma, ho, tp, od, lv, rm, ch, gr, re, fw, wo)) : wpX_trace post ((nI R), (nI C), (nI nr), (nI nw), (nI N), cyc, fnd, (nI gc), wk, rt, wa, va, fl, us, ma, ho, tp, od, lv, rm, ch, gr, re, fw, wo) x1 :=
  ⟨N + 1, gx_tr7 cf fv hSU hrt hw hS k (N + 1) 0 re (Nat.zero_le _) (by omega) (fun j hj => absurd hj (Nat.not_lt_zero _))⟩
end
end
section
/-! X: slide -/
def gf_sl (fw : Nat → Int32) (x y : Int32) : Prop := (x = -1 ∧ y = -1) ∨ ∃ d, d < 32 ∧ x = nI d ∧ y = fw d
section
variable {R C N nr nw gc : Nat} {cyc fnd wk : Int32} {rt wa va fl us ma ho tp od lv rm ch gr re fw wo : Nat → Int32}
theorem gx_srootRef2 {post : SX → Prop} {m : Nat} {a0 : Nat → Int32} (hm : m ≤ 8) (hv : ∀ i, i < m → a0 i = -1 ∨ ∃ d, d < 32 ∧ a0 i = nI d)
    (k : ∀ rt : Nat → Int32, (∀ i, i < m → gf_sl fw (a0 i) (rt i)) → post ((nI R), (nI C), (nI nr), (nI nw), (nI N), cyc, fnd, (nI gc), wk, rt, wa, va, fl, us, ma, ho, tp, od, lv, rm, ch, gr, re, fw, wo)) :
    ∀ (n i : Nat) (rt : Nat → Int32), i ≤ m → m - i < n → (∀ j, j < i → gf_sl fw (a0 j) (rt j)) → (∀ j, i ≤ j → rt j = a0 j) → wX_slideRefs__rootRef_2 post (nI m) (nI R) (nI C) (nI nr) (nI nw) (nI N) cyc fnd (nI gc) wk n (nI i) rt wa va fl us ma ho tp od lv rm ch gr re fw wo := by
  intro n
  induction n with
  | zero => intro i rt _ h; omega
  | succ n ih =>
    intro i rt hi hf h1 h2
    rcases Nat.lt_or_ge i m with h | h
    · have hx : vp_in (nI i) 8 := vp_in_nI (by omega) (by decide)
      have e1 : (nI i).toNatClampNeg = i := nI_clamp (by omega)
      rcases hv i h with z | ⟨d, hd, z⟩
      · refine br_f (nI_ge h (by omega)) ⟨hx, br_t (by rw [e1, h2 i (Nat.le_refl _), z]; decide) (nm_r (e' := nI (i + 1)) (nI_1 i) (ih (i + 1) rt (by omega) (by omega) (fun j hj => ?_) (fun j hj => h2 j (by omega))))⟩
        by_cases y : j = i
        · rw [y]
          exact Or.inl ⟨z, by rw [h2 i (Nat.le_refl _)]; exact z⟩
        · exact h1 j (by omega)
      · have e2 : rt i = nI d := by rw [h2 i (Nat.le_refl _)]; exact z
        refine br_f (nI_ge h (by omega)) ⟨hx, br_f (by rw [e1, e2]; exact nI_pos (by omega)) ⟨hx, by rw [e1, e2]; exact vp_in_nI hd (by decide), hx, nm_r (e' := upd rt i (fw d)) (by rw [e1, e2, nI_clamp (by omega)]) (nm_r (e' := nI (i + 1)) (nI_1 i) (ih (i + 1) _ (by omega) (by omega) (fun j hj => ?_) (fun j hj => ?_)))⟩⟩
        · by_cases y : j = i
          · rw [y, pk_us]
            exact Or.inr ⟨d, hd, z, rfl⟩
          · rw [pk_un y]
            exact h1 j (by omega)
        · rw [pk_un (by omega)]
          exact h2 j (by omega)
    · exact br_t (nI_le h (by omega)) (k rt (fun j hj => h1 j (by omega)))
theorem gx_srootRef {post : SX → Prop} {m : Nat} (hm : m ≤ 8) (hv : ∀ i, i < m → rt i = -1 ∨ ∃ d, d < 32 ∧ rt i = nI d)
    (k : ∀ rt' : Nat → Int32, (∀ i, i < m → gf_sl fw (rt i) (rt' i)) → post ((nI R), (nI C), (nI nr), (nI nw), (nI N), cyc, fnd, (nI gc), wk, rt', wa, va, fl, us, ma, ho, tp, od, lv, rm, ch, gr, re, fw, wo)) : wpX_slideRefs__rootRef post ((nI R), (nI C), (nI nr), (nI nw), (nI N), cyc, fnd, (nI gc), wk, rt, wa, va, fl, us, ma, ho, tp, od, lv, rm, ch, gr, re, fw, wo) (nI m) :=
  ⟨m + 1, gx_srootRef2 hm hv k (m + 1) 0 rt (Nat.zero_le _) (by omega) (fun j hj => absurd hj (Nat.not_lt_zero _)) (fun _ _ => rfl)⟩
theorem gx_swatchRef2 {post : SX → Prop} {m : Nat} {a0 : Nat → Int32} (hm : m ≤ 4) (hv : ∀ i, i < m → a0 i = -1 ∨ ∃ d, d < 32 ∧ a0 i = nI d)
    (k : ∀ wa : Nat → Int32, (∀ i, i < m → gf_sl fw (a0 i) (wa i)) → post ((nI R), (nI C), (nI nr), (nI nw), (nI N), cyc, fnd, (nI gc), wk, rt, wa, va, fl, us, ma, ho, tp, od, lv, rm, ch, gr, re, fw, wo)) :
    ∀ (n i : Nat) (wa : Nat → Int32), i ≤ m → m - i < n → (∀ j, j < i → gf_sl fw (a0 j) (wa j)) → (∀ j, i ≤ j → wa j = a0 j) → wX_slideRefs__watchRef_2 post (nI m) (nI R) (nI C) (nI nr) (nI nw) (nI N) cyc fnd (nI gc) wk n (nI i) rt wa va fl us ma ho tp od lv rm ch gr re fw wo := by
  intro n
  induction n with
  | zero => intro i wa _ h; omega
  | succ n ih =>
    intro i wa hi hf h1 h2
    rcases Nat.lt_or_ge i m with h | h
    · have hx : vp_in (nI i) 4 := vp_in_nI (by omega) (by decide)
      have e1 : (nI i).toNatClampNeg = i := nI_clamp (by omega)
      rcases hv i h with z | ⟨d, hd, z⟩
      · refine br_f (nI_ge h (by omega)) ⟨hx, br_t (by rw [e1, h2 i (Nat.le_refl _), z]; decide) (nm_r (e' := nI (i + 1)) (nI_1 i) (ih (i + 1) wa (by omega) (by omega) (fun j hj => ?_) (fun j hj => h2 j (by omega))))⟩
        by_cases y : j = i
        · rw [y]
          exact Or.inl ⟨z, by rw [h2 i (Nat.le_refl _)]; exact z⟩
        · exact h1 j (by omega)
      · have e2 : wa i = nI d := by rw [h2 i (Nat.le_refl _)]; exact z
        refine br_f (nI_ge h (by omega)) ⟨hx, br_f (by rw [e1, e2]; exact nI_pos (by omega)) ⟨hx, by rw [e1, e2]; exact vp_in_nI hd (by decide), hx, nm_r (e' := upd wa i (fw d)) (by rw [e1, e2, nI_clamp (by omega)]) (nm_r (e' := nI (i + 1)) (nI_1 i) (ih (i + 1) _ (by omega) (by omega) (fun j hj => ?_) (fun j hj => ?_)))⟩⟩
        · by_cases y : j = i
          · rw [y, pk_us]
            exact Or.inr ⟨d, hd, z, rfl⟩
          · rw [pk_un y]
            exact h1 j (by omega)
        · rw [pk_un (by omega)]
          exact h2 j (by omega)
    · exact br_t (nI_le h (by omega)) (k wa (fun j hj => h1 j (by omega)))
theorem gx_swatchRef {post : SX → Prop} {m : Nat} (hm : m ≤ 4) (hv : ∀ i, i < m → wa i = -1 ∨ ∃ d, d < 32 ∧ wa i = nI d)
    (k : ∀ wa' : Nat → Int32, (∀ i, i < m → gf_sl fw (wa i) (wa' i)) → post ((nI R), (nI C), (nI nr), (nI nw), (nI N), cyc, fnd, (nI gc), wk, rt, wa', va, fl, us, ma, ho, tp, od, lv, rm, ch, gr, re, fw, wo)) : wpX_slideRefs__watchRef post ((nI R), (nI C), (nI nr), (nI nw), (nI N), cyc, fnd, (nI gc), wk, rt, wa, va, fl, us, ma, ho, tp, od, lv, rm, ch, gr, re, fw, wo) (nI m) :=
  ⟨m + 1, gx_swatchRef2 hm hv k (m + 1) 0 wa (Nat.zero_le _) (by omega) (fun j hj => absurd hj (Nat.not_lt_zero _)) (fun _ _ => rfl)⟩
theorem gx_sfield2 {post : SX → Prop} {m : Nat} {a0 : Nat → Int32} (hm : m ≤ 64) (hv : ∀ i, i < m → a0 i = -1 ∨ ∃ d, d < 32 ∧ a0 i = nI d)
    (k : ∀ fl : Nat → Int32, (∀ i, i < m → gf_sl fw (a0 i) (fl i)) → post ((nI R), (nI C), (nI nr), (nI nw), (nI N), cyc, fnd, (nI gc), wk, rt, wa, va, fl, us, ma, ho, tp, od, lv, rm, ch, gr, re, fw, wo)) :
    ∀ (n i : Nat) (fl : Nat → Int32), i ≤ m → m - i < n → (∀ j, j < i → gf_sl fw (a0 j) (fl j)) → (∀ j, i ≤ j → fl j = a0 j) → wX_slideRefs__field_2 post (nI m) (nI R) (nI C) (nI nr) (nI nw) (nI N) cyc fnd (nI gc) wk n (nI i) rt wa va fl us ma ho tp od lv rm ch gr re fw wo := by
  intro n
  induction n with
  | zero => intro i fl _ h; omega
  | succ n ih =>
    intro i fl hi hf h1 h2
    rcases Nat.lt_or_ge i m with h | h
    · have hx : vp_in (nI i) 64 := vp_in_nI (by omega) (by decide)
      have e1 : (nI i).toNatClampNeg = i := nI_clamp (by omega)
      rcases hv i h with z | ⟨d, hd, z⟩
      · refine br_f (nI_ge h (by omega)) ⟨hx, br_t (by rw [e1, h2 i (Nat.le_refl _), z]; decide) (nm_r (e' := nI (i + 1)) (nI_1 i) (ih (i + 1) fl (by omega) (by omega) (fun j hj => ?_) (fun j hj => h2 j (by omega))))⟩
        by_cases y : j = i
        · rw [y]
          exact Or.inl ⟨z, by rw [h2 i (Nat.le_refl _)]; exact z⟩
        · exact h1 j (by omega)
      · have e2 : fl i = nI d := by rw [h2 i (Nat.le_refl _)]; exact z
        refine br_f (nI_ge h (by omega)) ⟨hx, br_f (by rw [e1, e2]; exact nI_pos (by omega)) ⟨hx, by rw [e1, e2]; exact vp_in_nI hd (by decide), hx, nm_r (e' := upd fl i (fw d)) (by rw [e1, e2, nI_clamp (by omega)]) (nm_r (e' := nI (i + 1)) (nI_1 i) (ih (i + 1) _ (by omega) (by omega) (fun j hj => ?_) (fun j hj => ?_)))⟩⟩
        · by_cases y : j = i
          · rw [y, pk_us]
            exact Or.inr ⟨d, hd, z, rfl⟩
          · rw [pk_un y]
            exact h1 j (by omega)
        · rw [pk_un (by omega)]
          exact h2 j (by omega)
    · exact br_t (nI_le h (by omega)) (k fl (fun j hj => h1 j (by omega)))
theorem gx_sfield {post : SX → Prop} {m : Nat} (hm : m ≤ 64) (hv : ∀ i, i < m → fl i = -1 ∨ ∃ d, d < 32 ∧ fl i = nI d)
    (k : ∀ fl' : Nat → Int32, (∀ i, i < m → gf_sl fw (fl i) (fl' i)) → post ((nI R), (nI C), (nI nr), (nI nw), (nI N), cyc, fnd, (nI gc), wk, rt, wa, va, fl', us, ma, ho, tp, od, lv, rm, ch, gr, re, fw, wo)) : wpX_slideRefs__field post ((nI R), (nI C), (nI nr), (nI nw), (nI N), cyc, fnd, (nI gc), wk, rt, wa, va, fl, us, ma, ho, tp, od, lv, rm, ch, gr, re, fw, wo) (nI m) :=
  ⟨m + 1, gx_sfield2 hm hv k (m + 1) 0 fl (Nat.zero_le _) (by omega) (fun j hj => absurd hj (Nat.not_lt_zero _)) (fun _ _ => rfl)⟩
theorem gx_clampT {post : Int32 → Prop} {m r : Nat} (hm : m ≤ 32) (hr : r * C ≤ 32) (hC : C ≤ 4) (k : post (nI (min (m - r * C) C))) : wpX_clamp post ((nI R), (nI C), (nI nr), (nI nw), (nI N), cyc, fnd, (nI gc), wk, rt, wa, va, fl, us, ma, ho, tp, od, lv, rm, ch, gr, re, fw, wo) (nI m - nI r * nI C) 0 (nI C) := by
  have e0 : nI r * nI C = nI (r * C) := pk_mul r C
  rw [e0]
  rcases Nat.lt_or_ge m (r * C) with h | h
  · have h1 := pk_sneg (a := m) (b := r * C) (by omega) h
    have e : min (m - r * C) C = 0 := by omega
    rw [e] at k
    exact br_f (Int32.not_le.mpr h1) k
  · rw [pk_sub h]
    refine br_t (nI_pos' (by omega)) ?_
    rcases Nat.lt_or_ge C (m - r * C) with z | z
    · have e : min (m - r * C) C = C := by omega
      rw [e] at k
      exact br_f (nI_ge z (by omega)) k
    · have e : min (m - r * C) C = m - r * C := by omega
      rw [e] at k
      exact br_t (nI_le z (by omega)) k
/-- the regions' part of a rebuilt heap -/
theorem gx_rb84 {post : SX → Prop} {m : Nat} (cf : (gf_cf R C N nr nw)) (hm : (gf_HM C N ho)) (hmN : m ≤ N) (hv : ∀ c, c < m → gf_vr (fun d => d < N) (fl (2 * c)) ∧ gf_vr (fun d => d < N) (fl (2 * c + 1)))
    (k : ∀ us rm : Nat → Int32, (∀ c, c < N → (us c ≠ 0 ↔ c < m)) → (∀ c d, c < m → d < N → gf_ex fl c d → c / C ≠ d / C → bt (rm (d / C)) c = true) → post ((nI R), (nI C), (nI nr), (nI nw), (nI N), cyc, fnd, (nI gc), wk, rt, wa, va, fl, us, ma, ho, tp, od, lv, rm, ch, gr, re, fw, wo)) :
    ∀ (n i : Nat) (us rm : Nat → Int32), i ≤ N → N - i < n → (∀ c, c < i → (us c ≠ 0 ↔ c < m)) → (∀ c d, c < i → c < m → d < N → gf_ex fl c d → c / C ≠ d / C → bt (rm (d / C)) c = true) → wX_rebuildRegions_84 post (nI m) n (nI i) (nI R) (nI C) (nI nr) (nI nw) (nI N) cyc fnd (nI gc) wk rt wa va fl us ma ho tp od lv rm ch gr re fw wo := by
  have hN : N ≤ 32 := cf.2.2.2.2.2.1
  intro n
  induction n with
  | zero => intro i us rm _ h; omega
  | succ n ih =>
    intro i us rm hi hf h1 h2
    have e1 : (nI i).toNatClampNeg = i := nI_clamp (by omega)
    rcases Nat.lt_or_ge i N with h | h
    · have hx : vp_in (nI i) 32 := vp_in_nI (by omega) (by decide)
      refine br_f (nI_ge h (by omega)) ?_
      rcases Nat.lt_or_ge i m with z | z
      · refine br_f (nI_ge z (by omega)) ?_
        have hu : ∀ c, c < i + 1 → (upd us i 1 c ≠ 0 ↔ c < m) := by
          intro c hc
          by_cases y : c = i
          · rw [y, pk_us]
            exact ⟨fun _ => z, fun _ => by decide⟩
          · rw [pk_un y]
            exact h1 c (by omega)
        refine ⟨hx, nm_r (e' := upd us i 1) (by rw [e1, gf_nar1]) ⟨hx, br_f (by rw [e1, pk_us]; decide) ?_⟩⟩
        rw [gf_2c1 i, gf_2c i, nI_clamp (n := 2 * i) (by omega), nI_clamp (n := 2 * i + 1) (by omega)]
        refine ⟨vp_in_nI (by omega) (by decide), gx_remember cf hm h ((hv i z).1.elim Or.inl (fun q => Or.inr q)) (fun rm1 m1 b1 => ?_)⟩
        refine ⟨vp_in_nI (by omega) (by decide), gx_remember cf hm h ((hv i z).2.elim Or.inl (fun q => Or.inr q)) (fun rm2 m2 b2 => ?_)⟩
        refine nm_r (e' := nI (i + 1)) (nI_1 i) (ih (i + 1) _ rm2 (by omega) (by omega) hu (fun c d hc hcm hd ex ne => ?_))
        by_cases y : c = i
        · subst y
          rcases ex.2 with e | e
          · exact m2 _ _ (b1 d hd e ne)
          · exact b2 d hd e ne
        · exact m2 _ _ (m1 _ _ (h2 c d (by omega) hcm hd ex ne))
      · refine br_t (nI_le z (by omega)) ⟨hx, nm_r (e' := upd us i 0) (by rw [e1, gf_nar0]) ⟨hx, br_t (by rw [e1, pk_us]) (nm_r (e' := nI (i + 1)) (nI_1 i) (ih (i + 1) _ rm (by omega) (by omega) (fun c hc => ?_) (fun c d hc hcm => h2 c d (by omega) hcm)))⟩⟩
        by_cases y : c = i
        · rw [y, pk_us]
          exact ⟨fun q => absurd rfl q, fun q => by omega⟩
        · rw [pk_un y]
          exact h1 c (by omega)
    · exact br_t (nI_le h (by omega)) (k us rm (fun c hc => h1 c (by omega)) (fun c d hc => h2 c d (by omega) hc))
theorem gx_rb2 {post : SX → Prop} {m : Nat} (cf : (gf_cf R C N nr nw)) (hm : (gf_HM C N ho)) (hmN : m ≤ N) (hv : ∀ c, c < m → gf_vr (fun d => d < N) (fl (2 * c)) ∧ gf_vr (fun d => d < N) (fl (2 * c + 1)))
    (k : ∀ us tp od lv rm : Nat → Int32, (∀ r, r < R → tp r = nI (min (m - r * C) C)) → (∀ c, c < N → (us c ≠ 0 ↔ c < m)) → (∀ c d, c < m → d < N → gf_ex fl c d → c / C ≠ d / C → bt (rm (d / C)) c = true) → post ((nI R), (nI C), (nI nr), (nI nw), (nI N), cyc, fnd, (nI gc), wk, rt, wa, va, fl, us, ma, ho, tp, od, lv, rm, ch, gr, re, fw, wo)) :
    ∀ (n i : Nat) (tp od lv rm : Nat → Int32), i ≤ R → R - i < n → (∀ r, r < i → tp r = nI (min (m - r * C) C)) → wX_rebuildRegions_2 post (nI m) (nI R) (nI C) (nI nr) (nI nw) (nI N) cyc fnd (nI gc) wk n (nI i) rt wa va fl us ma ho tp od lv rm ch gr re fw wo := by
  obtain ⟨c1, c2, c3, c4, c5, c6, c7⟩ := id cf
  intro n
  induction n with
  | zero => intro i tp od lv rm _ h; omega
  | succ n ih =>
    intro i tp od lv rm hi hf h1
    have e1 : (nI i).toNatClampNeg = i := nI_clamp (by omega)
    rcases Nat.lt_or_ge i R with h | h
    · have hx : vp_in (nI i) 8 := vp_in_nI (by omega) (by decide)
      have hle : i * C ≤ 32 := by
        have : i * C ≤ R * C := Nat.mul_le_mul_right C hi
        omega
      have hu : ∀ r, r < i + 1 → upd tp i (nI (min (m - i * C) C)) r = nI (min (m - r * C) C) := by
        intro r hr
        by_cases y : r = i
        · rw [y, pk_us]
        · rw [pk_un y]
          exact h1 r (by omega)
      have nx : ∀ (od lv rm : Nat → Int32), wX_rebuildRegions_2 post (nI m) (nI R) (nI C) (nI nr) (nI nw) (nI N) cyc fnd (nI gc) wk n (nI i + 1) rt wa va fl us ma ho (upd tp i (nI (min (m - i * C) C))) od lv rm ch gr re fw wo := fun od lv rm => by
        rw [nI_1 i]
        exact ih (i + 1) _ _ _ _ (by omega) (by omega) hu
      have jn : ∀ (z0 : Int32) (lv : Nat → Int32), wX_rebuildRegions_68 post (wX_rebuildRegions_2 post (nI m) (nI R) (nI C) (nI nr) (nI nw) (nI N) cyc fnd (nI gc) wk n) (nI m) (nI i) z0 (nI i) (nI R) (nI C) (nI nr) (nI nw) (nI N) cyc fnd (nI gc) wk rt wa va fl us ma ho (upd tp i (nI (min (m - i * C) C))) od lv rm ch gr re fw wo := fun z0 lv =>
        ⟨hx, nm_e ⟨hx, nm_e (nm_e (nx _ _ _))⟩⟩
      refine br_f (nI_ge h (by omega)) (gx_clampT (by omega) hle c4 ?_)
      rw [e1]
      exact ⟨hx, nm_e ⟨hx, hx, nm_e ⟨hx, br_c (fun _ => jn _ _) (fun _ => jn _ _)⟩⟩⟩
    · exact br_t (nI_le h (by omega)) ⟨N + 1, gx_rb84 cf hm hmN hv (fun us rm a b => k us tp od lv rm (fun r hr => h1 r (by omega)) a b) (N + 1) 0 us rm (Nat.zero_le _) (by omega) (fun c hc => absurd hc (Nat.not_lt_zero _)) (fun c d hc => absurd hc (Nat.not_lt_zero _))⟩
theorem gx_rebuild {post : SX → Prop} {m : Nat} (cf : (gf_cf R C N nr nw)) (hm : (gf_HM C N ho)) (hmN : m ≤ N) (hv : ∀ c, c < m → gf_vr (fun d => d < N) (fl (2 * c)) ∧ gf_vr (fun d => d < N) (fl (2 * c + 1)))
    (k : ∀ us tp od lv rm : Nat → Int32, (∀ r, r < R → tp r = nI (min (m - r * C) C)) → (∀ c, c < N → (us c ≠ 0 ↔ c < m)) → (∀ c d, c < m → d < N → gf_ex fl c d → c / C ≠ d / C → bt (rm (d / C)) c = true) → post ((nI R), (nI C), (nI nr), (nI nw), (nI N), cyc, fnd, (nI gc), wk, rt, wa, va, fl, us, ma, ho, tp, od, lv, rm, ch, gr, re, fw, wo)) : wpX_rebuildRegions post ((nI R), (nI C), (nI nr), (nI nw), (nI N), cyc, fnd, (nI gc), wk, rt, wa, va, fl, us, ma, ho, tp, od, lv, rm, ch, gr, re, fw, wo) (nI m) :=
  ⟨R + 1, gx_rb2 cf hm hmN hv k (R + 1) 0 tp od lv rm (Nat.zero_le _) (by omega) (fun c hc => absurd hc (Nat.not_lt_zero _))⟩
end
end
section
/-! X: slide as an isomorphism -/
section
variable {R C N nr nw gc : Nat} {cyc fnd wk : Int32} {rt wa va fl us ma ho tp od lv rm ch gr re fw wo : Nat → Int32}
variable {G : Nat → Prop} {us0 va0 fl0 ma0 rt0 wa0 fl1 : Nat → Int32} {m : Nat}
theorem gf_rkinj {P : Nat → Prop} {a b : Nat} (ha : P a) (hb : P b) (e : cn P a = cn P b) : a = b := by
  rcases Nat.lt_trichotomy a b with h | h | h
  · have := gf_rklt h ha
    omega
  · exact h
  · have := gf_rklt h hb
    omega
theorem gf_sl_IS (hN : N ≤ 32) (hG : ∀ c, (c < N ∧ re c ≠ 0) ↔ G c) (GU : ∀ c, G c → gf_U N us0 c) (Gv : ∀ c, G c → gf_vr G (fl0 (2 * c)) ∧ gf_vr G (fl0 (2 * c + 1)))
    (hr : ∀ i, i < nr → gf_vr G (rt0 i)) (hw : ∀ i, i < nw → gf_vr G (wa0 i))
    (sl : ∀ d, d < N → re d ≠ 0 → fw d = nI (cn (fun c => re c ≠ 0) d) ∧ va (cn (fun c => re c ≠ 0) d) = va0 d ∧ fl1 (2 * cn (fun c => re c ≠ 0) d) = fl0 (2 * d) ∧ fl1 (2 * cn (fun c => re c ≠ 0) d + 1) = fl0 (2 * d + 1) ∧ ma (cn (fun c => re c ≠ 0) d) = ma0 d)
    (em : m = cn (fun c => re c ≠ 0) N) (s1 : ∀ i, i < nr → gf_sl fw (rt0 i) (rt i)) (s2 : ∀ i, i < nw → gf_sl fw (wa0 i) (wa i)) (s3 : ∀ i, i < 2 * m → gf_sl fw (fl1 i) (fl i)) (hu : ∀ c, c < N → (us c ≠ 0 ↔ c < m)) :
    ∃ dn : Nat → Nat, (gf_IS N nr nw 0 us0 va0 fl0 ma0 rt0 wa0 gr us va fl ma rt wa gr dn) := by
  have hmN : m ≤ N := by rw [em]; exact cn_le _ _
  obtain ⟨dn, hdn⟩ := gf_choice (P := fun x => x < m) (G := fun x c => c < N ∧ re c ≠ 0 ∧ cn (fun c => re c ≠ 0) c = x) (fun x hx => gf_rksur (P := fun c => re c ≠ 0) (N := N) (by rw [← em]; exact hx))
  have hU : ∀ x, gf_U N us x → x < m := fun x hx => (hu x hx.1).mp hx.2
  have hU' : ∀ x, x < m → gf_U N us x := fun x hx => ⟨by omega, (hu x (by omega)).mpr hx⟩
  have key : ∀ x y, gf_vr G x → gf_sl fw x y → gf_rr (gf_U N us) dn (-1) y x := by
    intro x y vx s
    rcases s with ⟨a, b⟩ | ⟨d, hd, a, b⟩
    · exact Or.inl ⟨b, a⟩
    · rcases vx with vx | ⟨d', gd, vx⟩
      · exact absurd (a.symm.trans vx) (gf_m1 (by omega))
      · have hd' := (hG d').mpr gd
        have : d' = d := (nI_eq (by omega) (by omega)).mp (vx.symm.trans a)
        subst this
        have lt : cn (fun c => re c ≠ 0) d' < m := by
          rw [em]
          exact gf_rklt hd'.1 hd'.2
        have h2 := hdn _ lt
        have e : dn (cn (fun c => re c ≠ 0) d') = d' := gf_rkinj (P := fun c => re c ≠ 0) h2.2.1 hd'.2 h2.2.2
        exact Or.inr ⟨_, hU' _ lt, by rw [b, (sl d' hd'.1 hd'.2).1], by rw [e]; exact a⟩
  refine ⟨dn, fun x hx => ?_, fun x y hx hy e => ?_, fun i hi => key _ _ (hr i hi) (s1 i hi), fun i hi => key _ _ (hw i hi) (s2 i hi), fun i hi => absurd hi (Nat.not_lt_zero _)⟩
  · have hx' := hU x hx
    obtain ⟨d1, d2, d3⟩ := hdn x hx'
    have gd := (hG (dn x)).mp ⟨d1, d2⟩
    obtain ⟨_, a2, a3, a4, a5⟩ := sl (dn x) d1 d2
    rw [d3] at a2 a3 a4 a5
    refine ⟨GU _ gd, a2, a5, key _ _ (Gv _ gd).1 ?_, key _ _ (Gv _ gd).2 ?_⟩
    · rw [← a3]
      exact s3 _ (by omega)
    · rw [← a4]
      exact s3 _ (by omega)
  · rw [← (hdn x (hU x hx)).2.2, ← (hdn y (hU y hy)).2.2, e]
theorem gf_sl_TP (cf : (gf_cf R C N nr nw)) (ht : ∀ r, r < R → tp r = nI (min (m - r * C) C)) (hu : ∀ c, c < N → (us c ≠ 0 ↔ c < m)) : (gf_TP R C N us tp) := by
  obtain ⟨c1, c2, c3, c4, c5, c6, c7⟩ := cf
  intro r hr
  refine ⟨_, Nat.min_le_right _ _, ht r hr, fun c hc hus e => ?_⟩
  have h1 := (hu c hc).mp hus
  have h2 := Nat.div_add_mod c C
  have h3 : c % C < C := Nat.mod_lt _ (by omega)
  rw [e] at h2
  have h4 := Nat.mul_comm C r
  omega
theorem gx_sl4 {post : SX → Prop} (cf : (gf_cf R C N nr nw)) (hm : (gf_HM C N ho)) (cz : (gf_CZ R ch)) (hG : ∀ c, (c < N ∧ re c ≠ 0) ↔ G c) (GU : ∀ c, G c → gf_U N us c) (Gv : ∀ c, G c → gf_vr G (fl0 (2 * c)) ∧ gf_vr G (fl0 (2 * c + 1)))
    (hr : ∀ i, i < nr → gf_vr G (rt i)) (hw : ∀ i, i < nw → gf_vr G (wa i))
    (k : ∀ (us' va' fl' ma' rt' wa' tp' od' lv' rm' fw' : Nat → Int32) (dn : Nat → Nat), (gf_IS N nr nw 0 us va0 fl0 ma0 rt wa gr us' va' fl' ma' rt' wa' gr dn) → (gf_HP R C N us' fl' ma' ho tp' rm' ch) → (∀ r, r < R → tp' r = nI (min (cn (fun c => re c ≠ 0) N - r * C) C)) → post ((nI R), (nI C), (nI nr), (nI nw), (nI N), cyc, fnd, (nI gc), wk, rt', wa', va', fl', us', ma', ho, tp', od', lv', rm', ch, gr, re, fw', wo)) :
    ∀ (n i : Nat) (fw va fl ma : Nat → Int32), i ≤ N → N - i < n → gf_B1 ma →
      (∀ d, d < i → re d ≠ 0 → fw d = nI (cn (fun c => re c ≠ 0) d) ∧ va (cn (fun c => re c ≠ 0) d) = va0 d ∧ fl (2 * cn (fun c => re c ≠ 0) d) = fl0 (2 * d) ∧ fl (2 * cn (fun c => re c ≠ 0) d + 1) = fl0 (2 * d + 1) ∧ ma (cn (fun c => re c ≠ 0) d) = ma0 d) →
      (∀ d, i ≤ d → va d = va0 d ∧ fl (2 * d) = fl0 (2 * d) ∧ fl (2 * d + 1) = fl0 (2 * d + 1) ∧ ma d = ma0 d) → wX_slide_4 post n (nI (cn (fun c => re c ≠ 0) i)) (nI i) (nI R) (nI C) (nI nr) (nI nw) (nI N) cyc fnd (nI gc) wk rt wa va fl us ma ho tp od lv rm ch gr re fw wo := by
  have hN : N ≤ 32 := cf.2.2.2.2.2.1
  have hnr : nr ≤ 8 := cf.2.2.2.2.2.2.2.1
  have hnw : nw ≤ 4 := cf.2.2.2.2.2.2.2.2.2
  have gv : ∀ x, gf_vr G x → x = -1 ∨ ∃ d, d < 32 ∧ x = nI d := by
    intro x hx
    rcases hx with hx | ⟨d, hd, hx⟩
    · exact Or.inl hx
    · exact Or.inr ⟨d, by have := (GU d hd).1; omega, hx⟩
  intro n
  induction n with
  | zero => intro i fw va fl ma _ h; omega
  | succ n ih =>
    intro i fw va fl ma hi hf b1 h1 h2
    have e1 : (nI i).toNatClampNeg = i := nI_clamp (by omega)
    have hrk : cn (fun c => re c ≠ 0) i ≤ i := cn_le _ _
    rcases Nat.lt_or_ge i N with h | h
    · have hx : vp_in (nI i) 32 := vp_in_nI (by omega) (by decide)
      by_cases z : re i = 0
      · have es : cn (fun c => re c ≠ 0) (i + 1) = cn (fun c => re c ≠ 0) i := by
          show cn (fun c => re c ≠ 0) i + b01 (re i ≠ 0) = _
          rw [b01_f (fun q => q z), Nat.add_zero]
        refine br_f (nI_ge h (by omega)) ⟨hx, br_t (by rw [e1]; exact z) (nm_r (e' := nI (i + 1)) (nI_1 i) ?_)⟩
        have := ih (i + 1) fw va fl ma (by omega) (by omega) b1 (fun d hd hr => h1 d (by
          have : d ≠ i := fun e => hr (e ▸ z)
          omega) hr) (fun d hd => h2 d (by omega))
        rw [es] at this
        exact this
      · have es : cn (fun c => re c ≠ 0) (i + 1) = cn (fun c => re c ≠ 0) i + 1 := by
          show cn (fun c => re c ≠ 0) i + b01 (re i ≠ 0) = _
          rw [b01_t z]
        refine br_f (nI_ge h (by omega)) ⟨hx, br_f (by rw [e1]; exact z) ⟨hx, nm_r (e' := upd fw i (nI (cn (fun c => re c ≠ 0) i))) (by rw [e1]) (gx_copyCell (by omega) (by omega) b1 (nm_r (e' := nI (cn (fun c => re c ≠ 0) (i + 1))) (by rw [nI_1, es]) (nm_r (e' := nI (i + 1)) (nI_1 i) (ih (i + 1) _ _ _ _ (by omega) (by omega) (fun c hc => ?_) (fun d hd hr => ?_) (fun d hd => ?_)))))⟩⟩
        · by_cases y : c = cn (fun c => re c ≠ 0) i
          · rw [y, pk_us]
            exact b1 i (by omega)
          · rw [pk_un y]
            exact b1 c hc
        · obtain ⟨q1, q2, q3, q4⟩ := h2 i (Nat.le_refl _)
          by_cases y : d = i
          · subst y
            rw [pk_us, pk_us, gf_fl1.1, gf_fl1.2, pk_us]
            exact ⟨rfl, q1, q2, q3, q4⟩
          · have hd' : d < i := by omega
            have lt := gf_rklt (P := fun c => re c ≠ 0) hd' hr
            have ne : cn (fun c => re c ≠ 0) d ≠ cn (fun c => re c ≠ 0) i := by omega
            rw [pk_un y, pk_un ne, (gf_fl2 ne).1, (gf_fl2 ne).2, pk_un ne]
            exact h1 d hd' hr
        · have ne : d ≠ cn (fun c => re c ≠ 0) i := by omega
          rw [pk_un ne, (gf_fl2 ne).1, (gf_fl2 ne).2, pk_un ne]
          exact h2 d (by omega)
    · have ei : i = N := by omega
      subst ei
      have hv2 : ∀ j, j < 2 * cn (fun c => re c ≠ 0) i → gf_vr G (fl j) := by
        intro j hj
        obtain ⟨c, q1, q2, q3⟩ := gf_rksur (P := fun c => re c ≠ 0) (N := i) (x := j / 2) (by omega)
        have gc := (hG c).mp ⟨q1, q2⟩
        obtain ⟨_, _, a3, a4, _⟩ := h1 c q1 q2
        rw [q3] at a3 a4
        rcases Nat.mod_two_eq_zero_or_one j with e | e
        · have e2 : 2 * (j / 2) = j := by omega
          rw [e2] at a3
          rw [a3]
          exact (Gv c gc).1
        · have e2 : 2 * (j / 2) + 1 = j := by omega
          rw [e2] at a4
          rw [a4]
          exact (Gv c gc).2
      refine br_t (nI_le h (by omega)) ?_
      rw [gf_2c]
      refine gx_srootRef hnr (fun j hj => gv _ (hr j hj)) (fun rt' s1 => ?_)
      refine gx_swatchRef hnw (fun j hj => gv _ (hw j hj)) (fun wa' s2 => ?_)
      refine gx_sfield (by omega) (fun j hj => gv _ (hv2 j hj)) (fun fl' s3 => ?_)
      have pv : ∀ j, j < 2 * cn (fun c => re c ≠ 0) i → gf_vr (fun d => d < i) (fl' j) := by
        intro j hj
        rcases s3 j hj with ⟨_, a⟩ | ⟨d, hd, a, b⟩
        · exact Or.inl a
        · rcases hv2 j hj with q | ⟨d', gd, q⟩
          · exact absurd (a.symm.trans q) (gf_m1 (by omega))
          · have hd' := (hG d').mpr gd
            have : d' = d := (nI_eq (by omega) (by omega)).mp (q.symm.trans a)
            subst this
            have := gf_rklt (P := fun c => re c ≠ 0) hd'.1 hd'.2
            exact Or.inr ⟨cn (fun c => re c ≠ 0) d', by omega, by rw [b, (h1 d' hd'.1 hd'.2).1]⟩
      refine gx_rebuild cf hm hrk (fun c hc => ⟨pv _ (by omega), pv _ (by omega)⟩) (fun us' tp' od' lv' rm' ht hu hb => ?_)
      obtain ⟨dn, IS⟩ := gf_sl_IS (gr := gr) hN hG GU Gv hr hw h1 rfl s1 s2 s3 hu
      exact k us' va fl' ma rt' wa' tp' od' lv' rm' fw dn IS ⟨hm, gf_sl_TP cf ht hu, gf_IS_FV IS, fun c d hc ex ne => hb c d ((hu c hc.1).mp hc.2) (by
        have := gf_vr_ex (fun x hx => gf_cn32 hN hx) (gf_IS_FV IS c hc) ex
        exact this.1) ex ne, cz, b1⟩ ht
theorem gx_slide {post : SX → Prop} (cf : (gf_cf R C N nr nw)) (hm : (gf_HM C N ho)) (cz : (gf_CZ R ch)) (b1 : gf_B1 ma) (hG : ∀ c, (c < N ∧ re c ≠ 0) ↔ G c) (GU : ∀ c, G c → gf_U N us c) (Gv : ∀ c, G c → gf_vr G (fl (2 * c)) ∧ gf_vr G (fl (2 * c + 1)))
    (hr : ∀ i, i < nr → gf_vr G (rt i)) (hw : ∀ i, i < nw → gf_vr G (wa i))
    (k : ∀ (us' va' fl' ma' rt' wa' tp' od' lv' rm' fw' : Nat → Int32) (dn : Nat → Nat), (gf_IS N nr nw 0 us va fl ma rt wa gr us' va' fl' ma' rt' wa' gr dn) → (gf_HP R C N us' fl' ma' ho tp' rm' ch) → (∀ r, r < R → tp' r = nI (min (cn (fun c => re c ≠ 0) N - r * C) C)) → post ((nI R), (nI C), (nI nr), (nI nw), (nI N), cyc, fnd, (nI gc), wk, rt', wa', va', fl', us', ma', ho, tp', od', lv', rm', ch, gr, re, fw', wo)) : wpX_slide post ((nI R), (nI C), (nI nr), (nI nw), (nI N), cyc, fnd, (nI gc), wk, rt, wa, va, fl, us, ma, ho, tp, od, lv, rm, ch, gr, re, fw, wo) :=
  ⟨N + 1, gx_sl4 cf hm cz hG GU Gv hr hw k (N + 1) 0 fw va fl ma (Nat.zero_le _) (by omega) b1 (fun d hd => absurd hd (Nat.not_lt_zero _)) (fun d _ => ⟨rfl, rfl, rfl, rfl⟩)⟩
end
end
section
/-! Y: the walks -/
def gf_B2 (ys : Nat → Int32) : Prop := ∀ o, o ≤ 32 → ys o = 0 ∨ ys o = 1
section
variable {R C N nr nw gc : Nat} {cyc yfn : Int32} {yr yw yv y0 y1 yk ys : Nat → Int32}
variable {j : Nat} {p : Int32}
theorem gy_gr_n {post : Int32 → Prop} (hn : nr ≤ 8) (h : ∀ j, j < nr → p ≠ nI j) (k : post 0) : wpY_goodRoot post ((nI N), (nI nr), (nI nw), cyc, yfn, yr, yw, yv, y0, y1, yk, ys) p := by
  rcases pk_ix p (n := nr) (by omega) with h1 | h1 | ⟨j, hj, e⟩
  · exact br_t h1 k
  · exact br_c (fun _ => k) (fun _ => br_t h1 k)
  · exact absurd e (h j hj)
theorem gy_gr_y {post : Int32 → Prop} (hn : nr ≤ 8) (hj : j < nr) (k : post 1) : wpY_goodRoot post ((nI N), (nI nr), (nI nw), cyc, yfn, yr, yw, yv, y0, y1, yk, ys) (nI j) :=
  br_f (nI_pos (by omega)) (br_f (nI_ge hj (by omega)) k)
theorem gy_gw_n {post : Int32 → Prop} (hn : nw ≤ 4) (h : ∀ j, j < nw → p ≠ nI j) (k : post 0) : wpY_goodWatch post ((nI N), (nI nr), (nI nw), cyc, yfn, yr, yw, yv, y0, y1, yk, ys) p := by
  rcases pk_ix p (n := nw) (by omega) with h1 | h1 | ⟨j, hj, e⟩
  · exact br_t h1 k
  · exact br_c (fun _ => k) (fun _ => br_t h1 k)
  · exact absurd e (h j hj)
theorem gy_gw_y {post : Int32 → Prop} (hn : nw ≤ 4) (hj : j < nw) (k : post 1) : wpY_goodWatch post ((nI N), (nI nr), (nI nw), cyc, yfn, yr, yw, yv, y0, y1, yk, ys) (nI j) :=
  br_f (nI_pos (by omega)) (br_f (nI_ge hj (by omega)) k)
theorem gy_sr_m {post : Int32 → Prop} (k : post 0) : wpY_sourceRef post ((nI N), (nI nr), (nI nw), cyc, yfn, yr, yw, yv, y0, y1, yk, ys) (-1) := br_t rfl k
theorem gy_sr_y {post : Int32 → Prop} (hn : nr ≤ 8) (hj : j < nr) (k : post (yr j)) : wpY_sourceRef post ((nI N), (nI nr), (nI nw), cyc, yfn, yr, yw, yv, y0, y1, yk, ys) (nI j) :=
  br_f (gf_m1 (by omega)) (gy_gr_y hn hj (br_f (by decide) ⟨vp_in_nI (by omega) (by decide), by rw [nI_clamp (by omega)]; exact k⟩))
theorem gy_sr_n {post : Int32 → Prop} (hn : nr ≤ 8) (h : ∀ j, j < nr → p ≠ nI j) (hm : p ≠ -1) (k : post (-1)) : wpY_sourceRef post ((nI N), (nI nr), (nI nw), cyc, yfn, yr, yw, yv, y0, y1, yk, ys) p :=
  br_f hm (gy_gr_n hn h (br_t rfl k))
theorem gy_lr20n {post : Int32 → Prop} (h2 : p < 100 ∨ nI (100 + nw) ≤ p) (k : post (-1)) : wY_lookRef_20 post p (nI N) (nI nr) (nI nw) cyc yfn yr yw yv y0 y1 yk ys := by
  rcases h2 with h2 | h2
  · exact br_t h2 k
  · refine br_c (fun _ => k) (fun _ => br_t ?_ k)
    rw [show (100 : Int32) + nI nw = nI (100 + nw) from nI_add 100 nw]
    exact h2
theorem gy_lr_r {post : Int32 → Prop} (hn : nr ≤ 8) (hj : j < nr) (k : post (yr j)) : wpY_lookRef post ((nI N), (nI nr), (nI nw), cyc, yfn, yr, yw, yv, y0, y1, yk, ys) (nI j) :=
  br_f (nI_pos (by omega)) (br_f (nI_ge hj (by omega)) ⟨vp_in_nI (by omega) (by decide), by rw [nI_clamp (by omega)]; exact k⟩)
theorem gy_lr_w {post : Int32 → Prop} (hn : nr ≤ 8) (hw : nw ≤ 4) (hj : j < nw) (k : post (yw j)) : wpY_lookRef post ((nI N), (nI nr), (nI nw), cyc, yfn, yr, yw, yv, y0, y1, yk, ys) (nI (100 + j)) := by
  have e : nI (100 + j) - 100 = nI j := by
    have := pk_sub (a := 100 + j) (b := 100) (by omega)
    rw [Nat.add_sub_cancel_left] at this
    exact this
  refine br_f (nI_pos (by omega)) (br_t (nI_le (by omega) (by omega)) (br_f (nI_nlt (b := 100) (by omega) (by omega)) (br_f ?_ ?_)))
  · rw [show (100 : Int32) + nI nw = nI (100 + nw) from nI_add 100 nw]
    exact nI_ge (by omega) (by omega)
  · rw [e, nI_clamp (by omega)]
    exact ⟨vp_in_nI (by omega) (by decide), k⟩
theorem gy_lr_n {post : Int32 → Prop} (hn : nr ≤ 8) (h : ∀ j, j < nr → p ≠ nI j) (h2 : p < 100 ∨ nI (100 + nw) ≤ p) (k : post (-1)) : wpY_lookRef post ((nI N), (nI nr), (nI nw), cyc, yfn, yr, yw, yv, y0, y1, yk, ys) p := by
  rcases pk_ix p (n := nr) (by omega) with h1 | h1 | ⟨j, hj, e⟩
  · exact br_t h1 (gy_lr20n h2 k)
  · exact br_c (fun _ => gy_lr20n h2 k) (fun _ => br_t h1 (gy_lr20n h2 k))
  · exact absurd e (h j hj)
theorem gy_clear2 {post : SY → Prop} (k : ∀ ys : Nat → Int32, (∀ o, o ≤ 32 → ys o = 0) → post ((nI N), (nI nr), (nI nw), cyc, yfn, yr, yw, yv, y0, y1, yk, ys)) : ∀ (n i : Nat) (ys : Nat → Int32), i ≤ 33 → 33 - i < n → (∀ o, o < i → ys o = 0) → wY_clearSeen_2 post (nI N) (nI nr) (nI nw) cyc yfn n (nI i) yr yw yv y0 y1 yk ys := by
  intro n
  induction n with
  | zero => intro i ys _ h; omega
  | succ n ih =>
    intro i ys hi hf hz
    rcases Nat.lt_or_ge i 33 with h | h
    · refine br_f (nI_nlt (a := 32) (by omega) (by decide)) ⟨vp_in_nI h (by decide), nm_r (e' := upd ys i 0) (by rw [nI_clamp (by omega), gf_nar0]) (nm_r (e' := nI (i + 1)) (nI_1 i) (ih (i + 1) _ (by omega) (by omega) (fun o ho => ?_)))⟩
      by_cases y : o = i
      · rw [y, pk_us]
      · rw [pk_un y]
        exact hz o (by omega)
    · exact br_t (nI_lt (a := 32) (by omega) (by omega)) (k ys (fun o ho => hz o (by omega)))
theorem gy_clear {post : SY → Prop} (k : ∀ ys : Nat → Int32, (∀ o, o ≤ 32 → ys o = 0) → post ((nI N), (nI nr), (nI nw), cyc, yfn, yr, yw, yv, y0, y1, yk, ys)) : wpY_clearSeen post ((nI N), (nI nr), (nI nw), cyc, yfn, yr, yw, yv, y0, y1, yk, ys) :=
  ⟨34, gy_clear2 k 34 0 ys (by omega) (by omega) (fun o ho => absurd ho (Nat.not_lt_zero _))⟩
theorem gy_see_st {ys : Nat → Int32} {q : Nat} (b : gf_B2 ys) : gf_B2 (upd ys q 1) := by
  intro o ho
  by_cases y : o = q
  · rw [y, pk_us]; exact Or.inr rfl
  · rw [pk_un y]; exact b o ho
theorem gy_see2 {post : SY → Prop} {ys0 : Nat → Int32} (hr : ∀ i, i < 8 → ∃ q, q ≤ 32 ∧ yr i = nI q)
    (k : ∀ ys : Nat → Int32, gf_B2 ys → (∀ o, o ≤ 32 → (ys o ≠ 0 ↔ ys0 o ≠ 0 ∨ ∃ i, i < 8 ∧ yr i = nI o)) → post ((nI N), (nI nr), (nI nw), cyc, yfn, yr, yw, yv, y0, y1, yk, ys)) :
    ∀ (n i : Nat) (ys : Nat → Int32), i ≤ 8 → 8 - i < n → gf_B2 ys → (∀ o, o ≤ 32 → (ys o ≠ 0 ↔ ys0 o ≠ 0 ∨ ∃ l, l < i ∧ yr l = nI o)) → wY_seeRoots_2 post (nI N) (nI nr) (nI nw) cyc yfn n (nI i) yr yw yv y0 y1 yk ys := by
  intro n
  induction n with
  | zero => intro i ys _ h; omega
  | succ n ih =>
    intro i ys hi hf b hz
    have e1 : (nI i).toNatClampNeg = i := nI_clamp (by omega)
    rcases Nat.lt_or_ge i 8 with h | h
    · obtain ⟨q, q1, q2⟩ := hr i h
      refine br_f (nI_ge (b := 8) h (by decide)) ⟨vp_in_nI h (by decide), by rw [e1, q2]; exact vp_in_nI (by omega) (by decide), nm_r (e' := upd ys q 1) (by rw [e1, q2, nI_clamp (by omega), gf_nar1]) (nm_r (e' := nI (i + 1)) (nI_1 i) (ih (i + 1) _ (by omega) (by omega) (gy_see_st b) (fun o ho => ?_)))⟩
      by_cases y : o = q
      · rw [y, pk_us]
        exact ⟨fun _ => Or.inr ⟨i, by omega, q2⟩, fun _ => by decide⟩
      · rw [pk_un y, hz o ho]
        refine ⟨fun z => z.elim Or.inl (fun ⟨l, l1, l2⟩ => Or.inr ⟨l, by omega, l2⟩), fun z => z.elim Or.inl (fun ⟨l, l1, l2⟩ => Or.inr ⟨l, ?_, l2⟩)⟩
        have : l ≠ i := fun e => y (by
          rw [e, q2] at l2
          exact ((nI_eq (by omega) (by omega)).mp l2).symm)
        omega
    · have e : i = 8 := by omega
      subst e
      exact br_t (nI_le (a := 8) (Nat.le_refl _) (by decide)) (k ys b hz)
theorem gy_see {post : SY → Prop} (hr : ∀ i, i < 8 → ∃ q, q ≤ 32 ∧ yr i = nI q) (b : gf_B2 ys)
    (k : ∀ ys' : Nat → Int32, gf_B2 ys' → (∀ o, o ≤ 32 → (ys' o ≠ 0 ↔ ys o ≠ 0 ∨ ∃ i, i < 8 ∧ yr i = nI o)) → post ((nI N), (nI nr), (nI nw), cyc, yfn, yr, yw, yv, y0, y1, yk, ys')) : wpY_seeRoots post ((nI N), (nI nr), (nI nw), cyc, yfn, yr, yw, yv, y0, y1, yk, ys) :=
  ⟨9, gy_see2 hr k 9 0 ys (by omega) (by omega) b (fun o ho => ⟨Or.inl, fun z => z.elim id (fun ⟨l, l1, _⟩ => absurd l1 (Nat.not_lt_zero _))⟩)⟩
theorem gy_sp10 {post : SY → Prop} {J2 : Int32 → (Nat → Int32) → (Nat → Int32) → (Nat → Int32) → (Nat → Int32) → (Nat → Int32) → (Nat → Int32) → (Nat → Int32) → Prop} {x1 : Nat} {ysA : Nat → Int32} {SY0 : Nat → Prop} (yv' : gf_YV y0 y1)
    (k : ∀ ys : Nat → Int32, gf_B2 ys → (∀ o, o ≤ 32 → ysA o ≠ 0 → ys o ≠ 0) → (∀ o, 1 ≤ o → o ≤ 32 → ys o ≠ 0 → gf_Rc (gf_ey y0 y1) SY0 o) → (∀ o q, 1 ≤ o → o ≤ 32 → ysA o ≠ 0 → gf_ey y0 y1 o q → ys q ≠ 0) → J2 (nI (x1 + 1)) yr yw yv y0 y1 yk ys) :
    ∀ (n i : Nat) (ys : Nat → Int32), 1 ≤ i → i ≤ 33 → 33 - i < n → gf_B2 ys → (∀ o, o ≤ 32 → ysA o ≠ 0 → ys o ≠ 0) → (∀ o, 1 ≤ o → o ≤ 32 → ys o ≠ 0 → gf_Rc (gf_ey y0 y1) SY0 o) → (∀ o q, 1 ≤ o → o < i → ysA o ≠ 0 → gf_ey y0 y1 o q → ys q ≠ 0) → wY_spread_10 post J2 (nI x1) (nI N) (nI nr) (nI nw) cyc yfn n (nI i) yr yw yv y0 y1 yk ys := by
  intro n
  induction n with
  | zero => intro i ys _ _ h; omega
  | succ n ih =>
    intro i ys h1 hi hf b ha hr hc
    have e1 : (nI i).toNatClampNeg = i := nI_clamp (by omega)
    rcases Nat.lt_or_ge i 33 with h | h
    · have hx : vp_in (nI i) 33 := vp_in_nI h (by decide)
      by_cases z : ys i = 0
      · refine br_f (nI_nlt (a := 32) (by omega) (by decide)) ⟨hx, br_t (by rw [e1]; exact z) (nm_r (e' := nI (i + 1)) (nI_1 i) (ih (i + 1) ys (by omega) (by omega) (by omega) b ha hr (fun o q o1 o2 oa ey => ?_)))⟩
        by_cases y : o = i
        · rw [y] at oa
          exact absurd z (ha i (by omega) oa)
        · exact hc o q o1 (by omega) oa ey
      · obtain ⟨⟨p0, p1, p2⟩, q0, q1, q2⟩ := yv' i (by omega)
        have b2 : gf_B2 (upd (upd ys p0 1) q0 1) := gy_see_st (gy_see_st b)
        have m2 : ∀ o, ys o ≠ 0 → upd (upd ys p0 1) q0 1 o ≠ 0 := fun o ho => gf_upd1 (gf_upd1 ho)
        refine br_f (nI_nlt (a := 32) (by omega) (by decide)) ⟨hx, br_f (by rw [e1]; exact z) ⟨hx, by rw [e1, p2]; exact vp_in_nI (by omega) (by decide), nm_r (e' := upd ys p0 1) (by rw [e1, p2, nI_clamp (by omega), gf_nar1]) ⟨hx, by rw [e1, q2]; exact vp_in_nI (by omega) (by decide), nm_r (e' := upd (upd ys p0 1) q0 1) (by rw [e1, q2, nI_clamp (by omega), gf_nar1]) (nm_r (e' := nI (i + 1)) (nI_1 i) (ih (i + 1) _ (by omega) (by omega) (by omega) b2 (fun o ho oa => m2 o (ha o ho oa)) (fun o o1 o2 os => ?_) (fun o q o1 o2 oa ey => ?_)))⟩⟩⟩
        · have gi := hr i h1 (by omega) z
          by_cases y : o = q0
          · subst y
            exact gf_Rc_st gi ⟨o1, o2, Or.inr q2⟩
          · rw [pk_un y] at os
            by_cases y2 : o = p0
            · subst y2
              exact gf_Rc_st gi ⟨o1, o2, Or.inl p2⟩
            · rw [pk_un y2] at os
              exact hr o o1 o2 os
        · by_cases y : o = i
          · subst y
            rcases ey.2.2 with e | e
            · rw [p2] at e
              have := (nI_eq (by omega) (by have := ey.2.1; omega)).mp e
              subst this
              exact gf_upd1 (by rw [pk_us]; decide)
            · rw [q2] at e
              have := (nI_eq (by omega) (by have := ey.2.1; omega)).mp e
              subst this
              rw [pk_us]; decide
          · exact m2 q (hc o q o1 (by omega) oa ey)
    · exact br_t (nI_lt (a := 32) (by omega) (by omega)) (nm_r (e' := nI (x1 + 1)) (nI_1 x1) (k ys b ha hr (fun o q o1 o2 => hc o q o1 (by omega))))
theorem gy_cn33 : cn (fun o => 1 ≤ o) 33 = 32 := by
  have h1 := gf_cnrem (P := fun _ => True) (a := 0) (N := 33) trivial (by omega)
  rw [gf_cnT] at h1
  have h2 : cn (fun o => 1 ≤ o) 33 = cn (fun k => True ∧ k ≠ 0) 33 := cn_eq fun k _ => ⟨fun h => ⟨trivial, by omega⟩, fun h => by omega⟩
  omega
theorem gy_all {ys : Nat → Int32} (h : 32 ≤ cn (fun o => 1 ≤ o ∧ ys o ≠ 0) 33) : ∀ o, 1 ≤ o → o ≤ 32 → ys o ≠ 0 := by
  intro o o1 o2 e
  have := cn_lt (P := fun o => 1 ≤ o ∧ ys o ≠ 0) (Q := fun o => 1 ≤ o) (a := o) (fun q => q.2 e) o1 (N := 33) (fun _ _ q => q.1) (by omega)
  rw [gy_cn33] at this
  omega
theorem gy_sp2 {post : SY → Prop} {SY0 : Nat → Prop} (yv' : gf_YV y0 y1)
    (k : ∀ ys : Nat → Int32, gf_B2 ys → (∀ o, 1 ≤ o → o ≤ 32 → (ys o ≠ 0 ↔ gf_Rc (gf_ey y0 y1) SY0 o)) → post ((nI N), (nI nr), (nI nw), cyc, yfn, yr, yw, yv, y0, y1, yk, ys)) (hS : ∀ o, SY0 o → 1 ≤ o ∧ o ≤ 32) :
    ∀ (n i : Nat) (ys : Nat → Int32), i ≤ 32 → 32 - i < n → gf_B2 ys → (∀ o, SY0 o → ys o ≠ 0) → (∀ o, 1 ≤ o → o ≤ 32 → ys o ≠ 0 → gf_Rc (gf_ey y0 y1) SY0 o) → ((∀ o q, 1 ≤ o → o ≤ 32 → ys o ≠ 0 → gf_ey y0 y1 o q → ys q ≠ 0) ∨ i ≤ cn (fun o => 1 ≤ o ∧ ys o ≠ 0) 33) → wY_spread_2 post (nI N) (nI nr) (nI nw) cyc yfn n (nI i) yr yw yv y0 y1 yk ys := by
  intro n
  induction n with
  | zero => intro i ys _ h; omega
  | succ n ih =>
    intro i ys hi hf b hs hr hc
    rcases Nat.lt_or_ge i 32 with h | h
    · refine br_f (nI_ge (b := 32) h (by decide)) ⟨33, gy_sp10 (ysA := ys) (SY0 := SY0) yv' (fun ys' b' ha hr' hc' => ih (i + 1) ys' (by omega) (by omega) b' (fun o ho => ha o (hS o ho).2 (hs o ho)) hr' ?_) 33 1 ys (by omega) (by omega) (by omega) b (fun o _ h => h) hr (fun o q o1 o2 => by omega)⟩
      rcases Classical.em (∃ a, 1 ≤ a ∧ a ≤ 32 ∧ ys' a ≠ 0 ∧ ys a = 0) with ⟨a, a1, a2, a3, a4⟩ | ne
      · rcases hc with hc | hc
        · exfalso
          refine absurd a4 ((hr' a a1 a2 a3) (fun o => ys o ≠ 0 ∧ 1 ≤ o ∧ o ≤ 32) (fun o ho => ⟨hs o ho, hS o ho⟩) (fun o q ho ey => ⟨hc o q ho.2.1 ho.2.2 ho.1 ey, ey.1, ey.2.1⟩)).1
        · right
          have := cn_lt (P := fun o => 1 ≤ o ∧ ys o ≠ 0) (Q := fun o => 1 ≤ o ∧ ys' o ≠ 0) (a := a) (fun q => q.2 a4) ⟨a1, a3⟩ (N := 33) (fun o ho q => ⟨q.1, ha o (by omega) q.2⟩) (by omega)
          omega
      · left
        intro o q o1 o2 os ey
        refine hc' o q o1 o2 ?_ ey
        intro z
        exact ne ⟨o, o1, o2, os, z⟩
    · have e : i = 32 := by omega
      subst e
      have cl : ∀ o q, 1 ≤ o → o ≤ 32 → ys o ≠ 0 → gf_ey y0 y1 o q → ys q ≠ 0 := by
        rcases hc with hc | hc
        · exact hc
        · exact fun o q _ _ _ ey => gy_all hc q ey.1 ey.2.1
      refine br_t (nI_le (a := 32) (Nat.le_refl _) (by decide)) (k ys b (fun o o1 o2 => ⟨hr o o1 o2, fun g => ?_⟩))
      exact (g (fun o => ys o ≠ 0 ∧ 1 ≤ o ∧ o ≤ 32) (fun o ho => ⟨hs o ho, hS o ho⟩) (fun o q ho ey => ⟨cl o q ho.2.1 ho.2.2 ho.1 ey, ey.1, ey.2.1⟩)).1
theorem gy_spread {post : SY → Prop} {SY0 : Nat → Prop} (yv' : gf_YV y0 y1) (b : gf_B2 ys) (hS : ∀ o, SY0 o ↔ (1 ≤ o ∧ o ≤ 32) ∧ ys o ≠ 0)
    (k : ∀ ys : Nat → Int32, gf_B2 ys → (∀ o, 1 ≤ o → o ≤ 32 → (ys o ≠ 0 ↔ gf_Rc (gf_ey y0 y1) SY0 o)) → post ((nI N), (nI nr), (nI nw), cyc, yfn, yr, yw, yv, y0, y1, yk, ys)) : wpY_spread post ((nI N), (nI nr), (nI nw), cyc, yfn, yr, yw, yv, y0, y1, yk, ys) :=
  ⟨33, gy_sp2 yv' k (fun o ho => ((hS o).mp ho).1) 33 0 ys (by omega) (by omega) b (fun o ho => ((hS o).mp ho).2) (fun o o1 o2 os => gf_Rc_in ((hS o).mpr ⟨⟨o1, o2⟩, os⟩)) (Or.inr (Nat.zero_le _))⟩
theorem gy_cnt4 {post : Int32 → Prop} (k : post (nI (cn (fun o => 1 ≤ o ∧ ys o ≠ 0) 33))) : ∀ (n i : Nat), 1 ≤ i → i ≤ 33 → 33 - i < n → wY_countSeen_4 post (nI N) (nI nr) (nI nw) cyc yfn yr yw yv y0 y1 yk ys n (nI (cn (fun o => 1 ≤ o ∧ ys o ≠ 0) i)) (nI i) := by
  intro n
  induction n with
  | zero => intro i _ _ h; omega
  | succ n ih =>
    intro i h1 hi hf
    have e1 : (nI i).toNatClampNeg = i := nI_clamp (by omega)
    rcases Nat.lt_or_ge i 33 with h | h
    · have hx : vp_in (nI i) 33 := vp_in_nI h (by decide)
      have H := ih (i + 1) (by omega) (by omega) (by omega)
      by_cases z : ys i = 0
      · have es : cn (fun o => 1 ≤ o ∧ ys o ≠ 0) (i + 1) = cn (fun o => 1 ≤ o ∧ ys o ≠ 0) i := by
          show cn (fun o => 1 ≤ o ∧ ys o ≠ 0) i + b01 (1 ≤ i ∧ ys i ≠ 0) = _
          rw [b01_f (fun q => q.2 z), Nat.add_zero]
        rw [es] at H
        exact br_f (nI_nlt (a := 32) (by omega) (by decide)) ⟨hx, br_t (by rw [e1]; exact z) (nm_r (e' := nI (i + 1)) (nI_1 i) H)⟩
      · have es : cn (fun o => 1 ≤ o ∧ ys o ≠ 0) (i + 1) = cn (fun o => 1 ≤ o ∧ ys o ≠ 0) i + 1 := by
          show cn (fun o => 1 ≤ o ∧ ys o ≠ 0) i + b01 (1 ≤ i ∧ ys i ≠ 0) = _
          rw [b01_t ⟨h1, z⟩]
        exact br_f (nI_nlt (a := 32) (by omega) (by decide)) ⟨hx, br_f (by rw [e1]; exact z) (nm_r (e' := nI (cn (fun o => 1 ≤ o ∧ ys o ≠ 0) (i + 1))) (by rw [nI_1, es]) (nm_r (e' := nI (i + 1)) (nI_1 i) H))⟩
    · have e : i = 33 := by omega
      subst e
      exact br_t (nI_lt (a := 32) (by omega) (by omega)) k
theorem gy_count {post : Int32 → Prop} (k : post (nI (cn (fun o => 1 ≤ o ∧ ys o ≠ 0) 33))) : wpY_countSeen post ((nI N), (nI nr), (nI nw), cyc, yfn, yr, yw, yv, y0, y1, yk, ys) := by
  have h := gy_cnt4 (N := N) (nr := nr) (nw := nw) (cyc := cyc) (yfn := yfn) (yr := yr) (yw := yw) (yv := yv) (y0 := y0) (y1 := y1) (yk := yk) k 33 1 (by omega) (by omega) (by omega)
  have e : cn (fun o => 1 ≤ o ∧ ys o ≠ 0) 1 = 0 := by
    show 0 + b01 (1 ≤ 0 ∧ ys 0 ≠ 0) = 0
    rw [b01_f (fun q => by omega)]
  rw [e] at h
  exact ⟨33, h⟩
/-- the count of a search's result -/
theorem gy_cnR {SY0 : Nat → Prop} (hS : ∀ o, SY0 o → 1 ≤ o ∧ o ≤ 32) (h : ∀ o, 1 ≤ o → o ≤ 32 → (ys o ≠ 0 ↔ gf_Rc (gf_ey y0 y1) SY0 o)) : cn (fun o => 1 ≤ o ∧ ys o ≠ 0) 33 = cn (gf_Rc (gf_ey y0 y1) SY0) 33 := by
  refine cn_eq fun o ho => ⟨fun q => (h o q.1 (by omega)).mp q.2, fun q => ?_⟩
  have o1 : 1 ≤ o ∧ o ≤ 32 := q (fun o => 1 ≤ o ∧ o ≤ 32) hS (fun _ _ _ ey => ⟨ey.1, ey.2.1⟩)
  exact ⟨o1.1, (h o o1.1 o1.2).mpr q⟩
end
end
section
/-! Y: the public walks -/
section
variable {R C N nr nw gc : Nat} {cyc yfn : Int32} {yr yw yv y0 y1 yk ys : Nat → Int32}
variable {j : Nat} {p v : Int32}
theorem gy_al69 {post : Int32 → SY → Prop} (hj : j < 8) (hc : cyc = 0 ∨ cyc = 1) (hex : ∃ o, 1 ≤ o ∧ o ≤ 32 ∧ ys o = 0)
    (k : ∀ o, 1 ≤ o → o ≤ 32 → ys o = 0 → post 1 ((nI N), (nI nr), (nI nw), cyc, yfn, (upd yr j (nI o)), yw, (upd yv o (v &&& 32767)), (upd y0 o 0), (upd y1 o 0), (upd yk o cyc), ys)) :
    ∀ (n i o : Nat), 1 ≤ i → i ≤ 33 → 33 - i < n → ((o = 0 ∧ ∀ q, 1 ≤ q → q < i → ys q ≠ 0) ∨ (1 ≤ o ∧ o ≤ 32 ∧ ys o = 0)) → wY_alloc_69 post (nI j) v (nI N) (nI nr) (nI nw) cyc yfn yr yw yv y0 y1 yk ys n (nI o) (nI i) := by
  intro n
  induction n with
  | zero => intro i o _ _ h; omega
  | succ n ih =>
    intro i o h1 hi hf I
    have e1 : (nI i).toNatClampNeg = i := nI_clamp (by omega)
    rcases Nat.lt_or_ge i 33 with h | h
    · have hx : vp_in (nI i) 33 := vp_in_nI h (by decide)
      by_cases z : ys i = 0
      · exact br_f (nI_nlt (a := 32) (by omega) (by decide)) ⟨hx, br_t (by rw [e1]; exact z) (nm_r (e' := nI (i + 1)) (nI_1 i) (ih (i + 1) i (by omega) (by omega) (by omega) (Or.inr ⟨h1, by omega, z⟩)))⟩
      · refine br_f (nI_nlt (a := 32) (by omega) (by decide)) ⟨hx, br_f (by rw [e1]; exact z) (nm_r (e' := nI (i + 1)) (nI_1 i) (ih (i + 1) o (by omega) (by omega) (by omega) ?_))⟩
        rcases I with ⟨a, b⟩ | I
        · refine Or.inl ⟨a, fun q q1 q2 => ?_⟩
          by_cases y : q = i
          · rw [y]; exact z
          · exact b q q1 (by omega)
        · exact Or.inr I
    · have I2 : 1 ≤ o ∧ o ≤ 32 ∧ ys o = 0 := by
        rcases I with ⟨a, b⟩ | I
        · obtain ⟨q, q1, q2, q3⟩ := hex
          exact absurd q3 (b q q1 (by omega))
        · exact I
      obtain ⟨o1, o2, o3⟩ := I2
      have hx : vp_in (nI o) 33 := vp_in_nI (by omega) (by decide)
      have e2 : (nI o).toNatClampNeg = o := nI_clamp (by omega)
      refine br_t (nI_lt (a := 32) (by omega) (by omega)) ?_
      rw [e2, nI_clamp (n := j) (by omega), gf_nar01 hc]
      exact ⟨hx, nm_e ⟨hx, nm_e ⟨hx, nm_e ⟨hx, nm_e ⟨vp_in_nI hj (by decide), nm_e (k o o1 o2 o3)⟩⟩⟩⟩⟩
def gf_SA (yr yw : Nat → Int32) (o : Nat) : Prop := (1 ≤ o ∧ o ≤ 32) ∧ ((∃ i, i < 8 ∧ yr i = nI o) ∨ (∃ i, i < 4 ∧ yw i = nI o))
theorem gy_al20 {post : Int32 → SY → Prop} (hN : N ≤ 32) (hj : j < 8) (hc : cyc = 0 ∨ cyc = 1) (yv' : gf_YV y0 y1) (hw : ∀ i, i < 4 → ∃ q, q ≤ 32 ∧ yw i = nI q)
    (k1 : cn (gf_Rc (gf_ey y0 y1) (gf_SA yr yw)) 33 < N → ∀ (ys : Nat → Int32) (o : Nat), 1 ≤ o → o ≤ 32 → ¬ gf_Rc (gf_ey y0 y1) (gf_SA yr yw) o → post 1 ((nI N), (nI nr), (nI nw), cyc, yfn, (upd yr j (nI o)), yw, (upd yv o (v &&& 32767)), (upd y0 o 0), (upd y1 o 0), (upd yk o cyc), ys))
    (k2 : N ≤ cn (gf_Rc (gf_ey y0 y1) (gf_SA yr yw)) 33 → ∀ ys : Nat → Int32, post (-2) ((nI N), (nI nr), (nI nw), cyc, yfn, yr, yw, yv, y0, y1, yk, ys)) :
    ∀ (n i : Nat) (ys : Nat → Int32), i ≤ 4 → 4 - i < n → gf_B2 ys → (∀ o, o ≤ 32 → (ys o ≠ 0 ↔ (∃ l, l < 8 ∧ yr l = nI o) ∨ ∃ l, l < i ∧ yw l = nI o)) → wY_alloc_20 post (nI j) v (nI N) (nI nr) (nI nw) cyc yfn n (nI i) yr yw yv y0 y1 yk ys := by
  intro n
  induction n with
  | zero => intro i ys _ h; omega
  | succ n ih =>
    intro i ys hi hf b hz
    have e1 : (nI i).toNatClampNeg = i := nI_clamp (by omega)
    rcases Nat.lt_or_ge i 4 with h | h
    · obtain ⟨q, q1, q2⟩ := hw i h
      refine br_f (nI_ge (b := 4) h (by decide)) ⟨vp_in_nI h (by decide), by rw [e1, q2]; exact vp_in_nI (by omega) (by decide), nm_r (e' := upd ys q 1) (by rw [e1, q2, nI_clamp (by omega), gf_nar1]) (nm_r (e' := nI (i + 1)) (nI_1 i) (ih (i + 1) _ (by omega) (by omega) (gy_see_st b) (fun o ho => ?_)))⟩
      by_cases y : o = q
      · rw [y, pk_us]
        exact ⟨fun _ => Or.inr ⟨i, by omega, q2⟩, fun _ => by decide⟩
      · rw [pk_un y, hz o ho]
        refine ⟨fun z => z.elim Or.inl (fun ⟨l, l1, l2⟩ => Or.inr ⟨l, by omega, l2⟩), fun z => z.elim Or.inl (fun ⟨l, l1, l2⟩ => Or.inr ⟨l, ?_, l2⟩)⟩
        have : l ≠ i := fun e => y (by
          rw [e, q2] at l2
          exact ((nI_eq (by omega) (by omega)).mp l2).symm)
        omega
    · have e : i = 4 := by omega
      subst e
      have hS : ∀ o, (gf_SA yr yw o) ↔ (1 ≤ o ∧ o ≤ 32) ∧ ys o ≠ 0 := fun o => ⟨fun q => ⟨q.1, (hz o q.1.2).mpr q.2⟩, fun q => ⟨q.1, (hz o q.1.2).mp q.2⟩⟩
      refine br_t (nI_le (a := 4) (Nat.le_refl _) (by decide)) (gy_spread yv' b hS (fun ys2 b2 hR => gy_count ?_))
      have ec := gy_cnR (ys := ys2) (fun o ho => ((hS o).mp ho).1) hR
      rw [ec]
      refine pk_lt (cn (gf_Rc (gf_ey y0 y1) (gf_SA yr yw)) 33) N (fun lt => ?_) (fun ge => k2 ge ys2) rfl rfl (by have := cn_le (gf_Rc (gf_ey y0 y1) (gf_SA yr yw)) 33; omega) (by omega)
      have hex : ∃ o, 1 ≤ o ∧ o ≤ 32 ∧ ys2 o = 0 := by
        rcases Classical.em (∃ o, 1 ≤ o ∧ o ≤ 32 ∧ ys2 o = 0) with q | q
        · exact q
        · exfalso
          have h33 : cn (fun o => 1 ≤ o ∧ ys2 o ≠ 0) 33 = cn (fun o => 1 ≤ o) 33 := cn_eq fun o ho => ⟨fun z => z.1, fun z => ⟨z, fun e => q ⟨o, z, by omega, e⟩⟩⟩
          rw [gy_cn33, ec] at h33
          omega
      exact ⟨33, gy_al69 hj hc hex (fun o o1 o2 o3 => k1 lt ys2 o o1 o2 (fun g => (hR o o1 o2).mpr g o3)) 33 1 0 (by omega) (by omega) (by omega) (Or.inl ⟨rfl, fun q q1 q2 => by omega⟩)⟩
theorem gy_alloc {post : Int32 → SY → Prop} (hN : N ≤ 32) (hn : nr ≤ 8) (hj : j < nr) (hc : cyc = 0 ∨ cyc = 1) (yv' : gf_YV y0 y1) (hr : ∀ i, i < 8 → ∃ q, q ≤ 32 ∧ yr i = nI q) (hw : ∀ i, i < 4 → ∃ q, q ≤ 32 ∧ yw i = nI q)
    (k1 : cn (gf_Rc (gf_ey y0 y1) (gf_SA yr yw)) 33 < N → ∀ (ys : Nat → Int32) (o : Nat), 1 ≤ o → o ≤ 32 → ¬ gf_Rc (gf_ey y0 y1) (gf_SA yr yw) o → post 1 ((nI N), (nI nr), (nI nw), cyc, yfn, (upd yr j (nI o)), yw, (upd yv o (v &&& 32767)), (upd y0 o 0), (upd y1 o 0), (upd yk o cyc), ys))
    (k2 : N ≤ cn (gf_Rc (gf_ey y0 y1) (gf_SA yr yw)) 33 → ∀ ys : Nat → Int32, post (-2) ((nI N), (nI nr), (nI nw), cyc, yfn, yr, yw, yv, y0, y1, yk, ys)) : wpY_alloc post ((nI N), (nI nr), (nI nw), cyc, yfn, yr, yw, yv, y0, y1, yk, ys) (nI j) v := by
  unfold wpY_alloc
  dsimp only
  refine gy_gr_y hn hj (br_f (by decide) (gy_clear (fun ys1 h1 => gy_see hr (fun o ho => Or.inl (h1 o ho)) (fun ys2 b2 h2 => ?_))))
  refine ⟨5, gy_al20 hN (by omega) hc yv' hw k1 k2 5 0 ys2 (by omega) (by omega) b2 (fun o ho => ?_)⟩
  rw [h2 o ho]
  exact ⟨fun z => z.elim (fun q => absurd (h1 o ho) q) Or.inl, fun z => z.elim Or.inr (fun ⟨l, l1, _⟩ => absurd l1 (Nat.not_lt_zero _))⟩
theorem gy_rv71 {post : Int32 → SY → Prop} {yf0 : Int32} {yk0 : Nat → Int32}
    (k : ∀ yk : Nat → Int32, (∀ o, 1 ≤ o → o ≤ 32 → (yk o ≠ 0 ↔ yk0 o ≠ 0 ∨ ys o ≠ 0)) → post 1 ((nI N), (nI nr), (nI nw), cyc, (yf0 + nI (cn (fun o => (1 ≤ o ∧ ys o ≠ 0) ∧ yk0 o = 0) 33)), yr, yw, yv, y0, y1, yk, ys)) :
    ∀ (n i : Nat) (yk : Nat → Int32), 1 ≤ i → i ≤ 33 → 33 - i < n → (∀ o, i ≤ o → yk o = yk0 o) → (∀ o, 1 ≤ o → o < i → (yk o ≠ 0 ↔ yk0 o ≠ 0 ∨ ys o ≠ 0)) → wY_revive_71 post (nI N) (nI nr) (nI nw) cyc n (nI i) (yf0 + nI (cn (fun o => (1 ≤ o ∧ ys o ≠ 0) ∧ yk0 o = 0) i)) yr yw yv y0 y1 yk ys := by
  intro n
  induction n with
  | zero => intro i yk _ _ h; omega
  | succ n ih =>
    intro i yk h1 hi hf ho hl
    have e1 : (nI i).toNatClampNeg = i := nI_clamp (by omega)
    rcases Nat.lt_or_ge i 33 with h | h
    · have hx : vp_in (nI i) 33 := vp_in_nI h (by decide)
      have st : ∀ (yk' : Nat → Int32), (∀ o, o ≠ i → yk' o = yk o) → (yk' i ≠ 0 ↔ yk0 i ≠ 0 ∨ ys i ≠ 0) → wY_revive_71 post (nI N) (nI nr) (nI nw) cyc n (nI (i + 1)) (yf0 + nI (cn (fun o => (1 ≤ o ∧ ys o ≠ 0) ∧ yk0 o = 0) (i + 1))) yr yw yv y0 y1 yk' ys := by
        intro yk' a b
        refine ih (i + 1) yk' (by omega) (by omega) (by omega) (fun o oo => by rw [a o (by omega)]; exact ho o (by omega)) (fun o o1 o2 => ?_)
        by_cases y : o = i
        · rw [y]; exact b
        · rw [a o y]; exact hl o o1 (by omega)
      have es : ¬ ((1 ≤ i ∧ ys i ≠ 0) ∧ yk0 i = 0) → cn (fun o => (1 ≤ o ∧ ys o ≠ 0) ∧ yk0 o = 0) (i + 1) = cn (fun o => (1 ≤ o ∧ ys o ≠ 0) ∧ yk0 o = 0) i := by
        intro q
        show cn (fun o => (1 ≤ o ∧ ys o ≠ 0) ∧ yk0 o = 0) i + b01 ((1 ≤ i ∧ ys i ≠ 0) ∧ yk0 i = 0) = _
        rw [b01_f q, Nat.add_zero]
      by_cases z : ys i = 0
      · have H := st yk (fun _ _ => rfl) (by rw [ho i (Nat.le_refl _)]; exact ⟨Or.inl, fun q => q.elim id (fun w => absurd z w)⟩)
        rw [es (fun q => q.1.2 z)] at H
        exact br_f (nI_nlt (a := 32) (by omega) (by decide)) ⟨hx, br_t (by rw [e1]; exact z) (nm_r (e' := nI (i + 1)) (nI_1 i) H)⟩
      · by_cases y : yk i = 0
        · have e0 : yk0 i = 0 := by rw [← ho i (Nat.le_refl _)]; exact y
          have H := st (upd yk i 1) (fun o q => pk_un q) (by rw [pk_us]; exact ⟨fun _ => Or.inr z, fun _ => by decide⟩)
          have ec : cn (fun o => (1 ≤ o ∧ ys o ≠ 0) ∧ yk0 o = 0) (i + 1) = cn (fun o => (1 ≤ o ∧ ys o ≠ 0) ∧ yk0 o = 0) i + 1 := by
            show cn (fun o => (1 ≤ o ∧ ys o ≠ 0) ∧ yk0 o = 0) i + b01 ((1 ≤ i ∧ ys i ≠ 0) ∧ yk0 i = 0) = _
            rw [b01_t ⟨⟨h1, z⟩, e0⟩]
          refine br_f (nI_nlt (a := 32) (by omega) (by decide)) ⟨hx, br_f (by rw [e1]; exact z) ⟨hx, br_t (by rw [e1]; exact y) ⟨hx, nm_r (e' := upd yk i 1) (by rw [e1, gf_nar1]) (nm_r (e' := yf0 + nI (cn (fun o => (1 ≤ o ∧ ys o ≠ 0) ∧ yk0 o = 0) (i + 1))) (by rw [ec, ← nI_1, Int32.add_assoc]) (nm_r (e' := nI (i + 1)) (nI_1 i) H))⟩⟩⟩
        · have e0 : yk0 i ≠ 0 := by rw [← ho i (Nat.le_refl _)]; exact y
          have H := st yk (fun _ _ => rfl) ⟨fun _ => Or.inl e0, fun _ => y⟩
          rw [es (fun q => e0 q.2)] at H
          exact br_f (nI_nlt (a := 32) (by omega) (by decide)) ⟨hx, br_f (by rw [e1]; exact z) ⟨hx, br_f (by rw [e1]; exact y) (nm_r (e' := nI (i + 1)) (nI_1 i) H)⟩⟩
    · have e : i = 33 := by omega
      subst e
      exact br_t (nI_lt (a := 32) (by omega) (by omega)) (k yk (fun o o1 o2 => hl o o1 (by omega)))
theorem gy_revive {post : Int32 → SY → Prop} {w q : Nat} (hn : nr ≤ 8) (hnw : nw ≤ 4) (hj : j < nr) (hw : w < nw) (yv' : gf_YV y0 y1) (q1 : 1 ≤ q) (q2 : q ≤ 32) (eq : yw w = nI q)
    (k0 : cyc = 0 → post 1 ((nI N), (nI nr), (nI nw), cyc, yfn, (upd yr j (nI q)), yw, yv, y0, y1, yk, ys))
    (k1 : cyc ≠ 0 → ∀ ys yk' : Nat → Int32, (∀ o, 1 ≤ o → o ≤ 32 → (yk' o ≠ 0 ↔ yk o ≠ 0 ∨ gf_Rc (gf_ey y0 y1) (fun o => o = q) o)) → post 1 ((nI N), (nI nr), (nI nw), cyc, (yfn + nI (cn (fun o => gf_Rc (gf_ey y0 y1) (fun o => o = q) o ∧ yk o = 0) 33)), (upd yr j (nI q)), yw, yv, y0, y1, yk', ys)) : wpY_revive post ((nI N), (nI nr), (nI nw), cyc, yfn, yr, yw, yv, y0, y1, yk, ys) (nI j) (nI w) := by
  unfold wpY_revive
  dsimp only
  refine gy_gr_y hn hj (br_f (by decide) (gy_gw_y hnw hw (br_f (by decide) ⟨vp_in_nI (by omega) (by decide), ?_⟩)))
  rw [nI_clamp (n := w) (by omega), nI_clamp (n := j) (by omega), eq]
  refine br_f (nI_ne0 (by omega) (by omega)) ⟨vp_in_nI (by omega) (by decide), vp_in_nI (by omega) (by decide), nm_e (br_c k0 (fun hc => gy_clear (fun ys1 h1 => ?_)))⟩
  dsimp only
  rw [eq]
  refine ⟨vp_in_nI (by omega) (by decide), vp_in_nI (by omega) (by decide), nm_r (e' := upd ys1 q 1) (by rw [nI_clamp (by omega), gf_nar1]) (gy_spread (SY0 := fun o => o = q) yv' (gy_see_st (fun o ho => Or.inl (h1 o ho))) (fun o => ?_) (fun ys2 b2 hR => ?_))⟩
  · constructor
    · intro e
      rw [e, pk_us]
      exact ⟨⟨q1, q2⟩, by decide⟩
    · intro e
      by_cases y : o = q
      · exact y
      · have := e.2
        rw [pk_un y] at this
        exact absurd (h1 o e.1.2) this
  · have e0 : cn (fun o => (1 ≤ o ∧ ys2 o ≠ 0) ∧ yk o = 0) 1 = 0 := by
      show 0 + b01 ((1 ≤ 0 ∧ ys2 0 ≠ 0) ∧ yk 0 = 0) = 0
      rw [b01_f (fun q => by omega)]
    have ec : cn (fun o => (1 ≤ o ∧ ys2 o ≠ 0) ∧ yk o = 0) 33 = cn (fun o => gf_Rc (gf_ey y0 y1) (fun o => o = q) o ∧ yk o = 0) 33 := by
      refine cn_eq fun o ho => ⟨fun z => ⟨(hR o z.1.1 (by omega)).mp z.1.2, z.2⟩, fun z => ?_⟩
      have o1 : 1 ≤ o ∧ o ≤ 32 := z.1 (fun o => 1 ≤ o ∧ o ≤ 32) (fun o e => by omega) (fun _ _ _ ey => ⟨ey.1, ey.2.1⟩)
      exact ⟨⟨o1.1, (hR o o1.1 o1.2).mpr z.1⟩, z.2⟩
    have H := gy_rv71 (post := post) (N := N) (nr := nr) (nw := nw) (cyc := cyc) (yf0 := yfn) (yr := upd yr j (nI q)) (yw := yw) (yv := yv) (y0 := y0) (y1 := y1) (yk0 := yk) (ys := ys2) (fun yk' hk => by
      rw [ec]
      exact k1 hc ys2 yk' (fun o o1 o2 => by rw [hk o o1 o2, hR o o1 o2])) 33 1 yk (by omega) (by omega) (by omega) (fun _ _ => rfl) (fun o o1 o2 => by omega)
    rw [e0, nI_0, Int32.add_zero] at H
    exact ⟨33, H⟩
theorem gy_bg29 {post : Int32 → SY → Prop} (b : gf_B2 ys)
    (k : ∀ yk : Nat → Int32, (∀ o, 1 ≤ o → o ≤ 32 → (yk o ≠ 0 ↔ ys o ≠ 0)) → post 1 ((nI N), (nI nr), (nI nw), cyc, (nI (cn (fun o => 1 ≤ o ∧ ys o ≠ 0) 33)), yr, yw, yv, y0, y1, yk, ys)) :
    ∀ (n i : Nat) (yk : Nat → Int32), 1 ≤ i → i ≤ 33 → 33 - i < n → (∀ o, 1 ≤ o → o < i → (yk o ≠ 0 ↔ ys o ≠ 0)) → wY_begin_29 post (nI N) (nI nr) (nI nw) cyc yfn n (nI i) yr yw yv y0 y1 yk ys := by
  intro n
  induction n with
  | zero => intro i yk _ _ h; omega
  | succ n ih =>
    intro i yk h1 hi hf hl
    have e1 : (nI i).toNatClampNeg = i := nI_clamp (by omega)
    rcases Nat.lt_or_ge i 33 with h | h
    · have hx : vp_in (nI i) 33 := vp_in_nI h (by decide)
      refine br_f (nI_nlt (a := 32) (by omega) (by decide)) ⟨hx, hx, nm_r (e' := upd yk i (ys i)) (by rw [e1, gf_nar01 (b i (by omega))]) (nm_r (e' := nI (i + 1)) (nI_1 i) (ih (i + 1) _ (by omega) (by omega) (by omega) (fun o o1 o2 => ?_)))⟩
      by_cases y : o = i
      · rw [y, pk_us]
      · rw [pk_un y]
        exact hl o o1 (by omega)
    · exact br_t (nI_lt (a := 32) (by omega) (by omega)) (gy_count (k yk (fun o o1 o2 => hl o o1 (by omega))))
def gf_SB (yr : Nat → Int32) (o : Nat) : Prop := (1 ≤ o ∧ o ≤ 32) ∧ ∃ i, i < 8 ∧ yr i = nI o
theorem gy_rts {post : SY → Prop} (yv' : gf_YV y0 y1) (hr : ∀ i, i < 8 → ∃ q, q ≤ 32 ∧ yr i = nI q)
    (k : ∀ ys : Nat → Int32, gf_B2 ys → (∀ o, 1 ≤ o → o ≤ 32 → (ys o ≠ 0 ↔ gf_Rc (gf_ey y0 y1) (gf_SB yr) o)) → cn (fun o => 1 ≤ o ∧ ys o ≠ 0) 33 = cn (gf_Rc (gf_ey y0 y1) (gf_SB yr)) 33 → post ((nI N), (nI nr), (nI nw), cyc, yfn, yr, yw, yv, y0, y1, yk, ys)) : wpY_clearSeen (fun u => wpY_seeRoots (fun u => wpY_spread post u) u) ((nI N), (nI nr), (nI nw), cyc, yfn, yr, yw, yv, y0, y1, yk, ys) := by
  refine gy_clear (fun ys1 h1 => gy_see hr (fun o ho => Or.inl (h1 o ho)) (fun ys2 b2 h2 => ?_))
  have hS : ∀ o, (gf_SB yr o) ↔ (1 ≤ o ∧ o ≤ 32) ∧ ys2 o ≠ 0 := fun o => ⟨fun q => ⟨q.1, (h2 o q.1.2).mpr (Or.inr q.2)⟩, fun q => ⟨q.1, ((h2 o q.1.2).mp q.2).elim (fun z => absurd (h1 o q.1.2) z) id⟩⟩
  exact gy_spread yv' b2 hS (fun ys3 b3 hR => k ys3 b3 hR (gy_cnR (fun o ho => ((hS o).mp ho).1) hR))
theorem gy_begin {post : Int32 → SY → Prop} (hc : cyc = 0) (yv' : gf_YV y0 y1) (hr : ∀ i, i < 8 → ∃ q, q ≤ 32 ∧ yr i = nI q)
    (k : ∀ ys yk : Nat → Int32, (∀ o, 1 ≤ o → o ≤ 32 → (yk o ≠ 0 ↔ gf_Rc (gf_ey y0 y1) (gf_SB yr) o)) → post 1 ((nI N), (nI nr), (nI nw), 1, (nI (cn (gf_Rc (gf_ey y0 y1) (gf_SB yr)) 33)), yr, yw, yv, y0, y1, yk, ys)) : wpY_begin post ((nI N), (nI nr), (nI nw), cyc, yfn, yr, yw, yv, y0, y1, yk, ys) := by
  refine br_t hc ?_
  refine gy_rts (cyc := 1) (post := fun u => match u with | (f0, f1, f2, f3, f4, a0, a1, a2, a3, a4, a5, a6) => ∃ n29 : Nat, wY_begin_29 post f0 f1 f2 f3 f4 n29 1 a0 a1 a2 a3 a4 a5 a6) yv' hr (fun ys' b hR ec => ?_)
  refine ⟨33, gy_bg29 b (fun yk' hk => ?_) 33 1 yk (by omega) (by omega) (by omega) (fun o o1 o2 => by omega)⟩
  rw [ec]
  exact k ys' yk' (fun o o1 o2 => by rw [hk o o1 o2, hR o o1 o2])
theorem gy_fn {post : Int32 → SY → Prop} {yw0 : Nat → Int32} (hw : ∀ i, i < 4 → ∃ q, q ≤ 32 ∧ yw0 i = nI q)
    (k : ∀ yw : Nat → Int32, (∀ i q, i < 4 → q ≤ 32 → yw0 i = nI q → (yk q = 0 → yw i = 0) ∧ (yk q ≠ 0 → yw i = nI q)) → post yfn ((nI N), (nI nr), (nI nw), 0, yfn, yr, yw, yv, y0, y1, yk, ys)) :
    ∀ (n i : Nat) (yw : Nat → Int32), i ≤ 4 → 4 - i < n → (∀ l, i ≤ l → yw l = yw0 l) → (∀ l q, l < i → q ≤ 32 → yw0 l = nI q → (yk q = 0 → yw l = 0) ∧ (yk q ≠ 0 → yw l = nI q)) → wY_finish_12 post (nI N) (nI nr) (nI nw) cyc yfn n (nI i) yr yw yv y0 y1 yk ys := by
  intro n
  induction n with
  | zero => intro i yw _ h; omega
  | succ n ih =>
    intro i yw hi hf ho hl
    have e1 : (nI i).toNatClampNeg = i := nI_clamp (by omega)
    rcases Nat.lt_or_ge i 4 with h | h
    · obtain ⟨q, q1, q2⟩ := hw i h
      have ei : yw i = nI q := by rw [ho i (Nat.le_refl _)]; exact q2
      have hx : vp_in (nI i) 4 := vp_in_nI h (by decide)
      have e2 : (nI q).toNatClampNeg = q := nI_clamp (by omega)
      have eq : ∀ q', q' ≤ 32 → yw0 i = nI q' → q' = q := fun q' h1 h2 => (nI_eq (by omega) (by omega)).mp (h2.symm.trans q2)
      by_cases z : yk q = 0
      · refine br_f (nI_ge (b := 4) h (by decide)) ⟨hx, by rw [e1, ei]; exact vp_in_nI (by omega) (by decide), br_t (by rw [e1, ei, e2]; exact z) ⟨hx, nm_r (e' := upd yw i 0) (by rw [e1]) (nm_r (e' := nI (i + 1)) (nI_1 i) (ih (i + 1) _ (by omega) (by omega) (fun l hl' => by rw [pk_un (by omega)]; exact ho l (by omega)) (fun l q' l1 l2 l3 => ?_)))⟩⟩
        by_cases y : l = i
        · subst y
          rw [eq q' l2 l3, pk_us]
          exact ⟨fun _ => rfl, fun w => absurd z w⟩
        · rw [pk_un y]
          exact hl l q' (by omega) l2 l3
      · refine br_f (nI_ge (b := 4) h (by decide)) ⟨hx, by rw [e1, ei]; exact vp_in_nI (by omega) (by decide), br_f (by rw [e1, ei, e2]; exact z) (nm_r (e' := nI (i + 1)) (nI_1 i) (ih (i + 1) yw (by omega) (by omega) (fun l hl' => ho l (by omega)) (fun l q' l1 l2 l3 => ?_)))⟩
        by_cases y : l = i
        · subst y
          rw [eq q' l2 l3]
          exact ⟨fun w => absurd w z, fun _ => ei⟩
        · exact hl l q' (by omega) l2 l3
    · have e : i = 4 := by omega
      subst e
      exact br_t (nI_le (a := 4) (Nat.le_refl _) (by decide)) (k yw hl)
theorem gy_co {post : Int32 → SY → Prop} {yw0 : Nat → Int32} (hw : ∀ i, i < 4 → ∃ q, q ≤ 32 ∧ yw0 i = nI q)
    (k : ∀ yw : Nat → Int32, (∀ i q, i < 4 → q ≤ 32 → yw0 i = nI q → (ys q = 0 → yw i = 0) ∧ (ys q ≠ 0 → yw i = nI q)) → post (nI (cn (fun o => 1 ≤ o ∧ ys o ≠ 0) 33)) ((nI N), (nI nr), (nI nw), cyc, yfn, yr, yw, yv, y0, y1, yk, ys)) :
    ∀ (n i : Nat) (yw : Nat → Int32), i ≤ 4 → 4 - i < n → (∀ l, i ≤ l → yw l = yw0 l) → (∀ l q, l < i → q ≤ 32 → yw0 l = nI q → (ys q = 0 → yw l = 0) ∧ (ys q ≠ 0 → yw l = nI q)) → wY_collect_19 post (nI N) (nI nr) (nI nw) cyc yfn n (nI i) yr yw yv y0 y1 yk ys := by
  intro n
  induction n with
  | zero => intro i yw _ h; omega
  | succ n ih =>
    intro i yw hi hf ho hl
    have e1 : (nI i).toNatClampNeg = i := nI_clamp (by omega)
    rcases Nat.lt_or_ge i 4 with h | h
    · obtain ⟨q, q1, q2⟩ := hw i h
      have ei : yw i = nI q := by rw [ho i (Nat.le_refl _)]; exact q2
      have hx : vp_in (nI i) 4 := vp_in_nI h (by decide)
      have e2 : (nI q).toNatClampNeg = q := nI_clamp (by omega)
      have eq : ∀ q', q' ≤ 32 → yw0 i = nI q' → q' = q := fun q' h1 h2 => (nI_eq (by omega) (by omega)).mp (h2.symm.trans q2)
      by_cases z : ys q = 0
      · refine br_f (nI_ge (b := 4) h (by decide)) ⟨hx, by rw [e1, ei]; exact vp_in_nI (by omega) (by decide), br_t (by rw [e1, ei, e2]; exact z) ⟨hx, nm_r (e' := upd yw i 0) (by rw [e1]) (nm_r (e' := nI (i + 1)) (nI_1 i) (ih (i + 1) _ (by omega) (by omega) (fun l hl' => by rw [pk_un (by omega)]; exact ho l (by omega)) (fun l q' l1 l2 l3 => ?_)))⟩⟩
        by_cases y : l = i
        · subst y
          rw [eq q' l2 l3, pk_us]
          exact ⟨fun _ => rfl, fun w => absurd z w⟩
        · rw [pk_un y]
          exact hl l q' (by omega) l2 l3
      · refine br_f (nI_ge (b := 4) h (by decide)) ⟨hx, by rw [e1, ei]; exact vp_in_nI (by omega) (by decide), br_f (by rw [e1, ei, e2]; exact z) (nm_r (e' := nI (i + 1)) (nI_1 i) (ih (i + 1) yw (by omega) (by omega) (fun l hl' => ho l (by omega)) (fun l q' l1 l2 l3 => ?_)))⟩
        by_cases y : l = i
        · subst y
          rw [eq q' l2 l3]
          exact ⟨fun w => absurd w z, fun _ => ei⟩
        · exact hl l q' (by omega) l2 l3
    · have e : i = 4 := by omega
      subst e
      exact br_t (nI_le (a := 4) (Nat.le_refl _) (by decide)) (gy_count (k yw hl))
theorem gy_finish {post : Int32 → SY → Prop} (hc : cyc ≠ 0) (hw : ∀ i, i < 4 → ∃ q, q ≤ 32 ∧ yw i = nI q)
    (k : ∀ yw' : Nat → Int32, (∀ i q, i < 4 → q ≤ 32 → yw i = nI q → (yk q = 0 → yw' i = 0) ∧ (yk q ≠ 0 → yw' i = nI q)) → post yfn ((nI N), (nI nr), (nI nw), 0, yfn, yr, yw', yv, y0, y1, yk, ys)) : wpY_finish post ((nI N), (nI nr), (nI nw), cyc, yfn, yr, yw, yv, y0, y1, yk, ys) :=
  br_f hc ⟨5, gy_fn hw k 5 0 yw (by omega) (by omega) (fun _ _ => rfl) (fun l q hl => absurd hl (Nat.not_lt_zero _))⟩
theorem gy_collect {post : Int32 → SY → Prop} (yv' : gf_YV y0 y1) (hr : ∀ i, i < 8 → ∃ q, q ≤ 32 ∧ yr i = nI q) (hw : ∀ i, i < 4 → ∃ q, q ≤ 32 ∧ yw i = nI q)
    (k : ∀ ys yw' : Nat → Int32, (∀ i q, i < 4 → 1 ≤ q → q ≤ 32 → yw i = nI q → (¬ gf_Rc (gf_ey y0 y1) (gf_SB yr) q → yw' i = 0) ∧ (gf_Rc (gf_ey y0 y1) (gf_SB yr) q → yw' i = nI q)) → (∀ i, i < 4 → yw i = 0 → yw' i = 0) → post (nI (cn (gf_Rc (gf_ey y0 y1) (gf_SB yr)) 33)) ((nI N), (nI nr), (nI nw), 0, yfn, yr, yw', yv, y0, y1, yk, ys)) : wpY_collect post ((nI N), (nI nr), (nI nw), cyc, yfn, yr, yw, yv, y0, y1, yk, ys) := by
  unfold wpY_collect
  dsimp only
  refine gy_rts (cyc := 0) (post := fun u => match u with | (f0, f1, f2, f3, f4, a0, a1, a2, a3, a4, a5, a6) => ∃ n19 : Nat, wY_collect_19 post f0 f1 f2 f3 f4 n19 0 a0 a1 a2 a3 a4 a5 a6) yv' hr (fun ys' b hR ec => ?_)
  refine ⟨5, gy_co hw (fun yw' hk => ?_) 5 0 yw (by omega) (by omega) (fun _ _ => rfl) (fun l q hl => absurd hl (Nat.not_lt_zero _))⟩
  rw [ec]
  refine k ys' yw' (fun i q i1 q1 q2 e => ?_) (fun i i1 e => ?_)
  · have := hk i q i1 q2 e
    rw [← hR q q1 q2]
    exact ⟨fun z => this.1 (Classical.byContradiction (fun w => z w)), this.2⟩
  · have := hk i 0 i1 (by omega) e
    by_cases z : ys' 0 = 0
    · exact this.1 z
    · exact this.2 z
end
end
section
/-! evacuation: the invariant, in plain terms -/
def gf_S (C N : Nat) (ch us fw : Nat → Int32) (x : Nat) : Prop := gf_U N us x ∧ (ch (x / C) = 0 ∨ fw x = nI x)
def gf_c1 (C N : Nat) (ch us rm fw : Nat → Int32) (t : Nat) (v : Int32) : Prop := v = -1 ∨ ∃ d, gf_S C N ch us fw d ∧ v = nI d ∧ (t / C ≠ d / C → bt (rm (d / C)) t = true)
def gf_cl (C N : Nat) (ch us fl rm fw : Nat → Int32) (t : Nat) : Prop := gf_c1 C N ch us rm fw t (fl (2 * t)) ∧ gf_c1 C N ch us rm fw t (fl (2 * t + 1))
def gf_EV (C N nr nw gc wc : Nat) (ch us0 va0 fl0 ma0 rt0 wa0 gr0 rt wa va fl us ma gr fw wo : Nat → Int32) (dn : Nat → Nat) : Prop :=
  (∀ x, gf_U N us x → gf_U N us0 (dn x) ∧ va x = va0 (dn x) ∧ ma x = ma0 (dn x) ∧ gf_rr (gf_U N us) dn (-1) (fl (2 * x)) (fl0 (2 * dn x)) ∧ gf_rr (gf_U N us) dn (-1) (fl (2 * x + 1)) (fl0 (2 * dn x + 1))) ∧
  (∀ x, gf_S C N ch us fw x → (ch (dn x / C) = 0 ∧ dn x = x) ∨ (ch (dn x / C) ≠ 0 ∧ fw (dn x) = nI x)) ∧
  (∀ c, gf_U N us c → ch (c / C) ≠ 0 → dn c = c) ∧
  (∀ c, c < N → ch (c / C) ≠ 0 → fw c = -1 ∨ ∃ t, gf_S C N ch us fw t ∧ dn t = c ∧ fw c = nI t) ∧
  (wc = cn (fun c => (c < N ∧ ch (c / C) ≠ 0) ∧ fw c ≠ -1) 32 ∧ ∀ j, j < wc → ∃ t, gf_S C N ch us fw t ∧ wo j = nI t) ∧
  (∀ i, i < nr → gf_rr (gf_U N us) dn (-1) (rt i) (rt0 i)) ∧ (∀ i, i < nw → gf_rr (gf_U N us) dn (-1) (wa i) (wa0 i)) ∧ (∀ i, i < gc → gf_rr (gf_U N us) dn (-1) (gr i) (gr0 i))
def gf_SV (C N ir iw ig : Nat) (ch us fw rt wa gr : Nat → Int32) : Prop := (∀ i, i < ir → gf_vr (gf_S C N ch us fw) (rt i)) ∧ (∀ i, i < iw → gf_vr (gf_S C N ch us fw) (wa i)) ∧ (∀ i, i < ig → gf_vr (gf_S C N ch us fw) (gr i))
def gf_EP (C N wc j0 : Nat) (ch us fl rm fw wo : Nat → Int32) (P : Nat → Prop) : Prop := j0 ≤ wc ∧ ∀ t, gf_S C N ch us fw t → gf_cl C N ch us fl rm fw t ∨ P t ∨ ∃ j, j0 ≤ j ∧ j < wc ∧ wo j = nI t
def gf_EW (R C N nr nw gc wc j0 ir iw ig : Nat) (ch us0 va0 fl0 ma0 rt0 wa0 gr0 rt wa va fl us ma tp rm gr fw wo : Nat → Int32) (dn : Nat → Nat) (P : Nat → Prop) : Prop :=
  gf_EV C N nr nw gc wc ch us0 va0 fl0 ma0 rt0 wa0 gr0 rt wa va fl us ma gr fw wo dn ∧ gf_SV C N ir iw ig ch us fw rt wa gr ∧ gf_EP C N wc j0 ch us fl rm fw wo P ∧ gf_TP R C N us tp ∧ gf_B1 ma
def gf_MO (C N : Nat) (ch us fl fw us' fl' fw' : Nat → Int32) (dn dn' : Nat → Nat) : Prop := (∀ x, gf_S C N ch us fw x → gf_S C N ch us' fw' x) ∧ (∀ x, gf_U N us x → (gf_U N us' x ∧ dn' x = dn x) ∧ fl' (2 * x) = fl (2 * x) ∧ fl' (2 * x + 1) = fl (2 * x + 1))
section
variable {R C N nr nw gc : Nat} {cyc fnd wk : Int32} {rt wa va fl us ma ho tp od lv rm ch gr re fw wo : Nat → Int32}
variable {us0 va0 fl0 ma0 rt0 wa0 gr0 : Nat → Int32} {dn : Nat → Nat} {P P' : Nat → Prop} {wc j0 ir iw ig : Nat}
theorem gf_MO_rf : (gf_MO C N ch us fl fw us fl fw dn dn) := ⟨fun _ h => h, fun _ h => ⟨⟨h, rfl⟩, rfl, rfl⟩⟩
theorem gf_S32 (hN : N ≤ 32) {x : Nat} (h : (gf_S C N ch us fw x)) : x < 32 := gf_cn32 hN h.1
theorem gf_c1_mono {us' rm' fw' : Nat → Int32} {t : Nat} {v : Int32} (h : (gf_c1 C N ch us rm fw t v)) (m : ∀ x, (gf_S C N ch us fw x) → (gf_S C N ch us' fw' x)) (mr : ∀ r i, bt (rm r) i = true → bt (rm' r) i = true) : (gf_c1 C N ch us' rm' fw' t v) := by
  rcases h with h | ⟨d, h1, h2, h3⟩
  · exact Or.inl h
  · exact Or.inr ⟨d, m d h1, h2, fun ne => mr _ _ (h3 ne)⟩
theorem gf_c1_vr {t : Nat} {v : Int32} (h : (gf_c1 C N ch us rm fw t v)) : gf_vr (gf_S C N ch us fw) v := by
  rcases h with h | ⟨d, h1, h2, _⟩
  · exact Or.inl h
  · exact Or.inr ⟨d, h1, h2⟩
/-- one cell copied out (or kept in place: t = c) -/
theorem gf_out (hN : N ≤ 32) {c t : Nat} {us' va' fl' ma' tp' : Nat → Int32} (W : (gf_EW R C N nr nw gc wc j0 ir iw ig ch us0 va0 fl0 ma0 rt0 wa0 gr0 rt wa va fl us ma tp rm gr fw wo dn P)) (tp1 : (gf_TP R C N us' tp')) (b1' : gf_B1 ma') (hc : gf_U N us c) (hi : ch (c / C) ≠ 0) (hf : fw c = -1)
    (ht : t < N) (hd : t = c ∨ (us t = 0 ∧ ch (t / C) = 0)) (o : ∀ x, x ≠ t → us' x = us x ∧ va' x = va x ∧ ma' x = ma x ∧ fl' (2 * x) = fl (2 * x) ∧ fl' (2 * x + 1) = fl (2 * x + 1))
    (n : us' t ≠ 0 ∧ va' t = va c ∧ ma' t = ma c ∧ fl' (2 * t) = fl (2 * c) ∧ fl' (2 * t + 1) = fl (2 * c + 1)) :
    wc < 32 ∧ ∃ dn' : Nat → Nat, (gf_EW R C N nr nw gc (wc + 1) j0 ir iw ig ch us0 va0 fl0 ma0 rt0 wa0 gr0 rt wa va' fl' us' ma' tp' rm gr (upd fw c (nI t)) (upd wo wc (nI t)) dn' P) ∧ (gf_MO C N ch us fl fw us' fl' (upd fw c (nI t)) dn dn') ∧ gf_S C N ch us' (upd fw c (nI t)) t ∧ dn' t = c := by
  obtain ⟨⟨E1, E2, E3, E4, ⟨E5, E6⟩, R1, R2, R3⟩, ⟨V1, V2, V3⟩, ⟨Pj, Pp⟩, _, _⟩ := W
  have hdc : dn c = c := E3 c hc hi
  have fc : ∀ y, y < 32 → fw c ≠ nI y := fun y hy e => absurd (e.symm.trans hf) (gf_m1 (by omega))
  have h32 : ∀ x, x < N → x < 32 := fun x hx => by omega
  obtain ⟨dn', hdn⟩ : ∃ dn' : Nat → Nat, ∀ x, dn' x = if x = t then c else dn x := ⟨fun x => if x = t then c else dn x, fun _ => rfl⟩
  have dt : dn' t = c := by rw [hdn, if_pos rfl]
  have dU : ∀ x, gf_U N us x → dn' x = dn x := by
    intro x hx
    by_cases e : x = t
    · rcases hd with z | z
      · rw [e, dt, z, hdc]
      · rw [e] at hx
        exact absurd z.1 hx.2
    · rw [hdn, if_neg e]
  have UU : ∀ x, gf_U N us x → gf_U N us' x := by
    intro x hx
    by_cases e : x = t
    · rw [e]; exact ⟨ht, n.1⟩
    · exact ⟨hx.1, by rw [(o x e).1]; exact hx.2⟩
  have U' : ∀ x, gf_U N us' x → x ≠ t → gf_U N us x := fun x hx e => ⟨hx.1, by rw [← (o x e).1]; exact hx.2⟩
  have FF : ∀ x, gf_U N us x → fl' (2 * x) = fl (2 * x) ∧ fl' (2 * x + 1) = fl (2 * x + 1) := by
    intro x hx
    by_cases e : x = t
    · rcases hd with z | z
      · rw [e, n.2.2.2.1, n.2.2.2.2, z]
        exact ⟨rfl, rfl⟩
      · rw [e] at hx
        exact absurd z.1 hx.2
    · exact (o x e).2.2.2
  have SS : ∀ x, gf_S C N ch us fw x → gf_S C N ch us' (upd fw c (nI t)) x := by
    intro x hx
    refine ⟨UU x hx.1, hx.2.elim Or.inl (fun e => Or.inr ?_)⟩
    have ne : x ≠ c := fun q => fc x (h32 x hx.1.1) (q ▸ e)
    rw [pk_un ne]
    exact e
  have St : gf_S C N ch us' (upd fw c (nI t)) t := by
    refine ⟨⟨ht, n.1⟩, hd.elim (fun e => Or.inr ?_) (fun e => Or.inl e.2)⟩
    rw [e, pk_us]
  have S' : ∀ x, gf_S C N ch us' (upd fw c (nI t)) x → x ≠ t → gf_S C N ch us fw x := by
    intro x hx e
    refine ⟨U' x hx.1 e, hx.2.elim Or.inl (fun q => Or.inr ?_)⟩
    by_cases y : x = c
    · rw [y, pk_us] at q
      have := (nI_eq (by have := h32 t ht; omega) (by have := h32 c hc.1; omega)).mp q
      omega
    · rw [pk_un y] at q
      exact q
  have mono : ∀ a b, gf_rr (gf_U N us) dn (-1) a b → gf_rr (gf_U N us') dn' (-1) a b := fun a b h => gf_rr_mono h (fun d hd => ⟨UU d hd, dU d hd⟩)
  refine ⟨?_, dn', ⟨⟨fun x hx => ?_, fun x hx => ?_, fun x hx hi' => ?_, fun a ha hia => ?_, ⟨?_, fun j hj => ?_⟩, fun i hi => mono _ _ (R1 i hi), fun i hi => mono _ _ (R2 i hi), fun i hi => mono _ _ (R3 i hi)⟩, ⟨fun i hi => gf_vr_mono (V1 i hi) SS, fun i hi => gf_vr_mono (V2 i hi) SS, fun i hi => gf_vr_mono (V3 i hi) SS⟩, ⟨by omega, fun x hx => ?_⟩, tp1, b1'⟩, ⟨SS, fun x hx => ⟨⟨UU x hx, dU x hx⟩, FF x hx⟩⟩, St, dt⟩
  · have := cn_lt (P := fun c => (c < N ∧ ch (c / C) ≠ 0) ∧ fw c ≠ -1) (Q := fun _ => True) (a := c) (fun q => q.2 hf) trivial (N := 32) (fun _ _ _ => trivial) (h32 c hc.1)
    rw [gf_cnT] at this
    omega
  · by_cases e : x = t
    · obtain ⟨a1, a2, a3, a4, a5⟩ := E1 c hc
      rw [hdc] at a1 a2 a3 a4 a5
      rw [e, dt, n.2.1, n.2.2.1, n.2.2.2.1, n.2.2.2.2]
      exact ⟨a1, a2, a3, mono _ _ a4, mono _ _ a5⟩
    · have hxU := U' x hx e
      obtain ⟨a1, a2, a3, a4, a5⟩ := E1 x hxU
      obtain ⟨_, o2, o3, o4, o5⟩ := o x e
      rw [dU x hxU, o2, o3, o4, o5]
      exact ⟨a1, a2, a3, mono _ _ a4, mono _ _ a5⟩
  · by_cases e : x = t
    · right
      rw [e, dt, pk_us]
      exact ⟨hi, rfl⟩
    · have hxS := S' x hx e
      rw [dU x hxS.1]
      rcases E2 x hxS with h | h
      · exact Or.inl h
      · refine Or.inr ⟨h.1, ?_⟩
        have ne : dn x ≠ c := fun q => fc x (h32 x hxS.1.1) (q ▸ h.2)
        rw [pk_un ne]
        exact h.2
  · by_cases e : x = t
    · rcases hd with z | z
      · rw [e, dt, z]
      · rw [e] at hi'
        exact absurd z.2 hi'
    · rw [dU x (U' x hx e)]
      exact E3 x (U' x hx e) hi'
  · by_cases e : a = c
    · right
      exact ⟨t, St, by rw [dt, e], by rw [e, pk_us]⟩
    · rw [pk_un e]
      rcases E4 a ha hia with h | ⟨t0, h1, h2, h3⟩
      · exact Or.inl h
      · exact Or.inr ⟨t0, SS t0 h1, by rw [dU t0 h1.1]; exact h2, h3⟩
  · rw [E5, ← gf_cnrem (P := fun a => (a < N ∧ ch (a / C) ≠ 0) ∧ upd fw c (nI t) a ≠ -1) (a := c) ⟨⟨hc.1, hi⟩, by rw [pk_us]; exact gf_m1 (by have := h32 t ht; omega)⟩ (h32 c hc.1)]
    congr 1
    refine cn_eq fun a _ => ⟨fun h => ?_, fun h => ?_⟩
    · have ne : a ≠ c := fun e => h.2 (e ▸ hf)
      exact ⟨⟨h.1, by rw [pk_un ne]; exact h.2⟩, ne⟩
    · refine ⟨h.1.1, ?_⟩
      have := h.1.2
      rwa [pk_un h.2] at this
  · by_cases e : j = wc
    · exact ⟨t, St, by rw [e, pk_us]⟩
    · obtain ⟨t0, h1, h2⟩ := E6 j (by omega)
      exact ⟨t0, SS t0 h1, by rw [pk_un e]; exact h2⟩
  · by_cases e : x = t
    · exact Or.inr (Or.inr ⟨wc, Pj, by omega, by rw [pk_us, e]⟩)
    · have hxS := S' x hx e
      rcases Pp x hxS with h | h | ⟨j, j1, j2, j3⟩
      · left
        unfold gf_cl
        rw [(FF x hxS.1).1, (FF x hxS.1).2]
        exact ⟨gf_c1_mono h.1 SS (fun _ _ h => h), gf_c1_mono h.2 SS (fun _ _ h => h)⟩
      · exact Or.inr (Or.inl h)
      · exact Or.inr (Or.inr ⟨j, j1, by omega, by rw [pk_un (by omega)]; exact j3⟩)
theorem gf_TP_take (cf : (gf_cf R C N nr nw)) {r t : Nat} (hr : r < R) (ht : t < C) (e : tp r = nI t) (h : (gf_TP R C N us tp)) : (gf_TP R C N (upd us (r * C + t) 1) (upd tp r (nI (t + 1)))) ∧ us (r * C + t) = 0 := by
  obtain ⟨c1, c2, c3, c4, c5, c6, c7⟩ := cf
  obtain ⟨i1, i2, i3⟩ := gf_idx c5 hr ht
  refine ⟨fun q hq => ?_, ?_⟩
  · obtain ⟨u, u1, u2, u3⟩ := h q hq
    by_cases y : q = r
    · subst y
      have : u = t := (nI_eq (by omega) (by omega)).mp (u2.symm.trans e)
      subst this
      refine ⟨u + 1, by omega, by rw [pk_us], fun c hc hu hd => ?_⟩
      by_cases z : c = q * C + u
      · rw [z, i3]; omega
      · rw [pk_un z] at hu
        have := u3 c hc hu hd
        omega
    · refine ⟨u, u1, by rw [pk_un y]; exact u2, fun c hc hu hd => ?_⟩
      have z : c ≠ r * C + t := by
        intro z
        rw [z, i2] at hd
        exact y hd.symm
      rw [pk_un z] at hu
      exact u3 c hc hu hd
  · obtain ⟨u, u1, u2, u3⟩ := h r hr
    have : u = t := (nI_eq (by omega) (by omega)).mp (u2.symm.trans e)
    subst this
    by_cases z : us (r * C + u) = 0
    · exact z
    · have := u3 _ i1 z i2
      omega
/-- the pending set may change -/
theorem gf_EW_P (W : (gf_EW R C N nr nw gc wc j0 ir iw ig ch us0 va0 fl0 ma0 rt0 wa0 gr0 rt wa va fl us ma tp rm gr fw wo dn P)) {j1 : Nat} (hj : j1 ≤ wc) (m : ∀ t, gf_S C N ch us fw t → (P t ∨ ∃ j, j0 ≤ j ∧ j < wc ∧ wo j = nI t) → (gf_cl C N ch us fl rm fw t) ∨ P' t ∨ ∃ j, j1 ≤ j ∧ j < wc ∧ wo j = nI t) : (gf_EW R C N nr nw gc wc j1 ir iw ig ch us0 va0 fl0 ma0 rt0 wa0 gr0 rt wa va fl us ma tp rm gr fw wo dn P') :=
  ⟨W.1, W.2.1, ⟨hj, fun t ht => (W.2.2.1.2 t ht).elim Or.inl (fun h => m t ht h)⟩, W.2.2.2⟩
/-- remembered sets grow -/
theorem gf_EW_rm (W : (gf_EW R C N nr nw gc wc j0 ir iw ig ch us0 va0 fl0 ma0 rt0 wa0 gr0 rt wa va fl us ma tp rm gr fw wo dn P)) {rm' : Nat → Int32} (m : ∀ r i, bt (rm r) i = true → bt (rm' r) i = true) : (gf_EW R C N nr nw gc wc j0 ir iw ig ch us0 va0 fl0 ma0 rt0 wa0 gr0 rt wa va fl us ma tp rm' gr fw wo dn P) :=
  ⟨W.1, W.2.1, ⟨W.2.2.1.1, fun t ht => (W.2.2.1.2 t ht).elim (fun h => Or.inl ⟨gf_c1_mono h.1 (fun _ h => h) m, gf_c1_mono h.2 (fun _ h => h) m⟩) Or.inr⟩, W.2.2.2⟩
/-- a field of a pending cell is stored -/
theorem gf_EW_st (hN : N ≤ 32) (W : (gf_EW R C N nr nw gc wc j0 ir iw ig ch us0 va0 fl0 ma0 rt0 wa0 gr0 rt wa va fl us ma tp rm gr fw wo dn P)) {x f : Nat} {v : Int32} (hx : gf_U N us x) (hp : P x) (hf : f < 2) (hv : gf_rr (gf_U N us) dn (-1) v (fl0 (2 * dn x + f))) : (gf_EW R C N nr nw gc wc j0 ir iw ig ch us0 va0 fl0 ma0 rt0 wa0 gr0 rt wa va (upd fl (2 * x + f) v) us ma tp rm gr fw wo dn P) := by
  obtain ⟨⟨E1, E2⟩, V, ⟨Pj, Pp⟩, T⟩ := W
  have ne : ∀ y, y ≠ x → upd fl (2 * x + f) v (2 * y) = fl (2 * y) ∧ upd fl (2 * x + f) v (2 * y + 1) = fl (2 * y + 1) := fun y hy => ⟨pk_un (by omega), pk_un (by omega)⟩
  refine ⟨⟨fun y hy => ?_, E2⟩, V, ⟨Pj, fun t ht => ?_⟩, T⟩
  · obtain ⟨a1, a2, a3, a4, a5⟩ := E1 y hy
    by_cases e : y = x
    · subst e
      refine ⟨a1, a2, a3, ?_, ?_⟩
      · by_cases z : f = 0
        · subst z
          rw [Nat.add_zero, pk_us]
          exact hv
        · rw [pk_un (by omega)]
          exact a4
      · by_cases z : f = 1
        · subst z
          rw [pk_us]
          exact hv
        · rw [pk_un (by omega)]
          exact a5
    · rw [(ne y e).1, (ne y e).2]
      exact ⟨a1, a2, a3, a4, a5⟩
  · by_cases e : t = x
    · exact Or.inr (Or.inl (e ▸ hp))
    · unfold gf_cl
      rw [(ne t e).1, (ne t e).2]
      exact Pp t ht
end
end
section
/-! X: evacuation, the walks -/
section
variable {R C N nr nw gc : Nat} {cyc fnd wk : Int32} {rt wa va fl us ma ho tp od lv rm ch gr re fw wo : Nat → Int32}
variable {us0 va0 fl0 ma0 rt0 wa0 gr0 : Nat → Int32} {dn : Nat → Nat} {P P' : Nat → Prop} {wc j0 ir iw ig : Nat}
theorem gx_out21 {post : SX → Prop} {c t : Nat} (hc : c < 32) (hw : wc < 32) (k : post ((nI R), (nI C), (nI nr), (nI nw), (nI N), cyc, fnd, (nI gc), (nI (wc + 1)), rt, wa, va, fl, us, ma, ho, tp, od, lv, rm, ch, gr, re, (upd fw c (nI t)), (upd wo wc (nI t)))) : wX_copyOut_21 post (nI c) (nI t) (nI R) (nI C) (nI nr) (nI nw) (nI N) cyc fnd (nI gc) (nI wc) rt wa va fl us ma ho tp od lv rm ch gr re fw wo := by
  unfold wX_copyOut_21
  rw [nI_clamp (n := c) (by omega), nI_clamp (n := wc) (by omega)]
  exact ⟨vp_in_nI hc (by decide), nm_e ⟨vp_in_nI hw (by decide), nm_e (nm_r (e' := nI (wc + 1)) (nI_1 wc) k)⟩⟩
theorem gx_copyOut {post : SX → Prop} {c : Nat} (cf : (gf_cf R C N nr nw)) (W : (gf_EW R C N nr nw gc wc j0 ir iw ig ch us0 va0 fl0 ma0 rt0 wa0 gr0 rt wa va fl us ma tp rm gr fw wo dn P)) (hc : gf_U N us c) (hi : ch (c / C) ≠ 0) (hf : fw c = -1)
    (k : ∀ (wc' : Nat) (va' fl' us' ma' tp' od' lv' fw' wo' : Nat → Int32) (dn' : Nat → Nat), (gf_EW R C N nr nw gc wc' j0 ir iw ig ch us0 va0 fl0 ma0 rt0 wa0 gr0 rt wa va' fl' us' ma' tp' rm gr fw' wo' dn' P) → (gf_MO C N ch us fl fw us' fl' fw' dn dn') → (∃ t, gf_S C N ch us' fw' t ∧ dn' t = c ∧ fw' c = nI t) → post ((nI R), (nI C), (nI nr), (nI nw), (nI N), cyc, fnd, (nI gc), (nI wc'), rt, wa, va', fl', us', ma', ho, tp', od', lv', rm, ch, gr, re, fw', wo')) : wpX_copyOut post ((nI R), (nI C), (nI nr), (nI nw), (nI N), cyc, fnd, (nI gc), (nI wc), rt, wa, va, fl, us, ma, ho, tp, od, lv, rm, ch, gr, re, fw, wo) (nI c) := by
  have hN : N ≤ 32 := cf.2.2.2.2.2.1
  have hc32 : c < 32 := by have := hc.1; omega
  obtain ⟨_, _, _, tpI, b1⟩ := id W
  unfold wpX_copyOut
  dsimp only
  refine gx_take cf (fun r hr => (tpI r hr).imp (fun t h => ⟨h.1, h.2.1⟩)) (fun _ => br_f (by decide) ?_) (fun r t od' lv' hr h0 e ht => ?_)
  · obtain ⟨hw, dn', W', M', s1, s2⟩ := gf_out (t := c) (us' := us) (va' := va) (fl' := fl) (ma' := ma) (tp' := tp) hN W tpI b1 hc hi hf hc.1 (Or.inl rfl) (fun _ _ => ⟨rfl, rfl, rfl, rfl, rfl⟩) ⟨hc.2, rfl, rfl, rfl, rfl⟩
    exact gx_out21 hc32 hw (k _ _ _ _ _ _ _ _ _ _ dn' W' M' ⟨c, s1, s2, by rw [pk_us]⟩)
  · obtain ⟨tp1, z⟩ := gf_TP_take cf hr ht e tpI
    obtain ⟨i1, i2, i3⟩ := gf_idx cf.2.2.2.2.1 hr ht
    have b1' : gf_B1 (upd ma (r * C + t) (ma c)) := by
      intro y hy
      by_cases q : y = r * C + t
      · rw [q, pk_us]; exact b1 c hc32
      · rw [pk_un q]; exact b1 y hy
    obtain ⟨hw, dn', W', M', s1, s2⟩ := gf_out (t := r * C + t) (us' := upd us (r * C + t) 1) (va' := upd va (r * C + t) (va c)) (fl' := upd (upd fl (2 * (r * C + t)) (fl (2 * c))) (2 * (r * C + t) + 1) (fl (2 * c + 1))) (ma' := upd ma (r * C + t) (ma c)) hN W tp1 b1' hc hi hf i1 (Or.inr ⟨z, by rw [i2]; exact h0⟩) (fun x hx => ⟨pk_un hx, pk_un hx, pk_un hx, (gf_fl2 hx).1, (gf_fl2 hx).2⟩) ⟨by rw [pk_us]; decide, pk_us, pk_us, gf_fl1.1, gf_fl1.2⟩
    exact br_t (nI_pos' (by omega)) (gx_copyCell hc32 (by omega) b1 (gx_out21 hc32 hw (k _ _ _ _ _ _ _ _ _ _ dn' W' M' ⟨_, s1, s2, by rw [pk_us]⟩)))
theorem gx_relocate {post : Int32 → SX → Prop} {x : Int32} (cf : (gf_cf R C N nr nw)) (hm : (gf_HM C N ho)) (W : (gf_EW R C N nr nw gc wc j0 ir iw ig ch us0 va0 fl0 ma0 rt0 wa0 gr0 rt wa va fl us ma tp rm gr fw wo dn P)) (hx : gf_vr (gf_U N us) x)
    (k : ∀ (y : Int32) (wc' : Nat) (va' fl' us' ma' tp' od' lv' fw' wo' : Nat → Int32) (dn' : Nat → Nat), (gf_EW R C N nr nw gc wc' j0 ir iw ig ch us0 va0 fl0 ma0 rt0 wa0 gr0 rt wa va' fl' us' ma' tp' rm gr fw' wo' dn' P) → (gf_MO C N ch us fl fw us' fl' fw' dn dn') → (∀ b, gf_rr (gf_U N us) dn (-1) x b → gf_rr (gf_S C N ch us' fw') dn' (-1) y b) → post y ((nI R), (nI C), (nI nr), (nI nw), (nI N), cyc, fnd, (nI gc), (nI wc'), rt, wa, va', fl', us', ma', ho, tp', od', lv', rm, ch, gr, re, fw', wo')) : wpX_relocate post ((nI R), (nI C), (nI nr), (nI nw), (nI N), cyc, fnd, (nI gc), (nI wc), rt, wa, va, fl, us, ma, ho, tp, od, lv, rm, ch, gr, re, fw, wo) x := by
  have hN : N ≤ 32 := cf.2.2.2.2.2.1
  obtain ⟨⟨E1, E2, E3, E4, E5⟩, _⟩ := id W
  have bU : ∀ z, gf_U N us z → z < 32 := fun z hz => gf_cn32 hN hz
  rcases hx with rfl | ⟨d, hd, rfl⟩
  · exact br_t (by decide) (k _ _ _ _ _ _ _ _ _ _ _ _ W gf_MO_rf (fun b r => Or.inl ⟨rfl, gf_rr_m bU r rfl⟩))
  · have hd32 := bU d hd
    have hdv := gf_div cf.2.2.2.2.1 hd.1
    have hR := cf.2.1
    have hx : vp_in (nI d) 32 := vp_in_nI hd32 (by decide)
    have h8 : vp_in (nI (d / C)) 8 := vp_in_nI (by omega) (by decide)
    unfold wpX_relocate
    dsimp only
    rw [nI_clamp (n := d) (by omega), hm d hd.1, nI_clamp (n := d / C) (by omega)]
    refine br_f (nI_pos (by omega)) ⟨hx, h8, br_c (fun h0 => k _ _ _ _ _ _ _ _ _ _ _ _ W gf_MO_rf (fun b r => Or.inr ⟨d, ⟨hd, Or.inl h0⟩, rfl, (gf_rr_n bU r rfl hd32).2⟩)) (fun h1 => ⟨hx, ?_⟩)⟩
    rcases E4 d hd.1 h1 with e | ⟨t, t1, t2, t3⟩
    · refine br_f (by rw [e]; decide) (gx_copyOut cf W hd h1 e (fun wc' va' fl' us' ma' tp' od' lv' fw' wo' dn' W' M' ex => ⟨hx, ?_⟩))
      obtain ⟨t, t1, t2, t3⟩ := ex
      refine k _ _ _ _ _ _ _ _ _ _ _ _ W' M' (fun b r => Or.inr ⟨t, t1, t3, ?_⟩)
      rw [(gf_rr_n bU r rfl hd32).2, E3 d hd h1, t2]
    · refine br_t (by rw [t3]; exact nI_pos' (by have := bU t t1.1; omega)) ⟨hx, k _ _ _ _ _ _ _ _ _ _ _ _ W gf_MO_rf (fun b r => Or.inr ⟨t, t1, t3, ?_⟩)⟩
      rw [(gf_rr_n bU r rfl hd32).2, E3 d hd h1, t2]
theorem gf_2cf (c f : Nat) : (2 : Int32) * nI c + nI f = nI (2 * c + f) := by rw [gf_2c, nI_add]
/-- one field of a pending survivor -/
theorem gx_rfs {post : SX → Prop} {x f n : Nat} (cf : (gf_cf R C N nr nw)) (hm : (gf_HM C N ho)) (W : (gf_EW R C N nr nw gc wc j0 ir iw ig ch us0 va0 fl0 ma0 rt0 wa0 gr0 rt wa va fl us ma tp rm gr fw wo dn P)) (hx : gf_S C N ch us fw x) (hp : P x) (hf : f < 2)
    (k : ∀ (wc' : Nat) (va' fl' us' ma' tp' od' lv' fw' wo' : Nat → Int32) (dn' : Nat → Nat) (rm' : Nat → Int32), (gf_EW R C N nr nw gc wc' j0 ir iw ig ch us0 va0 fl0 ma0 rt0 wa0 gr0 rt wa va' fl' us' ma' tp' rm' gr fw' wo' dn' P) → gf_S C N ch us' fw' x → (gf_c1 C N ch us' rm' fw' x (fl' (2 * x + f))) → (∀ g, g < 2 → g ≠ f → (gf_c1 C N ch us rm fw x (fl (2 * x + g))) → (gf_c1 C N ch us' rm' fw' x (fl' (2 * x + g)))) → wX_relocateFields_2 post (nI x) n (nI (f + 1)) (nI R) (nI C) (nI nr) (nI nw) (nI N) cyc fnd (nI gc) (nI wc') rt wa va' fl' us' ma' ho tp' od' lv' rm' ch gr re fw' wo') : wX_relocateFields_2 post (nI x) (n + 1) (nI f) (nI R) (nI C) (nI nr) (nI nw) (nI N) cyc fnd (nI gc) (nI wc) rt wa va fl us ma ho tp od lv rm ch gr re fw wo := by
  have hN : N ≤ 32 := cf.2.2.2.2.2.1
  have hx32 := gf_S32 hN hx
  obtain ⟨⟨E1, _⟩, _⟩ := id W
  obtain ⟨_, _, _, r0, r1⟩ := E1 x hx.1
  have rf : gf_rr (gf_U N us) dn (-1) (fl (2 * x + f)) (fl0 (2 * dn x + f)) := by
    have : f = 0 ∨ f = 1 := by omega
    rcases this with e | e
    · subst e; exact r0
    · subst e; exact r1
  refine br_f (nI_ge (b := 2) hf (by decide)) ?_
  rw [gf_2cf x f, nI_clamp (n := 2 * x + f) (by omega)]
  refine ⟨vp_in_nI (by omega) (by decide), gx_relocate cf hm W (gf_rr_vr rf) (fun y wc' va' fl' us' ma' tp' od' lv' fw' wo' dn' W' M' rb => ?_)⟩
  have ry := rb _ rf
  have hx' := M'.1 x hx
  have mu := M'.2 x hx.1
  have W2 : (gf_EW R C N nr nw gc wc' j0 ir iw ig ch us0 va0 fl0 ma0 rt0 wa0 gr0 rt wa va' (upd fl' (2 * x + f) y) us' ma' tp' rm gr fw' wo' dn' P) := gf_EW_st hN W' hx'.1 hp hf (by
    rw [mu.1.2]
    exact gf_rr_mono ry (fun d hd => ⟨hd.1, rfl⟩))
  refine ⟨vp_in_nI (by omega) (by decide), nm_e (gx_remember cf hm hx.1.1 ?_ (fun rm' m1 m2 => ?_))⟩
  · rcases ry with ⟨e, _⟩ | ⟨d, d1, d2, _⟩
    · exact Or.inl e
    · exact Or.inr ⟨d, d1.1.1, d2⟩
  · refine nm_r (e' := nI (f + 1)) (nI_1 f) (k _ _ _ _ _ _ _ _ _ _ dn' rm' (gf_EW_rm W2 m1) hx' ?_ (fun g hg ne c => ?_))
    · rw [pk_us]
      rcases ry with ⟨e, _⟩ | ⟨d, d1, d2, _⟩
      · exact Or.inl e
      · exact Or.inr ⟨d, d1, d2, fun q => m2 d d1.1.1 d2 q⟩
    · rw [pk_un (by omega)]
      have eg : fl' (2 * x + g) = fl (2 * x + g) := by
        have : g = 0 ∨ g = 1 := by omega
        rcases this with e | e
        · subst e; exact mu.2.1
        · subst e; exact mu.2.2
      rw [eg]
      exact gf_c1_mono c M'.1 m1
theorem gx_rf {post : SX → Prop} {x : Nat} (cf : (gf_cf R C N nr nw)) (hm : (gf_HM C N ho)) (W : (gf_EW R C N nr nw gc wc j0 ir iw ig ch us0 va0 fl0 ma0 rt0 wa0 gr0 rt wa va fl us ma tp rm gr fw wo dn P)) (hx : gf_S C N ch us fw x) (hp : P x)
    (k : ∀ (wc' : Nat) (va' fl' us' ma' tp' od' lv' fw' wo' : Nat → Int32) (dn' : Nat → Nat) (rm' : Nat → Int32), (gf_EW R C N nr nw gc wc' j0 ir iw ig ch us0 va0 fl0 ma0 rt0 wa0 gr0 rt wa va' fl' us' ma' tp' rm' gr fw' wo' dn' P) → (gf_cl C N ch us' fl' rm' fw' x) → post ((nI R), (nI C), (nI nr), (nI nw), (nI N), cyc, fnd, (nI gc), (nI wc'), rt, wa, va', fl', us', ma', ho, tp', od', lv', rm', ch, gr, re, fw', wo')) : wpX_relocateFields post ((nI R), (nI C), (nI nr), (nI nw), (nI N), cyc, fnd, (nI gc), (nI wc), rt, wa, va, fl, us, ma, ho, tp, od, lv, rm, ch, gr, re, fw, wo) (nI x) := by
  refine ⟨3, gx_rfs (f := 0) (n := 2) cf hm W hx hp (by omega) (fun wc1 va1 fl1 us1 ma1 tp1 od1 lv1 fw1 wo1 dn1 rm1 W1 x1 c1 _ => ?_)⟩
  refine gx_rfs (f := 1) (n := 1) cf hm W1 x1 hp (by omega) (fun wc2 va2 fl2 us2 ma2 tp2 od2 lv2 fw2 wo2 dn2 rm2 W2 x2 c2 o2 => ?_)
  exact br_t (by decide) (k _ _ _ _ _ _ _ _ _ _ dn2 rm2 W2 ⟨o2 0 (by omega) (by omega) c1, c2⟩)
/-- a cell that the scan of remembered cells has still to look at -/
def gf_PS (C i : Nat) (ch : Nat → Int32) (bits : Int32) (t : Nat) : Prop := i ≤ t ∧ bt bits t = true ∧ ch (t / C) = 0
theorem gx_sc38 {post : SX → Prop} {bits : Int32} (cf : (gf_cf R C N nr nw)) (hm : (gf_HM C N ho))
    (k : ∀ (wc' : Nat) (va' fl' us' ma' tp' od' lv' fw' wo' : Nat → Int32) (dn' : Nat → Nat) (rm' : Nat → Int32), (gf_EW R C N nr nw gc wc' 0 ir iw ig ch us0 va0 fl0 ma0 rt0 wa0 gr0 rt wa va' fl' us' ma' tp' rm' gr fw' wo' dn' (fun _ => False)) → post ((nI R), (nI C), (nI nr), (nI nw), (nI N), cyc, fnd, (nI gc), (nI wc'), rt, wa, va', fl', us', ma', ho, tp', od', lv', rm', ch, gr, re, fw', wo')) :
    ∀ (n i : Nat) (wc' : Nat) (va' fl' us' ma' tp' od' lv' fw' wo' : Nat → Int32) (dn' : Nat → Nat) (rm' : Nat → Int32), i ≤ N → N - i < n → (gf_EW R C N nr nw gc wc' 0 ir iw ig ch us0 va0 fl0 ma0 rt0 wa0 gr0 rt wa va' fl' us' ma' tp' rm' gr fw' wo' dn' (gf_PS C i ch bits)) → wX_scanRemembered_38 post bits n (nI i) (nI R) (nI C) (nI nr) (nI nw) (nI N) cyc fnd (nI gc) (nI wc') rt wa va' fl' us' ma' ho tp' od' lv' rm' ch gr re fw' wo' := by
  have hN : N ≤ 32 := cf.2.2.2.2.2.1
  have hR := cf.2.1
  intro n
  induction n with
  | zero => intro i _ _ _ _ _ _ _ _ _ _ _ _ _ h; omega
  | succ n ih =>
    intro i wc va fl us ma tp od lv fw wo dn rm hi hf W
    have e1 : (nI i).toNatClampNeg = i := nI_clamp (by omega)
    rcases Nat.lt_or_ge i N with h | h
    · have hx : vp_in (nI i) 32 := vp_in_nI (by omega) (by decide)
      have hdv := gf_div cf.2.2.2.2.1 h
      have skip : (¬ (gf_S C N ch us fw i ∧ bt bits i = true ∧ ch (i / C) = 0)) → wX_scanRemembered_38 post bits n (nI (i + 1)) (nI R) (nI C) (nI nr) (nI nw) (nI N) cyc fnd (nI gc) (nI wc) rt wa va fl us ma ho tp od lv rm ch gr re fw wo := by
        intro ns
        refine ih (i + 1) _ _ _ _ _ _ _ _ _ _ dn _ (by omega) (by omega) (gf_EW_P W (Nat.zero_le _) (fun t ht q => Or.inr (q.imp (fun p => ⟨?_, p.2⟩) id)))
        have : t ≠ i := fun e => ns (e ▸ ⟨ht, p.2⟩)
        have := p.1
        omega
      refine br_f (nI_ge h (by omega)) (br_c (fun z => nm_r (e' := nI (i + 1)) (nI_1 i) (skip (fun q => ?_))) (fun z => ⟨hx, ?_⟩))
      · rw [gf_btest bits (by omega), q.2.1] at z
        exact absurd z (by decide)
      · rw [gf_btest bits (by omega)] at z
        rw [e1, hm i h, nI_clamp (n := i / C) (by omega)]
        refine br_c (fun u => nm_r (e' := nI (i + 1)) (nI_1 i) (skip (fun q => q.1.1.2 u))) (fun u => ⟨hx, vp_in_nI (by omega) (by decide), br_c (fun h0 => ?_) (fun h1 => nm_r (e' := nI (i + 1)) (nI_1 i) (skip (fun q => h1 q.2.2)))⟩)
        have hb : bt bits i = true := by
          cases q : bt bits i
          · exact absurd q z
          · rfl
        refine gx_rf cf hm W ⟨⟨h, u⟩, Or.inl h0⟩ ⟨Nat.le_refl _, hb, h0⟩ (fun wc2 va2 fl2 us2 ma2 tp2 od2 lv2 fw2 wo2 dn2 rm2 W2 c2 => ?_)
        refine nm_r (e' := nI (i + 1)) (nI_1 i) (ih (i + 1) _ _ _ _ _ _ _ _ _ _ dn2 _ (by omega) (by omega) (gf_EW_P W2 (Nat.zero_le _) (fun t ht q => ?_)))
        by_cases e : t = i
        · rw [e]; exact Or.inl c2
        · refine Or.inr (q.imp (fun p => ⟨?_, p.2⟩) id)
          have := p.1
          omega
    · refine br_t (nI_le h (by omega)) (k _ _ _ _ _ _ _ _ _ _ dn rm (gf_EW_P W (Nat.zero_le _) (fun t ht q => Or.inr (q.imp (fun p => ?_) id))))
      have := p.1
      have := ht.1.1
      omega
theorem gx_sc4 {post : SX → Prop} (cf : (gf_cf R C N nr nw)) (hm : (gf_HM C N ho))
    (k : ∀ (wc' : Nat) (va' fl' us' ma' tp' od' lv' fw' wo' : Nat → Int32) (dn' : Nat → Nat) (rm' : Nat → Int32), (gf_EW R C N nr nw gc wc' 0 ir iw ig ch us0 va0 fl0 ma0 rt0 wa0 gr0 rt wa va' fl' us' ma' tp' rm' gr fw' wo' dn' (fun _ => False)) → post ((nI R), (nI C), (nI nr), (nI nw), (nI N), cyc, fnd, (nI gc), (nI wc'), rt, wa, va', fl', us', ma', ho, tp', od', lv', rm', ch, gr, re, fw', wo'))
    (W : ∀ bits : Int32, (∀ r i, r < R → ch r ≠ 0 → bt (rm r) i = true → bt bits i = true) → (gf_EW R C N nr nw gc wc 0 ir iw ig ch us0 va0 fl0 ma0 rt0 wa0 gr0 rt wa va fl us ma tp rm gr fw wo dn (gf_PS C 0 ch bits))) :
    ∀ (n i : Nat) (bits : Int32), i ≤ R → R - i < n → (∀ r l, r < i → ch r ≠ 0 → bt (rm r) l = true → bt bits l = true) → wX_scanRemembered_4 post (nI R) (nI C) (nI nr) (nI nw) (nI N) cyc fnd (nI gc) (nI wc) rt wa va fl us ma ho tp od lv rm ch gr re fw wo n bits (nI i) := by
  have hR := cf.2.1
  intro n
  induction n with
  | zero => intro i bits _ h; omega
  | succ n ih =>
    intro i bits hi hf hb
    have e1 : (nI i).toNatClampNeg = i := nI_clamp (by omega)
    rcases Nat.lt_or_ge i R with h | h
    · have hx : vp_in (nI i) 8 := vp_in_nI (by omega) (by decide)
      refine br_f (nI_ge h (by omega)) ⟨hx, ?_⟩
      rw [e1]
      refine br_c (fun z => nm_r (e' := nI (i + 1)) (nI_1 i) (ih (i + 1) bits (by omega) (by omega) (fun r l hr hc hl => ?_))) (fun z => ⟨hx, nm_e (nm_r (e' := nI (i + 1)) (nI_1 i) (ih (i + 1) _ (by omega) (by omega) (fun r l hr hc hl => ?_)))⟩)
      · by_cases y : r = i
        · rw [y] at hc
          exact absurd z hc
        · exact hb r l (by omega) hc hl
      · by_cases y : r = i
        · rw [y] at hl
          rw [b_or, hl, Bool.or_true]
        · exact gf_bmono _ _ _ (hb r l (by omega) hc hl)
    · exact br_t (nI_le h (by omega)) ⟨N + 1, gx_sc38 cf hm k (N + 1) 0 _ _ _ _ _ _ _ _ _ _ dn rm (Nat.zero_le _) (by omega) (W bits (fun r l hr hc hl => hb r l (by omega) hc hl))⟩
theorem gx_scan {post : SX → Prop} (cf : (gf_cf R C N nr nw)) (hm : (gf_HM C N ho))
    (k : ∀ (wc' : Nat) (va' fl' us' ma' tp' od' lv' fw' wo' : Nat → Int32) (dn' : Nat → Nat) (rm' : Nat → Int32), (gf_EW R C N nr nw gc wc' 0 ir iw ig ch us0 va0 fl0 ma0 rt0 wa0 gr0 rt wa va' fl' us' ma' tp' rm' gr fw' wo' dn' (fun _ => False)) → post ((nI R), (nI C), (nI nr), (nI nw), (nI N), cyc, fnd, (nI gc), (nI wc'), rt, wa, va', fl', us', ma', ho, tp', od', lv', rm', ch, gr, re, fw', wo'))
    (W : ∀ bits : Int32, (∀ r i, r < R → ch r ≠ 0 → bt (rm r) i = true → bt bits i = true) → (gf_EW R C N nr nw gc wc 0 ir iw ig ch us0 va0 fl0 ma0 rt0 wa0 gr0 rt wa va fl us ma tp rm gr fw wo dn (gf_PS C 0 ch bits))) : wpX_scanRemembered post ((nI R), (nI C), (nI nr), (nI nw), (nI N), cyc, fnd, (nI gc), (nI wc), rt, wa, va, fl, us, ma, ho, tp, od, lv, rm, ch, gr, re, fw, wo) :=
  ⟨R + 1, gx_sc4 cf hm k W (R + 1) 0 0 (Nat.zero_le _) (by omega) (fun r l hr => absurd hr (Nat.not_lt_zero _))⟩
theorem gf_EW_rootRef {i : Nat} {v : Int32} (W : (gf_EW R C N nr nw gc wc j0 i iw ig ch us0 va0 fl0 ma0 rt0 wa0 gr0 rt wa va fl us ma tp rm gr fw wo dn P)) (hi : i < nr) (hv : gf_rr (gf_S C N ch us fw) dn (-1) v (rt0 i)) : (gf_EW R C N nr nw gc wc j0 (i + 1) iw ig ch us0 va0 fl0 ma0 rt0 wa0 gr0 (upd rt i v) wa va fl us ma tp rm gr fw wo dn P) := by
  obtain ⟨⟨E1, E2, E3, E4, E5, R1, R2, R3⟩, ⟨V1, V2, V3⟩, T⟩ := W
  have hU : ∀ l, l < nr → gf_rr (gf_U N us) dn (-1) (upd rt i v l) (rt0 l) := by
    intro l hl
    by_cases e : l = i
    · rw [e, pk_us]
      exact gf_rr_mono hv (fun d hd => ⟨hd.1, rfl⟩)
    · rw [pk_un e]
      exact R1 l hl
  have hV : ∀ l, l < i + 1 → gf_vr (gf_S C N ch us fw) (upd rt i v l) := by
    intro l hl
    by_cases e : l = i
    · rw [e, pk_us]
      exact gf_rr_vr hv
    · rw [pk_un e]
      exact V1 l (by omega)
  exact ⟨⟨E1, E2, E3, E4, E5, ⟨fun l hl => hU l hl, R2, R3⟩⟩, ⟨hV, V2, V3⟩, T⟩
theorem gx_rarootRef2 {post : SX → Prop} (cf : (gf_cf R C N nr nw)) (hm : (gf_HM C N ho)) (hc : nr ≤ 8)
    (k : ∀ (wc' : Nat) (va' fl' us' ma' tp' od' lv' fw' wo' : Nat → Int32) (dn' : Nat → Nat) (rt' : Nat → Int32), (gf_EW R C N nr nw gc wc' j0 nr iw ig ch us0 va0 fl0 ma0 rt0 wa0 gr0 rt' wa va' fl' us' ma' tp' rm gr fw' wo' dn' P) → post ((nI R), (nI C), (nI nr), (nI nw), (nI N), cyc, fnd, (nI gc), (nI wc'), rt', wa, va', fl', us', ma', ho, tp', od', lv', rm, ch, gr, re, fw', wo')) :
    ∀ (n i : Nat) (wc' : Nat) (va' fl' us' ma' tp' od' lv' fw' wo' : Nat → Int32) (dn' : Nat → Nat) (rt' : Nat → Int32), i ≤ nr → nr - i < n → (gf_EW R C N nr nw gc wc' j0 i iw ig ch us0 va0 fl0 ma0 rt0 wa0 gr0 rt' wa va' fl' us' ma' tp' rm gr fw' wo' dn' P) → wX_relocateAll__rootRef_2 post (nI nr) n (nI i) (nI R) (nI C) (nI nr) (nI nw) (nI N) cyc fnd (nI gc) (nI wc') rt' wa va' fl' us' ma' ho tp' od' lv' rm ch gr re fw' wo' := by
  intro n
  induction n with
  | zero => intro i _ _ _ _ _ _ _ _ _ _ _ _ _ h; omega
  | succ n ih =>
    intro i wc va fl us ma tp od lv fw wo dn rt hi hf W
    have e1 : (nI i).toNatClampNeg = i := nI_clamp (by omega)
    rcases Nat.lt_or_ge i nr with h | h
    · have hx : vp_in (nI i) 8 := vp_in_nI (by omega) (by decide)
      obtain ⟨⟨_, _, _, _, _, R1, R2, R3⟩, _⟩ := id W
      refine br_f (nI_ge h (by omega)) ⟨hx, ?_⟩
      rw [e1]
      refine gx_relocate cf hm W (gf_rr_vr (R1 i h)) (fun y wc2 va2 fl2 us2 ma2 tp2 od2 lv2 fw2 wo2 dn2 W2 _ rb => ⟨hx, nm_e (nm_r (e' := nI (i + 1)) (nI_1 i) ?_)⟩)
      exact ih (i + 1) _ _ _ _ _ _ _ _ _ _ dn2 _ (by omega) (by omega) (gf_EW_rootRef W2 h (rb _ (R1 i h)))
    · have e : i = nr := by omega
      subst e
      exact br_t (nI_le h (by omega)) (k _ _ _ _ _ _ _ _ _ _ dn _ W)
theorem gx_rarootRef {post : SX → Prop} (cf : (gf_cf R C N nr nw)) (hm : (gf_HM C N ho)) (hc : nr ≤ 8) (W : (gf_EW R C N nr nw gc wc j0 0 iw ig ch us0 va0 fl0 ma0 rt0 wa0 gr0 rt wa va fl us ma tp rm gr fw wo dn P))
    (k : ∀ (wc' : Nat) (va' fl' us' ma' tp' od' lv' fw' wo' : Nat → Int32) (dn' : Nat → Nat) (rt' : Nat → Int32), (gf_EW R C N nr nw gc wc' j0 nr iw ig ch us0 va0 fl0 ma0 rt0 wa0 gr0 rt' wa va' fl' us' ma' tp' rm gr fw' wo' dn' P) → post ((nI R), (nI C), (nI nr), (nI nw), (nI N), cyc, fnd, (nI gc), (nI wc'), rt', wa, va', fl', us', ma', ho, tp', od', lv', rm, ch, gr, re, fw', wo')) : wpX_relocateAll__rootRef post ((nI R), (nI C), (nI nr), (nI nw), (nI N), cyc, fnd, (nI gc), (nI wc), rt, wa, va, fl, us, ma, ho, tp, od, lv, rm, ch, gr, re, fw, wo) (nI nr) :=
  ⟨nr + 1, gx_rarootRef2 cf hm hc k (nr + 1) 0 _ _ _ _ _ _ _ _ _ _ dn _ (Nat.zero_le _) (by omega) W⟩
theorem gf_EW_watchRef {i : Nat} {v : Int32} (W : (gf_EW R C N nr nw gc wc j0 ir i ig ch us0 va0 fl0 ma0 rt0 wa0 gr0 rt wa va fl us ma tp rm gr fw wo dn P)) (hi : i < nw) (hv : gf_rr (gf_S C N ch us fw) dn (-1) v (wa0 i)) : (gf_EW R C N nr nw gc wc j0 ir (i + 1) ig ch us0 va0 fl0 ma0 rt0 wa0 gr0 rt (upd wa i v) va fl us ma tp rm gr fw wo dn P) := by
  obtain ⟨⟨E1, E2, E3, E4, E5, R1, R2, R3⟩, ⟨V1, V2, V3⟩, T⟩ := W
  have hU : ∀ l, l < nw → gf_rr (gf_U N us) dn (-1) (upd wa i v l) (wa0 l) := by
    intro l hl
    by_cases e : l = i
    · rw [e, pk_us]
      exact gf_rr_mono hv (fun d hd => ⟨hd.1, rfl⟩)
    · rw [pk_un e]
      exact R2 l hl
  have hV : ∀ l, l < i + 1 → gf_vr (gf_S C N ch us fw) (upd wa i v l) := by
    intro l hl
    by_cases e : l = i
    · rw [e, pk_us]
      exact gf_rr_vr hv
    · rw [pk_un e]
      exact V2 l (by omega)
  exact ⟨⟨E1, E2, E3, E4, E5, ⟨R1, fun l hl => hU l hl, R3⟩⟩, ⟨V1, hV, V3⟩, T⟩
theorem gx_rawatchRef2 {post : SX → Prop} (cf : (gf_cf R C N nr nw)) (hm : (gf_HM C N ho)) (hc : nw ≤ 4)
    (k : ∀ (wc' : Nat) (va' fl' us' ma' tp' od' lv' fw' wo' : Nat → Int32) (dn' : Nat → Nat) (wa' : Nat → Int32), (gf_EW R C N nr nw gc wc' j0 ir nw ig ch us0 va0 fl0 ma0 rt0 wa0 gr0 rt wa' va' fl' us' ma' tp' rm gr fw' wo' dn' P) → post ((nI R), (nI C), (nI nr), (nI nw), (nI N), cyc, fnd, (nI gc), (nI wc'), rt, wa', va', fl', us', ma', ho, tp', od', lv', rm, ch, gr, re, fw', wo')) :
    ∀ (n i : Nat) (wc' : Nat) (va' fl' us' ma' tp' od' lv' fw' wo' : Nat → Int32) (dn' : Nat → Nat) (wa' : Nat → Int32), i ≤ nw → nw - i < n → (gf_EW R C N nr nw gc wc' j0 ir i ig ch us0 va0 fl0 ma0 rt0 wa0 gr0 rt wa' va' fl' us' ma' tp' rm gr fw' wo' dn' P) → wX_relocateAll__watchRef_2 post (nI nw) n (nI i) (nI R) (nI C) (nI nr) (nI nw) (nI N) cyc fnd (nI gc) (nI wc') rt wa' va' fl' us' ma' ho tp' od' lv' rm ch gr re fw' wo' := by
  intro n
  induction n with
  | zero => intro i _ _ _ _ _ _ _ _ _ _ _ _ _ h; omega
  | succ n ih =>
    intro i wc va fl us ma tp od lv fw wo dn wa hi hf W
    have e1 : (nI i).toNatClampNeg = i := nI_clamp (by omega)
    rcases Nat.lt_or_ge i nw with h | h
    · have hx : vp_in (nI i) 4 := vp_in_nI (by omega) (by decide)
      obtain ⟨⟨_, _, _, _, _, R1, R2, R3⟩, _⟩ := id W
      refine br_f (nI_ge h (by omega)) ⟨hx, ?_⟩
      rw [e1]
      refine gx_relocate cf hm W (gf_rr_vr (R2 i h)) (fun y wc2 va2 fl2 us2 ma2 tp2 od2 lv2 fw2 wo2 dn2 W2 _ rb => ⟨hx, nm_e (nm_r (e' := nI (i + 1)) (nI_1 i) ?_)⟩)
      exact ih (i + 1) _ _ _ _ _ _ _ _ _ _ dn2 _ (by omega) (by omega) (gf_EW_watchRef W2 h (rb _ (R2 i h)))
    · have e : i = nw := by omega
      subst e
      exact br_t (nI_le h (by omega)) (k _ _ _ _ _ _ _ _ _ _ dn _ W)
theorem gx_rawatchRef {post : SX → Prop} (cf : (gf_cf R C N nr nw)) (hm : (gf_HM C N ho)) (hc : nw ≤ 4) (W : (gf_EW R C N nr nw gc wc j0 ir 0 ig ch us0 va0 fl0 ma0 rt0 wa0 gr0 rt wa va fl us ma tp rm gr fw wo dn P))
    (k : ∀ (wc' : Nat) (va' fl' us' ma' tp' od' lv' fw' wo' : Nat → Int32) (dn' : Nat → Nat) (wa' : Nat → Int32), (gf_EW R C N nr nw gc wc' j0 ir nw ig ch us0 va0 fl0 ma0 rt0 wa0 gr0 rt wa' va' fl' us' ma' tp' rm gr fw' wo' dn' P) → post ((nI R), (nI C), (nI nr), (nI nw), (nI N), cyc, fnd, (nI gc), (nI wc'), rt, wa', va', fl', us', ma', ho, tp', od', lv', rm, ch, gr, re, fw', wo')) : wpX_relocateAll__watchRef post ((nI R), (nI C), (nI nr), (nI nw), (nI N), cyc, fnd, (nI gc), (nI wc), rt, wa, va, fl, us, ma, ho, tp, od, lv, rm, ch, gr, re, fw, wo) (nI nw) :=
  ⟨nw + 1, gx_rawatchRef2 cf hm hc k (nw + 1) 0 _ _ _ _ _ _ _ _ _ _ dn _ (Nat.zero_le _) (by omega) W⟩
theorem gf_EW_gray {i : Nat} {v : Int32} (W : (gf_EW R C N nr nw gc wc j0 ir iw i ch us0 va0 fl0 ma0 rt0 wa0 gr0 rt wa va fl us ma tp rm gr fw wo dn P)) (hi : i < gc) (hv : gf_rr (gf_S C N ch us fw) dn (-1) v (gr0 i)) : (gf_EW R C N nr nw gc wc j0 ir iw (i + 1) ch us0 va0 fl0 ma0 rt0 wa0 gr0 rt wa va fl us ma tp rm (upd gr i v) fw wo dn P) := by
  obtain ⟨⟨E1, E2, E3, E4, E5, R1, R2, R3⟩, ⟨V1, V2, V3⟩, T⟩ := W
  have hU : ∀ l, l < gc → gf_rr (gf_U N us) dn (-1) (upd gr i v l) (gr0 l) := by
    intro l hl
    by_cases e : l = i
    · rw [e, pk_us]
      exact gf_rr_mono hv (fun d hd => ⟨hd.1, rfl⟩)
    · rw [pk_un e]
      exact R3 l hl
  have hV : ∀ l, l < i + 1 → gf_vr (gf_S C N ch us fw) (upd gr i v l) := by
    intro l hl
    by_cases e : l = i
    · rw [e, pk_us]
      exact gf_rr_vr hv
    · rw [pk_un e]
      exact V3 l (by omega)
  exact ⟨⟨E1, E2, E3, E4, E5, ⟨R1, R2, fun l hl => hU l hl⟩⟩, ⟨V1, V2, hV⟩, T⟩
theorem gx_ragray2 {post : SX → Prop} (cf : (gf_cf R C N nr nw)) (hm : (gf_HM C N ho)) (hc : gc ≤ 32)
    (k : ∀ (wc' : Nat) (va' fl' us' ma' tp' od' lv' fw' wo' : Nat → Int32) (dn' : Nat → Nat) (gr' : Nat → Int32), (gf_EW R C N nr nw gc wc' j0 ir iw gc ch us0 va0 fl0 ma0 rt0 wa0 gr0 rt wa va' fl' us' ma' tp' rm gr' fw' wo' dn' P) → post ((nI R), (nI C), (nI nr), (nI nw), (nI N), cyc, fnd, (nI gc), (nI wc'), rt, wa, va', fl', us', ma', ho, tp', od', lv', rm, ch, gr', re, fw', wo')) :
    ∀ (n i : Nat) (wc' : Nat) (va' fl' us' ma' tp' od' lv' fw' wo' : Nat → Int32) (dn' : Nat → Nat) (gr' : Nat → Int32), i ≤ gc → gc - i < n → (gf_EW R C N nr nw gc wc' j0 ir iw i ch us0 va0 fl0 ma0 rt0 wa0 gr0 rt wa va' fl' us' ma' tp' rm gr' fw' wo' dn' P) → wX_relocateAll__gray_2 post (nI gc) n (nI i) (nI R) (nI C) (nI nr) (nI nw) (nI N) cyc fnd (nI gc) (nI wc') rt wa va' fl' us' ma' ho tp' od' lv' rm ch gr' re fw' wo' := by
  intro n
  induction n with
  | zero => intro i _ _ _ _ _ _ _ _ _ _ _ _ _ h; omega
  | succ n ih =>
    intro i wc va fl us ma tp od lv fw wo dn gr hi hf W
    have e1 : (nI i).toNatClampNeg = i := nI_clamp (by omega)
    rcases Nat.lt_or_ge i gc with h | h
    · have hx : vp_in (nI i) 32 := vp_in_nI (by omega) (by decide)
      obtain ⟨⟨_, _, _, _, _, R1, R2, R3⟩, _⟩ := id W
      refine br_f (nI_ge h (by omega)) ⟨hx, ?_⟩
      rw [e1]
      refine gx_relocate cf hm W (gf_rr_vr (R3 i h)) (fun y wc2 va2 fl2 us2 ma2 tp2 od2 lv2 fw2 wo2 dn2 W2 _ rb => ⟨hx, nm_e (nm_r (e' := nI (i + 1)) (nI_1 i) ?_)⟩)
      exact ih (i + 1) _ _ _ _ _ _ _ _ _ _ dn2 _ (by omega) (by omega) (gf_EW_gray W2 h (rb _ (R3 i h)))
    · have e : i = gc := by omega
      subst e
      exact br_t (nI_le h (by omega)) (k _ _ _ _ _ _ _ _ _ _ dn _ W)
theorem gx_ragray {post : SX → Prop} (cf : (gf_cf R C N nr nw)) (hm : (gf_HM C N ho)) (hc : gc ≤ 32) (W : (gf_EW R C N nr nw gc wc j0 ir iw 0 ch us0 va0 fl0 ma0 rt0 wa0 gr0 rt wa va fl us ma tp rm gr fw wo dn P))
    (k : ∀ (wc' : Nat) (va' fl' us' ma' tp' od' lv' fw' wo' : Nat → Int32) (dn' : Nat → Nat) (gr' : Nat → Int32), (gf_EW R C N nr nw gc wc' j0 ir iw gc ch us0 va0 fl0 ma0 rt0 wa0 gr0 rt wa va' fl' us' ma' tp' rm gr' fw' wo' dn' P) → post ((nI R), (nI C), (nI nr), (nI nw), (nI N), cyc, fnd, (nI gc), (nI wc'), rt, wa, va', fl', us', ma', ho, tp', od', lv', rm, ch, gr', re, fw', wo')) : wpX_relocateAll__gray post ((nI R), (nI C), (nI nr), (nI nw), (nI N), cyc, fnd, (nI gc), (nI wc), rt, wa, va, fl, us, ma, ho, tp, od, lv, rm, ch, gr, re, fw, wo) (nI gc) :=
  ⟨gc + 1, gx_ragray2 cf hm hc k (gc + 1) 0 _ _ _ _ _ _ _ _ _ _ dn _ (Nat.zero_le _) (by omega) W⟩
end
end
section
/-! X: the choice of regions, the release, evacuate whole -/
section
variable {R C N nr nw gc : Nat} {cyc fnd wk : Int32} {rt wa va fl us ma ho tp od lv rm ch gr re fw wo : Nat → Int32}
theorem gx_cost9 {post : Int32 → Prop} {r : Nat} (hr : r < 8) (k : ∀ v, post v) : ∀ (n i : Nat) (x2 : Int32), i ≤ 32 → 32 - i < n → wX_cost_9 post (nI r) (nI R) (nI C) (nI nr) (nI nw) (nI N) cyc fnd (nI gc) wk rt wa va fl us ma ho tp od lv rm ch gr re fw wo n x2 (nI i) := by
  intro n
  induction n with
  | zero => intro i x2 _ h; omega
  | succ n ih =>
    intro i x2 hi hf
    rcases Nat.lt_or_ge i 32 with h | h
    · exact br_f (nI_ge (b := 32) h (by decide)) ⟨vp_in_nI hr (by decide), nm_e (nm_r (e' := nI (i + 1)) (nI_1 i) (ih (i + 1) _ (by omega) (by omega)))⟩
    · exact br_t (nI_le (a := 32) h (by omega)) (k _)
theorem gx_cost {post : Int32 → Prop} {r : Nat} (hr : r < 8) (k : ∀ v, post v) : wpX_cost post ((nI R), (nI C), (nI nr), (nI nw), (nI N), cyc, fnd, (nI gc), wk, rt, wa, va, fl, us, ma, ho, tp, od, lv, rm, ch, gr, re, fw, wo) (nI r) :=
  ⟨vp_in_nI hr (by decide), nm_e ⟨33, gx_cost9 hr k 33 0 _ (by omega) (by omega)⟩⟩
theorem gx_we {post : Int32 → Prop} {r : Nat} (hr : r < 8) (k0 : post 0) (k1 : post 1) : wpX_worthEmptying post ((nI R), (nI C), (nI nr), (nI nw), (nI N), cyc, fnd, (nI gc), wk, rt, wa, va, fl, us, ma, ho, tp, od, lv, rm, ch, gr, re, fw, wo) (nI r) := by
  have hx : vp_in (nI r) 8 := vp_in_nI hr (by decide)
  exact ⟨hx, br_c (fun _ => ⟨hx, br_c (fun _ => k0) (fun _ => ⟨hx, br_c (fun _ => k1) (fun _ => ⟨hx, hx, br_c (fun _ => k0) (fun _ => k1)⟩)⟩)⟩) (fun _ => k0)⟩
theorem gx_ch7 {post : Int32 → Prop} {x1 : Int32} (hR : R ≤ 8) (k : ∀ x, (x = -1 ∨ ∃ b, b < R ∧ x = nI b) → post x) : ∀ (n i : Nat) (x2 x3 : Int32), i ≤ R → R - i < n → (x2 = -1 ∨ ∃ b, b < R ∧ x2 = nI b) → wX_cheapest_7 post x1 (nI R) (nI C) (nI nr) (nI nw) (nI N) cyc fnd (nI gc) wk rt wa va fl us ma ho tp od lv rm ch gr re fw wo n x2 x3 (nI i) := by
  intro n
  induction n with
  | zero => intro i x2 x3 _ h; omega
  | succ n ih =>
    intro i x2 x3 hi hf I
    rcases Nat.lt_or_ge i R with h | h
    · have nx : ∀ x2 x3, (x2 = -1 ∨ ∃ b, b < R ∧ x2 = nI b) → wX_cheapest_7 post x1 (nI R) (nI C) (nI nr) (nI nw) (nI N) cyc fnd (nI gc) wk rt wa va fl us ma ho tp od lv rm ch gr re fw wo n x2 x3 (nI (i + 1)) := fun x2 x3 I => ih (i + 1) x2 x3 (by omega) (by omega) I
      have st : ∀ x2 x3, (x2 = -1 ∨ ∃ b, b < R ∧ x2 = nI b) → ∀ y, y = nI i + 1 → wX_cheapest_7 post x1 (nI R) (nI C) (nI nr) (nI nw) (nI N) cyc fnd (nI gc) wk rt wa va fl us ma ho tp od lv rm ch gr re fw wo n x2 x3 y := fun x2 x3 I => nm_r (nI_1 i) (nx x2 x3 I)
      exact br_f (nI_ge h (by omega)) (gx_cost (by omega) (fun v => gx_we (by omega) (br_t rfl (st _ _ I)) (br_f (by decide) (br_c (fun _ => st _ _ I) (fun _ => br_c (fun _ => st _ _ (Or.inr ⟨i, h, rfl⟩)) (fun _ => br_c (fun _ => st _ _ I) (fun _ => st _ _ (Or.inr ⟨i, h, rfl⟩))))))))
    · exact br_t (nI_le h (by omega)) (k _ I)
theorem gx_cheapest {post : Int32 → Prop} {x1 : Int32} (hR : R ≤ 8) (k : ∀ x, (x = -1 ∨ ∃ b, b < R ∧ x = nI b) → post x) : wpX_cheapest post ((nI R), (nI C), (nI nr), (nI nw), (nI N), cyc, fnd, (nI gc), wk, rt, wa, va, fl, us, ma, ho, tp, od, lv, rm, ch, gr, re, fw, wo) x1 :=
  ⟨R + 1, gx_ch7 hR k (R + 1) 0 (-1) 0 (Nat.zero_le _) (by omega) (Or.inl rfl)⟩
theorem gx_cr7 {post : Int32 → SX → Prop} {ch0 : Nat → Int32} (hR : R ≤ 8) (k0 : post 0 ((nI R), (nI C), (nI nr), (nI nw), (nI N), cyc, fnd, (nI gc), wk, rt, wa, va, fl, us, ma, ho, tp, od, lv, rm, ch0, gr, re, fw, wo)) (k1 : ∀ ch : Nat → Int32, post 1 ((nI R), (nI C), (nI nr), (nI nw), (nI N), cyc, fnd, (nI gc), wk, rt, wa, va, fl, us, ma, ho, tp, od, lv, rm, ch, gr, re, fw, wo)) : ∀ (n i : Nat) (x2 x3 : Int32) (ch : Nat → Int32), i ≤ R → R - i < n → ((x3 = 0 ∧ ch = ch0) ∨ x3 = 1) → wX_chooseRegions_7 post (nI R) (nI C) (nI nr) (nI nw) (nI N) cyc fnd (nI gc) wk n x2 x3 (nI i) rt wa va fl us ma ho tp od lv rm ch gr re fw wo := by
  intro n
  induction n with
  | zero => intro i x2 x3 ch _ h; omega
  | succ n ih =>
    intro i x2 x3 ch hi hf I
    have fin : narrow .boolean (.int x3) = .int x3 ∧ post x3 ((nI R), (nI C), (nI nr), (nI nw), (nI N), cyc, fnd, (nI gc), wk, rt, wa, va, fl, us, ma, ho, tp, od, lv, rm, ch, gr, re, fw, wo) := by
      rcases I with ⟨e1, e2⟩ | e1
      · subst e1 e2
        exact ⟨narrow_b0, k0⟩
      · subst e1
        exact ⟨narrow_b1, k1 _⟩
    rcases Nat.lt_or_ge i R with h | h
    · refine br_f (nI_ge h (by omega)) (gx_cheapest hR (fun x hx => ?_))
      rcases hx with rfl | ⟨b, hb, rfl⟩
      · exact br_f (by decide) fin
      · exact br_t (nI_pos' (by omega)) (gx_cost (by omega) (fun v => nm_e ⟨vp_in_nI (by omega) (by decide), nm_e (nm_r (e' := nI (i + 1)) (nI_1 i) (ih (i + 1) _ 1 _ (by omega) (by omega) (Or.inr rfl)))⟩))
    · exact br_t (nI_le h (by omega)) fin
theorem gx_choose {post : Int32 → SX → Prop} {x1 : Int32} (hR : R ≤ 8) (k0 : post 0 ((nI R), (nI C), (nI nr), (nI nw), (nI N), cyc, fnd, (nI gc), wk, rt, wa, va, fl, us, ma, ho, tp, od, lv, rm, ch, gr, re, fw, wo)) (k1 : ∀ ch : Nat → Int32, post 1 ((nI R), (nI C), (nI nr), (nI nw), (nI N), cyc, fnd, (nI gc), wk, rt, wa, va, fl, us, ma, ho, tp, od, lv, rm, ch, gr, re, fw, wo)) : wpX_chooseRegions post ((nI R), (nI C), (nI nr), (nI nw), (nI N), cyc, fnd, (nI gc), wk, rt, wa, va, fl, us, ma, ho, tp, od, lv, rm, ch, gr, re, fw, wo) x1 :=
  ⟨R + 1, gx_cr7 hR k0 k1 (R + 1) 0 x1 0 ch (Nat.zero_le _) (by omega) (Or.inl ⟨rfl, rfl⟩)⟩
/-! release -/
theorem gx_rl25 {post : Int32 → SX → Prop} {usE tpE : Nat → Int32} {r : Nat} (cf : (gf_cf R C N nr nw)) (hr : r < R)
    (k : ∀ (fr : Int32) (us tp lv rm' : Nat → Int32), (∀ c, c < N → c / C ≠ r → us c = usE c) → (∀ c, c < N → c / C = r → (us c ≠ 0 ↔ usE c ≠ 0 ∧ fw c = nI c)) → (∀ q, q ≠ r → tp q = tpE q) → (∃ t, t ≤ C ∧ tp r = nI t ∧ ∀ c, c < N → us c ≠ 0 → c / C = r → c % C < t) → (∀ l, l < 32 → bt fr l = true → l < N ∧ l / C = r ∧ us l = 0) → (∀ q, q ≠ r → rm' q = rm q) → (rm' r = rm r ∨ ∀ c, c < N → c / C = r → us c = 0) → post fr ((nI R), (nI C), (nI nr), (nI nw), (nI N), cyc, fnd, (nI gc), wk, rt, wa, va, fl, us, ma, ho, tp, od, lv, rm', ch, gr, re, fw, wo)) :
    ∀ (n i : Nat) (fr : Int32) (us tp lv : Nat → Int32), i ≤ C → C - i < n → (∀ c, c < N → c / C ≠ r → us c = usE c) → (∀ c, c < N → c / C = r → (c % C < i → (us c ≠ 0 ↔ usE c ≠ 0 ∧ fw c = nI c)) ∧ (i ≤ c % C → us c = usE c)) → (∀ q, q ≠ r → tp q = tpE q) → (∃ t, t ≤ i ∧ tp r = nI t ∧ ∀ c, c < N → us c ≠ 0 → c / C = r → c % C < i → c % C < t) → (∀ l, l < 32 → bt fr l = true → l < N ∧ l / C = r ∧ l % C < i ∧ us l = 0) → wX_release_25 post (nI r) (nI R) (nI C) (nI nr) (nI nw) (nI N) cyc fnd (nI gc) wk n fr (nI i) rt wa va fl us ma ho tp od lv rm ch gr re fw wo := by
  obtain ⟨c1, c2, c3, c4, c5, c6, c7⟩ := cf
  have hx8 : vp_in (nI r) 8 := vp_in_nI (by omega) (by decide)
  have er : (nI r).toNatClampNeg = r := nI_clamp (by omega)
  intro n
  induction n with
  | zero => intro i fr us tp lv _ h; omega
  | succ n ih =>
    intro i fr us tp lv hi hf h1 h2 h3 h4 h5
    rcases Nat.lt_or_ge i C with h | h
    · obtain ⟨i1, i2, i3⟩ := gf_idx c5 hr h
      have hx : vp_in (nI (r * C + i)) 32 := vp_in_nI (by omega) (by decide)
      have e4 : (nI (r * C + i)).toNatClampNeg = r * C + i := nI_clamp (by omega)
      have uq : ∀ c, c / C = r → c % C = i → c = r * C + i := by
        intro c a b
        have := Nat.div_add_mod c C
        rw [a, b, Nat.mul_comm] at this
        exact this.symm
      have drop : (¬ (us (r * C + i) ≠ 0 ∧ fw (r * C + i) = nI (r * C + i))) → wX_release_87 post (wX_release_25 post (nI r) (nI R) (nI C) (nI nr) (nI nw) (nI N) cyc fnd (nI gc) wk n) (nI r) fr (nI i) (nI (r * C + i)) (nI R) (nI C) (nI nr) (nI nw) (nI N) cyc fnd (nI gc) wk rt wa va fl us ma ho tp od lv rm ch gr re fw wo := by
        intro nk
        have e0 : us (r * C + i) = usE (r * C + i) := (h2 _ i1 i2).2 (by omega)
        refine ⟨hx, nm_r (e' := upd us (r * C + i) 0) (by rw [e4, gf_nar0]) (nm_e (nm_r (e' := nI (i + 1)) (nI_1 i) (ih (i + 1) _ _ tp lv (by omega) (by omega) (fun c hc hd => ?_) (fun c hc hd => ⟨fun hm => ?_, fun hm => ?_⟩) h3 ?_ (fun l hl hb => ?_))))⟩
        · rw [pk_un (fun e => hd (by rw [e]; exact i2))]
          exact h1 c hc hd
        · by_cases e : c = r * C + i
          · rw [e, pk_us]
            exact ⟨fun q => absurd rfl q, fun q => absurd ⟨by rw [e0]; exact q.1, q.2⟩ nk⟩
          · rw [pk_un e]
            exact (h2 c hc hd).1 (by
              have : c % C ≠ i := fun q => e (uq c hd q)
              omega)
        · rw [pk_un (fun e => by rw [e, i3] at hm; omega)]
          exact (h2 c hc hd).2 (by omega)
        · obtain ⟨t, t1, t2, t3⟩ := h4
          refine ⟨t, by omega, t2, fun c hc hu hd hm => ?_⟩
          by_cases e : c = r * C + i
          · rw [e, pk_us] at hu
            exact absurd rfl hu
          · rw [pk_un e] at hu
            exact t3 c hc hu hd (by
              have : c % C ≠ i := fun q => e (uq c hd q)
              omega)
        · rw [gf_bset _ (by omega) hl] at hb
          by_cases e : l = r * C + i
          · rw [e, pk_us]
            exact ⟨i1, i2, by omega, rfl⟩
          · rw [decide_eq_false e, Bool.or_false] at hb
            obtain ⟨a1, a2, a3, a4⟩ := h5 l hl hb
            rw [pk_un e]
            exact ⟨a1, a2, by omega, a4⟩
      refine br_f (nI_ge h (by omega)) (nm_r (e' := nI (r * C + i)) (by rw [pk_mul, nI_add]) ⟨hx, ?_⟩)
      rw [e4]
      refine br_c (fun u => drop (fun q => q.1 u)) (fun u => ⟨hx, br_c (fun v => ⟨hx8, hx8, nm_e ⟨hx8, nm_r (e' := upd tp r (nI (i + 1))) (by rw [er, nI_1]) (nm_r (e' := nI (i + 1)) (nI_1 i) (ih (i + 1) fr us _ _ (by omega) (by omega) h1 (fun c hc hd => ⟨fun hm => ?_, fun hm => (h2 c hc hd).2 (by omega)⟩) (fun q hq => by rw [pk_un hq]; exact h3 q hq) ⟨i + 1, Nat.le_refl _, by rw [pk_us], fun c hc hu hd hm => hm⟩ (fun l hl hb => ?_)))⟩⟩) (fun v => drop (fun q => v q.2))⟩)
      · by_cases e : c = r * C + i
        · have e0 : us (r * C + i) = usE (r * C + i) := (h2 _ i1 i2).2 (by omega)
          rw [e]
          exact ⟨fun q => ⟨by rw [← e0]; exact q, v⟩, fun _ => u⟩
        · exact (h2 c hc hd).1 (by
            have : c % C ≠ i := fun q => e (uq c hd q)
            omega)
      · obtain ⟨a1, a2, a3, a4⟩ := h5 l hl hb
        exact ⟨a1, a2, by omega, a4⟩
    · have e : i = C := by omega
      subst e
      have lt : ∀ c, c % i < i := fun c => Nat.mod_lt _ (by omega)
      have f2 : ∀ c, c < N → c / i = r → (us c ≠ 0 ↔ usE c ≠ 0 ∧ fw c = nI c) := fun c hc hd => (h2 c hc hd).1 (lt c)
      obtain ⟨t, t1, t2, t3⟩ := h4
      have f4 : ∃ t, t ≤ i ∧ tp r = nI t ∧ ∀ c, c < N → us c ≠ 0 → c / i = r → c % i < t := ⟨t, t1, t2, fun c hc hu hd => t3 c hc hu hd (lt c)⟩
      have f5 : ∀ l, l < 32 → bt fr l = true → l < N ∧ l / i = r ∧ us l = 0 := fun l hl hb => by
        obtain ⟨a1, a2, a3, a4⟩ := h5 l hl hb
        exact ⟨a1, a2, a4⟩
      refine br_t (nI_le h (by omega)) ⟨hx8, ?_⟩
      rw [er]
      refine br_c (fun z => ⟨hx8, nm_e (k fr us tp lv _ h1 f2 h3 f4 f5 (fun q hq => pk_un hq) (Or.inr (fun c hc hd => ?_)))⟩) (fun _ => k fr us tp lv rm h1 f2 h3 f4 f5 (fun _ _ => rfl) (Or.inl rfl))
      have t0 : t = 0 := (nI_eq (b := 0) (by omega) (by omega)).mp (t2.symm.trans z)
      by_cases y : us c = 0
      · exact y
      · have := t3 c hc y hd (lt c)
        omega
theorem gx_release {post : Int32 → SX → Prop} {r : Nat} (cf : (gf_cf R C N nr nw)) (hr : r < R)
    (k : ∀ (fr : Int32) (us' tp' od' lv' rm' : Nat → Int32), (∀ c, c < N → c / C ≠ r → us' c = us c) → (∀ c, c < N → c / C = r → (us' c ≠ 0 ↔ us c ≠ 0 ∧ fw c = nI c)) → (∀ q, q ≠ r → tp' q = tp q) → (∃ t, t ≤ C ∧ tp' r = nI t ∧ ∀ c, c < N → us' c ≠ 0 → c / C = r → c % C < t) → (∀ l, l < 32 → bt fr l = true → l < N ∧ l / C = r ∧ us' l = 0) → (∀ q, q ≠ r → rm' q = rm q) → (rm' r = rm r ∨ ∀ c, c < N → c / C = r → us' c = 0) → post fr ((nI R), (nI C), (nI nr), (nI nw), (nI N), cyc, fnd, (nI gc), wk, rt, wa, va, fl, us', ma, ho, tp', od', lv', rm', ch, gr, re, fw, wo)) : wpX_release post ((nI R), (nI C), (nI nr), (nI nw), (nI N), cyc, fnd, (nI gc), wk, rt, wa, va, fl, us, ma, ho, tp, od, lv, rm, ch, gr, re, fw, wo) (nI r) := by
  have hR := cf.2.1
  have hx8 : vp_in (nI r) 8 := vp_in_nI (by omega) (by decide)
  have er : (nI r).toNatClampNeg = r := nI_clamp (by omega)
  unfold wpX_release
  dsimp only
  rw [er]
  refine ⟨hx8, nm_e ⟨hx8, nm_e ⟨hx8, nm_e ⟨C + 1, gx_rl25 cf hr (tpE := tp) (usE := us) (fun fr us' tp' lv' rm' => k fr us' tp' _ lv' rm') (C + 1) 0 0 us _ _ (Nat.zero_le _) (by omega) (fun _ _ _ => rfl) (fun c hc hd => ⟨fun q => absurd q (Nat.not_lt_zero _), fun _ => rfl⟩) (fun q hq => pk_un hq) ⟨0, Nat.zero_le _, by rw [pk_us, nI_0], fun c _ _ _ q => absurd q (Nat.not_lt_zero _)⟩ (fun l hl hb => ?_)⟩⟩⟩⟩
  rw [b_0] at hb
  exact absurd hb (by decide)
theorem gx_rr37 {post : SX → Prop} {rmE : Nat → Int32} {fr : Int32} (hR : R ≤ 8)
    (k : ∀ rm ch : Nat → Int32, (∀ q, q < R → rm q = rmE q &&& (fr ^^^ (-1))) → (∀ q, q < R → ch q = 0) → post ((nI R), (nI C), (nI nr), (nI nw), (nI N), cyc, fnd, (nI gc), wk, rt, wa, va, fl, us, ma, ho, tp, od, lv, rm, ch, gr, re, fw, wo)) :
    ∀ (n i : Nat) (rm ch : Nat → Int32), i ≤ R → R - i < n → (∀ q, q < i → rm q = rmE q &&& (fr ^^^ (-1))) → (∀ q, i ≤ q → rm q = rmE q) → (∀ q, q < i → ch q = 0) → wX_releaseRegions_37 post fr (nI R) (nI C) (nI nr) (nI nw) (nI N) cyc fnd (nI gc) wk n (nI i) rt wa va fl us ma ho tp od lv rm ch gr re fw wo := by
  intro n
  induction n with
  | zero => intro i rm ch _ h; omega
  | succ n ih =>
    intro i rm ch hi hf h1 h2 h3
    have e1 : (nI i).toNatClampNeg = i := nI_clamp (by omega)
    rcases Nat.lt_or_ge i R with h | h
    · have hx : vp_in (nI i) 8 := vp_in_nI (by omega) (by decide)
      refine br_f (nI_ge h (by omega)) ⟨hx, hx, nm_r (e' := upd rm i (rmE i &&& (fr ^^^ (-1)))) (by rw [e1, h2 i (Nat.le_refl _)]) ⟨hx, nm_r (e' := upd ch i 0) (by rw [e1, gf_nar0]) (nm_r (e' := nI (i + 1)) (nI_1 i) (ih (i + 1) _ _ (by omega) (by omega) (fun q hq => ?_) (fun q hq => ?_) (fun q hq => ?_)))⟩⟩
      · by_cases y : q = i
        · rw [y, pk_us]
        · rw [pk_un y]; exact h1 q (by omega)
      · rw [pk_un (by omega)]; exact h2 q (by omega)
      · by_cases y : q = i
        · rw [y, pk_us]
        · rw [pk_un y]; exact h3 q (by omega)
    · exact br_t (nI_le h (by omega)) (k rm ch (fun q hq => h1 q (by omega)) (fun q hq => h3 q (by omega)))
theorem gx_rr4 {post : SX → Prop} {usE rmE : Nat → Int32} (cf : (gf_cf R C N nr nw))
    (k : ∀ us' tp' od' lv' rm' ch' : Nat → Int32, (∀ c, c < N → (us' c ≠ 0 ↔ usE c ≠ 0 ∧ (ch (c / C) = 0 ∨ fw c = nI c))) → (gf_TP R C N us' tp') → (∀ q l, q < R → l < N → us' l ≠ 0 → (∃ c, c < N ∧ c / C = q ∧ us' c ≠ 0) → bt (rmE q) l = true → bt (rm' q) l = true) → (gf_CZ R ch') → post ((nI R), (nI C), (nI nr), (nI nw), (nI N), cyc, fnd, (nI gc), wk, rt, wa, va, fl, us', ma, ho, tp', od', lv', rm', ch', gr, re, fw, wo)) :
    ∀ (n i : Nat) (fr : Int32) (us tp od lv rm : Nat → Int32), i ≤ R → R - i < n → (∀ c, c < N → (c / C < i → (us c ≠ 0 ↔ usE c ≠ 0 ∧ (ch (c / C) = 0 ∨ fw c = nI c))) ∧ (i ≤ c / C → us c = usE c)) → (gf_TP R C N us tp) → (∀ l, l < 32 → bt fr l = true → l < N ∧ l / C < i ∧ us l = 0) → (∀ q, q < R → rm q = rmE q ∨ (q < i ∧ ∀ c, c < N → c / C = q → us c = 0)) → wX_releaseRegions_4 post n fr (nI i) (nI R) (nI C) (nI nr) (nI nw) (nI N) cyc fnd (nI gc) wk rt wa va fl us ma ho tp od lv rm ch gr re fw wo := by
  have hR := cf.2.1
  have hN : N ≤ 32 := cf.2.2.2.2.2.1
  intro n
  induction n with
  | zero => intro i fr us tp od lv rm _ h; omega
  | succ n ih =>
    intro i fr us tp od lv rm hi hf h1 h2 h3 h4
    have e1 : (nI i).toNatClampNeg = i := nI_clamp (by omega)
    rcases Nat.lt_or_ge i R with h | h
    · have hx : vp_in (nI i) 8 := vp_in_nI (by omega) (by decide)
      refine br_f (nI_ge h (by omega)) ⟨hx, ?_⟩
      rw [e1]
      refine br_c (fun z => nm_r (e' := nI (i + 1)) (nI_1 i) (ih (i + 1) fr us tp od lv rm (by omega) (by omega) (fun c hc => ⟨fun q => ?_, fun q => (h1 c hc).2 (by omega)⟩) h2 (fun l hl hb => ?_) (fun q hq => ?_))) (fun z => gx_release cf h (fun fr' us' tp' od' lv' rm' a1 a2 a3 a4 a5 a6 a7 => nm_e (nm_r (e' := nI (i + 1)) (nI_1 i) (ih (i + 1) _ us' tp' od' lv' rm' (by omega) (by omega) (fun c hc => ⟨fun q => ?_, fun q => ?_⟩) (fun q hq => ?_) (fun l hl hb => ?_) (fun q hq => ?_)))))
      · by_cases y : c / C = i
        · rw [(h1 c hc).2 (by omega), y]
          exact ⟨fun w => ⟨w, Or.inl z⟩, fun w => w.1⟩
        · exact (h1 c hc).1 (by omega)
      · obtain ⟨b1, b2, b3⟩ := h3 l hl hb
        exact ⟨b1, by omega, b3⟩
      · exact (h4 q hq).imp id (fun w => ⟨by omega, w.2⟩)
      · by_cases y : c / C = i
        · rw [a2 c hc y, (h1 c hc).2 (by omega), y]
          exact ⟨fun w => ⟨w.1, Or.inr w.2⟩, fun w => ⟨w.1, w.2.elim (fun e => absurd e z) id⟩⟩
        · rw [a1 c hc y]
          exact (h1 c hc).1 (by omega)
      · rw [a1 c hc (by omega)]
        exact (h1 c hc).2 (by omega)
      · by_cases y : q = i
        · rw [y]; exact a4
        · obtain ⟨t, t1, t2, t3⟩ := h2 q hq
          refine ⟨t, t1, by rw [a3 q y]; exact t2, fun c hc hu hd => t3 c hc ?_ hd⟩
          rw [← a1 c hc (by omega)]
          exact hu
      · rw [b_or] at hb
        rcases Bool.or_eq_true_iff.mp hb with w | w
        · obtain ⟨b1, b2, b3⟩ := h3 l hl w
          exact ⟨b1, by omega, by rw [a1 l b1 (by omega)]; exact b3⟩
        · obtain ⟨b1, b2, b3⟩ := a5 l hl w
          exact ⟨b1, by omega, b3⟩
      · by_cases y : q = i
        · rcases a7 with w | w
          · rcases h4 q hq with v | v
            · left
              rw [y, w, ← y]
              exact v
            · omega
          · right
            rw [y]
            exact ⟨by omega, w⟩
        · rcases h4 q hq with v | v
          · left
            rw [a6 q y]
            exact v
          · right
            exact ⟨by omega, fun c hc hd => by rw [a1 c hc (by omega)]; exact v.2 c hc hd⟩
    · have ei : i = R := by omega
      subst ei
      refine br_t (nI_le h (by omega)) ⟨i + 1, gx_rr37 hR (rmE := rm) (fun rm' ch' r1 r2 => ?_) (i + 1) 0 rm ch (Nat.zero_le _) (by omega) (fun q hq => absurd hq (Nat.not_lt_zero _)) (fun _ _ => rfl) (fun q hq => absurd hq (Nat.not_lt_zero _))⟩
      refine k us tp od lv rm' ch' (fun c hc => (h1 c hc).1 (gf_div cf.2.2.2.2.1 hc)) h2 (fun q l hq hl hu hex hb => ?_) r2
      rw [r1 q hq, gf_bclr _ _ (by omega)]
      have nf : bt fr l = false := by
        cases w : bt fr l
        · rfl
        · exact absurd (h3 l (by omega) w).2.2 hu
      rw [nf]
      rcases h4 q hq with v | v
      · rw [v, hb]; rfl
      · obtain ⟨c, x1, x2, x3⟩ := hex
        exact absurd (v.2 c x1 x2) x3
theorem gx_releaseAll {post : SX → Prop} (cf : (gf_cf R C N nr nw)) (htp : (gf_TP R C N us tp))
    (k : ∀ us' tp' od' lv' rm' ch' : Nat → Int32, (∀ c, c < N → (us' c ≠ 0 ↔ us c ≠ 0 ∧ (ch (c / C) = 0 ∨ fw c = nI c))) → (gf_TP R C N us' tp') → (∀ q l, q < R → l < N → us' l ≠ 0 → (∃ c, c < N ∧ c / C = q ∧ us' c ≠ 0) → bt (rm q) l = true → bt (rm' q) l = true) → (gf_CZ R ch') → post ((nI R), (nI C), (nI nr), (nI nw), (nI N), cyc, fnd, (nI gc), wk, rt, wa, va, fl, us', ma, ho, tp', od', lv', rm', ch', gr, re, fw, wo)) : wpX_releaseRegions post ((nI R), (nI C), (nI nr), (nI nw), (nI N), cyc, fnd, (nI gc), wk, rt, wa, va, fl, us, ma, ho, tp, od, lv, rm, ch, gr, re, fw, wo) :=
  ⟨R + 1, gx_rr4 cf k (R + 1) 0 0 us tp od lv rm (Nat.zero_le _) (by omega) (fun c hc => ⟨fun q => absurd q (Nat.not_lt_zero _), fun _ => rfl⟩) htp (fun l hl hb => by
    rw [b_0] at hb
    exact absurd hb (by decide)) (fun _ _ => Or.inl rfl)⟩
variable {us0 va0 fl0 ma0 rt0 wa0 gr0 : Nat → Int32} {dn : Nat → Nat} {P P' : Nat → Prop} {wc j0 ir iw ig : Nat}
/-- the end of an evacuation: survivors are an isomorphic heap -/
theorem gf_ev_end (cf : (gf_cf R C N nr nw)) (hm : (gf_HM C N ho)) (W : (gf_EW R C N nr nw gc wc wc nr nw gc ch us0 va0 fl0 ma0 rt0 wa0 gr0 rt wa va fl us ma tp rm gr fw wo dn (fun _ => False))) {us' tp' rm' ch' : Nat → Int32} (hu : ∀ c, c < N → (us' c ≠ 0 ↔ us c ≠ 0 ∧ (ch (c / C) = 0 ∨ fw c = nI c))) (tp1 : (gf_TP R C N us' tp')) (hr : ∀ q l, q < R → l < N → us' l ≠ 0 → (∃ c, c < N ∧ c / C = q ∧ us' c ≠ 0) → bt (rm q) l = true → bt (rm' q) l = true) (cz : (gf_CZ R ch')) : (gf_IS N nr nw gc us0 va0 fl0 ma0 rt0 wa0 gr0 us' va fl ma rt wa gr dn) ∧ (gf_HP R C N us' fl ma ho tp' rm' ch') := by
  have hN : N ≤ 32 := cf.2.2.2.2.2.1
  obtain ⟨⟨E1, E2, E3, E4, E5, R1, R2, R3⟩, ⟨V1, V2, V3⟩, ⟨Pj, Pp⟩, _, b1⟩ := W
  have US : ∀ x, gf_U N us' x → gf_S C N ch us fw x := fun x hx => ⟨⟨hx.1, ((hu x hx.1).mp hx.2).1⟩, ((hu x hx.1).mp hx.2).2⟩
  have SU : ∀ x, gf_S C N ch us fw x → gf_U N us' x := fun x hx => ⟨hx.1.1, (hu x hx.1.1).mpr ⟨hx.1.2, hx.2⟩⟩
  have bU : ∀ z, gf_U N us z → z < 32 := fun z hz => gf_cn32 hN hz
  have cl : ∀ t, gf_S C N ch us fw t → (gf_cl C N ch us fl rm fw t) := by
    intro t ht
    rcases Pp t ht with h | h | ⟨j, j1, j2, _⟩
    · exact h
    · exact h.elim
    · omega
  have up : ∀ x y, gf_vr (gf_S C N ch us fw) x → gf_rr (gf_U N us) dn (-1) x y → gf_rr (gf_U N us') dn (-1) x y := by
    intro x y vx r
    refine gf_rr_in r bU (fun d hd e => ?_)
    rcases vx with vx | ⟨d', h1, h2⟩
    · exact absurd (e.symm.trans vx) (gf_m1 (by omega))
    · have := (nI_eq (by have := gf_S32 hN h1; omega) (by omega)).mp (h2.symm.trans e)
      subst this
      exact SU _ h1
  have I : (gf_IS N nr nw gc us0 va0 fl0 ma0 rt0 wa0 gr0 us' va fl ma rt wa gr dn) := by
    refine ⟨fun x hx => ?_, fun x y hx hy e => ?_, fun i hi => up _ _ (V1 i hi) (R1 i hi), fun i hi => up _ _ (V2 i hi) (R2 i hi), fun i hi => up _ _ (V3 i hi) (R3 i hi)⟩
    · have hS := US x hx
      obtain ⟨a1, a2, a3, a4, a5⟩ := E1 x hS.1
      exact ⟨a1, a2, a3, up _ _ (gf_c1_vr (cl x hS).1) a4, up _ _ (gf_c1_vr (cl x hS).2) a5⟩
    · rcases E2 x (US x hx) with ⟨p1, p2⟩ | ⟨p1, p2⟩
      · rcases E2 y (US y hy) with ⟨q1, q2⟩ | ⟨q1, q2⟩
        · omega
        · rw [e] at p1
          exact absurd p1 q1
      · rcases E2 y (US y hy) with ⟨q1, q2⟩ | ⟨q1, q2⟩
        · rw [e] at p1
          exact absurd q1 p1
        · rw [e] at p2
          exact (nI_eq (by have := gf_cn32 hN hx; omega) (by have := gf_cn32 hN hy; omega)).mp (p2.symm.trans q2)
  refine ⟨I, hm, tp1, gf_IS_FV I, fun c d hc ex ne => ?_, cz, b1⟩
  have hS := US c hc
  have key : ∀ v, gf_c1 C N ch us rm fw c v → v = nI d → bt (rm' (d / C)) c = true := by
    intro v h e
    rcases h with h | ⟨d', h1, h2, h3⟩
    · exact absurd (e.symm.trans h) (gf_m1 (by have := ex.1; omega))
    · have := (nI_eq (by have := gf_S32 hN h1; omega) (by have := ex.1; omega)).mp (h2.symm.trans e)
      subst this
      exact hr _ _ (gf_div cf.2.2.2.2.1 h1.1.1) hc.1 hc.2 ⟨d', h1.1.1, rfl, (SU d' h1).2⟩ (h3 ne)
  rcases ex.2 with e | e
  · exact key _ (cl c hS).1 e
  · exact key _ (cl c hS).2 e
theorem gx_ev79 {post : SX → Prop} (cf : (gf_cf R C N nr nw)) (hm : (gf_HM C N ho))
    (k : ∀ (wc' : Nat) (va' fl' us' ma' tp' od' lv' fw' wo' : Nat → Int32) (dn' : Nat → Nat) (rm' ch' us2 : Nat → Int32), (gf_IS N nr nw gc us0 va0 fl0 ma0 rt0 wa0 gr0 us2 va' fl' ma' rt wa gr dn') → (gf_HP R C N us2 fl' ma' ho tp' rm' ch') → post ((nI R), (nI C), (nI nr), (nI nw), (nI N), cyc, fnd, (nI gc), (nI wc'), rt, wa, va', fl', us2, ma', ho, tp', od', lv', rm', ch', gr, re, fw', wo')) :
    ∀ (n i : Nat) (wc' : Nat) (va' fl' us' ma' tp' od' lv' fw' wo' : Nat → Int32) (dn' : Nat → Nat) (rm' : Nat → Int32), i ≤ wc' → 32 - i < n → (gf_EW R C N nr nw gc wc' i nr nw gc ch us0 va0 fl0 ma0 rt0 wa0 gr0 rt wa va' fl' us' ma' tp' rm' gr fw' wo' dn' (fun _ => False)) → wX_evacuate_79 post n (nI i) (nI R) (nI C) (nI nr) (nI nw) (nI N) cyc fnd (nI gc) (nI wc') rt wa va' fl' us' ma' ho tp' od' lv' rm' ch gr re fw' wo' := by
  have hN : N ≤ 32 := cf.2.2.2.2.2.1
  intro n
  induction n with
  | zero => intro i _ _ _ _ _ _ _ _ _ _ _ _ _ h; omega
  | succ n ih =>
    intro i wc va fl us ma tp od lv fw wo dn rm hi hf W
    obtain ⟨⟨_, _, _, _, ⟨E5, E6⟩, _⟩, _, _, htp, _⟩ := id W
    have hw : wc ≤ 32 := by rw [E5]; exact cn_le _ _
    have e1 : (nI i).toNatClampNeg = i := nI_clamp (by omega)
    rcases Nat.lt_or_ge i wc with h | h
    · obtain ⟨t, t1, t2⟩ := E6 i h
      have ht32 := gf_S32 hN t1
      refine br_f (nI_ge h (by omega)) (br_f (nI_ge (b := 32) (by omega) (by decide)) ⟨vp_in_nI (by omega) (by decide), ?_⟩)
      rw [e1, t2]
      have W1 : (gf_EW R C N nr nw gc wc (i + 1) nr nw gc ch us0 va0 fl0 ma0 rt0 wa0 gr0 rt wa va fl us ma tp rm gr fw wo dn (fun y => y = t)) := gf_EW_P W (by omega) (fun y hy q => Or.inr (by
        rcases q with q | ⟨j, j1, j2, j3⟩
        · exact q.elim
        · by_cases e : j = i
          · left
            rw [e, t2] at j3
            exact ((nI_eq (by omega) (by have := gf_S32 hN hy; omega)).mp j3).symm
          · exact Or.inr ⟨j, by omega, j2, j3⟩))
      refine gx_rf cf hm W1 t1 rfl (fun wc2 va2 fl2 us2 ma2 tp2 od2 lv2 fw2 wo2 dn2 rm2 W2 c2 => ?_)
      refine nm_r (e' := nI (i + 1)) (nI_1 i) (ih (i + 1) _ _ _ _ _ _ _ _ _ _ dn2 _ W2.2.2.1.1 (by omega) (gf_EW_P W2 W2.2.2.1.1 (fun y hy q => ?_)))
      rcases q with q | q
      · rw [q]; exact Or.inl c2
      · exact Or.inr (Or.inr q)
    · have ei : i = wc := by omega
      subst ei
      refine br_t (nI_le h (by omega)) ?_
      show wX_evacuate_109 post (nI R) (nI C) (nI nr) (nI nw) (nI N) cyc fnd (nI gc) (nI i) rt wa va fl us ma ho tp od lv rm ch gr re fw wo
      unfold wX_evacuate_109
      refine gx_releaseAll cf htp (fun us' tp' od' lv' rm' ch' a1 a2 a3 a4 => ?_)
      obtain ⟨I, H⟩ := gf_ev_end cf hm W a1 a2 a3 a4
      exact k _ _ _ us _ _ _ _ _ _ dn _ _ us' I H
theorem gf_rr_id {S : Nat → Prop} {x : Int32} (h : gf_vr S x) : gf_rr S (fun x => x) (-1) x x := by
  rcases h with h | ⟨d, h1, h2⟩
  · exact Or.inl ⟨h, h⟩
  · exact Or.inr ⟨d, h1, h2, h2⟩
/-- the start of an evacuation -/
theorem gf_ev_start (cf : (gf_cf R C N nr nw)) (htp : (gf_TP R C N us tp)) (fv : (gf_FV N us fl)) (rmI : (gf_RM C N us fl rm)) (b1 : gf_B1 ma) (hr : ∀ i, i < nr → gf_vr (gf_U N us) (rt i)) (hw : ∀ i, i < nw → gf_vr (gf_U N us) (wa i)) (hg : ∀ i, i < gc → gf_vr (gf_U N us) (gr i)) (hf : ∀ c, c < N → fw c = -1) {bits : Int32} (hb : ∀ r i, r < R → ch r ≠ 0 → bt (rm r) i = true → bt bits i = true) :
    (gf_EW R C N nr nw gc 0 0 0 0 0 ch us va fl ma rt wa gr rt wa va fl us ma tp rm gr fw wo (fun x => x) (gf_PS C 0 ch bits)) := by
  have hN : N ≤ 32 := cf.2.2.2.2.2.1
  have So : ∀ x, gf_S C N ch us fw x → ch (x / C) = 0 := by
    intro x hx
    rcases hx.2 with h | h
    · exact h
    · exact absurd (h.symm.trans (hf x hx.1.1)) (gf_m1 (by have := gf_S32 hN hx; omega))
  refine ⟨⟨fun x hx => ⟨hx, rfl, rfl, gf_rr_id (fv x hx).1, gf_rr_id (fv x hx).2⟩, fun x hx => Or.inl ⟨So x hx, rfl⟩, fun _ _ _ => rfl, fun c hc _ => Or.inl (hf c hc), ⟨(gf_cnz (fun c _ q => q.2 (hf c q.1.1))).symm, fun j hj => absurd hj (Nat.not_lt_zero _)⟩, fun i hi => gf_rr_id (hr i hi), fun i hi => gf_rr_id (hw i hi), fun i hi => gf_rr_id (hg i hi)⟩, ⟨fun i hi => absurd hi (Nat.not_lt_zero _), fun i hi => absurd hi (Nat.not_lt_zero _), fun i hi => absurd hi (Nat.not_lt_zero _)⟩, ⟨Nat.le_refl _, fun t ht => ?_⟩, htp, b1⟩
  have ht0 := So t ht
  cases q : bt bits t with
  | true => exact Or.inr (Or.inl ⟨Nat.zero_le _, q, ht0⟩)
  | false =>
    left
    have key : ∀ v, gf_vr (gf_U N us) v → (∀ d, d < 32 → v = nI d → gf_ex fl t d) → gf_c1 C N ch us rm fw t v := by
      intro v hv he
      rcases hv with hv | ⟨d, d1, d2⟩
      · exact Or.inl hv
      · have ex := he d (gf_cn32 hN d1) d2
        refine Or.inr ⟨d, ⟨d1, Or.inl ?_⟩, d2, fun ne => rmI t d ht.1 ex ne⟩
        by_cases z : ch (d / C) = 0
        · exact z
        · have ne : t / C ≠ d / C := fun e => z (by rw [← e]; exact ht0)
          have := hb (d / C) t (gf_div cf.2.2.2.2.1 d1.1) z (rmI t d ht.1 ex ne)
          rw [q] at this
          exact absurd this (by decide)
    exact ⟨key _ (fv t ht.1).1 (fun d hd e => ⟨hd, Or.inl e⟩), key _ (fv t ht.1).2 (fun d hd e => ⟨hd, Or.inr e⟩)⟩
theorem gx_ev11 {post : SX → Prop} (cf : (gf_cf R C N nr nw)) (hm : (gf_HM C N ho)) (htp : (gf_TP R C N us tp)) (fv : (gf_FV N us fl)) (rmI : (gf_RM C N us fl rm)) (b1 : gf_B1 ma) (hg32 : gc ≤ 32) (hr : ∀ i, i < nr → gf_vr (gf_U N us) (rt i)) (hw : ∀ i, i < nw → gf_vr (gf_U N us) (wa i)) (hg : ∀ i, i < gc → gf_vr (gf_U N us) (gr i))
    (k : ∀ (wc' : Nat) (va' fl' us' ma' tp' od' lv' fw' wo' : Nat → Int32) (dn' : Nat → Nat) (rt' wa' gr' rm' ch' : Nat → Int32), (gf_IS N nr nw gc us va fl ma rt wa gr us' va' fl' ma' rt' wa' gr' dn') → (gf_HP R C N us' fl' ma' ho tp' rm' ch') → post ((nI R), (nI C), (nI nr), (nI nw), (nI N), cyc, fnd, (nI gc), (nI wc'), rt', wa', va', fl', us', ma', ho, tp', od', lv', rm', ch', gr', re, fw', wo')) :
    ∀ (n i : Nat) (fw : Nat → Int32), i ≤ N → N - i < n → (∀ c, c < i → fw c = -1) → wX_evacuate_11 post (nI R) (nI C) (nI nr) (nI nw) (nI N) cyc fnd (nI gc) wk n (nI i) rt wa va fl us ma ho tp od lv rm ch gr re fw wo := by
  have hN : N ≤ 32 := cf.2.2.2.2.2.1
  intro n
  induction n with
  | zero => intro i fw _ h; omega
  | succ n ih =>
    intro i fw hi hf h1
    have e1 : (nI i).toNatClampNeg = i := nI_clamp (by omega)
    rcases Nat.lt_or_ge i N with h | h
    · refine br_f (nI_ge h (by omega)) ⟨vp_in_nI (by omega) (by decide), nm_r (e' := upd fw i (-1)) (by rw [e1]) (nm_r (e' := nI (i + 1)) (nI_1 i) (ih (i + 1) _ (by omega) (by omega) (fun c hc => ?_)))⟩
      by_cases y : c = i
      · rw [y, pk_us]
      · rw [pk_un y]; exact h1 c (by omega)
    · refine br_t (nI_le h (by omega)) ?_
      refine gx_scan (wc := 0) (ir := 0) (iw := 0) (ig := 0) cf hm (fun wc1 va1 fl1 us1 ma1 tp1 od1 lv1 fw1 wo1 dn1 rm1 W1 => ?_) (fun bits hb => gf_ev_start cf htp fv rmI b1 hr hw hg (fun c hc => h1 c (by omega)) hb)
      refine gx_rarootRef cf hm cf.2.2.2.2.2.2.2.1 W1 (fun wc2 va2 fl2 us2 ma2 tp2 od2 lv2 fw2 wo2 dn2 rt2 W2 => ?_)
      refine gx_rawatchRef cf hm cf.2.2.2.2.2.2.2.2.2 W2 (fun wc3 va3 fl3 us3 ma3 tp3 od3 lv3 fw3 wo3 dn3 wa3 W3 => ?_)
      refine gx_ragray cf hm hg32 W3 (fun wc4 va4 fl4 us4 ma4 tp4 od4 lv4 fw4 wo4 dn4 gr4 W4 => ?_)
      exact ⟨33, gx_ev79 cf hm (fun wc5 va5 fl5 us5 ma5 tp5 od5 lv5 fw5 wo5 dn5 rm5 ch5 us6 I H => k wc5 va5 fl5 us6 ma5 tp5 od5 lv5 fw5 wo5 dn5 rt2 wa3 gr4 rm5 ch5 I H) 33 0 wc4 va4 fl4 us4 ma4 tp4 od4 lv4 fw4 wo4 dn4 rm1 (Nat.zero_le _) (by omega) W4⟩
theorem gx_evacuate {post : SX → Prop} {x1 : Int32} (cf : (gf_cf R C N nr nw)) (H : (gf_HP R C N us fl ma ho tp rm ch)) (hg32 : gc ≤ 32) (hr : ∀ i, i < nr → gf_vr (gf_U N us) (rt i)) (hw : ∀ i, i < nw → gf_vr (gf_U N us) (wa i)) (hg : ∀ i, i < gc → gf_vr (gf_U N us) (gr i)) (k0 : post ((nI R), (nI C), (nI nr), (nI nw), (nI N), cyc, fnd, (nI gc), wk, rt, wa, va, fl, us, ma, ho, tp, od, lv, rm, ch, gr, re, fw, wo))
    (k : ∀ (wc' : Nat) (va' fl' us' ma' tp' od' lv' fw' wo' : Nat → Int32) (dn' : Nat → Nat) (rt' wa' gr' rm' ch' : Nat → Int32), (gf_IS N nr nw gc us va fl ma rt wa gr us' va' fl' ma' rt' wa' gr' dn') → (gf_HP R C N us' fl' ma' ho tp' rm' ch') → post ((nI R), (nI C), (nI nr), (nI nw), (nI N), cyc, fnd, (nI gc), (nI wc'), rt', wa', va', fl', us', ma', ho, tp', od', lv', rm', ch', gr', re, fw', wo')) : wpX_evacuate post ((nI R), (nI C), (nI nr), (nI nw), (nI N), cyc, fnd, (nI gc), wk, rt, wa, va, fl, us, ma, ho, tp, od, lv, rm, ch, gr, re, fw, wo) x1 := by
  obtain ⟨hm, htp, fv, rmI, _, b1⟩ := H
  unfold wpX_evacuate
  dsimp only
  refine gx_choose cf.2.1 (br_t rfl k0) (fun ch1 => br_f (by decide) ?_)
  exact ⟨N + 1, gx_ev11 cf hm htp fv rmI b1 hg32 hr hw hg k (N + 1) 0 fw (Nat.zero_le _) (by omega) (fun c hc => absurd hc (Nat.not_lt_zero _))⟩
end
end
section
/-! how the relation's parts change under the operations, in plain terms -/
section
variable {R C N nr nw gc : Nat} {cyc fnd wk : Int32} {rt wa va fl us ma ho tp od lv rm ch gr re fw wo : Nat → Int32} {yfn : Int32} {yr yw yv y0 y1 yk ys : Nat → Int32}
variable {H K : Nat → Prop} {φ : Nat → Nat} {j c : Nat} {x y : Int32}
theorem gf_rr_y (B : (gf_BI N nr nw us rt wa va fl yr yw yv y0 y1 φ H)) (r : gf_rr H φ 0 x y) : ∃ q, q ≤ 32 ∧ y = nI q := by
  rcases r with ⟨_, e⟩ | ⟨d, h1, _, h3⟩
  · exact ⟨0, by omega, e⟩
  · exact ⟨φ d, (B.1 d h1).2.1.2, h3⟩
theorem gf_BI_yr (B : (gf_BI N nr nw us rt wa va fl yr yw yv y0 y1 φ H)) : ∀ i, i < 8 → ∃ q, q ≤ 32 ∧ yr i = nI q := by
  intro i hi
  rcases Nat.lt_or_ge i nr with h | h
  · exact gf_rr_y B (B.2.2.1 i h)
  · exact ⟨0, by omega, B.2.2.2.1 i h hi⟩
theorem gf_BI_yw (B : (gf_BI N nr nw us rt wa va fl yr yw yv y0 y1 φ H)) : ∀ i, i < 4 → ∃ q, q ≤ 32 ∧ yw i = nI q := by
  intro i hi
  rcases Nat.lt_or_ge i nw with h | h
  · exact gf_rr_y B (B.2.2.2.2.1 i h)
  · exact ⟨0, by omega, B.2.2.2.2.2 i h hi⟩
theorem gf_rr_0 (B : (gf_BI N nr nw us rt wa va fl yr yw yv y0 y1 φ H)) (r : gf_rr H φ 0 x y) : 0 ≤ y := by
  obtain ⟨q, q1, rfl⟩ := gf_rr_y B r
  exact nI_pos' (by omega)
theorem gf_vrU (B : (gf_BI N nr nw us rt wa va fl yr yw yv y0 y1 φ H)) (r : gf_rr H φ 0 x y) : gf_vr (gf_U N us) x := gf_vr_mono (gf_rr_vr r) (fun d hd => (B.1 d hd).1)
theorem gf_BI_root (B : (gf_BI N nr nw us rt wa va fl yr yw yv y0 y1 φ H)) (hn : nr ≤ 8) (hj : j < nr) (r : gf_rr H φ 0 x y) : (gf_BI N nr nw us (upd rt j x) wa va fl (upd yr j y) yw yv y0 y1 φ H) := by
  refine ⟨B.1, B.2.1, fun i hi => ?_, fun i h1 h2 => ?_, B.2.2.2.2⟩
  · by_cases e : i = j
    · rw [e, pk_us, pk_us]; exact r
    · rw [pk_un e, pk_un e]; exact B.2.2.1 i hi
  · rw [pk_un (by omega)]; exact B.2.2.2.1 i h1 h2
theorem gf_BI_watch (B : (gf_BI N nr nw us rt wa va fl yr yw yv y0 y1 φ H)) (hj : j < nw) (r : gf_rr H φ 0 x y) : (gf_BI N nr nw us rt (upd wa j x) va fl yr (upd yw j y) yv y0 y1 φ H) := by
  refine ⟨B.1, B.2.1, B.2.2.1, B.2.2.2.1, fun i hi => ?_, fun i h1 h2 => ?_⟩
  · by_cases e : i = j
    · rw [e, pk_us, pk_us]; exact r
    · rw [pk_un e, pk_un e]; exact B.2.2.2.2.1 i hi
  · rw [pk_un (by omega)]; exact B.2.2.2.2.2 i h1 h2
theorem gf_CY_root (Y : (gf_CY N nr gc cyc fnd yfn us fl ma gr rt yk φ H)) (hx : ∀ K : Nat → Prop, (gf_KI N gc us fl ma gr K (fun _ => False)) → (∀ i, i < nr → gf_vr K (rt i)) → gf_vr K x) : (gf_CY N nr gc cyc fnd yfn us fl ma gr (upd rt j x) yk φ H) := by
  rcases Y with Y | ⟨e, K, I, k1, k2⟩
  · exact Or.inl Y
  · refine Or.inr ⟨e, K, I, fun i hi => ?_, k2⟩
    by_cases z : i = j
    · rw [z, pk_us]; exact hx K I k1
    · rw [pk_un z]; exact k1 i hi
theorem gf_BI_put (B : (gf_BI N nr nw us rt wa va fl yr yw yv y0 y1 φ H)) (hc : H c) : (gf_BI N nr nw us rt wa (upd va c x) fl yr yw (upd yv (φ c) x) y0 y1 φ H) := by
  refine ⟨fun d hd => ?_, B.2⟩
  obtain ⟨a1, a2, a3, a4, a5⟩ := B.1 d hd
  refine ⟨a1, a2, a3, a4, ?_⟩
  by_cases e : d = c
  · rw [e, pk_us, pk_us]
  · rw [pk_un e, pk_un (fun q => e (B.2.1 d c hd hc q))]; exact a5
theorem gf_BI_st0 (B : (gf_BI N nr nw us rt wa va fl yr yw yv y0 y1 φ H)) (hc : H c) (r : gf_rr H φ 0 x y) : (gf_BI N nr nw us rt wa va (upd fl (2 * c) x) yr yw yv (upd y0 (φ c) y) y1 φ H) := by
  refine ⟨fun d hd => ?_, B.2⟩
  obtain ⟨a1, a2, a3, a4, a5⟩ := B.1 d hd
  rw [pk_un (k := 2 * c) (j := 2 * d + 1) (by omega)]
  refine ⟨a1, a2, ?_, a4, a5⟩
  by_cases e : d = c
  · rw [e, pk_us, pk_us]; exact r
  · rw [pk_un (by omega), pk_un (fun q => e (B.2.1 d c hd hc q))]; exact a3
theorem gf_BI_st1 (B : (gf_BI N nr nw us rt wa va fl yr yw yv y0 y1 φ H)) (hc : H c) (r : gf_rr H φ 0 x y) : (gf_BI N nr nw us rt wa va (upd fl (2 * c + 1) x) yr yw yv y0 (upd y1 (φ c) y) φ H) := by
  refine ⟨fun d hd => ?_, B.2⟩
  obtain ⟨a1, a2, a3, a4, a5⟩ := B.1 d hd
  rw [pk_un (k := 2 * c + 1) (j := 2 * d) (by omega)]
  refine ⟨a1, a2, a3, ?_, a5⟩
  by_cases e : d = c
  · rw [e, pk_us, pk_us]; exact r
  · rw [pk_un (by omega), pk_un (fun q => e (B.2.1 d c hd hc q))]; exact a4
theorem gf_YV_0 (v : gf_YV y0 y1) {o q : Nat} (hq : q ≤ 32) : gf_YV (upd y0 o (nI q)) y1 := by
  intro p hp
  refine ⟨?_, (v p hp).2⟩
  by_cases e : p = o
  · exact ⟨q, hq, by rw [e, pk_us]⟩
  · rw [pk_un e]; exact (v p hp).1
theorem gf_YV_1 (v : gf_YV y0 y1) {o q : Nat} (hq : q ≤ 32) : gf_YV y0 (upd y1 o (nI q)) := by
  intro p hp
  refine ⟨(v p hp).1, ?_⟩
  by_cases e : p = o
  · exact ⟨q, hq, by rw [e, pk_us]⟩
  · rw [pk_un e]; exact (v p hp).2
theorem gf_HP_st (h : (gf_HP R C N us fl ma ho tp rm ch)) (hN : N ≤ 32) {f : Nat} (hf : f < 2) (hc : gf_U N us c) (hx : gf_vr (gf_U N us) x) {rm' : Nat → Int32} (m1 : ∀ r i, bt (rm r) i = true → bt (rm' r) i = true) (m2 : ∀ d, d < N → x = nI d → c / C ≠ d / C → bt (rm' (d / C)) c = true) : (gf_HP R C N us (upd fl (2 * c + f) x) ma ho tp rm' ch) := by
  obtain ⟨a1, a2, a3, a4, a5⟩ := h
  have kv : ∀ i, gf_vr (gf_U N us) (fl i) → gf_vr (gf_U N us) (upd fl (2 * c + f) x i) := by
    intro i hi
    by_cases z : i = 2 * c + f
    · rw [z, pk_us]; exact hx
    · rw [pk_un z]; exact hi
  refine ⟨a1, a2, fun d hd => ⟨kv _ (a3 d hd).1, kv _ (a3 d hd).2⟩, fun a d ha ex ne => ?_, a5⟩
  have key : ∀ i, (i = 2 * a ∨ i = 2 * a + 1) → upd fl (2 * c + f) x i = nI d → bt (rm' (d / C)) a = true := by
    intro i hi e
    by_cases z : i = 2 * c + f
    · have ea : a = c := by omega
      rw [z, pk_us] at e
      subst ea
      refine m2 d ?_ e ne
      rcases hx with hx | ⟨d', h1, h2⟩
      · exact absurd (e.symm.trans hx) (gf_m1 (by have := ex.1; omega))
      · have := (nI_eq (by have := gf_cn32 hN h1; omega) (by have := ex.1; omega)).mp (h2.symm.trans e)
        exact this ▸ h1.1
    · rw [pk_un z] at e
      refine m1 _ _ (a4 a d ha ⟨ex.1, ?_⟩ ne)
      rcases hi with hi | hi
      · exact Or.inl (hi ▸ e)
      · exact Or.inr (hi ▸ e)
  rcases ex.2 with e | e
  · exact key _ (Or.inl rfl) e
  · exact key _ (Or.inr rfl) e
theorem gf_CY_done (hN : N ≤ 32) (B : (gf_BI N nr nw us rt wa va fl yr yw yv y0 y1 φ H)) (Y : (gf_CY N nr 0 cyc fnd yfn us fl ma gr rt yk φ H)) (hc : cyc ≠ 0) : (∀ c, H c → (yk (φ c) ≠ 0 ↔ ma c ≠ 0)) ∧ yfn = fnd := by
  rcases Y with Y | ⟨_, K, I, k1, k2, k3⟩
  · exact absurd Y.1 hc
  · have d := gf_KI_done I
    refine ⟨fun c hc => ?_, ?_⟩
    · rw [k2 c hc]
      exact ⟨fun q => d c q, fun q => I.2.2.1 c (B.1 c hc).1 q⟩
    · rw [k3, gf_cnz (fun c _ q => d c q.1 q.2), nI_0, Int32.add_zero]
/-- the gray entries are used cells -/
theorem gf_CY_gr (hN : N ≤ 32) (Y : (gf_CY N nr gc cyc fnd yfn us fl ma gr rt yk φ H)) : gc ≤ 32 ∧ ∀ i, i < gc → gf_vr (gf_U N us) (gr i) := by
  rcases Y with Y | ⟨_, K, I, _⟩
  · have := Y.2
    exact ⟨by omega, fun i hi => by omega⟩
  · refine ⟨by have := gf_KI_le hN I; omega, fun i hi => ?_⟩
    obtain ⟨g, g1, _, g3⟩ := I.2.2.2.1 i hi
    exact Or.inr ⟨g, I.1 g g1, g3⟩
theorem gf_cnN (hN : N ≤ 32) : cn (fun c => c < N) 32 = N := by
  have h1 : ∀ m, m ≤ 32 → cn (fun c => c < N) m = min m N := by
    intro m
    induction m with
    | zero => intro _; show 0 = _; omega
    | succ m ih =>
      intro hm
      show cn (fun c => c < N) m + b01 (m < N) = _
      rw [ih (by omega)]
      by_cases z : m < N
      · rw [b01_t z]; omega
      · rw [b01_f z]; omega
  rw [h1 32 (by omega)]
  omega
/-- all that roots and watches hold, on both sides -/
theorem gf_held (hN : N ≤ 32) (hn : nr ≤ 8) (hnw : nw ≤ 4) (B : (gf_BI N nr nw us rt wa va fl yr yw yv y0 y1 φ H)) : (∀ x, (gf_SR nr rt x ∨ gf_SR nw wa x) → H x) ∧ ∀ o, gf_SA yr yw o ↔ ∃ c, (gf_SR nr rt c ∨ gf_SR nw wa c) ∧ φ c = o := by
  have b := fun z (hz : H z) => gf_BI_32 hN B hz
  have hS : ∀ x, (gf_SR nr rt x ∨ gf_SR nw wa x) → H x := by
    rintro x (⟨h1, i, h2, h3⟩ | ⟨h1, i, h2, h3⟩)
    · exact (gf_rr_n b (B.2.2.1 i h2) h3 h1).1
    · exact (gf_rr_n b (B.2.2.2.2.1 i h2) h3 h1).1
  refine ⟨hS, fun o => ⟨fun h => ?_, fun h => ?_⟩⟩
  · obtain ⟨⟨o1, o2⟩, h⟩ := h
    have key : ∀ u v, gf_rr H φ 0 u v → v = nI o → ∃ d, d < 32 ∧ u = nI d ∧ φ d = o := by
      intro u v r e
      rcases r with ⟨_, r⟩ | ⟨d, r1, r2, r3⟩
      · exact absurd (e.symm.trans r) (nI_ne0 (by omega) (by omega))
      · exact ⟨d, b d r1, r2, (nI_eq (by have := (B.1 d r1).2.1; omega) (by omega)).mp (r3.symm.trans e)⟩
    rcases h with ⟨i, i1, i2⟩ | ⟨i, i1, i2⟩
    · rcases Nat.lt_or_ge i nr with z | z
      · obtain ⟨d, d1, d2, d3⟩ := key _ _ (B.2.2.1 i z) i2
        exact ⟨d, Or.inl ⟨d1, i, z, d2⟩, d3⟩
      · exact absurd (i2.symm.trans (B.2.2.2.1 i z i1)) (nI_ne0 (by omega) (by omega))
    · rcases Nat.lt_or_ge i nw with z | z
      · obtain ⟨d, d1, d2, d3⟩ := key _ _ (B.2.2.2.2.1 i z) i2
        exact ⟨d, Or.inr ⟨d1, i, z, d2⟩, d3⟩
      · exact absurd (i2.symm.trans (B.2.2.2.2.2 i z i1)) (nI_ne0 (by omega) (by omega))
  · obtain ⟨c, h1, h2⟩ := h
    have hc := hS c h1
    refine ⟨by have := (B.1 c hc).2.1; omega, ?_⟩
    rcases h1 with ⟨a1, i, a2, a3⟩ | ⟨a1, i, a2, a3⟩
    · have := (gf_rr_n b (B.2.2.1 i a2) a3 a1).2
      exact Or.inl ⟨i, by omega, by rw [this, h2]⟩
    · have := (gf_rr_n b (B.2.2.2.2.1 i a2) a3 a1).2
      exact Or.inr ⟨i, by omega, by rw [this, h2]⟩
theorem gf_heldR (hN : N ≤ 32) (hn : nr ≤ 8) (B : (gf_BI N nr nw us rt wa va fl yr yw yv y0 y1 φ H)) : (∀ x, gf_SR nr rt x → H x) ∧ ∀ o, gf_SB yr o ↔ ∃ c, gf_SR nr rt c ∧ φ c = o := by
  have b := fun z (hz : H z) => gf_BI_32 hN B hz
  have hS : ∀ x, gf_SR nr rt x → H x := by
    rintro x ⟨h1, i, h2, h3⟩
    exact (gf_rr_n b (B.2.2.1 i h2) h3 h1).1
  refine ⟨hS, fun o => ⟨fun h => ?_, fun h => ?_⟩⟩
  · obtain ⟨⟨o1, o2⟩, i, i1, i2⟩ := h
    rcases Nat.lt_or_ge i nr with z | z
    · rcases B.2.2.1 i z with ⟨_, r⟩ | ⟨d, r1, r2, r3⟩
      · exact absurd (i2.symm.trans r) (nI_ne0 (by omega) (by omega))
      · exact ⟨d, ⟨b d r1, i, z, r2⟩, (nI_eq (by have := (B.1 d r1).2.1; omega) (by omega)).mp (r3.symm.trans i2)⟩
    · exact absurd (i2.symm.trans (B.2.2.2.1 i z i1)) (nI_ne0 (by omega) (by omega))
  · obtain ⟨c, h1, h2⟩ := h
    have hc := hS c h1
    obtain ⟨a1, i, a2, a3⟩ := h1
    refine ⟨by have := (B.1 c hc).2.1; omega, i, by omega, ?_⟩
    rw [(gf_rr_n b (B.2.2.1 i a2) a3 a1).2, h2]
theorem gf_vrSR (B : (gf_BI N nr nw us rt wa va fl yr yw yv y0 y1 φ H)) (hN : N ≤ 32) {i : Nat} (hi : i < nr) : gf_vr (gf_SR nr rt) (rt i) := by
  rcases B.2.2.1 i hi with ⟨e, _⟩ | ⟨d, h1, h2, _⟩
  · exact Or.inl e
  · exact Or.inr ⟨d, ⟨gf_BI_32 hN B h1, i, hi, h2⟩, h2⟩
theorem gf_vrSW (B : (gf_BI N nr nw us rt wa va fl yr yw yv y0 y1 φ H)) (hN : N ≤ 32) {i : Nat} (hi : i < nw) : gf_vr (gf_SR nw wa) (wa i) := by
  rcases B.2.2.2.2.1 i hi with ⟨e, _⟩ | ⟨d, h1, h2, _⟩
  · exact Or.inl e
  · exact Or.inr ⟨d, ⟨gf_BI_32 hN B h1, i, hi, h2⟩, h2⟩
end
end
section
/-! the relation, and the small operations -/
/-- the relation at the head of a turn -/
def i_Rel (k : Nat) (u : SX) (v : SY) : Prop := ∀ P : SX → SY → Prop, (∀ (R C N nr nw gc : Nat) (cyc fnd wk : Int32) (rt wa va fl us ma ho tp od lv rm ch gr re fw wo : Nat → Int32) (yfn : Int32) (yr yw yv y0 y1 yk ys : Nat → Int32), (gf_RL R C N nr nw gc cyc fnd rt wa va fl us ma ho tp rm ch gr yfn yr yw yv y0 y1 yk) → P ((nI R), (nI C), (nI nr), (nI nw), (nI N), cyc, fnd, (nI gc), wk, rt, wa, va, fl, us, ma, ho, tp, od, lv, rm, ch, gr, re, fw, wo) ((nI N), (nI nr), (nI nw), cyc, yfn, yr, yw, yv, y0, y1, yk, ys)) → P u v
def gf_yf (f : Nat) (y0 y1 : Nat → Int32) : Nat → Int32 := if f = 0 then y0 else y1
theorem gf_src (v : Int32) (n : Nat) : v = -1 ∨ (∃ j, j < n ∧ v = nI j) ∨ ((∀ j, j < n → v ≠ nI j) ∧ v ≠ -1) := by
  by_cases e : v = -1
  · exact Or.inl e
  · rcases gf_good v n with h | h
    · exact Or.inr (Or.inl h)
    · exact Or.inr (Or.inr ⟨h, e⟩)
theorem gf_fld (v : Int32) : (∃ f, f < 2 ∧ v = nI f) ∨ (v ≠ 0 ∧ v ≠ 1) := by
  by_cases e0 : v = 0
  · exact Or.inl ⟨0, by omega, e0⟩
  · by_cases e1 : v = 1
    · exact Or.inl ⟨1, by omega, e1⟩
    · exact Or.inr ⟨e0, e1⟩
section
variable {R C N nr nw gc : Nat} {cyc fnd wk : Int32} {rt wa va fl us ma ho tp od lv rm ch gr re fw wo : Nat → Int32} {yfn : Int32} {yr yw yv y0 y1 yk ys : Nat → Int32}
variable {H K : Nat → Prop} {φ : Nat → Nat} {j s c q f w : Nat} {x y v1 v2 v3 : Int32} {k : Nat}
theorem gf_in (h : (gf_RL R C N nr nw gc cyc fnd rt wa va fl us ma ho tp rm ch gr yfn yr yw yv y0 y1 yk)) : i_Rel k ((nI R), (nI C), (nI nr), (nI nw), (nI N), cyc, fnd, (nI gc), wk, rt, wa, va, fl, us, ma, ho, tp, od, lv, rm, ch, gr, re, fw, wo) ((nI N), (nI nr), (nI nw), cyc, yfn, yr, yw, yv, y0, y1, yk, ys) := fun P HH => HH R C N nr nw gc cyc fnd wk rt wa va fl us ma ho tp od lv rm ch gr re fw wo yfn yr yw yv y0 y1 yk ys h
theorem gf_BI_f (B : (gf_BI N nr nw us rt wa va fl yr yw yv y0 y1 φ H)) (hf : f < 2) (hc : H c) : gf_rr H φ 0 (fl (2 * c + f)) (gf_yf f y0 y1 (φ c)) := by
  obtain ⟨_, _, a3, a4, _⟩ := B.1 c hc
  have : f = 0 ∨ f = 1 := by omega
  rcases this with e | e
  · subst e; exact a3
  · subst e; exact a4
theorem gx_gf_y {post : Int32 → Prop} (hf : f < 2) (k : post 1) : wpX_goodField post ((nI R), (nI C), (nI nr), (nI nw), (nI N), cyc, fnd, (nI gc), wk, rt, wa, va, fl, us, ma, ho, tp, od, lv, rm, ch, gr, re, fw, wo) (nI f) := by
  have : f = 0 ∨ f = 1 := by omega
  rcases this with e | e
  · subst e; exact gx_gf_0 k
  · subst e; exact gx_gf_1 k
/-- a source number, both sides -/
theorem gz_src (hn : nr ≤ 8) (B : (gf_BI N nr nw us rt wa va fl yr yw yv y0 y1 φ H)) (v2 : Int32) :
    (∃ x y, gf_rr H φ 0 x y ∧ (∀ K : Nat → Prop, (∀ i, i < nr → gf_vr K (rt i)) → gf_vr K x) ∧ (∀ post : Int32 → Prop, post 1 → wpX_goodSource post ((nI R), (nI C), (nI nr), (nI nw), (nI N), cyc, fnd, (nI gc), wk, rt, wa, va, fl, us, ma, ho, tp, od, lv, rm, ch, gr, re, fw, wo) v2) ∧ (∀ post : Int32 → Prop, post x → wpX_sourceRef post ((nI R), (nI C), (nI nr), (nI nw), (nI N), cyc, fnd, (nI gc), wk, rt, wa, va, fl, us, ma, ho, tp, od, lv, rm, ch, gr, re, fw, wo) v2) ∧ (∀ post : Int32 → Prop, post y → wpY_sourceRef post ((nI N), (nI nr), (nI nw), cyc, yfn, yr, yw, yv, y0, y1, yk, ys) v2)) ∨
    ((∀ post : Int32 → Prop, post 0 → wpX_goodSource post ((nI R), (nI C), (nI nr), (nI nw), (nI N), cyc, fnd, (nI gc), wk, rt, wa, va, fl, us, ma, ho, tp, od, lv, rm, ch, gr, re, fw, wo) v2) ∧ (∀ post : Int32 → Prop, post (-1) → wpY_sourceRef post ((nI N), (nI nr), (nI nw), cyc, yfn, yr, yw, yv, y0, y1, yk, ys) v2)) := by
  rcases gf_src v2 nr with rfl | ⟨j, hj, rfl⟩ | ⟨h1, h2⟩
  · exact Or.inl ⟨-1, 0, Or.inl ⟨rfl, rfl⟩, fun _ _ => Or.inl rfl, fun _ k => gx_gs_m k, fun _ k => gx_sr_m k, fun _ k => gy_sr_m k⟩
  · exact Or.inl ⟨rt j, yr j, B.2.2.1 j hj, fun K hK => hK j hj, fun _ k => gx_gs_y hn hj k, fun _ k => gx_sr_y (by omega) k, fun _ k => gy_sr_y hn hj k⟩
  · exact Or.inr ⟨fun _ k => gx_gs_n hn h1 h2 k, fun _ k => gy_sr_n hn h1 h2 k⟩
theorem gz_move (h : (gf_RL R C N nr nw gc cyc fnd rt wa va fl us ma ho tp rm ch gr yfn yr yw yv y0 y1 yk)) : wpX_move (fun r u' => wpY_move (fun r' v' => r' = r ∧ i_Rel k u' v') ((nI N), (nI nr), (nI nw), cyc, yfn, yr, yw, yv, y0, y1, yk, ys) v1 v2) ((nI R), (nI C), (nI nr), (nI nw), (nI N), cyc, fnd, (nI gc), wk, rt, wa, va, fl, us, ma, ho, tp, od, lv, rm, ch, gr, re, fw, wo) v1 v2 := by
  obtain ⟨cf, hp, yv', φ, H, B, Y⟩ := id h
  have hn := cf.2.2.2.2.2.2.2.1
  unfold wpX_move wpY_move
  dsimp only
  have S := gz_src (C := C) (R := R) (gc := gc) (cyc := cyc) (fnd := fnd) (wk := wk) (ma := ma) (ho := ho) (tp := tp) (od := od) (lv := lv) (rm := rm) (ch := ch) (gr := gr) (re := re) (fw := fw) (wo := wo) (yfn := yfn) (yk := yk) (ys := ys) hn B v2
  rcases gf_good v1 nr with ⟨j, hj, rfl⟩ | hb
  · have hx : vp_in (nI j) 8 := vp_in_nI (by omega) (by decide)
    rcases S with ⟨x, y, r, hK, gs, sx, sy⟩ | ⟨gs, sy⟩
    · refine gx_gr_y hn hj (br_f (by decide) (gs _ (br_f (by decide) (sx _ ⟨hx, nm_r (e' := upd rt j x) (by rw [nI_clamp (by omega)]) ?_⟩))))
      exact sy _ (gy_gr_y hn hj (br_f (by decide) (br_t (gf_rr_0 B r) ⟨hx, nm_r (e' := upd yr j y) (by rw [nI_clamp (by omega)]) ⟨rfl, gf_in ⟨cf, hp, yv', φ, H, gf_BI_root B hn hj r, gf_CY_root Y (fun K _ hK' => hK K hK')⟩⟩⟩)))
    · exact gx_gr_y hn hj (br_f (by decide) (gs _ (br_t rfl (sy _ (gy_gr_y hn hj (br_f (by decide) (br_f (by decide) ⟨rfl, gf_in h⟩)))))))
  · refine gx_gr_n hn hb (br_t rfl ?_)
    rcases S with ⟨x, y, r, hK, gs, sx, sy⟩ | ⟨gs, sy⟩
    · exact sy _ (gy_gr_n hn hb (br_t rfl ⟨rfl, gf_in h⟩))
    · exact sy _ (gy_gr_n hn hb (br_t rfl ⟨rfl, gf_in h⟩))
theorem gz_watch (h : (gf_RL R C N nr nw gc cyc fnd rt wa va fl us ma ho tp rm ch gr yfn yr yw yv y0 y1 yk)) : wpX_watch (fun r u' => wpY_watch (fun r' v' => r' = r ∧ i_Rel k u' v') ((nI N), (nI nr), (nI nw), cyc, yfn, yr, yw, yv, y0, y1, yk, ys) v1 v2) ((nI R), (nI C), (nI nr), (nI nw), (nI N), cyc, fnd, (nI gc), wk, rt, wa, va, fl, us, ma, ho, tp, od, lv, rm, ch, gr, re, fw, wo) v1 v2 := by
  obtain ⟨cf, hp, yv', φ, H, B, Y⟩ := id h
  have hn := cf.2.2.2.2.2.2.2.1
  have hnw := cf.2.2.2.2.2.2.2.2.2
  unfold wpX_watch wpY_watch
  dsimp only
  have S := gz_src (C := C) (R := R) (gc := gc) (cyc := cyc) (fnd := fnd) (wk := wk) (ma := ma) (ho := ho) (tp := tp) (od := od) (lv := lv) (rm := rm) (ch := ch) (gr := gr) (re := re) (fw := fw) (wo := wo) (yfn := yfn) (yk := yk) (ys := ys) hn B v2
  rcases gf_good v1 nw with ⟨j, hj, rfl⟩ | hb
  · have hx : vp_in (nI j) 4 := vp_in_nI (by omega) (by decide)
    rcases S with ⟨x, y, r, hK, gs, sx, sy⟩ | ⟨gs, sy⟩
    · refine gx_gw_y hnw hj (br_f (by decide) (gs _ (br_f (by decide) (sx _ ⟨hx, nm_r (e' := upd wa j x) (by rw [nI_clamp (by omega)]) ?_⟩))))
      exact sy _ (gy_gw_y hnw hj (br_f (by decide) (br_t (gf_rr_0 B r) ⟨hx, nm_r (e' := upd yw j y) (by rw [nI_clamp (by omega)]) ⟨rfl, gf_in ⟨cf, hp, yv', φ, H, gf_BI_watch B hj r, Y⟩⟩⟩)))
    · exact gx_gw_y hnw hj (br_f (by decide) (gs _ (br_t rfl (sy _ (gy_gw_y hnw hj (br_f (by decide) (br_f (by decide) ⟨rfl, gf_in h⟩)))))))
  · refine gx_gw_n hnw hb (br_t rfl ?_)
    rcases S with ⟨x, y, r, hK, gs, sx, sy⟩ | ⟨gs, sy⟩
    · exact sy _ (gy_gw_n hnw hb (br_t rfl ⟨rfl, gf_in h⟩))
    · exact sy _ (gy_gw_n hnw hb (br_t rfl ⟨rfl, gf_in h⟩))
theorem gy_load {post : Int32 → SY → Prop} (hn : nr ≤ 8) (hj : j < nr) (hs : s < nr) (hf : f < 2) (e : yr s = nI q) (hq : q ≤ 32) (k0 : q = 0 → post (-3) ((nI N), (nI nr), (nI nw), cyc, yfn, yr, yw, yv, y0, y1, yk, ys)) (k1 : q ≠ 0 → post 1 ((nI N), (nI nr), (nI nw), cyc, yfn, (upd yr j (gf_yf f y0 y1 q)), yw, yv, y0, y1, yk, ys)) : wpY_load post ((nI N), (nI nr), (nI nw), cyc, yfn, yr, yw, yv, y0, y1, yk, ys) (nI j) (nI s) (nI f) := by
  have hx : vp_in (nI j) 8 := vp_in_nI (by omega) (by decide)
  have hxs : vp_in (nI s) 8 := vp_in_nI (by omega) (by decide)
  have hxq : vp_in (nI q) 33 := vp_in_nI (by omega) (by decide)
  have e1 : (nI j).toNatClampNeg = j := nI_clamp (by omega)
  have e2 : (nI s).toNatClampNeg = s := nI_clamp (by omega)
  have e3 : (nI q).toNatClampNeg = q := nI_clamp (by omega)
  have key : wY_load_27 post (nI j) (nI s) (nI f) (nI N) (nI nr) (nI nw) cyc yfn yr yw yv y0 y1 yk ys := by
    unfold wY_load_27
    rw [e1, e2, e]
    refine ⟨hxs, nm_e ?_⟩
    rw [e3]
    refine pk_eq q 0 (fun z => k0 z) (fun z => ?_) rfl rfl
    refine pk_eq f 0 (fun z2 => ⟨hxq, hx, nm_e ?_⟩) (fun z2 => ⟨hxq, hx, nm_e ?_⟩) rfl rfl
    · have := k1 z
      rw [z2] at this
      exact this
    · have := k1 z
      unfold gf_yf at this
      rw [if_neg z2] at this
      exact this
  unfold wpY_load
  dsimp only
  refine gy_gr_y hn hj (br_f (by decide) (gy_gr_y hn hs (br_f (by decide) ?_)))
  exact pk_eq f 0 (fun _ => key) (fun z => pk_eq f 1 (fun _ => key) (fun z2 => by omega) rfl rfl) rfl rfl
theorem gz_load (h : (gf_RL R C N nr nw gc cyc fnd rt wa va fl us ma ho tp rm ch gr yfn yr yw yv y0 y1 yk)) : wpX_load (fun r u' => wpY_load (fun r' v' => r' = r ∧ i_Rel k u' v') ((nI N), (nI nr), (nI nw), cyc, yfn, yr, yw, yv, y0, y1, yk, ys) v1 v2 v3) ((nI R), (nI C), (nI nr), (nI nw), (nI N), cyc, fnd, (nI gc), wk, rt, wa, va, fl, us, ma, ho, tp, od, lv, rm, ch, gr, re, fw, wo) v1 v2 v3 := by
  obtain ⟨cf, hp, yv', φ, H, B, Y⟩ := id h
  have hn := cf.2.2.2.2.2.2.2.1
  have hN : N ≤ 32 := cf.2.2.2.2.2.1
  rcases gf_good v1 nr with ⟨j, hj, rfl⟩ | hb
  · rcases gf_good v2 nr with ⟨s, hs, rfl⟩ | hb2
    · rcases gf_fld v3 with ⟨f, hf, rfl⟩ | ⟨f0, f1⟩
      · have hx : vp_in (nI j) 8 := vp_in_nI (by omega) (by decide)
        have hxs : vp_in (nI s) 8 := vp_in_nI (by omega) (by decide)
        unfold wpX_load
        dsimp only
        rw [nI_clamp (n := j) (by omega), nI_clamp (n := s) (by omega)]
        refine gx_gr_y hn hj (br_f (by decide) (gx_gr_y hn hs (br_f (by decide) (gx_gf_y hf (br_f (by decide) ⟨hxs, ?_⟩)))))
        rcases B.2.2.1 s hs with ⟨a, b⟩ | ⟨c, hc, a, b⟩
        · rw [a]
          exact nm_e (br_f (by decide) (gy_load hn hj hs hf (q := 0) b (by omega) (fun _ => ⟨rfl, gf_in h⟩) (fun z => absurd rfl z)))
        · have hc32 := gf_BI_32 hN B hc
          have hφ := (B.1 c hc).2.1
          rw [a]
          refine nm_e ?_
          rw [gf_2cf c f, nI_clamp (n := 2 * c + f) (by omega)]
          refine br_t (nI_pos' (by omega)) ⟨vp_in_nI (by omega) (by decide), hx, nm_e (gy_load hn hj hs hf b (by omega) (fun z => by omega) (fun _ => ⟨rfl, gf_in ⟨cf, hp, yv', φ, H, gf_BI_root B hn hj (gf_BI_f B hf hc), gf_CY_root Y (fun K I hK => ?_)⟩⟩))⟩
          have Kc : K c := by
            rcases hK s hs with z | ⟨c', z1, z2⟩
            · exact absurd (a.symm.trans z) (gf_m1 (by omega))
            · have := (nI_eq (by have := gf_KI_32 hN I z1; omega) (by omega)).mp (z2.symm.trans a)
              exact this ▸ z1
          have : f = 0 ∨ f = 1 := by omega
          rcases this with e | e
          · subst e; exact (I.2.1 c Kc).1
          · subst e; exact (I.2.1 c Kc).2
      · unfold wpX_load wpY_load
        dsimp only
        exact gx_gr_y hn hj (br_f (by decide) (gx_gr_y hn hs (br_f (by decide) (gx_gf_n f0 f1 (br_t rfl (gy_gr_y hn hj (br_f (by decide) (gy_gr_y hn hs (br_f (by decide) (br_f f0 (br_f f1 ⟨rfl, gf_in h⟩)))))))))))
    · unfold wpX_load wpY_load
      dsimp only
      exact gx_gr_y hn hj (br_f (by decide) (gx_gr_n hn hb2 (br_t rfl (gy_gr_y hn hj (br_f (by decide) (gy_gr_n hn hb2 (br_t rfl ⟨rfl, gf_in h⟩)))))))
  · unfold wpX_load wpY_load
    dsimp only
    exact gx_gr_n hn hb (br_t rfl (gy_gr_n hn hb (br_t rfl ⟨rfl, gf_in h⟩)))
theorem gz_put (h : (gf_RL R C N nr nw gc cyc fnd rt wa va fl us ma ho tp rm ch gr yfn yr yw yv y0 y1 yk)) : wpX_put (fun r u' => wpY_put (fun r' v' => r' = r ∧ i_Rel k u' v') ((nI N), (nI nr), (nI nw), cyc, yfn, yr, yw, yv, y0, y1, yk, ys) v1 v2) ((nI R), (nI C), (nI nr), (nI nw), (nI N), cyc, fnd, (nI gc), wk, rt, wa, va, fl, us, ma, ho, tp, od, lv, rm, ch, gr, re, fw, wo) v1 v2 := by
  obtain ⟨cf, hp, yv', φ, H, B, Y⟩ := id h
  have hn := cf.2.2.2.2.2.2.2.1
  have hN : N ≤ 32 := cf.2.2.2.2.2.1
  unfold wpX_put wpY_put
  dsimp only
  rcases gf_good v1 nr with ⟨j, hj, rfl⟩ | hb
  · have hx : vp_in (nI j) 8 := vp_in_nI (by omega) (by decide)
    rw [nI_clamp (n := j) (by omega)]
    refine gx_gr_y hn hj (br_f (by decide) ⟨hx, ?_⟩)
    rcases B.2.2.1 j hj with ⟨a, b⟩ | ⟨c, hc, a, b⟩
    · rw [a, b]
      exact nm_e (br_f (by decide) (gy_gr_y hn hj (br_f (by decide) ⟨hx, br_t rfl ⟨rfl, gf_in h⟩⟩)))
    · have hc32 := gf_BI_32 hN B hc
      have hφ := (B.1 c hc).2.1
      rw [a, b]
      refine nm_e ?_
      rw [nI_clamp (n := c) (by omega), nI_clamp (n := φ c) (by omega)]
      exact br_t (nI_pos' (by omega)) ⟨vp_in_nI (by omega) (by decide), nm_e (gy_gr_y hn hj (br_f (by decide) ⟨hx, br_f (nI_ne0 (by omega) (by omega)) ⟨hx, vp_in_nI (by omega) (by decide), nm_e ⟨rfl, gf_in ⟨cf, hp, yv', φ, H, gf_BI_put B hc, Y⟩⟩⟩⟩))⟩
  · exact gx_gr_n hn hb (br_t rfl (gy_gr_n hn hb (br_t rfl ⟨rfl, gf_in h⟩)))
/-- a look number, both sides -/
theorem gz_look (hn : nr ≤ 8) (hnw : nw ≤ 4) (B : (gf_BI N nr nw us rt wa va fl yr yw yv y0 y1 φ H)) (v1 : Int32) :
    (∃ x y, gf_rr H φ 0 x y ∧ (∀ post : Int32 → Prop, post 1 → wpX_goodLook post ((nI R), (nI C), (nI nr), (nI nw), (nI N), cyc, fnd, (nI gc), wk, rt, wa, va, fl, us, ma, ho, tp, od, lv, rm, ch, gr, re, fw, wo) v1) ∧ (∀ post : Int32 → Prop, post x → wpX_lookRef post ((nI R), (nI C), (nI nr), (nI nw), (nI N), cyc, fnd, (nI gc), wk, rt, wa, va, fl, us, ma, ho, tp, od, lv, rm, ch, gr, re, fw, wo) v1) ∧ (∀ post : Int32 → Prop, post y → wpY_lookRef post ((nI N), (nI nr), (nI nw), cyc, yfn, yr, yw, yv, y0, y1, yk, ys) v1)) ∨
    ((∀ post : Int32 → Prop, post 0 → wpX_goodLook post ((nI R), (nI C), (nI nr), (nI nw), (nI N), cyc, fnd, (nI gc), wk, rt, wa, va, fl, us, ma, ho, tp, od, lv, rm, ch, gr, re, fw, wo) v1) ∧ (∀ post : Int32 → Prop, post (-1) → wpY_lookRef post ((nI N), (nI nr), (nI nw), cyc, yfn, yr, yw, yv, y0, y1, yk, ys) v1)) := by
  rcases gf_look v1 hn hnw with ⟨j, hj, rfl⟩ | ⟨j, hj, rfl⟩ | ⟨h1, h2⟩
  · exact Or.inl ⟨rt j, yr j, B.2.2.1 j hj, fun _ k => gx_gl_r hn hj k, fun _ k => gx_lr_r (by omega) k, fun _ k => gy_lr_r hn hj k⟩
  · exact Or.inl ⟨wa j, yw j, B.2.2.2.2.1 j hj, fun _ k => gx_gl_w hn hnw hj k, fun _ k => gx_lr_w (by omega) k, fun _ k => gy_lr_w hn hnw hj k⟩
  · exact Or.inr ⟨fun _ k => gx_gl_n hn h1 h2 k, fun _ k => gy_lr_n hn h1 h2 k⟩
theorem gz_same (h : (gf_RL R C N nr nw gc cyc fnd rt wa va fl us ma ho tp rm ch gr yfn yr yw yv y0 y1 yk)) : wpX_same (fun r => wpY_same (fun r' => r' = r ∧ i_Rel k ((nI R), (nI C), (nI nr), (nI nw), (nI N), cyc, fnd, (nI gc), wk, rt, wa, va, fl, us, ma, ho, tp, od, lv, rm, ch, gr, re, fw, wo) ((nI N), (nI nr), (nI nw), cyc, yfn, yr, yw, yv, y0, y1, yk, ys)) ((nI N), (nI nr), (nI nw), cyc, yfn, yr, yw, yv, y0, y1, yk, ys) v1 v2) ((nI R), (nI C), (nI nr), (nI nw), (nI N), cyc, fnd, (nI gc), wk, rt, wa, va, fl, us, ma, ho, tp, od, lv, rm, ch, gr, re, fw, wo) v1 v2 := by
  obtain ⟨cf, hp, yv', φ, H, B, Y⟩ := id h
  have hn := cf.2.2.2.2.2.2.2.1
  have hnw := cf.2.2.2.2.2.2.2.2.2
  have hN : N ≤ 32 := cf.2.2.2.2.2.1
  have R0 : i_Rel k ((nI R), (nI C), (nI nr), (nI nw), (nI N), cyc, fnd, (nI gc), wk, rt, wa, va, fl, us, ma, ho, tp, od, lv, rm, ch, gr, re, fw, wo) ((nI N), (nI nr), (nI nw), cyc, yfn, yr, yw, yv, y0, y1, yk, ys) := gf_in h
  unfold wpX_same wpY_same
  dsimp only
  have S1 := gz_look (C := C) (R := R) (gc := gc) (cyc := cyc) (fnd := fnd) (wk := wk) (ma := ma) (ho := ho) (tp := tp) (od := od) (lv := lv) (rm := rm) (ch := ch) (gr := gr) (re := re) (fw := fw) (wo := wo) (yfn := yfn) (yk := yk) (ys := ys) hn hnw B v1
  have S2 := gz_look (C := C) (R := R) (gc := gc) (cyc := cyc) (fnd := fnd) (wk := wk) (ma := ma) (ho := ho) (tp := tp) (od := od) (lv := lv) (rm := rm) (ch := ch) (gr := gr) (re := re) (fw := fw) (wo := wo) (yfn := yfn) (yk := yk) (ys := ys) hn hnw B v2
  have neg : ∀ y : Int32, 0 ≤ y → ¬ y < 0 := fun y hy => Int32.not_lt.mpr hy
  rcases S1 with ⟨x1, z1, r1, g1, l1, m1⟩ | ⟨g1, m1⟩
  · rcases S2 with ⟨x2, z2, r2, g2, l2, m2⟩ | ⟨g2, m2⟩
    · refine g1 _ (br_f (by decide) (g2 _ (br_f (by decide) (l1 _ (l2 _ ?_)))))
      have fy : ∀ a : Int32, (z1 = z2 → a = 1) → (z1 ≠ z2 → a = 0) → wpY_lookRef (fun r_1 => wpY_lookRef (fun r_14 => ((r_1 < 0 → ((-1 : Int32) = a ∧ i_Rel k ((nI R), (nI C), (nI nr), (nI nw), (nI N), cyc, fnd, (nI gc), wk, rt, wa, va, fl, us, ma, ho, tp, od, lv, rm, ch, gr, re, fw, wo) ((nI N), (nI nr), (nI nw), cyc, yfn, yr, yw, yv, y0, y1, yk, ys))) ∧ (¬ r_1 < 0 → (((0 ≤ r_14 → (((r_1 = r_14 → ((1 : Int32) = a ∧ i_Rel k ((nI R), (nI C), (nI nr), (nI nw), (nI N), cyc, fnd, (nI gc), wk, rt, wa, va, fl, us, ma, ho, tp, od, lv, rm, ch, gr, re, fw, wo) ((nI N), (nI nr), (nI nw), cyc, yfn, yr, yw, yv, y0, y1, yk, ys))) ∧ (¬ r_1 = r_14 → ((0 : Int32) = a ∧ i_Rel k ((nI R), (nI C), (nI nr), (nI nw), (nI N), cyc, fnd, (nI gc), wk, rt, wa, va, fl, us, ma, ho, tp, od, lv, rm, ch, gr, re, fw, wo) ((nI N), (nI nr), (nI nw), cyc, yfn, yr, yw, yv, y0, y1, yk, ys)))))) ∧ (¬ 0 ≤ r_14 → ((-1 : Int32) = a ∧ i_Rel k ((nI R), (nI C), (nI nr), (nI nw), (nI N), cyc, fnd, (nI gc), wk, rt, wa, va, fl, us, ma, ho, tp, od, lv, rm, ch, gr, re, fw, wo) ((nI N), (nI nr), (nI nw), cyc, yfn, yr, yw, yv, y0, y1, yk, ys)))))))) ((nI N), (nI nr), (nI nw), cyc, yfn, yr, yw, yv, y0, y1, yk, ys) v2) ((nI N), (nI nr), (nI nw), cyc, yfn, yr, yw, yv, y0, y1, yk, ys) v1 := by
        intro a h1 h2
        refine m1 _ (m2 _ (br_f (neg _ (gf_rr_0 B r1)) (br_t (gf_rr_0 B r2) (br_c (fun e => ⟨(h1 e).symm, R0⟩) (fun e => ⟨(h2 e).symm, R0⟩)))))
      have iff : x1 = x2 ↔ z1 = z2 := by
        rcases r1 with ⟨a1, b1⟩ | ⟨d1, h1, a1, b1⟩
        · rcases r2 with ⟨a2, b2⟩ | ⟨d2, h2, a2, b2⟩
          · rw [a1, a2, b1, b2]
            exact ⟨fun _ => rfl, fun _ => rfl⟩
          · have h32 := gf_BI_32 hN B h2
            have hφ := (B.1 d2 h2).2.1
            rw [a1, a2, b1, b2]
            exact ⟨fun e => absurd e.symm (gf_m1 (by omega)), fun e => absurd e.symm (nI_ne0 (by omega) (by omega))⟩
        · have h321 := gf_BI_32 hN B h1
          have hφ1 := (B.1 d1 h1).2.1
          rcases r2 with ⟨a2, b2⟩ | ⟨d2, h2, a2, b2⟩
          · rw [a1, a2, b1, b2]
            exact ⟨fun e => absurd e (gf_m1 (by omega)), fun e => absurd e (nI_ne0 (by omega) (by omega))⟩
          · have h32 := gf_BI_32 hN B h2
            have hφ := (B.1 d2 h2).2.1
            rw [a1, a2, b1, b2, nI_eq (by omega) (by omega), nI_eq (by omega) (by omega)]
            exact ⟨fun e => by rw [e], fun e => B.2.1 d1 d2 h1 h2 e⟩
      exact br_c (fun e => fy 1 (fun _ => rfl) (fun ne => absurd (iff.mp e) ne)) (fun e => fy 0 (fun q => absurd (iff.mpr q) e) (fun _ => rfl))
    · exact g1 _ (br_f (by decide) (g2 _ (br_t rfl (m1 _ (m2 _ (br_f (neg _ (gf_rr_0 B r1)) (br_f (by decide) ⟨rfl, R0⟩)))))))
  · refine g1 _ (br_t rfl ?_)
    rcases S2 with ⟨x2, z2, r2, g2, l2, m2⟩ | ⟨g2, m2⟩
    · exact m1 _ (m2 _ (br_t (by decide) ⟨rfl, R0⟩))
    · exact m1 _ (m2 _ (br_t (by decide) ⟨rfl, R0⟩))
/-- the path of value, both sides at one answer -/
theorem gz_path {L : Nat} (hL : L ≤ 16) (hN : N ≤ 32) (B : (gf_BI N nr nw us rt wa va fl yr yw yv y0 y1 φ H)) (p : Int32) : ∀ (n i : Nat) (x y : Int32), i ≤ L → L - i < n → gf_rr H φ 0 x y →
    ∃ r : Int32, (∀ post : Int32 → Prop, post r → wX_value_30 post p (nI L) (nI R) (nI C) (nI nr) (nI nw) (nI N) cyc fnd (nI gc) wk rt wa va fl us ma ho tp od lv rm ch gr re fw wo n x (nI i)) ∧ (∀ post : Int32 → Prop, post r → wY_value_27 post p (nI L) (nI N) (nI nr) (nI nw) cyc yfn yr yw yv y0 y1 yk ys n y (nI i)) := by
  intro n
  induction n with
  | zero => intro i x y _ h; omega
  | succ n ih =>
    intro i x y hi hf r
    rcases r with ⟨a, b⟩ | ⟨c, hc, a, b⟩
    · subst a b
      have x65 : ∀ post : Int32 → Prop, post (-3) → wX_value_65 post (-1) (nI R) (nI C) (nI nr) (nI nw) (nI N) cyc fnd (nI gc) wk rt wa va fl us ma ho tp od lv rm ch gr re fw wo := fun post k => br_f (by decide) k
      exact ⟨-3, fun post k => br_c (fun _ => x65 post k) (fun _ => br_t (by decide) (x65 post k)), fun post k => br_c (fun _ => br_t rfl k) (fun _ => br_t rfl k)⟩
    · subst a b
      have hc32 := gf_BI_32 hN B hc
      obtain ⟨_, hφ, _, _, ev⟩ := B.1 c hc
      have ec : (nI c).toNatClampNeg = c := nI_clamp (by omega)
      have ep : (nI (φ c)).toNatClampNeg = φ c := nI_clamp (by omega)
      rcases Nat.lt_or_ge i L with h | h
      · obtain ⟨f, f2, ef⟩ := pk_andE (p >>> (nI i &&& 31)) (m := 1) 1 (by decide)
        have f2 : f < 2 := f2
        obtain ⟨r, rx, ry⟩ := ih (i + 1) _ _ (by omega) (by omega) (gf_BI_f B f2 hc)
        refine ⟨r, fun post k => br_f (nI_ge h (by omega)) (br_f (nI_pos (by omega)) ?_), fun post k => br_f (nI_ge h (by omega)) (br_f (nI_ne0 (by omega) (by omega)) ?_)⟩
        · rw [ef, gf_2cf c f, nI_clamp (n := 2 * c + f) (by omega)]
          exact ⟨vp_in_nI (by omega) (by decide), nm_e (nm_r (e' := nI (i + 1)) (nI_1 i) (rx post k))⟩
        · have hxp : vp_in (nI (φ c)) 33 := vp_in_nI (by omega) (by decide)
          rw [ef, ep]
          refine pk_eq f 0 (fun z => ⟨hxp, nm_e (nm_r (e' := nI (i + 1)) (nI_1 i) ?_)⟩) (fun z => ⟨hxp, nm_e (nm_r (e' := nI (i + 1)) (nI_1 i) ?_)⟩) rfl rfl
          · have := ry post k
            rw [z] at this
            exact this
          · have := ry post k
            unfold gf_yf at this
            rw [if_neg z] at this
            exact this
      · refine ⟨va c, fun post k => br_t (nI_le h (by omega)) (br_t (nI_pos' (by omega)) ⟨vp_in_nI (by omega) (by decide), by rw [ec]; exact k⟩), fun post k => br_t (nI_le h (by omega)) (br_f (nI_ne0 (by omega) (by omega)) ⟨vp_in_nI (by omega) (by decide), by rw [ep, ev]; exact k⟩)⟩
theorem gz_value (h : (gf_RL R C N nr nw gc cyc fnd rt wa va fl us ma ho tp rm ch gr yfn yr yw yv y0 y1 yk)) : wpX_value (fun r => wpY_value (fun r' => r' = r ∧ i_Rel k ((nI R), (nI C), (nI nr), (nI nw), (nI N), cyc, fnd, (nI gc), wk, rt, wa, va, fl, us, ma, ho, tp, od, lv, rm, ch, gr, re, fw, wo) ((nI N), (nI nr), (nI nw), cyc, yfn, yr, yw, yv, y0, y1, yk, ys)) ((nI N), (nI nr), (nI nw), cyc, yfn, yr, yw, yv, y0, y1, yk, ys) v1 v2 v3) ((nI R), (nI C), (nI nr), (nI nw), (nI N), cyc, fnd, (nI gc), wk, rt, wa, va, fl, us, ma, ho, tp, od, lv, rm, ch, gr, re, fw, wo) v1 v2 v3 := by
  obtain ⟨cf, hp, yv', φ, H, B, Y⟩ := id h
  have hn := cf.2.2.2.2.2.2.2.1
  have hnw := cf.2.2.2.2.2.2.2.2.2
  have hN : N ≤ 32 := cf.2.2.2.2.2.1
  have R0 : i_Rel k ((nI R), (nI C), (nI nr), (nI nw), (nI N), cyc, fnd, (nI gc), wk, rt, wa, va, fl, us, ma, ho, tp, od, lv, rm, ch, gr, re, fw, wo) ((nI N), (nI nr), (nI nw), cyc, yfn, yr, yw, yv, y0, y1, yk, ys) := gf_in h
  unfold wpX_value wpY_value
  dsimp only
  have S1 := gz_look (C := C) (R := R) (gc := gc) (cyc := cyc) (fnd := fnd) (wk := wk) (ma := ma) (ho := ho) (tp := tp) (od := od) (lv := lv) (rm := rm) (ch := ch) (gr := gr) (re := re) (fw := fw) (wo := wo) (yfn := yfn) (yk := yk) (ys := ys) hn hnw B v1
  have neg : ∀ y : Int32, 0 ≤ y → ¬ y < 0 := fun y hy => Int32.not_lt.mpr hy
  rcases S1 with ⟨x1, z1, r1, g1, l1, m1⟩ | ⟨g1, m1⟩
  · refine g1 _ (br_f (by decide) ?_)
    by_cases h0 : v3 < 0
    · exact br_t h0 (m1 _ (br_f (neg _ (gf_rr_0 B r1)) (br_t h0 ⟨rfl, R0⟩)))
    · by_cases h16 : v3 ≤ 16
      · obtain ⟨L, hL, rfl⟩ := nI_of2 (M := 16) (n := 16) (by decide) h0 h16
        obtain ⟨r, rx, ry⟩ := gz_path (C := C) (R := R) (gc := gc) (cyc := cyc) (fnd := fnd) (wk := wk) (ma := ma) (ho := ho) (tp := tp) (od := od) (lv := lv) (rm := rm) (ch := ch) (gr := gr) (re := re) (fw := fw) (wo := wo) (yfn := yfn) (yk := yk) (ys := ys) hL hN B v2 (L + 1) 0 x1 z1 (Nat.zero_le _) (by omega) r1
        exact br_f h0 (br_t h16 (l1 _ ⟨L + 1, rx _ (m1 _ (br_f (neg _ (gf_rr_0 B r1)) (br_f h0 (br_t h16 ⟨L + 1, ry _ ⟨rfl, R0⟩⟩))))⟩))
      · exact br_f h0 (br_f h16 (m1 _ (br_f (neg _ (gf_rr_0 B r1)) (br_f h0 (br_f h16 ⟨rfl, R0⟩)))))
  · exact g1 _ (br_t rfl (m1 _ (br_t (by decide) ⟨rfl, R0⟩)))
end
end
section
/-! store, marking, evacuate, finish, begin, revive -/
section
variable {R C N nr nw gc : Nat} {cyc fnd wk : Int32} {rt wa va fl us ma ho tp od lv rm ch gr re fw wo : Nat → Int32} {yfn : Int32} {yr yw yv y0 y1 yk ys : Nat → Int32}
variable {H K : Nat → Prop} {φ : Nat → Nat} {j s c q f w : Nat} {x y v1 v2 v3 : Int32} {k : Nat}
theorem gx_st71 {post : Int32 → SX → Prop} (cf : (gf_cf R C N nr nw)) (hm : (gf_HM C N ho)) (hf : f < 2) (hc : c < N) (hx : gf_vr (gf_U N us) x)
    (k : ∀ rm' : Nat → Int32, (∀ r i, bt (rm r) i = true → bt (rm' r) i = true) → (∀ d, d < N → x = nI d → c / C ≠ d / C → bt (rm' (d / C)) c = true) → post 1 ((nI R), (nI C), (nI nr), (nI nw), (nI N), cyc, fnd, (nI gc), wk, rt, wa, va, (upd fl (2 * c + f) x), us, ma, ho, tp, od, lv, rm', ch, gr, re, fw, wo)) : wX_store_71 post (nI f) (nI c) x (nI R) (nI C) (nI nr) (nI nw) (nI N) cyc fnd (nI gc) wk rt wa va fl us ma ho tp od lv rm ch gr re fw wo := by
  have hN : N ≤ 32 := cf.2.2.2.2.2.1
  unfold wX_store_71
  rw [gf_2cf c f, nI_clamp (n := 2 * c + f) (by omega)]
  refine ⟨vp_in_nI (by omega) (by decide), nm_e (gx_remember cf hm hc ?_ k)⟩
  rcases hx with hx | ⟨d, d1, d2⟩
  · exact Or.inl hx
  · exact Or.inr ⟨d, d1.1, d2⟩
theorem gy_store {post : Int32 → SY → Prop} (hn : nr ≤ 8) (hj : j < nr) (hf : f < 2) (sy : ∀ post : Int32 → Prop, post y → wpY_sourceRef post ((nI N), (nI nr), (nI nw), cyc, yfn, yr, yw, yv, y0, y1, yk, ys) v3) (hy : 0 ≤ y) (e : yr j = nI q) (hq : q ≤ 32) (k0 : q = 0 → post (-3) ((nI N), (nI nr), (nI nw), cyc, yfn, yr, yw, yv, y0, y1, yk, ys)) (k1 : q ≠ 0 → f = 0 → post 1 ((nI N), (nI nr), (nI nw), cyc, yfn, yr, yw, yv, (upd y0 q y), y1, yk, ys)) (k2 : q ≠ 0 → f = 1 → post 1 ((nI N), (nI nr), (nI nw), cyc, yfn, yr, yw, yv, y0, (upd y1 q y), yk, ys)) : wpY_store post ((nI N), (nI nr), (nI nw), cyc, yfn, yr, yw, yv, y0, y1, yk, ys) (nI j) (nI f) v3 := by
  have hx : vp_in (nI j) 8 := vp_in_nI (by omega) (by decide)
  have hxq : vp_in (nI q) 33 := vp_in_nI (by omega) (by decide)
  have key : wY_store_24 post (nI j) (nI f) y (nI N) (nI nr) (nI nw) cyc yfn yr yw yv y0 y1 yk ys := by
    unfold wY_store_24
    rw [nI_clamp (n := j) (by omega), e]
    refine br_t hy ⟨hx, nm_e ?_⟩
    rw [nI_clamp (n := q) (by omega)]
    refine pk_eq q 0 (fun z => k0 z) (fun z => ?_) rfl rfl
    exact pk_eq f 0 (fun z2 => ⟨hxq, nm_e (k1 z z2)⟩) (fun z2 => ⟨hxq, nm_e (k2 z (by omega))⟩) rfl rfl
  unfold wpY_store
  dsimp only
  refine sy _ (gy_gr_y hn hj (br_f (by decide) ?_))
  exact pk_eq f 0 (fun _ => key) (fun z => pk_eq f 1 (fun _ => key) (fun z2 => by omega) rfl rfl) rfl rfl
theorem gz_store (h : (gf_RL R C N nr nw gc cyc fnd rt wa va fl us ma ho tp rm ch gr yfn yr yw yv y0 y1 yk)) : wpX_store (fun r u' => wpY_store (fun r' v' => r' = r ∧ i_Rel k u' v') ((nI N), (nI nr), (nI nw), cyc, yfn, yr, yw, yv, y0, y1, yk, ys) v1 v2 v3) ((nI R), (nI C), (nI nr), (nI nw), (nI N), cyc, fnd, (nI gc), wk, rt, wa, va, fl, us, ma, ho, tp, od, lv, rm, ch, gr, re, fw, wo) v1 v2 v3 := by
  obtain ⟨cf, hp, yv', φ, H, B, Y⟩ := id h
  have hn := cf.2.2.2.2.2.2.2.1
  have hN : N ≤ 32 := cf.2.2.2.2.2.1
  have S := gz_src (C := C) (R := R) (gc := gc) (cyc := cyc) (fnd := fnd) (wk := wk) (ma := ma) (ho := ho) (tp := tp) (od := od) (lv := lv) (rm := rm) (ch := ch) (gr := gr) (re := re) (fw := fw) (wo := wo) (yfn := yfn) (yk := yk) (ys := ys) hn B v3
  rcases gf_good v1 nr with ⟨j, hj, rfl⟩ | hb
  · rcases gf_fld v2 with ⟨f, hf, rfl⟩ | ⟨f0, f1⟩
    · rcases S with ⟨x, y, r, hK, gs, sx, sy⟩ | ⟨gs, sy⟩
      · have hx : vp_in (nI j) 8 := vp_in_nI (by omega) (by decide)
        unfold wpX_store
        dsimp only
        rw [nI_clamp (n := j) (by omega)]
        refine gx_gr_y hn hj (br_f (by decide) (gx_gf_y hf (br_f (by decide) (gs _ (br_f (by decide) ⟨hx, ?_⟩)))))
        rcases B.2.2.1 j hj with ⟨a, b⟩ | ⟨c, hc, a, b⟩
        · rw [a]
          exact nm_e (br_f (by decide) (gy_store hn hj hf sy (gf_rr_0 B r) (q := 0) b (by omega) (fun _ => ⟨rfl, gf_in h⟩) (fun z => absurd rfl z) (fun z => absurd rfl z)))
        · have hc32 := gf_BI_32 hN B hc
          have hφ := (B.1 c hc).2.1
          have hcU := (B.1 c hc).1
          have vx := gf_vrU B r
          obtain ⟨qy, qy1, qy2⟩ := gf_rr_y B r
          -- the end, whatever the marking made of gray, marked, found
          have fin : ∀ (fnd' : Int32) (gc' : Nat) (ma' gr' : Nat → Int32), gf_B1 ma' → (gf_CY N nr gc' cyc fnd' yfn us (upd fl (2 * c + f) x) ma' gr' rt yk φ H) → wX_store_71 (fun r u' => wpY_store (fun r' v' => r' = r ∧ i_Rel k u' v') ((nI N), (nI nr), (nI nw), cyc, yfn, yr, yw, yv, y0, y1, yk, ys) (nI j) (nI f) v3) (nI f) (nI c) x (nI R) (nI C) (nI nr) (nI nw) (nI N) cyc fnd' (nI gc') wk rt wa va fl us ma' ho tp od lv rm ch gr' re fw wo := by
            intro fnd' gc' ma' gr' b1 Y'
            refine gx_st71 cf hp.1 hf hcU.1 vx (fun rm' m1 m2 => ?_)
            have hp' : (gf_HP R C N us (upd fl (2 * c + f) x) ma' ho tp rm' ch) := by
              obtain ⟨p1, p2, p3, p4, p5, _⟩ := gf_HP_st hp hN hf hcU vx m1 m2
              exact ⟨p1, p2, p3, p4, p5, b1⟩
            refine gy_store hn hj hf sy (gf_rr_0 B r) b (by omega) (fun z => by omega) (fun _ z => ⟨rfl, gf_in ⟨cf, hp', ?_, φ, H, ?_, Y'⟩⟩) (fun _ z => ⟨rfl, gf_in ⟨cf, hp', ?_, φ, H, ?_, Y'⟩⟩)
            · rw [qy2]; exact gf_YV_0 yv' qy1
            · subst z; exact gf_BI_st0 B hc r
            · rw [qy2]; exact gf_YV_1 yv' qy1
            · subst z; exact gf_BI_st1 B hc r
          rw [a]
          refine nm_e ?_
          rw [gf_2cf c f, nI_clamp (n := 2 * c + f) (by omega)]
          refine br_t (nI_pos' (by omega)) (sx _ (br_c (fun e0 => fin fnd gc ma gr hp.2.2.2.2.2 ?_) (fun e0 => ⟨vp_in_nI (by omega) (by decide), ?_⟩)))
          · rcases Y with Y | ⟨e, _⟩
            · exact Or.inl Y
            · exact absurd (e.symm.trans e0) (by decide)
          · rcases Y with Y | ⟨e, K, I, k1, k2, k3⟩
            · exact absurd Y.1 e0
            · have Kc : K c := by
                rcases k1 j hj with z | ⟨c', z1, z2⟩
                · exact absurd (a.symm.trans z) (gf_m1 (by omega))
                · have := (nI_eq (by have := gf_KI_32 hN I z1; omega) (by omega)).mp (z2.symm.trans a)
                  exact this ▸ z1
              have vo : gf_vr K (fl (2 * c + f)) := by
                have : f = 0 ∨ f = 1 := by omega
                rcases this with e | e
                · subst e; exact (I.2.1 c Kc).1
                · subst e; exact (I.2.1 c Kc).2
              refine gx_greyK hN I hp.2.2.2.2.2 k3.symm vo (fun _ _ f => f.elim) (fun fnd' gc' ma' gr' I' b1 ht _ hmk => fin fnd' gc' ma' gr' b1 (Or.inr ⟨e, K, gf_KI_store I' hmk (hK K k1), k1, k2, ht.symm⟩))
      · unfold wpX_store wpY_store
        dsimp only
        refine gx_gr_y hn hj (br_f (by decide) (gx_gf_y hf (br_f (by decide) (gs _ (br_t rfl (sy _ (gy_gr_y hn hj (br_f (by decide) ?_))))))))
        have k24 : ∀ post : Int32 → SY → Prop, post (-1) ((nI N), (nI nr), (nI nw), cyc, yfn, yr, yw, yv, y0, y1, yk, ys) → wY_store_24 post (nI j) (nI f) (-1) (nI N) (nI nr) (nI nw) cyc yfn yr yw yv y0 y1 yk ys := fun post k => br_f (by decide) k
        exact pk_eq f 0 (fun _ => k24 _ ⟨rfl, gf_in h⟩) (fun z => pk_eq f 1 (fun _ => k24 _ ⟨rfl, gf_in h⟩) (fun z2 => by omega) rfl rfl) rfl rfl
    · unfold wpX_store wpY_store
      dsimp only
      refine gx_gr_y hn hj (br_f (by decide) (gx_gf_n f0 f1 (br_t rfl ?_)))
      rcases S with ⟨x, y, r, hK, gs, sx, sy⟩ | ⟨gs, sy⟩
      · exact sy _ (gy_gr_y hn hj (br_f (by decide) (br_f f0 (br_f f1 ⟨rfl, gf_in h⟩))))
      · exact sy _ (gy_gr_y hn hj (br_f (by decide) (br_f f0 (br_f f1 ⟨rfl, gf_in h⟩))))
  · unfold wpX_store wpY_store
    dsimp only
    refine gx_gr_n hn hb (br_t rfl ?_)
    rcases S with ⟨x, y, r, hK, gs, sx, sy⟩ | ⟨gs, sy⟩
    · exact sy _ (gy_gr_n hn hb (br_t rfl ⟨rfl, gf_in h⟩))
    · exact sy _ (gy_gr_n hn hb (br_t rfl ⟨rfl, gf_in h⟩))
/-- marking keeps the relation -/
theorem gz_mark {post : SX → Prop} {lim : Int32} (h : (gf_RL R C N nr nw gc cyc fnd rt wa va fl us ma ho tp rm ch gr yfn yr yw yv y0 y1 yk)) (hc : cyc ≠ 0) (k : ∀ (fnd : Int32) (gc : Nat) (ma gr lv : Nat → Int32), (gf_RL R C N nr nw gc cyc fnd rt wa va fl us ma ho tp rm ch gr yfn yr yw yv y0 y1 yk) → (lim = 32 → gc = 0) → post ((nI R), (nI C), (nI nr), (nI nw), (nI N), cyc, fnd, (nI gc), wk, rt, wa, va, fl, us, ma, ho, tp, od, lv, rm, ch, gr, re, fw, wo)) : wpX_markSome post ((nI R), (nI C), (nI nr), (nI nw), (nI N), cyc, fnd, (nI gc), wk, rt, wa, va, fl, us, ma, ho, tp, od, lv, rm, ch, gr, re, fw, wo) lim := by
  obtain ⟨cf, hp, yv', φ, H, B, Y⟩ := h
  rcases Y with Y | ⟨e, K, I, k1, k2, k3⟩
  · exact absurd Y.1 hc
  · obtain ⟨p1, p2, p3, p4, p5, b1⟩ := hp
    exact gx_markSome cf p1 I b1 k3.symm (fun fnd gc ma gr lv I' b1' ht hl => k fnd gc ma gr lv ⟨cf, ⟨p1, p2, p3, p4, p5, b1'⟩, yv', φ, H, B, Or.inr ⟨e, K, I', k1, k2, ht.symm⟩⟩ hl)
theorem gf_RL_gc (h : (gf_RL R C N nr nw gc cyc fnd rt wa va fl us ma ho tp rm ch gr yfn yr yw yv y0 y1 yk)) (hc : cyc = 0) : gc = 0 := by
  obtain ⟨cf, hp, yv', φ, H, B, Y⟩ := h
  rcases Y with Y | ⟨e, _⟩
  · exact Y.2
  · exact absurd (e.symm.trans hc) (by decide)
theorem gf_RL_cyc (h : (gf_RL R C N nr nw gc cyc fnd rt wa va fl us ma ho tp rm ch gr yfn yr yw yv y0 y1 yk)) : cyc = 0 ∨ cyc = 1 := by
  obtain ⟨cf, hp, yv', φ, H, B, Y⟩ := h
  exact Y.imp And.left And.left
theorem gz_fin {post : SX → Prop} (h : (gf_RL R C N nr nw gc cyc fnd rt wa va fl us ma ho tp rm ch gr yfn yr yw yv y0 y1 yk)) (k : ∀ (fnd : Int32) (gc : Nat) (ma gr lv : Nat → Int32), (gf_RL R C N nr nw gc cyc fnd rt wa va fl us ma ho tp rm ch gr yfn yr yw yv y0 y1 yk) → gc = 0 → post ((nI R), (nI C), (nI nr), (nI nw), (nI N), cyc, fnd, (nI gc), wk, rt, wa, va, fl, us, ma, ho, tp, od, lv, rm, ch, gr, re, fw, wo)) : wpX_finishMarking post ((nI R), (nI C), (nI nr), (nI nw), (nI N), cyc, fnd, (nI gc), wk, rt, wa, va, fl, us, ma, ho, tp, od, lv, rm, ch, gr, re, fw, wo) := by
  unfold wpX_finishMarking
  dsimp only
  exact br_c (fun e => k _ _ _ _ _ h (gf_RL_gc h e)) (fun e => gz_mark h e (fun fnd gc ma gr lv h' hl => k fnd gc ma gr lv h' (hl rfl)))
theorem gz_markStep (h : (gf_RL R C N nr nw gc cyc fnd rt wa va fl us ma ho tp rm ch gr yfn yr yw yv y0 y1 yk)) : wpX_markStep (fun u' => wpY_markStep (fun v' => i_Rel k u' v') ((nI N), (nI nr), (nI nw), cyc, yfn, yr, yw, yv, y0, y1, yk, ys) v1) ((nI R), (nI C), (nI nr), (nI nw), (nI N), cyc, fnd, (nI gc), wk, rt, wa, va, fl, us, ma, ho, tp, od, lv, rm, ch, gr, re, fw, wo) v1 := by
  unfold wpX_markStep wpY_markStep
  dsimp only
  exact br_c (fun _ => gf_in h) (fun e => gz_mark h e (fun fnd gc ma gr lv h' _ => gf_in h'))
theorem gz_evacuate (h : (gf_RL R C N nr nw gc cyc fnd rt wa va fl us ma ho tp rm ch gr yfn yr yw yv y0 y1 yk)) : wpX_evacuate (fun u' => wpY_evacuate (fun v' => i_Rel k u' v') ((nI N), (nI nr), (nI nw), cyc, yfn, yr, yw, yv, y0, y1, yk, ys) v1) ((nI R), (nI C), (nI nr), (nI nw), (nI N), cyc, fnd, (nI gc), wk, rt, wa, va, fl, us, ma, ho, tp, od, lv, rm, ch, gr, re, fw, wo) v1 := by
  unfold wpY_evacuate
  dsimp only
  obtain ⟨cf, hp, yv', φ, H, B, Y⟩ := id h
  have hN : N ≤ 32 := cf.2.2.2.2.2.1
  have hg := gf_CY_gr hN Y
  refine gx_evacuate cf hp hg.1 (fun i hi => gf_vrU B (B.2.2.1 i hi)) (fun i hi => gf_vrU B (B.2.2.2.2.1 i hi)) hg.2 (gf_in h) (fun wc' va' fl' us' ma' tp' od' lv' fw' wo' dn' rt' wa' gr' rm' ch' I HP => gf_in ⟨cf, HP, yv', _, _, gf_IS_BI hN I B, gf_IS_CY hN I Y⟩)
theorem gz_census (h : (gf_RL R C N nr nw gc cyc fnd rt wa va fl us ma ho tp rm ch gr yfn yr yw yv y0 y1 yk)) : wpX_census (fun r u' => wpY_census (fun r' => r' = r ∧ i_Rel k u' ((nI N), (nI nr), (nI nw), cyc, yfn, yr, yw, yv, y0, y1, yk, ys)) ((nI N), (nI nr), (nI nw), cyc, yfn, yr, yw, yv, y0, y1, yk, ys)) ((nI R), (nI C), (nI nr), (nI nw), (nI N), cyc, fnd, (nI gc), wk, rt, wa, va, fl, us, ma, ho, tp, od, lv, rm, ch, gr, re, fw, wo) := by
  unfold wpX_census wpY_census
  dsimp only
  refine br_c (fun e => br_t e ⟨rfl, gf_in h⟩) (fun e => gz_fin h (fun fnd gc ma gr lv h' g0 => br_f e ⟨?_, gf_in h'⟩))
  subst g0
  obtain ⟨cf, hp, yv', φ, H, B, Y⟩ := h'
  exact (gf_CY_done cf.2.2.2.2.2.1 B Y e).2
theorem gz_fate (h : (gf_RL R C N nr nw gc cyc fnd rt wa va fl us ma ho tp rm ch gr yfn yr yw yv y0 y1 yk)) : wpX_fate (fun r u' => wpY_fate (fun r' => r' = r ∧ i_Rel k u' ((nI N), (nI nr), (nI nw), cyc, yfn, yr, yw, yv, y0, y1, yk, ys)) ((nI N), (nI nr), (nI nw), cyc, yfn, yr, yw, yv, y0, y1, yk, ys) v1) ((nI R), (nI C), (nI nr), (nI nw), (nI N), cyc, fnd, (nI gc), wk, rt, wa, va, fl, us, ma, ho, tp, od, lv, rm, ch, gr, re, fw, wo) v1 := by
  obtain ⟨cf, hp, yv', φ, H, B, Y⟩ := id h
  have hnw := cf.2.2.2.2.2.2.2.2.2
  unfold wpX_fate wpY_fate
  dsimp only
  rcases gf_good v1 nw with ⟨j, hj, rfl⟩ | hb
  · have hx : vp_in (nI j) 4 := vp_in_nI (by omega) (by decide)
    rw [nI_clamp (n := j) (by omega)]
    refine gx_gw_y hnw hj (br_f (by decide) ⟨hx, ?_⟩)
    rcases B.2.2.2.2.1 j hj with ⟨a, b⟩ | ⟨c, hc, a, b⟩
    · rw [a, b]
      exact nm_e (br_f (by decide) (gy_gw_y hnw hj (br_f (by decide) ⟨hx, br_t rfl ⟨rfl, gf_in h⟩⟩)))
    · have hN : N ≤ 32 := cf.2.2.2.2.2.1
      have hc32 := gf_BI_32 hN B hc
      have hφ := (B.1 c hc).2.1
      rw [a, b]
      refine nm_e (br_t (nI_pos' (by omega)) (gz_fin h (fun fnd gc ma gr lv h' g0 => ?_)))
      subst g0
      rw [nI_clamp (n := c) (by omega), nI_clamp (n := φ c) (by omega)]
      refine br_c (fun e => gy_gw_y hnw hj (br_f (by decide) ⟨hx, br_f (nI_ne0 (by omega) (by omega)) (br_t e ⟨rfl, gf_in h'⟩)⟩)) (fun e => ⟨vp_in_nI (by omega) (by decide), ?_⟩)
      have key : yk (φ c) ≠ 0 ↔ ma c ≠ 0 := by
        obtain ⟨cf', hp', yv'', φ', H', B', Y'⟩ := id h'
        have r' := B'.2.2.2.2.1 j hj
        have z := gf_rr_n (fun z hz => gf_BI_32 hN B' hz) r' a hc32
        have hφ' := (B'.1 c z.1).2.1
        have e2 : φ' c = φ c := (nI_eq (by omega) (by omega)).mp (z.2.symm.trans b)
        have := (gf_CY_done hN B' Y' e).1 c z.1
        rw [e2] at this
        exact this
      have hxp : vp_in (nI (φ c)) 33 := vp_in_nI (by omega) (by decide)
      refine br_c (fun m0 => gy_gw_y hnw hj (br_f (by decide) ⟨hx, br_f (nI_ne0 (by omega) (by omega)) (br_f e ⟨hx, hxp, br_t ?_ ⟨rfl, gf_in h'⟩⟩)⟩)) (fun m0 => gy_gw_y hnw hj (br_f (by decide) ⟨hx, br_f (nI_ne0 (by omega) (by omega)) (br_f e ⟨hx, hxp, br_f (key.mpr m0) ⟨rfl, gf_in h'⟩⟩)⟩))
      exact Classical.byContradiction (fun q => (key.mp q) m0)
  · exact gx_gw_n hnw hb (br_t rfl (gy_gw_n hnw hb (br_t rfl ⟨rfl, gf_in h⟩)))
end
end
section
/-! finish, collect, begin, revive, alloc -/
section
variable {R C N nr nw gc : Nat} {cyc fnd wk : Int32} {rt wa va fl us ma ho tp od lv rm ch gr re fw wo : Nat → Int32} {yfn : Int32} {yr yw yv y0 y1 yk ys : Nat → Int32}
variable {H K : Nat → Prop} {φ : Nat → Nat} {j s c q f w : Nat} {x y v1 v2 v3 : Int32} {k : Nat}
/-- watches cleared alike on both sides -/
theorem gf_BI_clr (hN : N ≤ 32) (hnw : nw ≤ 4) (B : (gf_BI N nr nw us rt wa va fl yr yw yv y0 y1 φ H)) {M MY : Nat → Prop} (hM : ∀ c, H c → (M c ↔ MY (φ c))) {wa' yw' : Nat → Int32}
    (hX : ∀ i, i < nw → (wa i = -1 → wa' i = -1) ∧ ∀ d, d < 32 → wa i = nI d → (¬ M d → wa' i = -1) ∧ (M d → wa' i = nI d))
    (hY : ∀ i, i < 4 → (yw i = 0 → yw' i = 0) ∧ ∀ q, 1 ≤ q → q ≤ 32 → yw i = nI q → (¬ MY q → yw' i = 0) ∧ (MY q → yw' i = nI q)) : (gf_BI N nr nw us rt wa' va fl yr yw' yv y0 y1 φ H) := by
  refine ⟨B.1, B.2.1, B.2.2.1, B.2.2.2.1, fun i hi => ?_, fun i h1 h2 => (hY i h2).1 (B.2.2.2.2.2 i h1 h2)⟩
  rcases B.2.2.2.2.1 i hi with ⟨a, b⟩ | ⟨d, hd, a, b⟩
  · exact Or.inl ⟨(hX i hi).1 a, (hY i (by omega)).1 b⟩
  · have hφ := (B.1 d hd).2.1
    have h1 := (hX i hi).2 d (gf_BI_32 hN B hd) a
    have h2 := (hY i (by omega)).2 (φ d) hφ.1 hφ.2 b
    rcases Classical.em (M d) with m | m
    · exact Or.inr ⟨d, hd, h1.2 m, h2.2 ((hM d hd).mp m)⟩
    · exact Or.inl ⟨h1.1 m, h2.1 (fun z => m ((hM d hd).mpr z))⟩
theorem gf_BI_wv (hN : N ≤ 32) (B : (gf_BI N nr nw us rt wa va fl yr yw yv y0 y1 φ H)) : ∀ i, i < nw → wa i = -1 ∨ ∃ d, d < 32 ∧ wa i = nI d := by
  intro i hi
  rcases B.2.2.2.2.1 i hi with ⟨a, _⟩ | ⟨d, hd, a, _⟩
  · exact Or.inl a
  · exact Or.inr ⟨d, gf_BI_32 hN B hd, a⟩
theorem gx_fn16 {post : Int32 → SX → Prop} {wa0 : Nat → Int32} (hnw : nw ≤ 4) (hv : ∀ i, i < nw → wa0 i = -1 ∨ ∃ d, d < 32 ∧ wa0 i = nI d)
    (k : ∀ wa' : Nat → Int32, (∀ i, i < nw → (wa0 i = -1 → wa' i = -1) ∧ ∀ d, d < 32 → wa0 i = nI d → (¬ ma d ≠ 0 → wa' i = -1) ∧ (ma d ≠ 0 → wa' i = nI d)) → post fnd ((nI R), (nI C), (nI nr), (nI nw), (nI N), 0, fnd, (nI gc), wk, rt, wa', va, fl, us, ma, ho, tp, od, lv, rm, ch, gr, re, fw, wo)) :
    ∀ (n i : Nat) (wa : Nat → Int32), i ≤ nw → nw - i < n → (∀ l, l < i → (wa0 l = -1 → wa l = -1) ∧ ∀ d, d < 32 → wa0 l = nI d → (¬ ma d ≠ 0 → wa l = -1) ∧ (ma d ≠ 0 → wa l = nI d)) → (∀ l, i ≤ l → wa l = wa0 l) → wX_finish_16 post (nI R) (nI C) (nI nr) (nI nw) (nI N) cyc fnd (nI gc) wk n (nI i) rt wa va fl us ma ho tp od lv rm ch gr re fw wo := by
  intro n
  induction n with
  | zero => intro i wa _ h; omega
  | succ n ih =>
    intro i wa hi hf h1 h2
    have e1 : (nI i).toNatClampNeg = i := nI_clamp (by omega)
    rcases Nat.lt_or_ge i nw with h | h
    · have hx : vp_in (nI i) 4 := vp_in_nI (by omega) (by decide)
      have ei : wa i = wa0 i := h2 i (Nat.le_refl _)
      refine br_f (nI_ge h (by omega)) ⟨hx, ?_⟩
      rcases hv i h with a | ⟨d, hd, a⟩
      · refine nm_r (e' := -1) (by rw [e1, ei]; exact a) (br_t (by decide) (nm_r (e' := nI (i + 1)) (nI_1 i) (ih (i + 1) wa (by omega) (by omega) (fun l hl => ?_) (fun l hl => h2 l (by omega)))))
        by_cases z : l = i
        · rw [z]
          exact ⟨fun _ => by rw [ei]; exact a, fun d hd e => absurd (e.symm.trans a) (gf_m1 (by omega))⟩
        · exact h1 l (by omega)
      · have eq : ∀ d', d' < 32 → wa0 i = nI d' → d' = d := fun d' h3 h4 => (nI_eq (by omega) (by omega)).mp (h4.symm.trans a)
        refine nm_r (e' := nI d) (by rw [e1, ei]; exact a) (br_f (nI_pos (by omega)) ⟨vp_in_nI hd (by decide), ?_⟩)
        rw [nI_clamp (n := d) (by omega)]
        refine br_c (fun m => ⟨hx, nm_r (e' := upd wa i (-1)) (by rw [e1]) (nm_r (e' := nI (i + 1)) (nI_1 i) (ih (i + 1) _ (by omega) (by omega) (fun l hl => ?_) (fun l hl => ?_)))⟩) (fun m => nm_r (e' := nI (i + 1)) (nI_1 i) (ih (i + 1) wa (by omega) (by omega) (fun l hl => ?_) (fun l hl => h2 l (by omega))))
        · by_cases z : l = i
          · rw [z, pk_us]
            exact ⟨fun _ => rfl, fun d' h3 h4 => ⟨fun _ => rfl, fun q => by
              rw [eq d' h3 h4] at q
              exact absurd m q⟩⟩
          · rw [pk_un z]
            exact h1 l (by omega)
        · rw [pk_un (by omega)]
          exact h2 l (by omega)
        · by_cases z : l = i
          · rw [z]
            exact ⟨fun e => absurd (a.symm.trans e) (gf_m1 (by omega)), fun d' h3 h4 => ⟨fun q => by
              rw [eq d' h3 h4] at q
              exact absurd m q, fun _ => by rw [ei]; exact h4⟩⟩
          · exact h1 l (by omega)
    · have e : i = nw := by omega
      subst e
      exact br_t (nI_le h (by omega)) (k wa h1)
theorem gx_co18 {post : Int32 → SX → Prop} {wa0 : Nat → Int32} (hnw : nw ≤ 4) (hv : ∀ i, i < nw → wa0 i = -1 ∨ ∃ d, d < 32 ∧ wa0 i = nI d)
    (k : ∀ wa' : Nat → Int32, (∀ i, i < nw → (wa0 i = -1 → wa' i = -1) ∧ ∀ d, d < 32 → wa0 i = nI d → (¬ re d ≠ 0 → wa' i = -1) ∧ (re d ≠ 0 → wa' i = nI d)) → wpX_slide (fun u => match u with | (b0, b1, b2, b3, b4, b5, b6, b7, b8, a0, a1, a2, a3, a4, a5, a6, a7, a8, a9, a10, a11, a12, a13, a14, a15) => post x (b0, b1, b2, b3, b4, b5, b6, b7, b8, a0, a1, a2, a3, a4, a5, a6, a7, a8, a9, a10, a11, a12, a13, a14, a15)) ((nI R), (nI C), (nI nr), (nI nw), (nI N), cyc, fnd, (nI gc), wk, rt, wa', va, fl, us, ma, ho, tp, od, lv, rm, ch, gr, re, fw, wo)) :
    ∀ (n i : Nat) (wa : Nat → Int32), i ≤ nw → nw - i < n → (∀ l, l < i → (wa0 l = -1 → wa l = -1) ∧ ∀ d, d < 32 → wa0 l = nI d → (¬ re d ≠ 0 → wa l = -1) ∧ (re d ≠ 0 → wa l = nI d)) → (∀ l, i ≤ l → wa l = wa0 l) → wX_collect_18 post x (nI R) (nI C) (nI nr) (nI nw) (nI N) cyc fnd (nI gc) wk n (nI i) rt wa va fl us ma ho tp od lv rm ch gr re fw wo := by
  intro n
  induction n with
  | zero => intro i wa _ h; omega
  | succ n ih =>
    intro i wa hi hf h1 h2
    have e1 : (nI i).toNatClampNeg = i := nI_clamp (by omega)
    rcases Nat.lt_or_ge i nw with h | h
    · have hx : vp_in (nI i) 4 := vp_in_nI (by omega) (by decide)
      have ei : wa i = wa0 i := h2 i (Nat.le_refl _)
      refine br_f (nI_ge h (by omega)) ⟨hx, ?_⟩
      rcases hv i h with a | ⟨d, hd, a⟩
      · refine nm_r (e' := -1) (by rw [e1, ei]; exact a) (br_t (by decide) (nm_r (e' := nI (i + 1)) (nI_1 i) (ih (i + 1) wa (by omega) (by omega) (fun l hl => ?_) (fun l hl => h2 l (by omega)))))
        by_cases z : l = i
        · rw [z]
          exact ⟨fun _ => by rw [ei]; exact a, fun d hd e => absurd (e.symm.trans a) (gf_m1 (by omega))⟩
        · exact h1 l (by omega)
      · have eq : ∀ d', d' < 32 → wa0 i = nI d' → d' = d := fun d' h3 h4 => (nI_eq (by omega) (by omega)).mp (h4.symm.trans a)
        refine nm_r (e' := nI d) (by rw [e1, ei]; exact a) (br_f (nI_pos (by omega)) ⟨vp_in_nI hd (by decide), ?_⟩)
        rw [nI_clamp (n := d) (by omega)]
        refine br_c (fun m => ⟨hx, nm_r (e' := upd wa i (-1)) (by rw [e1]) (nm_r (e' := nI (i + 1)) (nI_1 i) (ih (i + 1) _ (by omega) (by omega) (fun l hl => ?_) (fun l hl => ?_)))⟩) (fun m => nm_r (e' := nI (i + 1)) (nI_1 i) (ih (i + 1) wa (by omega) (by omega) (fun l hl => ?_) (fun l hl => h2 l (by omega))))
        · by_cases z : l = i
          · rw [z, pk_us]
            exact ⟨fun _ => rfl, fun d' h3 h4 => ⟨fun _ => rfl, fun q => by
              rw [eq d' h3 h4] at q
              exact absurd m q⟩⟩
          · rw [pk_un z]
            exact h1 l (by omega)
        · rw [pk_un (by omega)]
          exact h2 l (by omega)
        · by_cases z : l = i
          · rw [z]
            exact ⟨fun e => absurd (a.symm.trans e) (gf_m1 (by omega)), fun d' h3 h4 => ⟨fun q => by
              rw [eq d' h3 h4] at q
              exact absurd m q, fun _ => by rw [ei]; exact h4⟩⟩
          · exact h1 l (by omega)
    · have e : i = nw := by omega
      subst e
      exact br_t (nI_le h (by omega)) (k wa h1)
theorem gz_finish (h : (gf_RL R C N nr nw gc cyc fnd rt wa va fl us ma ho tp rm ch gr yfn yr yw yv y0 y1 yk)) : wpX_finish (fun r u' => wpY_finish (fun r' v' => r' = r ∧ i_Rel k u' v') ((nI N), (nI nr), (nI nw), cyc, yfn, yr, yw, yv, y0, y1, yk, ys)) ((nI R), (nI C), (nI nr), (nI nw), (nI N), cyc, fnd, (nI gc), wk, rt, wa, va, fl, us, ma, ho, tp, od, lv, rm, ch, gr, re, fw, wo) := by
  unfold wpX_finish
  dsimp only
  refine br_c (fun e => br_t e ⟨rfl, gf_in h⟩) (fun e => gz_fin h (fun fnd gc ma gr lv h' g0 => ?_))
  subst g0
  obtain ⟨cf, hp, yv', φ, H, B, Y⟩ := h'
  have hN : N ≤ 32 := cf.2.2.2.2.2.1
  have hnw := cf.2.2.2.2.2.2.2.2.2
  have D := gf_CY_done hN B Y e
  refine ⟨nw + 1, gx_fn16 hnw (gf_BI_wv hN B) (fun wa' hX => ?_) (nw + 1) 0 wa (Nat.zero_le _) (by omega) (fun l hl => absurd hl (Nat.not_lt_zero _)) (fun _ _ => rfl)⟩
  refine gy_finish e (gf_BI_yw B) (fun yw' hY => ⟨D.2, gf_in ⟨cf, hp, yv', φ, H, gf_BI_clr (MY := fun q => yk q ≠ 0) hN hnw B (fun c hc => (D.1 c hc).symm) hX (fun i hi => ⟨fun z => ?_, fun q q1 q2 e => ?_⟩), Or.inl ⟨rfl, rfl⟩⟩⟩)
  · have := hY i 0 hi (by omega) z
    by_cases z0 : yk 0 = 0
    · exact this.1 z0
    · exact this.2 z0
  · have := hY i q hi q2 e
    exact ⟨fun z => this.1 (Classical.byContradiction z), this.2⟩
theorem gz_collect (h : (gf_RL R C N nr nw gc cyc fnd rt wa va fl us ma ho tp rm ch gr yfn yr yw yv y0 y1 yk)) : wpX_collect (fun r u' => wpY_collect (fun r' v' => r' = r ∧ i_Rel k u' v') ((nI N), (nI nr), (nI nw), cyc, yfn, yr, yw, yv, y0, y1, yk, ys)) ((nI R), (nI C), (nI nr), (nI nw), (nI N), cyc, fnd, (nI gc), wk, rt, wa, va, fl, us, ma, ho, tp, od, lv, rm, ch, gr, re, fw, wo) := by
  obtain ⟨cf, hp, yv', φ, H, B, Y⟩ := id h
  have hN : N ≤ 32 := cf.2.2.2.2.2.1
  have hn := cf.2.2.2.2.2.2.2.1
  have hnw := cf.2.2.2.2.2.2.2.2.2
  obtain ⟨p1, p2, fv, p4, cz, b1⟩ := id hp
  have HR := gf_heldR hN hn B
  have SU : ∀ x, gf_SR nr rt x → gf_U N us x := fun x hx => (B.1 x (HR.1 x hx)).1
  unfold wpX_collect
  dsimp only
  refine gx_trace (gc := 0) (cyc := 0) (S := gf_SR nr rt) cf fv SU (fun i hi => gf_vrSR B hN hi) (fun z => absurd rfl z) (fun c hc => Or.inl hc) (fun wc re wo hG ec => ?_)
  refine ⟨nw + 1, gx_co18 (gc := 0) hnw (gf_BI_wv hN B) (fun wa' hX => ?_) (nw + 1) 0 wa (Nat.zero_le _) (by omega) (fun l hl => absurd hl (Nat.not_lt_zero _)) (fun _ _ => rfl)⟩
  have bH := fun z (hz : H z) => gf_BI_32 hN B hz
  refine gx_slide (gc := 0) (G := gf_Rc (gf_ex fl) (gf_SR nr rt)) cf p1 cz b1 hG (fun c hc => gf_RcU hN fv SU hc) (fun c hc => gf_RcV hN fv SU hc) (fun i hi => gf_vr_mono (gf_vrSR B hN hi) (fun d hd => gf_Rc_in hd)) (fun i hi => ?_) (fun us' va' fl' ma' rt' wa2 tp' od' lv' rm' fw' dn I HP _ => ?_)
  · rcases B.2.2.2.2.1 i hi with ⟨a, _⟩ | ⟨d, hd, a, _⟩
    · exact Or.inl ((hX i hi).1 a)
    · have := (hX i hi).2 d (bH d hd) a
      by_cases z : re d = 0
      · exact Or.inl (this.1 (fun q => q z))
      · exact Or.inr ⟨d, (hG d).mp ⟨(B.1 d hd).1.1, z⟩, this.2 z⟩
  · refine gy_collect yv' (gf_BI_yr B) (gf_BI_yw B) (fun ys yw' hY hY0 => ⟨?_, gf_in ⟨cf, HP, yv', _, _, gf_IS_BI hN I (gf_BI_clr (M := fun d => re d ≠ 0) (MY := gf_Rc (gf_ey y0 y1) (gf_SB yr)) hN hnw B (fun c hc => ?_) hX (fun i hi => ⟨hY0 i hi, fun q q1 q2 e => hY i q hi q1 q2 e⟩)), Or.inl ⟨rfl, rfl⟩⟩⟩)
    · have h1 := gf_cnRc (P := fun _ => True) (PY := fun _ => True) hN B HR.1 HR.2 (fun _ _ => Iff.rfl)
      rw [ec]
      congr 1
      rw [cn_eq (P := gf_Rc (gf_ex fl) (gf_SR nr rt)) (Q := fun c => gf_Rc (gf_ex fl) (gf_SR nr rt) c ∧ True) (fun c _ => ⟨fun z => ⟨z, trivial⟩, And.left⟩), h1]
      exact cn_eq fun c _ => ⟨fun z => ⟨z, trivial⟩, And.left⟩
    · have hcN := (B.1 c hc).1.1
      rw [gf_RcY hN B HR.1 HR.2]
      constructor
      · intro z
        exact ⟨c, (hG c).mp ⟨hcN, z⟩, rfl⟩
      · rintro ⟨c', z1, z2⟩
        have := B.2.1 c' c (gf_RcH hN B HR.1 z1) hc z2
        subst this
        exact ((hG c').mpr z1).2
theorem gx_bg50 {post : Int32 → SX → Prop} {tot : Int32} (hN : N ≤ 32) (hn : nr ≤ 8) (hr : ∀ i, i < nr → gf_vr K (rt i))
    (k : ∀ (fnd : Int32) (gc : Nat) (ma gr : Nat → Int32), (gf_KI N gc us fl ma gr K (fun _ => False)) → gf_B1 ma → fnd + nI (cn (fun c => K c ∧ ma c = 0) 32) = tot → post 1 ((nI R), (nI C), (nI nr), (nI nw), (nI N), cyc, fnd, (nI gc), wk, rt, wa, va, fl, us, ma, ho, tp, od, lv, rm, ch, gr, re, fw, wo)) :
    ∀ (n i : Nat) (fnd : Int32) (gc : Nat) (ma gr : Nat → Int32), i ≤ nr → nr - i < n → (gf_KI N gc us fl ma gr K (fun y => ∃ l, i ≤ l ∧ l < nr ∧ rt l = nI y)) → gf_B1 ma → fnd + nI (cn (fun c => K c ∧ ma c = 0) 32) = tot → wX_begin_50 post n (nI i) (nI R) (nI C) (nI nr) (nI nw) (nI N) cyc fnd (nI gc) wk rt wa va fl us ma ho tp od lv rm ch gr re fw wo := by
  intro n
  induction n with
  | zero => intro i fnd gc ma gr _ h; omega
  | succ n ih =>
    intro i fnd gc ma gr hi hf I b1 ht
    rcases Nat.lt_or_ge i nr with h | h
    · refine br_f (nI_ge h (by omega)) ⟨vp_in_nI (by omega) (by decide), ?_⟩
      rw [nI_clamp (n := i) (by omega)]
      refine gx_greyK (Q' := fun y => ∃ l, i + 1 ≤ l ∧ l < nr ∧ rt l = nI y) hN I b1 ht (hr i h) (fun y _ qy => ?_) (fun fnd' gc' ma' gr' I' b1' ht' _ _ => nm_r (e' := nI (i + 1)) (nI_1 i) (ih (i + 1) fnd' gc' ma' gr' (by omega) (by omega) I' b1' ht'))
      obtain ⟨l, l1, l2, l3⟩ := qy
      by_cases z : l = i
      · rw [z] at l3
        exact Or.inr l3
      · exact Or.inl ⟨l, by omega, l2, l3⟩
    · exact br_t (nI_le h (by omega)) (k fnd gc ma gr (gf_KI_Q I (fun y _ qy _ => by
        obtain ⟨l, l1, l2, _⟩ := qy
        omega)) b1 ht)
theorem gx_bg27 {post : Int32 → SX → Prop} (hN : N ≤ 32) (k : ∀ ma : Nat → Int32, gf_B1 ma → (∀ c, c < N → ma c = 0) → ∃ n50 : Nat, wX_begin_50 post n50 0 (nI R) (nI C) (nI nr) (nI nw) (nI N) cyc fnd 0 wk rt wa va fl us ma ho tp od lv rm ch gr re fw wo) :
    ∀ (n i : Nat) (ma : Nat → Int32), i ≤ N → N - i < n → gf_B1 ma → (∀ c, c < i → ma c = 0) → wX_begin_27 post (nI R) (nI C) (nI nr) (nI nw) (nI N) cyc fnd 0 wk n (nI i) rt wa va fl us ma ho tp od lv rm ch gr re fw wo := by
  intro n
  induction n with
  | zero => intro i ma _ h; omega
  | succ n ih =>
    intro i ma hi hf b1 hz
    rcases Nat.lt_or_ge i N with h | h
    · refine br_f (nI_ge h (by omega)) ⟨vp_in_nI (by omega) (by decide), nm_r (e' := upd ma i 0) (by rw [nI_clamp (by omega), gf_nar0]) (nm_r (e' := nI (i + 1)) (nI_1 i) (ih (i + 1) _ (by omega) (by omega) (fun c hc => ?_) (fun c hc => ?_)))⟩
      · by_cases z : c = i
        · rw [z, pk_us]; exact Or.inl rfl
        · rw [pk_un z]; exact b1 c hc
      · by_cases z : c = i
        · rw [z, pk_us]
        · rw [pk_un z]; exact hz c (by omega)
    · exact br_t (nI_le h (by omega)) (k ma b1 (fun c hc => hz c (by omega)))
theorem gz_begin (h : (gf_RL R C N nr nw gc cyc fnd rt wa va fl us ma ho tp rm ch gr yfn yr yw yv y0 y1 yk)) : wpX_begin (fun r u' => wpY_begin (fun r' v' => r' = r ∧ i_Rel k u' v') ((nI N), (nI nr), (nI nw), cyc, yfn, yr, yw, yv, y0, y1, yk, ys)) ((nI R), (nI C), (nI nr), (nI nw), (nI N), cyc, fnd, (nI gc), wk, rt, wa, va, fl, us, ma, ho, tp, od, lv, rm, ch, gr, re, fw, wo) := by
  obtain ⟨cf, hp, yv', φ, H, B, Y⟩ := id h
  have hN : N ≤ 32 := cf.2.2.2.2.2.1
  have hn := cf.2.2.2.2.2.2.2.1
  obtain ⟨p1, p2, fv, p4, cz, b1⟩ := id hp
  have HR := gf_heldR hN hn B
  have SU : ∀ x, gf_SR nr rt x → gf_U N us x := fun x hx => (B.1 x (HR.1 x hx)).1
  refine br_c (fun e => ⟨N + 1, gx_bg27 hN (fun ma1 b11 hz => ?_) (N + 1) 0 ma (Nat.zero_le _) (by omega) b1 (fun c hc => absurd hc (Nat.not_lt_zero _))⟩) (fun e => br_f e ⟨rfl, gf_in h⟩)
  have I0 := gf_KI_begin (gr := gr) hN fv SU hz
  have hr : ∀ i, i < nr → gf_vr (gf_Rc (gf_ex fl) (gf_SR nr rt)) (rt i) := fun i hi => gf_vr_mono (gf_vrSR B hN hi) (fun d hd => gf_Rc_in hd)
  refine ⟨nr + 1, gx_bg50 (K := gf_Rc (gf_ex fl) (gf_SR nr rt)) hN hn hr (fun fnd' gc' ma' gr' I' b1' ht => ?_) (nr + 1) 0 0 0 ma1 gr (Nat.zero_le _) (by omega) (gf_KI_Q I0 (fun y _ qy _ => ?_)) b11 rfl⟩
  · refine gy_begin e yv' (gf_BI_yr B) (fun ys yk' hk => ⟨rfl, gf_in ⟨cf, ⟨p1, p2, fv, p4, cz, b1'⟩, yv', φ, H, B, Or.inr ⟨rfl, gf_Rc (gf_ex fl) (gf_SR nr rt), I', hr, fun c hc => ?_, ?_⟩⟩⟩)
    · have hφ := (B.1 c hc).2.1
      rw [hk (φ c) hφ.1 hφ.2, gf_RcY hN B HR.1 HR.2]
      constructor
      · rintro ⟨c', z1, z2⟩
        have := B.2.1 c' c (gf_RcH hN B HR.1 z1) hc z2
        exact this ▸ z1
      · exact fun z => ⟨c, z, rfl⟩
    · rw [ht, Int32.zero_add]
      congr 1
      have h1 := gf_cnRc (P := fun _ => True) (PY := fun _ => True) hN B HR.1 HR.2 (fun _ _ => Iff.rfl)
      rw [cn_eq (P := gf_Rc (gf_ey y0 y1) (gf_SB yr)) (Q := fun c => gf_Rc (gf_ey y0 y1) (gf_SB yr) c ∧ True) (fun c _ => ⟨fun z => ⟨z, trivial⟩, And.left⟩), ← h1]
      exact cn_eq fun c _ => ⟨fun z => ⟨z.1, hz c (gf_RcU hN fv SU z.1).1⟩, fun z => ⟨z.1, trivial⟩⟩
  · obtain ⟨_, i, i1, i2⟩ := qy
    exact ⟨i, Nat.zero_le _, i1, i2⟩
theorem gz_revive (h : (gf_RL R C N nr nw gc cyc fnd rt wa va fl us ma ho tp rm ch gr yfn yr yw yv y0 y1 yk)) : wpX_revive (fun r u' => wpY_revive (fun r' v' => r' = r ∧ i_Rel k u' v') ((nI N), (nI nr), (nI nw), cyc, yfn, yr, yw, yv, y0, y1, yk, ys) v1 v2) ((nI R), (nI C), (nI nr), (nI nw), (nI N), cyc, fnd, (nI gc), wk, rt, wa, va, fl, us, ma, ho, tp, od, lv, rm, ch, gr, re, fw, wo) v1 v2 := by
  obtain ⟨cf, hp, yv', φ, H, B, Y⟩ := id h
  have hN : N ≤ 32 := cf.2.2.2.2.2.1
  have hn := cf.2.2.2.2.2.2.2.1
  have hnw := cf.2.2.2.2.2.2.2.2.2
  obtain ⟨p1, p2, fv, p4, cz, b1⟩ := id hp
  rcases gf_good v1 nr with ⟨j, hj, rfl⟩ | hb
  · rcases gf_good v2 nw with ⟨w, hw, rfl⟩ | hb2
    · have hx : vp_in (nI j) 8 := vp_in_nI (by omega) (by decide)
      have hxw : vp_in (nI w) 4 := vp_in_nI (by omega) (by decide)
      unfold wpX_revive
      dsimp only
      rw [nI_clamp (n := j) (by omega), nI_clamp (n := w) (by omega)]
      refine gx_gr_y hn hj (br_f (by decide) (gx_gw_y hnw hw (br_f (by decide) ⟨hxw, ?_⟩)))
      rcases B.2.2.2.2.1 w hw with ⟨a, b⟩ | ⟨c, hc, a, b⟩
      · rw [a]
        refine nm_e (br_f (by decide) ?_)
        unfold wpY_revive
        dsimp only
        rw [nI_clamp (n := w) (by omega), b]
        exact gy_gr_y hn hj (br_f (by decide) (gy_gw_y hnw hw (br_f (by decide) ⟨hxw, br_t rfl ⟨rfl, gf_in h⟩⟩)))
      · have hc32 := gf_BI_32 hN B hc
        have hφ := (B.1 c hc).2.1
        have hcU := (B.1 c hc).1
        have B' := gf_BI_root (x := nI c) (y := nI (φ c)) B hn hj (Or.inr ⟨c, hc, rfl, rfl⟩)
        have HS : ∀ d, d = c → H d := fun d e => e ▸ hc
        have HSY : ∀ o, o = φ c ↔ ∃ d, d = c ∧ φ d = o := fun o => ⟨fun e => ⟨c, rfl, e.symm⟩, fun ⟨d, d1, d2⟩ => by rw [← d2, d1]⟩
        rw [a]
        refine nm_e (br_t (nI_pos' (by omega)) ⟨hx, nm_e (br_c (fun e0 => ?_) (fun e0 => ?_))⟩)
        · refine gy_revive hn hnw hj hw yv' hφ.1 hφ.2 b (fun _ => ⟨rfl, gf_in ⟨cf, hp, yv', φ, H, B', ?_⟩⟩) (fun e => absurd e0 e)
          rcases Y with Y | ⟨e, _⟩
          · exact Or.inl Y
          · exact absurd (e.symm.trans e0) (by decide)
        · rcases Y with Y | ⟨e, K, I, k1, k2, k3⟩
          · exact absurd Y.1 e0
          · have I2 := gf_KI_revive hN fv I hcU
            refine gx_greyK (K := fun x => K x ∨ gf_Rc (gf_ex fl) (fun y => y = c) x) (Q' := fun _ => False) hN I2 b1 rfl (Or.inr ⟨c, Or.inr (gf_Rc_in rfl), rfl⟩) (fun y _ qy => Or.inr (by rw [qy])) (fun fnd' gc' ma' gr' I' b1' ht _ _ => ?_)
            refine gy_revive hn hnw hj hw yv' hφ.1 hφ.2 b (fun z => absurd z e0) (fun _ ys yk' hk => ⟨rfl, gf_in ⟨cf, ⟨p1, p2, fv, p4, cz, b1'⟩, yv', φ, H, B', Or.inr ⟨e, _, I', fun i hi => ?_, fun d hd => ?_, ?_⟩⟩⟩)
            · show gf_vr _ (upd rt j (nI c) i)
              by_cases z : i = j
              · rw [z, pk_us]
                exact Or.inr ⟨c, Or.inr (gf_Rc_in rfl), rfl⟩
              · rw [pk_un z]
                exact gf_vr_mono (k1 i hi) (fun _ => Or.inl)
            · have hφd := (B.1 d hd).2.1
              rw [hk (φ d) hφd.1 hφd.2, k2 d hd, gf_RcY hN B HS HSY]
              constructor
              · rintro (z | ⟨d', z1, z2⟩)
                · exact Or.inl z
                · have := B.2.1 d' d (gf_RcH hN B HS z1) hd z2
                  exact Or.inr (this ▸ z1)
              · rintro (z | z)
                · exact Or.inl z
                · exact Or.inr ⟨d, z, rfl⟩
            · rw [ht, k3]
              have h1 := gf_cnRc (P := fun d => ¬ K d) (PY := fun o => yk o = 0) hN B HS HSY (fun d hd => by
                rw [← k2 d hd]
                exact ⟨fun z => Classical.byContradiction z, fun z q => q z⟩)
              rw [← h1]
              have h2 := gf_cnsplit (P := fun d => (K d ∨ gf_Rc (gf_ex fl) (fun y => y = c) d) ∧ ma d = 0) (Q := K) 32
              have h3 : cn (fun d => ((K d ∨ gf_Rc (gf_ex fl) (fun y => y = c) d) ∧ ma d = 0) ∧ K d) 32 = cn (fun d => K d ∧ ma d = 0) 32 := cn_eq fun d _ => ⟨fun z => ⟨z.2, z.1.2⟩, fun z => ⟨⟨Or.inl z.1, z.2⟩, z.1⟩⟩
              have h4 : cn (fun d => ((K d ∨ gf_Rc (gf_ex fl) (fun y => y = c) d) ∧ ma d = 0) ∧ ¬ K d) 32 = cn (fun d => gf_Rc (gf_ex fl) (fun y => y = c) d ∧ ¬ K d) 32 := by
                refine cn_eq fun d _ => ⟨fun z => ⟨z.1.1.elim (fun q => absurd q z.2) id, z.2⟩, fun z => ⟨⟨Or.inr z.1, ?_⟩, z.2⟩⟩
                have hU := (B.1 d (gf_RcH hN B HS z.1)).1
                exact Classical.byContradiction (fun q => z.2 (I.2.2.1 d hU q))
              rw [← h2, h3, h4, ← nI_add, Int32.add_assoc]
    · unfold wpX_revive wpY_revive
      dsimp only
      exact gx_gr_y hn hj (br_f (by decide) (gx_gw_n hnw hb2 (br_t rfl (gy_gr_y hn hj (br_f (by decide) (gy_gw_n hnw hb2 (br_t rfl ⟨rfl, gf_in h⟩)))))))
  · unfold wpX_revive wpY_revive
    dsimp only
    exact gx_gr_n hn hb (br_t rfl (gy_gr_n hn hb (br_t rfl ⟨rfl, gf_in h⟩)))
end
end
section
/-! alloc -/
section
variable {R C N nr nw gc : Nat} {cyc fnd wk : Int32} {rt wa va fl us ma ho tp od lv rm ch gr re fw wo : Nat → Int32} {yfn : Int32} {yr yw yv y0 y1 yk ys : Nat → Int32}
variable {H K : Nat → Prop} {φ : Nat → Nat} {j t o : Nat} {v : Int32} {k : Nat}
def gf_HS (nr nw : Nat) (rt wa : Nat → Int32) (c : Nat) : Prop := gf_SR nr rt c ∨ gf_SR nw wa c
theorem gf_cnHeld (hN : N ≤ 32) (hn : nr ≤ 8) (hnw : nw ≤ 4) (B : (gf_BI N nr nw us rt wa va fl yr yw yv y0 y1 φ H)) : cn (gf_Rc (gf_ex fl) (gf_HS nr nw rt wa)) 32 = cn (gf_Rc (gf_ey y0 y1) (gf_SA yr yw)) 33 := by
  have HH := gf_held hN hn hnw B
  have h1 := gf_cnRc (S := (gf_HS nr nw rt wa)) (P := fun _ => True) (PY := fun _ => True) hN B HH.1 HH.2 (fun _ _ => Iff.rfl)
  rw [cn_eq (P := gf_Rc (gf_ex fl) (gf_HS nr nw rt wa)) (Q := fun c => gf_Rc (gf_ex fl) (gf_HS nr nw rt wa) c ∧ True) (fun c _ => ⟨fun z => ⟨z, trivial⟩, And.left⟩), h1]
  exact cn_eq fun c _ => ⟨And.left, fun z => ⟨z, trivial⟩⟩
theorem gf_BI_alloc (hN : N ≤ 32) (hn : nr ≤ 8) (hnw : nw ≤ 4) (B : (gf_BI N nr nw us rt wa va fl yr yw yv y0 y1 φ H)) (ht : t < N) (hu : us t = 0) (hj : j < nr) (o1 : 1 ≤ o) (o2 : o ≤ 32) (ho : ¬ gf_Rc (gf_ey y0 y1) (gf_SA yr yw) o)
    {φ' : Nat → Nat} (hφ : ∀ x, φ' x = if x = t then o else φ x) :
    (∀ c, gf_Rc (gf_ex fl) (gf_HS nr nw rt wa) c → c ≠ t ∧ φ c ≠ o ∧ φ' c = φ c ∧ H c) ∧
    (gf_BI N nr nw (upd us t 1) (upd rt j (nI t)) wa (upd va t (v &&& 32767)) (upd (upd fl (2 * t) (-1)) (2 * t + 1) (-1)) (upd yr j (nI o)) yw (upd yv o (v &&& 32767)) (upd y0 o 0) (upd y1 o 0) φ' (fun x => gf_Rc (gf_ex fl) (gf_HS nr nw rt wa) x ∨ x = t)) := by
  have HH := gf_held hN hn hnw B
  have B0 := gf_BI_shrink (S := (gf_HS nr nw rt wa)) hN B HH.1 (fun i d hi hd e => Or.inl ⟨hd, i, hi, e⟩) (fun i d hi hd e => Or.inr ⟨hd, i, hi, e⟩)
  have φt : φ' t = o := by rw [hφ, if_pos rfl]
  have key : ∀ c, gf_Rc (gf_ex fl) (gf_HS nr nw rt wa) c → c ≠ t ∧ φ c ≠ o ∧ φ' c = φ c ∧ H c := by
    intro c hc
    have h1 : c ≠ t := fun e => (B0.1 c hc).1.2 (e ▸ hu)
    refine ⟨h1, fun e => ho ?_, by rw [hφ, if_neg h1], gf_RcH hN B HH.1 hc⟩
    rw [gf_RcY (S := (gf_HS nr nw rt wa)) hN B HH.1 HH.2]
    exact ⟨c, hc, e⟩
  have mono : ∀ a b, gf_rr (gf_Rc (gf_ex fl) (gf_HS nr nw rt wa)) φ 0 a b → gf_rr (fun x => gf_Rc (gf_ex fl) (gf_HS nr nw rt wa) x ∨ x = t) φ' 0 a b := fun a b r => gf_rr_mono r (fun d hd => ⟨Or.inl hd, (key d hd).2.2.1⟩)
  refine ⟨key, fun c hc => ?_, fun c d hc hd e => ?_, fun i hi => ?_, fun i h1 h2 => ?_, fun i hi => mono _ _ (B0.2.2.2.2.1 i hi), B0.2.2.2.2.2⟩
  · rcases hc with hc | hc
    · obtain ⟨n1, n2, n3, _⟩ := key c hc
      obtain ⟨a1, a2, a3, a4, a5⟩ := B0.1 c hc
      rw [n3, (gf_fl2 n1).1, (gf_fl2 n1).2, pk_un n1, pk_un n2, pk_un n2, pk_un n2]
      exact ⟨⟨a1.1, gf_upd1 a1.2⟩, a2, mono _ _ a3, mono _ _ a4, a5⟩
    · subst hc
      rw [φt, gf_fl1.1, gf_fl1.2, pk_us, pk_us, pk_us, pk_us]
      exact ⟨⟨ht, by rw [pk_us]; decide⟩, ⟨o1, o2⟩, Or.inl ⟨rfl, rfl⟩, Or.inl ⟨rfl, rfl⟩, rfl⟩
  · rcases hc with hc | hc
    · rcases hd with hd | hd
      · rw [(key c hc).2.2.1, (key d hd).2.2.1] at e
        exact B0.2.1 c d hc hd e
      · rw [hd, φt, (key c hc).2.2.1] at e
        exact absurd e (key c hc).2.1
    · rcases hd with hd | hd
      · rw [hc, φt, (key d hd).2.2.1] at e
        exact absurd e.symm (key d hd).2.1
      · omega
  · by_cases z : i = j
    · rw [z, pk_us, pk_us]
      exact Or.inr ⟨t, Or.inr rfl, rfl, by rw [φt]⟩
    · rw [pk_un z, pk_un z]
      exact mono _ _ (B0.2.2.1 i hi)
  · rw [pk_un (by omega)]
    exact B0.2.2.2.1 i h1 h2
theorem gf_HP_alloc (hN : N ≤ 32) (hp : (gf_HP R C N us fl ma ho tp rm ch)) (hc : cyc = 0 ∨ cyc = 1) (ht : t < N) (hu : us t = 0) {tp' : Nat → Int32} (tp1 : (gf_TP R C N (upd us t 1) tp')) :
    (gf_HP R C N (upd us t 1) (upd (upd fl (2 * t) (-1)) (2 * t + 1) (-1)) (upd ma t cyc) ho tp' rm ch) := by
  obtain ⟨p1, p2, fv, p4, cz, b1⟩ := hp
  have UU : ∀ x, gf_U N us x → gf_U N (upd us t 1) x := fun x hx => ⟨hx.1, gf_upd1 hx.2⟩
  have U' : ∀ x, gf_U N (upd us t 1) x → x ≠ t → gf_U N us x := fun x hx e => ⟨hx.1, by
    have := hx.2
    rwa [pk_un e] at this⟩
  refine ⟨p1, tp1, fun c hc' => ?_, fun c d hc' ex ne => ?_, cz, fun c hc' => ?_⟩
  · by_cases e : c = t
    · rw [e, gf_fl1.1, gf_fl1.2]
      exact ⟨Or.inl rfl, Or.inl rfl⟩
    · rw [(gf_fl2 e).1, (gf_fl2 e).2]
      have := fv c (U' c hc' e)
      exact ⟨gf_vr_mono this.1 UU, gf_vr_mono this.2 UU⟩
  · by_cases e : c = t
    · rw [e] at ex
      unfold gf_ex at ex
      rw [gf_fl1.1, gf_fl1.2] at ex
      rcases ex.2 with z | z
      · exact absurd z.symm (gf_m1 (by omega))
      · exact absurd z.symm (gf_m1 (by omega))
    · exact p4 c d (U' c hc' e) ((gf_exn e).mp ex) ne
  · by_cases e : c = t
    · rw [e, pk_us]; exact hc
    · rw [pk_un e]; exact b1 c hc'
/-- a cell is there: both sides answer 1 -/
theorem gz_al33 (h : (gf_RL R C N nr nw gc cyc fnd rt wa va fl us ma ho tp rm ch gr yfn yr yw yv y0 y1 yk)) (ht : t < N) (hu : us t = 0) {tp' : Nat → Int32} (tp1 : (gf_TP R C N (upd us t 1) tp')) (hj : j < nr) :
    wX_alloc_33 (fun r u' => wpY_alloc (fun r' v' => r' = r ∧ i_Rel k u' v') ((nI N), (nI nr), (nI nw), cyc, yfn, yr, yw, yv, y0, y1, yk, ys) (nI j) v) (nI j) v (nI t) (nI R) (nI C) (nI nr) (nI nw) (nI N) cyc fnd (nI gc) wk rt wa va fl (upd us t 1) ma ho tp' od lv rm ch gr re fw wo := by
  have hc := gf_RL_cyc h
  obtain ⟨cf, hp, yv', φ, H, B, Y⟩ := id h
  have hN : N ≤ 32 := cf.2.2.2.2.2.1
  have hn := cf.2.2.2.2.2.2.2.1
  have hnw := cf.2.2.2.2.2.2.2.2.2
  have hx : vp_in (nI t) 32 := vp_in_nI (by omega) (by decide)
  have hp' := gf_HP_alloc (cyc := cyc) hN hp hc ht hu tp1
  unfold wX_alloc_33
  rw [gf_2c1 t, gf_2c t, nI_clamp (n := 2 * t) (by omega), nI_clamp (n := 2 * t + 1) (by omega), nI_clamp (n := t) (by omega), nI_clamp (n := j) (by omega), gf_nar01 hc]
  refine br_t (nI_pos' (by omega)) ⟨hx, nm_e ⟨vp_in_nI (by omega) (by decide), nm_e ⟨vp_in_nI (by omega) (by decide), nm_e ⟨hx, nm_e ⟨vp_in_nI (by omega) (by decide), nm_e ?_⟩⟩⟩⟩⟩
  refine gy_alloc hN hn hj hc yv' (gf_BI_yr B) (gf_BI_yw B) (fun _ ys o o1 o2 hno => ?_) (fun ge => ?_)
  · obtain ⟨φ', hφ⟩ : ∃ φ' : Nat → Nat, ∀ x, φ' x = if x = t then o else φ x := ⟨fun x => if x = t then o else φ x, fun _ => rfl⟩
    obtain ⟨key, B'⟩ := gf_BI_alloc (v := v) hN hn hnw B ht hu hj o1 o2 hno hφ
    refine ⟨rfl, gf_in ⟨cf, hp', ?_, φ', _, B', ?_⟩⟩
    · exact gf_YV_1 (q := 0) (gf_YV_0 (q := 0) yv' (by omega)) (by omega)
    · rcases Y with Y | ⟨e, K, I, k1, k2, k3⟩
      · exact Or.inl Y
      · subst e
        have nt : ∀ x, K x → x ≠ t := fun x hx e => (I.1 x hx).2 (e ▸ hu)
        refine Or.inr ⟨rfl, fun x => K x ∨ x = t, gf_KI_alloc hN I ht hu, fun i hi => ?_, fun c hc' => ?_, ?_⟩
        · by_cases z : i = j
          · rw [z, pk_us]
            exact Or.inr ⟨t, Or.inr rfl, rfl⟩
          · rw [pk_un z]
            exact gf_vr_mono (k1 i hi) (fun _ => Or.inl)
        · rcases hc' with hc' | hc'
          · obtain ⟨n1, n2, n3, n4⟩ := key c hc'
            rw [n3, pk_un n2, k2 c n4]
            exact ⟨Or.inl, fun z => z.elim id (fun e => absurd e n1)⟩
          · rw [hc', hφ, if_pos rfl, pk_us]
            exact ⟨fun _ => Or.inr rfl, fun _ => by decide⟩
        · rw [k3]
          congr 2
          refine cn_eq fun c _ => ⟨fun z => ⟨Or.inl z.1, by rw [pk_un (nt c z.1)]; exact z.2⟩, fun z => ?_⟩
          obtain ⟨z1, z2⟩ := gf_upd0 z.2
          exact ⟨z.1.elim id (fun e => absurd e z1), z2⟩
  · exfalso
    rw [← gf_cnHeld hN hn hnw B] at ge
    have HH := gf_held hN hn hnw B
    have lt := cn_lt (P := gf_Rc (gf_ex fl) (gf_HS nr nw rt wa)) (Q := fun c => c < N) (a := t) (fun z => (B.1 t (gf_RcH hN B HH.1 z)).1.2 hu) ht (N := 32) (fun c _ z => (B.1 c (gf_RcH hN B HH.1 z)).1.1) (by omega)
    rw [gf_cnN hN] at lt
    omega
theorem gz_makeRoom {post : Int32 → SX → Prop} (h : (gf_RL R C N nr nw gc cyc fnd rt wa va fl us ma ho tp rm ch gr yfn yr yw yv y0 y1 yk))
    (k0 : ∀ (fnd wk : Int32) (gc : Nat) (ma gr lv re wo : Nat → Int32), (gf_RL R C N nr nw gc cyc fnd rt wa va fl us ma ho tp rm ch gr yfn yr yw yv y0 y1 yk) → N ≤ cn (gf_Rc (gf_ex fl) (gf_HS nr nw rt wa)) 32 → post 0 ((nI R), (nI C), (nI nr), (nI nw), (nI N), cyc, fnd, (nI gc), wk, rt, wa, va, fl, us, ma, ho, tp, od, lv, rm, ch, gr, re, fw, wo))
    (k1 : ∀ (fnd wk : Int32) (gc : Nat) (rt wa va fl us ma tp od lv rm gr re fw wo : Nat → Int32), (gf_RL R C N nr nw gc cyc fnd rt wa va fl us ma ho tp rm ch gr yfn yr yw yv y0 y1 yk) → (∃ r, r < R ∧ ch r = 0 ∧ tp r < nI C) → post 1 ((nI R), (nI C), (nI nr), (nI nw), (nI N), cyc, fnd, (nI gc), wk, rt, wa, va, fl, us, ma, ho, tp, od, lv, rm, ch, gr, re, fw, wo)) : wpX_makeRoom post ((nI R), (nI C), (nI nr), (nI nw), (nI N), cyc, fnd, (nI gc), wk, rt, wa, va, fl, us, ma, ho, tp, od, lv, rm, ch, gr, re, fw, wo) := by
  unfold wpX_makeRoom
  dsimp only
  refine gz_fin h (fun fnd gc ma gr lv h' g0 => ?_)
  subst g0
  obtain ⟨cf, hp, yv', φ, H, B, Y⟩ := id h'
  have hN : N ≤ 32 := cf.2.2.2.2.2.1
  have hn := cf.2.2.2.2.2.2.2.1
  have hnw := cf.2.2.2.2.2.2.2.2.2
  obtain ⟨p1, p2, fv, p4, cz, b1⟩ := id hp
  have HH := gf_held hN hn hnw B
  have SU : ∀ x, (gf_HS nr nw rt wa) x → gf_U N us x := fun x hx => (B.1 x (HH.1 x hx)).1
  have vr : ∀ i, i < nr → gf_vr (gf_HS nr nw rt wa) (rt i) := fun i hi => gf_vr_mono (gf_vrSR B hN hi) (fun _ => Or.inl)
  have vw : ∀ i, i < nw → gf_vr (gf_HS nr nw rt wa) (wa i) := fun i hi => gf_vr_mono (gf_vrSW B hN hi) (fun _ => Or.inr)
  refine gx_trace (gc := 0) (S := (gf_HS nr nw rt wa)) cf fv SU vr (fun _ => vw) (fun c hc => hc.imp id (fun z => ⟨by decide, z⟩)) (fun wc re wo hG ec => ?_)
  have ec : wc = cn (gf_Rc (gf_ex fl) (gf_HS nr nw rt wa)) 32 := ec
  have hw : wc ≤ 32 := by rw [ec]; exact cn_le _ _
  refine pk_lt wc N (fun lt => ?_) (fun ge => k0 _ _ _ _ _ _ _ _ h' (by rw [← ec]; exact ge)) rfl rfl
  refine gx_slide (gc := 0) (G := gf_Rc (gf_ex fl) (gf_HS nr nw rt wa)) cf p1 cz b1 hG (fun c hc => gf_RcU hN fv SU hc) (fun c hc => gf_RcV hN fv SU hc) (fun i hi => gf_vr_mono (vr i hi) (fun d hd => gf_Rc_in hd)) (fun i hi => gf_vr_mono (vw i hi) (fun d hd => gf_Rc_in hd)) (fun us' va' fl' ma' rt' wa' tp' od' lv' rm' fw' dn I HP tops => ?_)
  refine k1 fnd (nI wc) 0 rt' wa' va' fl' us' ma' tp' od' lv' rm' gr re fw' wo ⟨cf, HP, yv', _, _, gf_IS_BI hN I B, gf_IS_CY hN I Y⟩ ?_
  obtain ⟨c1, c2, c3, c4, c5, c6, c7⟩ := cf
  have em : cn (fun c => re c ≠ 0) N < N := by
    have h1 := gf_cninj (P := fun c => re c ≠ 0) (M := 32) (fun c => c) N (gf_Rc (gf_ex fl) (gf_HS nr nw rt wa)) (fun c hc z => ⟨by omega, (hG c).mp ⟨hc, z⟩⟩) (fun _ _ _ _ _ _ e => e)
    omega
  refine ⟨cn (fun c => re c ≠ 0) N / C, gf_div c5 em, cz _ (gf_div c5 em), ?_⟩
  have tops : ∀ r, r < R → tp' r = nI (min (cn (fun c => re c ≠ 0) N - r * C) C) := tops
  show tp' (cn (fun c => re c ≠ 0) N / C) < nI C
  rw [tops _ (gf_div c5 em), nI_ltI (by omega) (by omega)]
  have h2 := Nat.div_add_mod (cn (fun c => re c ≠ 0) N) C
  have h3 : cn (fun c => re c ≠ 0) N % C < C := Nat.mod_lt _ (by omega)
  rw [Nat.mul_comm] at h2
  omega
theorem gz_alloc {v1 v2 : Int32} (h : (gf_RL R C N nr nw gc cyc fnd rt wa va fl us ma ho tp rm ch gr yfn yr yw yv y0 y1 yk)) : wpX_alloc (fun r u' => wpY_alloc (fun r' v' => r' = r ∧ i_Rel k u' v') ((nI N), (nI nr), (nI nw), cyc, yfn, yr, yw, yv, y0, y1, yk, ys) v1 v2) ((nI R), (nI C), (nI nr), (nI nw), (nI N), cyc, fnd, (nI gc), wk, rt, wa, va, fl, us, ma, ho, tp, od, lv, rm, ch, gr, re, fw, wo) v1 v2 := by
  obtain ⟨cf, hp, yv', φ, H, B, Y⟩ := id h
  have hn := cf.2.2.2.2.2.2.2.1
  rcases gf_good v1 nr with ⟨j, hj, rfl⟩ | hb
  · unfold wpX_alloc
    dsimp only
    refine gx_gr_y hn hj (br_f (by decide) (gx_take cf (fun r hr => (hp.2.1 r hr).imp (fun t z => ⟨z.1, z.2.1⟩)) (fun _ => br_f (by decide) ?_) (fun r t od' lv' hr h0 e ht => ?_)))
    · refine gz_makeRoom h (fun fnd wk gc ma gr lv re wo h' ge => br_t rfl (br_f (by decide) ?_)) (fun fnd wk gc rt wa va fl us ma tp od lv rm gr re fw wo h' ex => br_f (by decide) ?_)
      · have hc := gf_RL_cyc h'
        obtain ⟨cf', hp', yv'', φ', H', B', Y'⟩ := id h'
        have hN : N ≤ 32 := cf'.2.2.2.2.2.1
        refine gy_alloc hN hn hj hc yv'' (gf_BI_yr B') (gf_BI_yw B') (fun lt => ?_) (fun _ ys => ⟨rfl, gf_in h'⟩)
        rw [← gf_cnHeld hN hn cf'.2.2.2.2.2.2.2.2.2 B'] at lt
        omega
      · obtain ⟨cf', hp', yv'', φ', H', B', Y'⟩ := id h'
        refine gx_take cf' (fun r hr => (hp'.2.1 r hr).imp (fun t z => ⟨z.1, z.2.1⟩)) (fun none => ?_) (fun r t od' lv' hr h0 e ht => ?_)
        · obtain ⟨r, r1, r2, r3⟩ := ex
          exact absurd r3 (none r r1 r2)
        · obtain ⟨tp1, z⟩ := gf_TP_take cf' hr ht e hp'.2.1
          exact gz_al33 h' (gf_idx cf'.2.2.2.2.1 hr ht).1 z tp1 hj
    · obtain ⟨tp1, z⟩ := gf_TP_take cf hr ht e hp.2.1
      have i1 := (gf_idx cf.2.2.2.2.1 hr ht).1
      have hN : N ≤ 32 := cf.2.2.2.2.2.1
      exact br_t (nI_pos' (by omega)) (gz_al33 h i1 z tp1 hj)
  · unfold wpX_alloc wpY_alloc
    dsimp only
    exact gx_gr_n hn hb (br_t rfl (gy_gr_n hn hb (br_t rfl ⟨rfl, gf_in h⟩)))
end
end
section
/-! the constructors -/
theorem gf_clampE (p : Int32) (lo hi : Nat) (h : lo ≤ hi) (hh : hi < 2 ^ 31) : ∃ m, (lo ≤ m ∧ m ≤ hi) ∧ ∀ A : Int32 → Prop, A (nI m) → ((nI lo ≤ p → ((p ≤ nI hi → A p) ∧ (¬ p ≤ nI hi → A (nI hi)))) ∧ (¬ nI lo ≤ p → A (nI lo))) := by
  by_cases h1 : nI lo ≤ p
  · by_cases h2 : p ≤ nI hi
    · have h0 : ¬ p < 0 := by
        rw [Int32.lt_iff_toInt_lt]
        rw [Int32.le_iff_toInt_le, nI_toInt (by omega)] at h1
        have : (0 : Int32).toInt = 0 := by decide
        omega
      obtain ⟨m, hm, rfl⟩ := nI_of2 (M := nI hi) (n := hi) (nI_toInt hh) h0 h2
      have := (nI_leI (by omega) (by omega)).mp h1
      exact ⟨m, ⟨this, hm⟩, fun A k => br_t h1 (br_t h2 k)⟩
    · exact ⟨hi, ⟨h, Nat.le_refl _⟩, fun A k => br_t h1 (br_f h2 k)⟩
  · exact ⟨lo, ⟨Nat.le_refl _, h⟩, fun A k => br_f h1 k⟩
theorem gx_clampG {post : Int32 → Prop} {b0 b1 b2 b3 b4 b5 b6 b7 b8 : Int32} {a0 a1 a2 a3 a4 a5 a6 a7 a8 a9 a10 a11 a12 a13 a14 a15 : Nat → Int32} {p lo hi : Int32} {m : Nat} (K : ∀ A : Int32 → Prop, A (nI m) → ((lo ≤ p → ((p ≤ hi → A p) ∧ (¬ p ≤ hi → A hi))) ∧ (¬ lo ≤ p → A lo))) (h : post (nI m)) : wpX_clamp post (b0, b1, b2, b3, b4, b5, b6, b7, b8, a0, a1, a2, a3, a4, a5, a6, a7, a8, a9, a10, a11, a12, a13, a14, a15) p lo hi := K post h
section
variable {R C N nr nw gc : Nat} {cyc fnd wk : Int32} {rt wa va fl us ma ho tp od lv rm ch gr re fw wo : Nat → Int32}
theorem gx_in253 {post : SX → Prop} {J : Int32 → (Nat → Int32) → (Nat → Int32) → (Nat → Int32) → (Nat → Int32) → (Nat → Int32) → (Nat → Int32) → (Nat → Int32) → (Nat → Int32) → (Nat → Int32) → (Nat → Int32) → (Nat → Int32) → (Nat → Int32) → (Nat → Int32) → (Nat → Int32) → (Nat → Int32) → (Nat → Int32) → Prop} {r : Nat} (cf : (gf_cf R C N nr nw)) (hr : r < R)
    (k : ∀ ho : Nat → Int32, (∀ c, c < (r + 1) * C → ho c = nI (c / C)) → J (nI (r + 1)) rt wa va fl us ma ho tp od lv rm ch gr re fw wo) :
    ∀ (n i : Nat) (ho : Nat → Int32), i ≤ C → C - i < n → (∀ c, c < r * C + i → ho c = nI (c / C)) → wX_init_253 post J (nI r) (nI R) (nI C) (nI nr) (nI nw) (nI N) cyc fnd 0 wk n (nI i) rt wa va fl us ma ho tp od lv rm ch gr re fw wo := by
  obtain ⟨c1, c2, c3, c4, c5, c6, c7⟩ := cf
  intro n
  induction n with
  | zero => intro i ho _ h; omega
  | succ n ih =>
    intro i ho hi hf h1
    rcases Nat.lt_or_ge i C with h | h
    · obtain ⟨i1, i2, i3⟩ := gf_idx c5 hr h
      refine br_f (nI_ge h (by omega)) ?_
      rw [pk_mul, nI_add, nI_clamp (n := r * C + i) (by omega)]
      refine ⟨vp_in_nI (by omega) (by decide), nm_e (nm_r (e' := nI (i + 1)) (nI_1 i) (ih (i + 1) _ (by omega) (by omega) (fun c hc => ?_)))⟩
      by_cases z : c = r * C + i
      · rw [z, pk_us, i2]
      · rw [pk_un z]
        exact h1 c (by omega)
    · have e : i = C := by omega
      subst e
      refine br_t (nI_le h (by omega)) (nm_r (e' := nI (r + 1)) (nI_1 r) (k ho (fun c hc => h1 c ?_)))
      rw [Nat.add_mul] at hc
      omega
theorem gx_in241 {post : SX → Prop} (cf : (gf_cf R C N nr nw)) (k : ∀ ho : Nat → Int32, (gf_HM C N ho) → post ((nI R), (nI C), (nI nr), (nI nw), (nI N), cyc, fnd, 0, wk, rt, wa, va, fl, us, ma, ho, tp, od, lv, rm, ch, gr, re, fw, wo)) :
    ∀ (n r : Nat) (ho : Nat → Int32), r ≤ R → R - r < n → (∀ c, c < r * C → ho c = nI (c / C)) → wX_init_241 post (nI R) (nI C) (nI nr) (nI nw) (nI N) cyc fnd 0 wk n (nI r) rt wa va fl us ma ho tp od lv rm ch gr re fw wo := by
  have cf' := cf
  obtain ⟨c1, c2, c3, c4, c5, c6, c7⟩ := cf
  intro n
  induction n with
  | zero => intro r ho _ h; omega
  | succ n ih =>
    intro r ho hr hf h1
    rcases Nat.lt_or_ge r R with h | h
    · exact br_f (nI_ge h (by omega)) ⟨C + 1, gx_in253 cf' h (fun ho' h2 => ih (r + 1) ho' (by omega) (by omega) h2) (C + 1) 0 ho (Nat.zero_le _) (by omega) h1⟩
    · have e : r = R := by omega
      subst e
      exact br_t (nI_le h (by omega)) (k ho (fun c hc => h1 c (by omega)))
theorem gx_in218 {post : SX → Prop} (cf : (gf_cf R C N nr nw)) (k : ∀ wa ho : Nat → Int32, (∀ i, i < 4 → wa i = -1) → (gf_HM C N ho) → post ((nI R), (nI C), (nI nr), (nI nw), (nI N), cyc, fnd, 0, wk, rt, wa, va, fl, us, ma, ho, tp, od, lv, rm, ch, gr, re, fw, wo)) :
    ∀ (n i : Nat) (wa : Nat → Int32), i ≤ 4 → 4 - i < n → (∀ l, l < i → wa l = -1) → wX_init_218 post (nI R) (nI C) (nI nr) (nI nw) (nI N) cyc fnd 0 wk n (nI i) rt wa va fl us ma ho tp od lv rm ch gr re fw wo := by
  intro n
  induction n with
  | zero => intro i wa _ h; omega
  | succ n ih =>
    intro i wa hi hf h1
    rcases Nat.lt_or_ge i 4 with h | h
    · refine br_f (nI_ge (b := 4) h (by decide)) ⟨vp_in_nI h (by decide), nm_r (e' := upd wa i (-1)) (by rw [nI_clamp (by omega)]) (nm_r (e' := nI (i + 1)) (nI_1 i) (ih (i + 1) _ (by omega) (by omega) (fun l hl => ?_)))⟩
      by_cases z : l = i
      · rw [z, pk_us]
      · rw [pk_un z]
        exact h1 l (by omega)
    · exact br_t (nI_le (a := 4) h (by omega)) ⟨R + 1, gx_in241 cf (fun ho h2 => k wa ho (fun l hl => h1 l (by omega)) h2) (R + 1) 0 ho (Nat.zero_le _) (by omega) (fun c hc => by
        rw [Nat.zero_mul] at hc
        exact absurd hc (Nat.not_lt_zero _))⟩
theorem gx_in194 {post : SX → Prop} (cf : (gf_cf R C N nr nw)) (k : ∀ rt wa ho : Nat → Int32, (∀ i, i < 8 → rt i = -1) → (∀ i, i < 4 → wa i = -1) → (gf_HM C N ho) → post ((nI R), (nI C), (nI nr), (nI nw), (nI N), cyc, fnd, 0, wk, rt, wa, va, fl, us, ma, ho, tp, od, lv, rm, ch, gr, re, fw, wo)) :
    ∀ (n i : Nat) (rt : Nat → Int32), i ≤ 8 → 8 - i < n → (∀ l, l < i → rt l = -1) → wX_init_194 post (nI R) (nI C) (nI nr) (nI nw) (nI N) cyc fnd 0 wk n (nI i) rt wa va fl us ma ho tp od lv rm ch gr re fw wo := by
  intro n
  induction n with
  | zero => intro i rt _ h; omega
  | succ n ih =>
    intro i rt hi hf h1
    rcases Nat.lt_or_ge i 8 with h | h
    · refine br_f (nI_ge (b := 8) h (by decide)) ⟨vp_in_nI h (by decide), nm_r (e' := upd rt i (-1)) (by rw [nI_clamp (by omega)]) (nm_r (e' := nI (i + 1)) (nI_1 i) (ih (i + 1) _ (by omega) (by omega) (fun l hl => ?_)))⟩
      by_cases z : l = i
      · rw [z, pk_us]
      · rw [pk_un z]
        exact h1 l (by omega)
    · exact br_t (nI_le (a := 8) h (by omega)) ⟨5, gx_in218 cf (fun wa ho h2 h3 => k rt wa ho (fun l hl => h1 l (by omega)) h2 h3) 5 0 wa (by omega) (by omega) (fun l hl => absurd hl (Nat.not_lt_zero _))⟩
/-- the new heap and the new table -/
theorem gf_RL_new (cf : (gf_cf R C N nr nw)) (hr : ∀ i, i < 8 → rt i = -1) (hw : ∀ i, i < 4 → wa i = -1) (hm : (gf_HM C N ho)) :
    (gf_RL R C N nr nw 0 0 0 rt wa (fun _ => 0) (fun _ => 0) (fun _ => 0) (fun _ => 0) ho (fun _ => 0) (fun _ => 0) (fun _ => 0) (fun _ => 0) 0 (fun _ => 0) (fun _ => 0) (fun _ => 0) (fun _ => 0) (fun _ => 0) (fun _ => 0)) := by
  have hn := cf.2.2.2.2.2.2.2.1
  have hnw := cf.2.2.2.2.2.2.2.2.2
  have nU : ∀ c, ¬ gf_U N (fun _ => 0) c := fun c hc => hc.2 rfl
  refine ⟨cf, ⟨hm, fun r hr => ⟨0, Nat.zero_le _, rfl, fun c hc hu => absurd rfl hu⟩, fun c hc => absurd hc (nU c), fun c d hc => absurd hc (nU c), fun r hr => rfl, fun c hc => Or.inl rfl⟩, fun o ho => ⟨⟨0, by omega, rfl⟩, ⟨0, by omega, rfl⟩⟩, fun x => x, fun _ => False, ⟨fun c f => f.elim, fun c d f => f.elim, fun i hi => Or.inl ⟨hr i (by omega), rfl⟩, fun i _ _ => rfl, fun i hi => Or.inl ⟨hw i (by omega), rfl⟩, fun i _ _ => rfl⟩, Or.inl ⟨rfl, rfl⟩⟩
end
end
section
/-! what is owed -/
theorem i_up {k : Nat} {u : SX} {v : SY} (h : i_Rel k u v) : i_Rel (k + 4) u v := h
theorem i_vc0 (k0 : Int32) (k1 : Int32) (k2 : Int32) (k3 : Int32) : wpX_init (fun u => wpY_init (fun v => i_Rel 4 u v) k0 k1 k2 k3) k0 k1 k2 k3 := by
  obtain ⟨R, ⟨r1, r2⟩, KR⟩ := gf_clampE k0 3 8 (by omega) (by omega)
  obtain ⟨C, ⟨c1, c2⟩, KC⟩ := gf_clampE k1 2 4 (by omega) (by omega)
  obtain ⟨nr, ⟨n1, n2⟩, KN⟩ := gf_clampE k2 2 8 (by omega) (by omega)
  obtain ⟨nw, ⟨w1, w2⟩, KW⟩ := gf_clampE k3 1 4 (by omega) (by omega)
  have hN : R * C ≤ 32 := Nat.mul_le_mul r2 c2
  have cf : gf_cf R C (R * C) nr nw := ⟨r1, r2, c1, c2, rfl, hN, n1, n2, w1, w2⟩
  unfold wpX_init
  refine gx_clampG KR (gx_clampG KC (gx_clampG KN (gx_clampG KW (nm_r (e' := nI (R * C)) (pk_mul R C) ⟨9, gx_in194 cf (fun rt wa ho hr hw hm => ?_) 9 0 _ (by omega) (by omega) (fun l hl => absurd hl (Nat.not_lt_zero _))⟩))))
  refine KR (fun z => wY_init_80 _ k1 k2 k3 z 0 0 0 0 0 (fun _ => 0) (fun _ => 0) (fun _ => 0) (fun _ => 0) (fun _ => 0) (fun _ => 0) (fun _ => 0)) ?_
  refine KC (fun z => wY_init_101 _ k2 k3 (nI R) z 0 0 0 0 0 (fun _ => 0) (fun _ => 0) (fun _ => 0) (fun _ => 0) (fun _ => 0) (fun _ => 0) (fun _ => 0)) ?_
  refine nm_r (e' := nI (R * C)) (pk_mul R C) ?_
  refine KN (fun z => wY_init_134 _ k3 z (nI (R * C)) 0 0 0 0 (fun _ => 0) (fun _ => 0) (fun _ => 0) (fun _ => 0) (fun _ => 0) (fun _ => 0) (fun _ => 0)) ?_
  refine KW (fun z => i_Rel 4 _ (nI (R * C), nI nr, z, 0, 0, (fun _ => 0), (fun _ => 0), (fun _ => 0), (fun _ => 0), (fun _ => 0), (fun _ => 0), (fun _ => 0))) ?_
  exact gf_in (gc := 0) (gf_RL_new cf hr hw hm)
theorem i_vc_alloc {k : Nat} {u : SX} {v : SY} (I : i_Rel k u v) (hk : k + 4 ≤ 2052) (v1 : Int32) (v2 : Int32) : wpX_alloc (fun r u' => wpY_alloc (fun r' v' => r' = r ∧ i_Rel (k + 4) u' v') v v1 v2) u v1 v2 :=
  I (fun u v => wpX_alloc (fun r u' => wpY_alloc (fun r' v' => r' = r ∧ i_Rel (k + 4) u' v') v v1 v2) u v1 v2) (fun _ _ _ _ _ _ _ _ _ _ _ _ _ _ _ _ _ _ _ _ _ _ _ _ _ _ _ _ _ _ _ _ _ h => gz_alloc h)
theorem i_vc_move {k : Nat} {u : SX} {v : SY} (I : i_Rel k u v) (hk : k + 4 ≤ 2052) (v1 : Int32) (v2 : Int32) : wpX_move (fun r u' => wpY_move (fun r' v' => r' = r ∧ i_Rel (k + 4) u' v') v v1 v2) u v1 v2 :=
  I (fun u v => wpX_move (fun r u' => wpY_move (fun r' v' => r' = r ∧ i_Rel (k + 4) u' v') v v1 v2) u v1 v2) (fun _ _ _ _ _ _ _ _ _ _ _ _ _ _ _ _ _ _ _ _ _ _ _ _ _ _ _ _ _ _ _ _ _ h => gz_move h)
theorem i_vc_load {k : Nat} {u : SX} {v : SY} (I : i_Rel k u v) (hk : k + 4 ≤ 2052) (v1 : Int32) (v2 : Int32) (v3 : Int32) : wpX_load (fun r u' => wpY_load (fun r' v' => r' = r ∧ i_Rel (k + 4) u' v') v v1 v2 v3) u v1 v2 v3 :=
  I (fun u v => wpX_load (fun r u' => wpY_load (fun r' v' => r' = r ∧ i_Rel (k + 4) u' v') v v1 v2 v3) u v1 v2 v3) (fun _ _ _ _ _ _ _ _ _ _ _ _ _ _ _ _ _ _ _ _ _ _ _ _ _ _ _ _ _ _ _ _ _ h => gz_load h)
theorem i_vc_store {k : Nat} {u : SX} {v : SY} (I : i_Rel k u v) (hk : k + 4 ≤ 2052) (v1 : Int32) (v2 : Int32) (v3 : Int32) : wpX_store (fun r u' => wpY_store (fun r' v' => r' = r ∧ i_Rel (k + 4) u' v') v v1 v2 v3) u v1 v2 v3 :=
  I (fun u v => wpX_store (fun r u' => wpY_store (fun r' v' => r' = r ∧ i_Rel (k + 4) u' v') v v1 v2 v3) u v1 v2 v3) (fun _ _ _ _ _ _ _ _ _ _ _ _ _ _ _ _ _ _ _ _ _ _ _ _ _ _ _ _ _ _ _ _ _ h => gz_store h)
theorem i_vc_put {k : Nat} {u : SX} {v : SY} (I : i_Rel k u v) (hk : k + 4 ≤ 2052) (v1 : Int32) (v2 : Int32) : wpX_put (fun r u' => wpY_put (fun r' v' => r' = r ∧ i_Rel (k + 4) u' v') v v1 v2) u v1 v2 :=
  I (fun u v => wpX_put (fun r u' => wpY_put (fun r' v' => r' = r ∧ i_Rel (k + 4) u' v') v v1 v2) u v1 v2) (fun _ _ _ _ _ _ _ _ _ _ _ _ _ _ _ _ _ _ _ _ _ _ _ _ _ _ _ _ _ _ _ _ _ h => gz_put h)
theorem i_vc_value {k : Nat} {u : SX} {v : SY} (I : i_Rel k u v) (hk : k + 4 ≤ 2052) (v1 : Int32) (v2 : Int32) (v3 : Int32) : wpX_value (fun r => wpY_value (fun r' => r' = r ∧ i_Rel (k + 4) u v) v v1 v2 v3) u v1 v2 v3 :=
  I (fun u v => wpX_value (fun r => wpY_value (fun r' => r' = r ∧ i_Rel (k + 4) u v) v v1 v2 v3) u v1 v2 v3) (fun _ _ _ _ _ _ _ _ _ _ _ _ _ _ _ _ _ _ _ _ _ _ _ _ _ _ _ _ _ _ _ _ _ h => gz_value h)
theorem i_vc_same {k : Nat} {u : SX} {v : SY} (I : i_Rel k u v) (hk : k + 4 ≤ 2052) (v1 : Int32) (v2 : Int32) : wpX_same (fun r => wpY_same (fun r' => r' = r ∧ i_Rel (k + 4) u v) v v1 v2) u v1 v2 :=
  I (fun u v => wpX_same (fun r => wpY_same (fun r' => r' = r ∧ i_Rel (k + 4) u v) v v1 v2) u v1 v2) (fun _ _ _ _ _ _ _ _ _ _ _ _ _ _ _ _ _ _ _ _ _ _ _ _ _ _ _ _ _ _ _ _ _ h => gz_same h)
theorem i_vc_watch {k : Nat} {u : SX} {v : SY} (I : i_Rel k u v) (hk : k + 4 ≤ 2052) (v1 : Int32) (v2 : Int32) : wpX_watch (fun r u' => wpY_watch (fun r' v' => r' = r ∧ i_Rel (k + 4) u' v') v v1 v2) u v1 v2 :=
  I (fun u v => wpX_watch (fun r u' => wpY_watch (fun r' v' => r' = r ∧ i_Rel (k + 4) u' v') v v1 v2) u v1 v2) (fun _ _ _ _ _ _ _ _ _ _ _ _ _ _ _ _ _ _ _ _ _ _ _ _ _ _ _ _ _ _ _ _ _ h => gz_watch h)
theorem i_vc_revive {k : Nat} {u : SX} {v : SY} (I : i_Rel k u v) (hk : k + 4 ≤ 2052) (v1 : Int32) (v2 : Int32) : wpX_revive (fun r u' => wpY_revive (fun r' v' => r' = r ∧ i_Rel (k + 4) u' v') v v1 v2) u v1 v2 :=
  I (fun u v => wpX_revive (fun r u' => wpY_revive (fun r' v' => r' = r ∧ i_Rel (k + 4) u' v') v v1 v2) u v1 v2) (fun _ _ _ _ _ _ _ _ _ _ _ _ _ _ _ _ _ _ _ _ _ _ _ _ _ _ _ _ _ _ _ _ _ h => gz_revive h)
theorem i_vc_begin {k : Nat} {u : SX} {v : SY} (I : i_Rel k u v) (hk : k + 4 ≤ 2052) : wpX_begin (fun r u' => wpY_begin (fun r' v' => r' = r ∧ i_Rel (k + 4) u' v') v) u :=
  I (fun u v => wpX_begin (fun r u' => wpY_begin (fun r' v' => r' = r ∧ i_Rel (k + 4) u' v') v) u) (fun _ _ _ _ _ _ _ _ _ _ _ _ _ _ _ _ _ _ _ _ _ _ _ _ _ _ _ _ _ _ _ _ _ h => gz_begin h)
theorem i_vc_markStep {k : Nat} {u : SX} {v : SY} (I : i_Rel k u v) (hk : k + 4 ≤ 2052) (v1 : Int32) : wpX_markStep (fun u' => wpY_markStep (fun v' => i_Rel (k + 4) u' v') v v1) u v1 :=
  I (fun u v => wpX_markStep (fun u' => wpY_markStep (fun v' => i_Rel (k + 4) u' v') v v1) u v1) (fun _ _ _ _ _ _ _ _ _ _ _ _ _ _ _ _ _ _ _ _ _ _ _ _ _ _ _ _ _ _ _ _ _ h => gz_markStep h)
theorem i_vc_evacuate {k : Nat} {u : SX} {v : SY} (I : i_Rel k u v) (hk : k + 4 ≤ 2052) (v1 : Int32) : wpX_evacuate (fun u' => wpY_evacuate (fun v' => i_Rel (k + 4) u' v') v v1) u v1 :=
  I (fun u v => wpX_evacuate (fun u' => wpY_evacuate (fun v' => i_Rel (k + 4) u' v') v v1) u v1) (fun _ _ _ _ _ _ _ _ _ _ _ _ _ _ _ _ _ _ _ _ _ _ _ _ _ _ _ _ _ _ _ _ _ h => gz_evacuate h)
theorem i_vc_finish {k : Nat} {u : SX} {v : SY} (I : i_Rel k u v) (hk : k + 4 ≤ 2052) : wpX_finish (fun r u' => wpY_finish (fun r' v' => r' = r ∧ i_Rel (k + 4) u' v') v) u :=
  I (fun u v => wpX_finish (fun r u' => wpY_finish (fun r' v' => r' = r ∧ i_Rel (k + 4) u' v') v) u) (fun _ _ _ _ _ _ _ _ _ _ _ _ _ _ _ _ _ _ _ _ _ _ _ _ _ _ _ _ _ _ _ _ _ h => gz_finish h)
theorem i_vc_collect {k : Nat} {u : SX} {v : SY} (I : i_Rel k u v) (hk : k + 4 ≤ 2052) : wpX_collect (fun r u' => wpY_collect (fun r' v' => r' = r ∧ i_Rel (k + 4) u' v') v) u :=
  I (fun u v => wpX_collect (fun r u' => wpY_collect (fun r' v' => r' = r ∧ i_Rel (k + 4) u' v') v) u) (fun _ _ _ _ _ _ _ _ _ _ _ _ _ _ _ _ _ _ _ _ _ _ _ _ _ _ _ _ _ _ _ _ _ h => gz_collect h)
theorem i_vc_fate {k : Nat} {u : SX} {v : SY} (I : i_Rel k u v) (hk : k + 4 ≤ 2052) (v1 : Int32) : wpX_fate (fun r u' => wpY_fate (fun r' => r' = r ∧ i_Rel (k + 4) u' v) v v1) u v1 :=
  I (fun u v => wpX_fate (fun r u' => wpY_fate (fun r' => r' = r ∧ i_Rel (k + 4) u' v) v v1) u v1) (fun _ _ _ _ _ _ _ _ _ _ _ _ _ _ _ _ _ _ _ _ _ _ _ _ _ _ _ _ _ _ _ _ _ h => gz_fate h)
theorem i_vc_census {k : Nat} {u : SX} {v : SY} (I : i_Rel k u v) (hk : k + 4 ≤ 2052) : wpX_census (fun r u' => wpY_census (fun r' => r' = r ∧ i_Rel (k + 4) u' v) v) u :=
  I (fun u v => wpX_census (fun r u' => wpY_census (fun r' => r' = r ∧ i_Rel (k + 4) u' v) v) u) (fun _ _ _ _ _ _ _ _ _ _ _ _ _ _ _ _ _ _ _ _ _ _ _ _ _ _ _ _ _ _ _ _ _ h => gz_census h)
end
