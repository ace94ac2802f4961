section
/-! rows pasted out of the kit (starting texts): BITS and PURE-ROWS -/
def bt (x : Int32) (i : Nat) : Bool := x.toBitVec.getLsbD i
theorem b_ext {x y : Int32} (h : ∀ i, i < 32 → bt x i = bt y i) : x = y := Int32.toBitVec_inj.mp (BitVec.eq_of_getLsbD_eq (fun i hi => h i hi))
theorem b_or (x y : Int32) (i : Nat) : bt (x ||| y) i = (bt x i || bt y i) := by unfold bt; rw [Int32.toBitVec_or, BitVec.getLsbD_or]
theorem b_and (x y : Int32) (i : Nat) : bt (x &&& y) i = (bt x i && bt y i) := by unfold bt; rw [Int32.toBitVec_and, BitVec.getLsbD_and]
theorem b_xor (x y : Int32) (i : Nat) : bt (x ^^^ y) i = (bt x i ^^ bt y i) := by unfold bt; rw [Int32.toBitVec_xor, BitVec.getLsbD_xor]
theorem b_big {x : Int32} {i : Nat} (h : 32 ≤ i) : bt x i = false := BitVec.getLsbD_of_ge _ _ h
theorem b_255 (i : Nat) : bt 255 i = decide (i < 8) := by
  rcases Nat.lt_or_ge i 32 with h | h
  · exact (by decide +kernel : ∀ i, i < 32 → bt 255 i = decide (i < 8)) i h
  · rw [b_big h, decide_eq_false (by omega)]
theorem b_m1 : ∀ i, i < 32 → bt (-1) i = true := by decide +kernel
theorem b_0 (i : Nat) : bt 0 i = false := BitVec.getLsbD_zero
theorem s_l : ∀ n, n < 32 → ((nI n &&& 31).toBitVec.smod 32).toNat = n := by decide +kernel
theorem b_shl (n : Nat) (hn : n < 32) (x : Int32) {i : Nat} (hi : i < 32) : bt (x <<< (nI n &&& 31)) i = (decide (n ≤ i) && bt x (i - n)) := by
  unfold bt
  rw [Int32.toBitVec_shiftLeft]
  show (x.toBitVec <<< ((nI n &&& 31).toBitVec.smod 32).toNat).getLsbD i = _
  rw [s_l n hn, BitVec.getLsbD_shiftLeft]
  rcases Nat.lt_or_ge i n with h | h
  · simp [h, Nat.not_le.mpr h]
  · simp [hi, h, Nat.not_lt.mpr h]
theorem b_sshr (n : Nat) (hn : n < 32) (x : Int32) {i : Nat} (hi : i < 32) : bt (x >>> (nI n &&& 31)) i = if n + i < 32 then bt x (n + i) else bt x 31 := by
  unfold bt
  rw [Int32.toBitVec_shiftRight]
  show (x.toBitVec.sshiftRight ((nI n &&& 31).toBitVec.smod 32).toNat).getLsbD i = _
  rw [s_l n hn, BitVec.getLsbD_sshiftRight, BitVec.msb_eq_getLsbD_last]
  simp [hi]
theorem pk_us {f : Nat → Int32} {k : Nat} {x : Int32} : upd f k x k = x := if_pos rfl
theorem pk_un {f : Nat → Int32} {k j : Nat} {x : Int32} (h : j ≠ k) : upd f k x j = f j := if_neg h
theorem pk_sub {a b : Nat} (h : b ≤ a) : nI a - nI b = nI (a - b) := by
  obtain ⟨c, rfl⟩ : ∃ c, a = c + b := ⟨a - b, by omega⟩
  rw [← nI_add, Int32.add_sub_cancel, Nat.add_sub_cancel]
theorem pk_ix (x : Int32) {n : Nat} (hn : n < 2 ^ 31) : x < 0 ∨ nI n ≤ x ∨ ∃ j : Nat, j < n ∧ x = nI j := by
  by_cases h : x < 0
  · exact Or.inl h
  · obtain ⟨j, hj, rfl⟩ := nI_of h
    by_cases h2 : j < n
    · exact Or.inr (Or.inr ⟨j, h2, rfl⟩)
    · exact Or.inr (Or.inl (nI_le (by omega) hj))
theorem pk_le {x y : Int32} {A B : Prop} (a b : Nat) (f : a ≤ b → A) (g : b < a → B) (hx : x = nI a := by rfl) (hy : y = nI b := by rfl) (ha : a < 2 ^ 31 := by omega) (hb : b < 2 ^ 31 := by omega) : (x ≤ y → A) ∧ (¬ x ≤ y → B) := by
  subst hx hy
  rw [nI_leI ha hb]
  exact ⟨f, fun z => g (by omega)⟩
theorem pk_lt {x y : Int32} {A B : Prop} (a b : Nat) (f : a < b → A) (g : b ≤ a → B) (hx : x = nI a := by rfl) (hy : y = nI b := by rfl) (ha : a < 2 ^ 31 := by omega) (hb : b < 2 ^ 31 := by omega) : (x < y → A) ∧ (¬ x < y → B) := by
  subst hx hy
  rw [nI_ltI ha hb]
  exact ⟨f, fun z => g (by omega)⟩
theorem pk_eq {x y : Int32} {A B : Prop} (a b : Nat) (f : a = b → A) (g : a ≠ b → B) (hx : x = nI a := by rfl) (hy : y = nI b := by rfl) (ha : a < 2 ^ 31 := by omega) (hb : b < 2 ^ 31 := by omega) : (x = y → A) ∧ (¬ x = y → B) := by
  subst hx hy
  rw [nI_eq ha hb]
  exact ⟨f, g⟩
theorem pk_in {x : Int32} (n N : Nat) (h : n < N) (hx : x = nI n := by rfl) (hN : N < 2 ^ 31 := by omega) : vp_in x N := by
  subst hx
  exact vp_in_nI h hN
theorem pk_cl {x : Int32} (n : Nat) (hx : x = nI n := by rfl) (h : n < 2 ^ 31 := by omega) : x.toNatClampNeg = n := by
  subst hx
  exact nI_clamp h
theorem pk_tn {n : Nat} (h : n < 2 ^ 32) : (nI n).toBitVec.toNat = n := Nat.mod_eq_of_lt h
theorem pk_and (x : Int32) {m : Int32} (k : Nat) (hm : m.toBitVec.toNat = 2 ^ k - 1) : x &&& m = nI (x.toBitVec.toNat % 2 ^ k) := by
  apply Int32.toBitVec_inj.mp
  apply BitVec.eq_of_toNat_eq
  rw [Int32.toBitVec_and, BitVec.toNat_and, hm, Nat.and_two_pow_sub_one_eq_mod]
  show _ = (BitVec.ofNat 32 _).toNat
  rw [BitVec.toNat_ofNat]
  exact (Nat.mod_eq_of_lt (Nat.lt_of_le_of_lt (Nat.mod_le _ _) x.toBitVec.isLt)).symm
theorem pk_andN {n : Nat} (h : n < 2 ^ 32) {m : Int32} (k : Nat) (hm : m.toBitVec.toNat = 2 ^ k - 1) : nI n &&& m = nI (n % 2 ^ k) := by
  rw [pk_and _ k hm, pk_tn h]
theorem pk_andE (x : Int32) {m : Int32} (k : Nat) (hm : m.toBitVec.toNat = 2 ^ k - 1) : ∃ j : Nat, j < 2 ^ k ∧ x &&& m = nI j := ⟨_, Nat.mod_lt _ (Nat.two_pow_pos k), pk_and x k hm⟩
theorem pk_andIn (x : Int32) {m : Int32} (k : Nat) (hm : m.toBitVec.toNat = 2 ^ k - 1) (hk : k ≤ 30) : vp_in (x &&& m) (2 ^ k) := by
  obtain ⟨j, hj, e⟩ := pk_andE x k hm
  rw [e]
  exact vp_in_nI hj (Nat.lt_of_le_of_lt (Nat.pow_le_pow_right (by decide) hk) (by decide))
theorem pk_least (P : Nat → Prop) (h : ∃ k, P k) : ∃ k, P k ∧ ∀ j, j < k → ¬ P j := by
  obtain ⟨k, hk⟩ := h
  induction k using Nat.strongRecOn with
  | ind k ih =>
    by_cases e : ∃ j, j < k ∧ P j
    · obtain ⟨j, hj, pj⟩ := e
      exact ih j hj pj
    · exact ⟨k, hk, fun j hj pj => e ⟨j, hj, pj⟩⟩
end
section
/-! the pure game: positions are naturals, O owners, C colours, F and G the two moves; a plan is a function s to a move.
    No program in sight. Sets are predicates. -/
/-- one move along a plan s of player i: i keeps to s, the other moves as it likes -/
def pg_E (O F G : Nat → Nat) (i : Nat) (s : Nat → Nat) (p q : Nat) : Prop :=
  (O p = i → q = s p) ∧ (O p ≠ i → q = F p ∨ q = G p)
/-- no endless play that repeats itself inside W along s has a greatest colour of the other player -/
def pg_NB (O C F G : Nat → Nat) (i : Nat) (s : Nat → Nat) (W : Nat → Prop) : Prop :=
  ∀ x : Nat → Nat, (∀ n, W (x n)) → (∀ n, pg_E O F G i s (x n) (x (n + 1))) → ∀ m, 0 < m → (∀ n, x (n + m) = x n) →
    ∀ n, C (x n) % 2 ≠ i → ∃ k, C (x n) < C (x k)
/-- in the game on S player i has one plan that keeps W and wins from all of it -/
def pg_Won (O C F G : Nat → Nat) (i : Nat) (S W : Nat → Prop) : Prop :=
  ∃ s : Nat → Nat, (∀ p, s p = F p ∨ s p = G p) ∧ (∀ p, W p → O p = i → W (s p)) ∧
    (∀ p q, W p → O p ≠ i → (q = F p ∨ q = G p) → S q → W q) ∧ pg_NB O C F G i s W
/-- A is what player i can force into T inside S -/
def pg_Attr (O F G : Nat → Nat) (i : Nat) (S T A : Nat → Prop) : Prop :=
  (∀ p, T p → A p) ∧ (∀ p, A p → S p) ∧
  (∀ p q, S p → O p = i → (q = F p ∨ q = G p) → S q → A q → A p) ∧
  (∀ p, S p → O p ≠ i → (∀ q, (q = F p ∨ q = G p) → S q → A q) → A p) ∧
  ∃ rk : Nat → Nat, ∀ p, A p → T p ∨ (O p = i ∧ ∃ q, (q = F p ∨ q = G p) ∧ A q ∧ rk q < rk p) ∨
    (O p ≠ i ∧ ∀ q, (q = F p ∨ q = G p) → S q → A q ∧ rk q < rk p)
theorem pg_won0 (O C F G : Nat → Nat) (i : Nat) (S W : Nat → Prop) (h : ∀ p, ¬ W p) : pg_Won O C F G i S W :=
  ⟨F, fun _ => Or.inl rfl, fun p hp => absurd hp (h p), fun p _ hp => absurd hp (h p), fun x hx => absurd (hx 0) (h _)⟩
/-- what is left of a subgame without a forced set is a subgame -/
theorem pg_sub {O F G : Nat → Nat} {i : Nat} {S T A : Nat → Prop} (hS : ∀ p, S p → S (F p) ∨ S (G p)) (hA : pg_Attr O F G i S T A) :
    ∀ p, (S p ∧ ¬ A p) → (S (F p) ∧ ¬ A (F p)) ∨ (S (G p) ∧ ¬ A (G p)) := by
  obtain ⟨_, _, h1, h2, _⟩ := hA
  intro p hp
  by_cases ho : O p = i
  · rcases hS p hp.1 with h | h
    · exact Or.inl ⟨h, fun z => hp.2 (h1 p (F p) hp.1 ho (Or.inl rfl) h z)⟩
    · exact Or.inr ⟨h, fun z => hp.2 (h1 p (G p) hp.1 ho (Or.inr rfl) h z)⟩
  · apply Classical.byContradiction
    intro hn
    apply hp.2
    refine h2 p hp.1 ho ?_
    intro q hq hs
    apply Classical.byContradiction
    intro ha
    apply hn
    rcases hq with e | e
    · subst e; exact Or.inl ⟨hs, ha⟩
    · subst e; exact Or.inr ⟨hs, ha⟩
theorem pg_hit (x : Nat → Nat) (A T : Nat → Prop) (rk : Nat → Nat)
    (h : ∀ k, A (x k) → ¬ T (x k) → A (x (k + 1)) ∧ rk (x (k + 1)) < rk (x k)) :
    ∀ r k, rk (x k) ≤ r → A (x k) → ∃ t, T (x t) := by
  intro r
  induction r with
  | zero =>
    intro k hr ha
    by_cases ht : T (x k)
    · exact ⟨k, ht⟩
    · have := (h k ha ht).2
      omega
  | succ r ih =>
    intro k hr ha
    by_cases ht : T (x k)
    · exact ⟨k, ht⟩
    · have h2 := h k ha ht
      exact ih (k + 1) (by omega) h2.1
theorem pg_per {x : Nat → Nat} {m : Nat} (h : ∀ n, x (n + m) = x n) : ∀ t n, x (n + m * t) = x n := by
  intro t
  induction t with
  | zero => intro n; rfl
  | succ t ih => intro n; rw [Nat.mul_succ, ← Nat.add_assoc, h, ih]
/-- the rest is won whole by i: then S is -/
theorem pg_z1 {O C F G : Nat → Nat} {i d : Nat} {S T A : Nat → Prop} (hS : ∀ p, S p → S (F p) ∨ S (G p)) (hd : d % 2 = i)
    (hC : ∀ p, S p → C p ≤ d) (hT : ∀ p, T p → C p = d) (hA : pg_Attr O F G i S T A)
    (hR : pg_Won O C F G i (fun p => S p ∧ ¬ A p) (fun p => S p ∧ ¬ A p)) : pg_Won O C F G i S S := by
  obtain ⟨hTA, hAS, _, _, rk, hrk⟩ := hA
  obtain ⟨s', hs', hst', _, hnb'⟩ := hR
  have ch : ∀ p, ∃ q, (q = F p ∨ q = G p) ∧ (S p → S q) ∧ (A p → ¬ T p → O p = i → A q ∧ rk q < rk p) ∧
      (S p → ¬ A p → O p = i → q = s' p) := by
    intro p
    by_cases hp : S p
    · have any : ∃ q, (q = F p ∨ q = G p) ∧ S q := by
        rcases hS p hp with h | h
        · exact ⟨F p, Or.inl rfl, h⟩
        · exact ⟨G p, Or.inr rfl, h⟩
      obtain ⟨q0, hq0, hsq0⟩ := any
      by_cases ha : A p
      · by_cases hti : ¬ T p ∧ O p = i
        · rcases hrk p ha with h | ⟨_, q, hq, hqa, hl⟩ | ⟨h, _⟩
          · exact absurd h hti.1
          · exact ⟨q, hq, fun _ => hAS q hqa, fun _ _ _ => ⟨hqa, hl⟩, fun _ h => absurd ha h⟩
          · exact absurd hti.2 h
        · exact ⟨q0, hq0, fun _ => hsq0, fun _ a b => absurd ⟨a, b⟩ hti, fun _ h => absurd ha h⟩
      · by_cases ho : O p = i
        · exact ⟨s' p, hs' p, fun _ => (hst' p ⟨hp, ha⟩ ho).1, fun h => absurd h ha, fun _ _ _ => rfl⟩
        · exact ⟨q0, hq0, fun _ => hsq0, fun h => absurd h ha, fun _ _ h => absurd h ho⟩
    · exact ⟨F p, Or.inl rfl, fun h => absurd h hp, fun h => absurd (hAS p h) hp, fun h => absurd h hp⟩
  obtain ⟨s, hs⟩ := Classical.axiomOfChoice ch
  refine ⟨s, fun p => (hs p).1, fun p hp _ => (hs p).2.1 hp, fun p q _ _ _ h => h, ?_⟩
  intro x hx he m hm hper n hn
  by_cases hall : ∀ k, ¬ A (x k)
  · exact hnb' x (fun k => ⟨hx k, hall k⟩)
      (fun k => ⟨fun ho => ((he k).1 ho).trans ((hs (x k)).2.2.2 (hx k) (hall k) ho), (he k).2⟩) m hm hper n hn
  · obtain ⟨k, hk⟩ := Classical.not_forall.mp hall
    have hk := Classical.not_not.mp hk
    have stp : ∀ k, A (x k) → ¬ T (x k) → A (x (k + 1)) ∧ rk (x (k + 1)) < rk (x k) := by
      intro k ha hnt
      rcases hrk (x k) ha with h | ⟨ho, _⟩ | ⟨ho, h⟩
      · exact absurd h hnt
      · have h3 := (hs (x k)).2.2.1 ha hnt ho
        rw [← (he k).1 ho] at h3
        exact h3
      · exact h (x (k + 1)) ((he k).2 ho) (hx (k + 1))
    obtain ⟨t, ht⟩ := pg_hit x A T rk stp _ k (Nat.le_refl _) hk
    refine ⟨t, ?_⟩
    have e1 := hT _ ht
    have e2 := hC _ (hx n)
    omega
/-- the other player j wins L in the rest: it is given away with B, and Q = S without B is solved -/
theorem pg_z2 {O C F G : Nat → Nat} {i j : Nat} {S T A L B Wi Wj : Nat → Prop} (hij : i ≠ j) (hO : ∀ p, S p → O p = i ∨ O p = j)
    (hA : pg_Attr O F G i S T A) (hL : ∀ p, L p → S p ∧ ¬ A p) (hwL : pg_Won O C F G j (fun p => S p ∧ ¬ A p) L)
    (hB : pg_Attr O F G j S L B) (hWi : ∀ p, Wi p → S p ∧ ¬ B p) (hWj : ∀ p, Wj p → S p ∧ ¬ B p)
    (hwi : pg_Won O C F G i (fun p => S p ∧ ¬ B p) Wi) (hwj : pg_Won O C F G j (fun p => S p ∧ ¬ B p) Wj) :
    pg_Won O C F G i S Wi ∧ pg_Won O C F G j S (fun p => Wj p ∨ B p) := by
  obtain ⟨hLB, hBS, hB1, hB2, rk, hrk⟩ := hB
  constructor
  · obtain ⟨s, hs, hst, hcl, hnb⟩ := hwi
    refine ⟨s, hs, hst, ?_, hnb⟩
    intro p q hp ho hq hSq
    have hoj : O p = j := (hO p (hWi p hp).1).resolve_left ho
    exact hcl p q hp ho hq ⟨hSq, fun hb => (hWi p hp).2 (hB1 p q (hWi p hp).1 hoj hq hSq hb)⟩
  · obtain ⟨s1, hs1, hst1, hcl1, hnb1⟩ := hwL
    obtain ⟨s2, hs2, hst2, hcl2, hnb2⟩ := hwj
    have ch : ∀ p, ∃ q, (q = F p ∨ q = G p) ∧ (Wj p → q = s2 p) ∧ (L p → q = s1 p) ∧
        (B p → ¬ L p → O p = j → B q ∧ rk q < rk p) := by
      intro p
      by_cases hw : Wj p
      · have hnb : ¬ B p := (hWj p hw).2
        exact ⟨s2 p, hs2 p, fun _ => rfl, fun h => absurd (hLB p h) hnb, fun h => absurd h hnb⟩
      · by_cases hl : L p
        · exact ⟨s1 p, hs1 p, fun h => absurd h hw, fun _ => rfl, fun _ h => absurd hl h⟩
        · by_cases hbo : B p ∧ O p = j
          · rcases hrk p hbo.1 with h | ⟨_, q, hq, hqa, hlt⟩ | ⟨h, _⟩
            · exact absurd h hl
            · exact ⟨q, hq, fun h => absurd h hw, fun h => absurd h hl, fun _ _ _ => ⟨hqa, hlt⟩⟩
            · exact absurd hbo.2 h
          · exact ⟨F p, Or.inl rfl, fun h => absurd h hw, fun h => absurd h hl, fun a _ b => absurd ⟨a, b⟩ hbo⟩
    obtain ⟨s, hs⟩ := Classical.axiomOfChoice ch
    have hWS : ∀ p, (Wj p ∨ B p) → S p := fun p h => h.elim (fun h => (hWj p h).1) (hBS p)
    have clL : ∀ p q, L p → O p ≠ j → (q = F p ∨ q = G p) → S q → L q := by
      intro p q hp ho hq hSq
      have hpS := hL p hp
      have hoi : O p = i := (hO p hpS.1).resolve_right ho
      exact hcl1 p q hp ho hq ⟨hSq, fun ha => hpS.2 (hA.2.2.1 p q hpS.1 hoi hq hSq ha)⟩
    refine ⟨s, fun p => (hs p).1, ?_, ?_, ?_⟩
    · intro p hp ho
      rcases hp with hp | hp
      · rw [(hs p).2.1 hp]; exact Or.inl (hst2 p hp ho)
      · by_cases hl : L p
        · rw [(hs p).2.2.1 hl]; exact Or.inr (hLB _ (hst1 p hl ho))
        · exact Or.inr ((hs p).2.2.2 hp hl ho).1
    · intro p q hp ho hq hSq
      rcases hp with hp | hp
      · by_cases hb : B q
        · exact Or.inr hb
        · exact Or.inl (hcl2 p q hp ho hq ⟨hSq, hb⟩)
      · by_cases hl : L p
        · exact Or.inr (hLB q (clL p q hl ho hq hSq))
        · rcases hrk p hp with h | ⟨h, _⟩ | ⟨_, h⟩
          · exact absurd h hl
          · exact absurd h ho
          · exact Or.inr (h q hq hSq).1
    · intro x hx he m hm hper n hn
      by_cases hall : ∀ k, ¬ B (x k)
      · have hw : ∀ k, Wj (x k) := fun k => (hx k).resolve_right (hall k)
        exact hnb2 x hw (fun k => ⟨fun ho => ((he k).1 ho).trans ((hs (x k)).2.1 (hw k)), (he k).2⟩) m hm hper n hn
      · obtain ⟨k, hk⟩ := Classical.not_forall.mp hall
        have hk := Classical.not_not.mp hk
        have stp : ∀ k, B (x k) → ¬ L (x k) → B (x (k + 1)) ∧ rk (x (k + 1)) < rk (x k) := by
          intro k ha hnt
          rcases hrk (x k) ha with h | ⟨ho, _⟩ | ⟨ho, h⟩
          · exact absurd h hnt
          · have h3 := (hs (x k)).2.2.2 ha hnt ho
            rw [← (he k).1 ho] at h3
            exact h3
          · exact h (x (k + 1)) ((he k).2 ho) (hWS _ (hx (k + 1)))
        obtain ⟨t, ht⟩ := pg_hit x B L rk stp _ k (Nat.le_refl _) hk
        have one : ∀ k, L (x k) → L (x (k + 1)) := by
          intro k h
          by_cases ho : O (x k) = j
          · have e : x (k + 1) = s1 (x k) := ((he k).1 ho).trans ((hs (x k)).2.2.1 h)
            rw [e]; exact hst1 _ h ho
          · exact clL _ _ h ho ((he k).2 ho) (hWS _ (hx (k + 1)))
        have fwd : ∀ a, L (x (t + a)) := by
          intro a
          induction a with
          | zero => exact ht
          | succ a ih => exact one _ ih
        have all : ∀ k, L (x k) := by
          intro k
          have e := pg_per hper t k
          rw [← e]
          have h1 : t ≤ k + m * t := by
            have : 1 * t ≤ m * t := Nat.mul_le_mul_right t hm
            omega
          obtain ⟨a, ha⟩ := Nat.le.dest h1
          rw [← ha]
          exact fwd a
        exact hnb1 x all (fun k => ⟨fun ho => ((he k).1 ho).trans ((hs (x k)).2.2.1 (all k)), (he k).2⟩) m hm hper n hn
end
section
/-! plans judged by circles: Bad and Win by the transitive closure, and that a region won by plays is won so -/
def pg_Ec (O C F G : Nat → Nat) (i : Nat) (s : Nat → Nat) (c : Nat) (p q : Nat) : Prop :=
  p < 8 ∧ C p ≤ c ∧ C q ≤ c ∧ pg_E O F G i s p q
def pg_Bad (O C F G : Nat → Nat) (i : Nat) (s : Nat → Nat) (q : Nat) : Prop :=
  C q % 2 ≠ i ∧ Relation.TransGen (pg_Ec O C F G i s (C q)) q q
def pg_Win (O C F G : Nat → Nat) (i : Nat) (s : Nat → Nat) (p : Nat) : Prop :=
  ¬ pg_Bad O C F G i s p ∧ ∀ q, Relation.TransGen (pg_Ec O C F G i s 5) p q → ¬ pg_Bad O C F G i s q
/-- the plan of a choice at each position -/
def pg_ch (F G : Nat → Nat) (h : Nat → Bool) (p : Nat) : Nat := if h p = true then G p else F p
theorem pg_ch_mv (F G : Nat → Nat) (h : Nat → Bool) (p : Nat) : pg_ch F G h p = F p ∨ pg_ch F G h p = G p := by
  unfold pg_ch
  by_cases e : h p = true
  · rw [if_pos e]; exact Or.inr rfl
  · rw [if_neg e]; exact Or.inl rfl
theorem pg_seq {R : Nat → Nat → Prop} {p q : Nat} (h : Relation.TransGen R p q) :
    ∃ (m : Nat) (x : Nat → Nat), 0 < m ∧ x 0 = p ∧ x m = q ∧ ∀ n, n < m → R (x n) (x (n + 1)) := by
  induction h with
  | single e =>
    rename_i b
    refine ⟨1, fun n => if n = 0 then p else b, by omega, rfl, rfl, ?_⟩
    intro n hn
    have e0 : n = 0 := by omega
    subst e0
    exact e
  | tail _ e ih =>
    rename_i b c _
    obtain ⟨m, x, hm, h0, hq, hs⟩ := ih
    refine ⟨m + 1, fun n => if n ≤ m then x n else c, by omega, ?_, ?_, ?_⟩
    · show (if 0 ≤ m then x 0 else c) = p
      rw [if_pos (by omega)]; exact h0
    · show (if m + 1 ≤ m then x (m + 1) else c) = c
      rw [if_neg (by omega)]
    · intro n hn
      show R (if n ≤ m then x n else c) (if n + 1 ≤ m then x (n + 1) else c)
      by_cases h1 : n < m
      · rw [if_pos (by omega), if_pos (by omega)]; exact hs n h1
      · have e1 : n = m := by omega
        subst e1
        rw [if_pos (by omega), if_neg (by omega), hq]
        exact e
/-- a circle is an endless play that repeats itself -/
theorem pg_cyc {R : Nat → Nat → Prop} {p : Nat} (h : Relation.TransGen R p p) :
    ∃ (m : Nat) (y : Nat → Nat), 0 < m ∧ y 0 = p ∧ (∀ n, y (n + m) = y n) ∧ ∀ n, R (y n) (y (n + 1)) := by
  obtain ⟨m, x, hm, h0, hq, hs⟩ := pg_seq h
  refine ⟨m, fun n => x (n % m), hm, ?_, ?_, ?_⟩
  · show x (0 % m) = p
    rw [Nat.zero_mod]; exact h0
  · intro n
    show x ((n + m) % m) = x (n % m)
    rw [Nat.add_mod_right]
  · intro n
    show R (x (n % m)) (x ((n + 1) % m))
    have hl := Nat.mod_lt n hm
    have e : (n + 1) % m = (n % m + 1) % m := (Nat.mod_add_mod n m 1).symm
    have hs1 := hs _ hl
    by_cases h1 : n % m + 1 < m
    · rw [e, Nat.mod_eq_of_lt h1]; exact hs1
    · have h2 : n % m + 1 = m := by omega
      rw [e, h2, Nat.mod_self, h0]
      rw [h2, hq] at hs1
      exact hs1
theorem pg_chain {R : Nat → Nat → Prop} {x : Nat → Nat} (h : ∀ n, R (x n) (x (n + 1))) (a : Nat) :
    ∀ k, Relation.TransGen R (x a) (x (a + k + 1)) := by
  intro k
  induction k with
  | zero => exact Relation.TransGen.single (h a)
  | succ k ih => exact Relation.TransGen.tail ih (h (a + k + 1))
theorem pg_tgW {R : Nat → Nat → Prop} {W : Nat → Prop} (h : ∀ p q, W p → R p q → W q) {p q : Nat} (hp : W p)
    (t : Relation.TransGen R p q) : W q := by
  induction t with
  | single e => exact h _ _ hp e
  | tail _ e ih => exact h _ _ ih e
/-- one plan wins from the whole region -/
theorem pg_win_of {O C F G : Nat → Nat} {i : Nat} {W : Nat → Prop} (hF : ∀ p, p < 8 → F p < 8) (hG : ∀ p, p < 8 → G p < 8)
    (hW8 : ∀ p, W p → p < 8) (hw : pg_Won O C F G i (fun p => p < 8) W) :
    ∃ s : Nat → Nat, (∀ p, s p = F p ∨ s p = G p) ∧ ∀ p, W p → pg_Win O C F G i s p := by
  obtain ⟨s, hs, hst, hcl, hnb⟩ := hw
  refine ⟨s, hs, ?_⟩
  have cl : ∀ p q, W p → pg_E O F G i s p q → W q := by
    intro p q hp he
    by_cases ho : O p = i
    · rw [he.1 ho]; exact hst p hp ho
    · have hm := he.2 ho
      refine hcl p q hp ho hm ?_
      show q < 8
      rcases hm with e | e
      · rw [e]; exact hF p (hW8 p hp)
      · rw [e]; exact hG p (hW8 p hp)
  have nob : ∀ q, W q → ¬ pg_Bad O C F G i s q := by
    intro q hq hb
    obtain ⟨m, y, hm, h0, hper, hy⟩ := pg_cyc hb.2
    have hyW : ∀ n, W (y n) := by
      intro n
      induction n with
      | zero => rw [h0]; exact hq
      | succ n ih => exact cl _ _ ih (hy n).2.2.2
    obtain ⟨k, hk⟩ := hnb y hyW (fun n => (hy n).2.2.2) m hm hper 0 (by rw [h0]; exact hb.1)
    have h2 := (hy k).2.1
    rw [h0] at hk
    omega
  intro p hp
  exact ⟨nob p hp, fun q t => nob q (pg_tgW (fun a b ha e => cl a b ha e.2.2.2) hp t)⟩
theorem pg_pig : ∀ (N : Nat) (f : Nat → Nat), (∀ n, n ≤ N → f n < N) → ∃ a b, a < b ∧ b ≤ N ∧ f a = f b := by
  intro N
  induction N with
  | zero => intro f h; exact absurd (h 0 (Nat.le_refl 0)) (Nat.not_lt_zero _)
  | succ N ih =>
    intro f h
    by_cases e : ∃ a, a ≤ N ∧ f a = f (N + 1)
    · obtain ⟨a, ha, hv⟩ := e
      exact ⟨a, N + 1, by omega, Nat.le_refl _, hv⟩
    · have hne : ∀ a, a ≤ N → f a ≠ f (N + 1) := fun a ha z => e ⟨a, ha, z⟩
      have hv := h (N + 1) (Nat.le_refl _)
      obtain ⟨a, b, hab, hb, hf⟩ := ih (fun n => if f (N + 1) < f n then f n - 1 else f n) (by
        intro n hn
        show (if f (N + 1) < f n then f n - 1 else f n) < N
        have h1 := hne n hn
        have h2 := h n (by omega)
        by_cases h3 : f (N + 1) < f n
        · rw [if_pos h3]; omega
        · rw [if_neg h3]; omega)
      refine ⟨a, b, hab, by omega, ?_⟩
      have h1 := hne a (by omega)
      have h2 := hne b hb
      have hf' : (if f (N + 1) < f a then f a - 1 else f a) = (if f (N + 1) < f b then f b - 1 else f b) := hf
      by_cases h3 : f (N + 1) < f a
      · rw [if_pos h3] at hf'
        by_cases h4 : f (N + 1) < f b
        · rw [if_pos h4] at hf'; omega
        · rw [if_neg h4] at hf'; omega
      · rw [if_neg h3] at hf'
        by_cases h4 : f (N + 1) < f b
        · rw [if_pos h4] at hf'; omega
        · rw [if_neg h4] at hf'; exact hf'
theorem pg_max (f : Nat → Nat) : ∀ M, (∀ n, f n ≤ M) → ∃ n0, ∀ k, f k ≤ f n0 := by
  intro M
  induction M with
  | zero => intro h; exact ⟨0, fun k => Nat.le_trans (h k) (Nat.zero_le _)⟩
  | succ M ih =>
    intro h
    by_cases e : ∃ n, f n = M + 1
    · obtain ⟨n, hn⟩ := e
      exact ⟨n, fun k => by rw [hn]; exact h k⟩
    · refine ih (fun n => ?_)
      have h1 := h n
      have h2 : f n ≠ M + 1 := fun z => e ⟨n, z⟩
      omega
def pg_it (f : Nat → Nat) (p : Nat) : Nat → Nat
  | 0 => p
  | n + 1 => f (pg_it f p n)
/-- no plan of i wins from a position of a region that j has won -/
theorem pg_nowin {O C F G : Nat → Nat} {i j : Nat} {W : Nat → Prop} (hij : i ≠ j) (hi : i < 2) (hj : j < 2)
    (hO : ∀ p, p < 8 → O p = i ∨ O p = j) (hC : ∀ p, p < 8 → C p ≤ 5) (hF : ∀ p, p < 8 → F p < 8) (hG : ∀ p, p < 8 → G p < 8)
    (hW8 : ∀ p, W p → p < 8) (hw : pg_Won O C F G j (fun p => p < 8) W) {p : Nat} (hp : W p) {s : Nat → Nat}
    (hs : ∀ p, s p = F p ∨ s p = G p) (hwin : pg_Win O C F G i s p) : False := by
  obtain ⟨s1, hs1, hst, hcl, hnb⟩ := hw
  obtain ⟨f, hf⟩ := Classical.axiomOfChoice (r := fun q r : Nat => (O q = i → r = s q) ∧ (O q ≠ i → r = s1 q)) (fun q => by
    by_cases ho : O q = i
    · exact ⟨s q, fun _ => rfl, fun h => absurd ho h⟩
    · exact ⟨s1 q, fun h => absurd h ho, fun _ => rfl⟩)
  have hfm : ∀ q, f q = F q ∨ f q = G q := by
    intro q
    by_cases ho : O q = i
    · rw [(hf q).1 ho]; exact hs q
    · rw [(hf q).2 ho]; exact hs1 q
  have hm8 : ∀ q, q < 8 → f q < 8 := by
    intro q hq
    rcases hfm q with e | e
    · rw [e]; exact hF q hq
    · rw [e]; exact hG q hq
  have hxW : ∀ n, W (pg_it f p n) := by
    intro n
    induction n with
    | zero => exact hp
    | succ n ih =>
      show W (f (pg_it f p n))
      by_cases ho : O (pg_it f p n) = j
      · have h1 : O (pg_it f p n) ≠ i := fun z => hij (z.symm.trans ho)
        rw [(hf _).2 h1]; exact hst _ ih ho
      · exact hcl _ _ ih ho (hfm _) (hm8 _ (hW8 _ ih))
  have hx8 : ∀ n, pg_it f p n < 8 := fun n => hW8 _ (hxW n)
  have hEj : ∀ n, pg_E O F G j s1 (pg_it f p n) (pg_it f p (n + 1)) := fun n =>
    ⟨fun ho => (hf _).2 (fun z => hij (z.symm.trans ho)), fun _ => hfm _⟩
  have hEi : ∀ n, pg_E O F G i s (pg_it f p n) (pg_it f p (n + 1)) := fun n => ⟨fun ho => (hf _).1 ho, fun _ => hfm _⟩
  obtain ⟨a, b, hab, _, hv⟩ := pg_pig 8 (pg_it f p) (fun n _ => hx8 n)
  have hsh : ∀ n, pg_it f p (b + n) = pg_it f p (a + n) := by
    intro n
    induction n with
    | zero => exact hv.symm
    | succ n ih =>
      show f (pg_it f p (b + n)) = f (pg_it f p (a + n))
      rw [ih]
  have hper : ∀ n, pg_it f p (a + (n + (b - a))) = pg_it f p (a + n) := by
    intro n
    have e : a + (n + (b - a)) = b + n := by omega
    rw [e]; exact hsh n
  obtain ⟨n0, hn0⟩ := pg_max (fun n => C (pg_it f p (a + n))) 5 (fun n => hC _ (hx8 _))
  have par : C (pg_it f p (a + n0)) % 2 ≠ i := by
    intro z
    obtain ⟨k, hk⟩ := hnb (fun n => pg_it f p (a + n)) (fun n => hxW _) (fun n => hEj (a + n)) (b - a) (by omega) hper n0
      (by rw [z]; exact hij)
    have := hn0 k
    omega
  have hbad : pg_Bad O C F G i s (pg_it f p (a + n0)) := by
    refine ⟨par, ?_⟩
    have h1 := pg_chain (R := pg_Ec O C F G i s (C (pg_it f p (a + n0)))) (x := fun n => pg_it f p (a + n))
      (fun n => ⟨hx8 _, hn0 n, hn0 (n + 1), hEi (a + n)⟩) n0 (b - a - 1)
    have e : n0 + (b - a - 1) + 1 = n0 + (b - a) := by omega
    rw [e] at h1
    have h2 : pg_it f p (a + (n0 + (b - a))) = pg_it f p (a + n0) := hper n0
    have h3 : Relation.TransGen (pg_Ec O C F G i s (C (pg_it f p (a + n0)))) (pg_it f p (a + n0)) (pg_it f p (a + (n0 + (b - a)))) := h1
    rw [h2] at h3
    exact h3
  cases hk : a + n0 with
  | zero =>
    rw [hk] at hbad
    exact hwin.1 hbad
  | succ k =>
    rw [hk] at hbad
    refine hwin.2 _ ?_ hbad
    have h1 := pg_chain (R := pg_Ec O C F G i s 5) (x := pg_it f p) (fun n => ⟨hx8 _, hC _ (hx8 _), hC _ (hx8 _), hEi n⟩) 0 k
    rw [Nat.zero_add] at h1
    exact h1
/-- only the choices at the player's own positions matter -/
theorem pg_Ec_cg {O C F G : Nat → Nat} {i : Nat} {s s' : Nat → Nat} (h : ∀ p, p < 8 → O p = i → s p = s' p) (c : Nat) :
    pg_Ec O C F G i s c = pg_Ec O C F G i s' c := by
  funext p q
  apply propext
  constructor
  · rintro ⟨h8, a, b, e⟩
    exact ⟨h8, a, b, fun ho => (e.1 ho).trans (h p h8 ho), e.2⟩
  · rintro ⟨h8, a, b, e⟩
    exact ⟨h8, a, b, fun ho => (e.1 ho).trans (h p h8 ho).symm, e.2⟩
theorem pg_Win_cg {O C F G : Nat → Nat} {i : Nat} {s s' : Nat → Nat} (h : ∀ p, p < 8 → O p = i → s p = s' p) (p : Nat) :
    pg_Win O C F G i s p ↔ pg_Win O C F G i s' p := by
  unfold pg_Win pg_Bad
  simp only [pg_Ec_cg h]
end
section
/-! masks: Int32 as sets of positions below 8 -/
theorem mk_one : ∀ i, i < 32 → bt 1 i = decide (i = 0) := by decide +kernel
theorem mk_and1 (y : Int32) : y &&& 1 = if bt y 0 = true then 1 else 0 := by
  apply b_ext
  intro i hi
  rw [b_and, mk_one i hi]
  cases e : bt y 0
  · rw [if_neg (by decide), b_0]
    by_cases h : i = 0
    · subst h; rw [e]; rfl
    · rw [decide_eq_false h, Bool.and_false]
  · rw [if_pos rfl, mk_one i hi]
    by_cases h : i = 0
    · subst h; rw [e]; rfl
    · rw [decide_eq_false h, Bool.and_false]
theorem mk_shr1 {n : Nat} (hn : n < 32) (x : Int32) : (x >>> (nI n &&& 31)) &&& 1 = if bt x n = true then 1 else 0 := by
  rw [mk_and1, b_sshr n hn x (i := 0) (by omega), if_pos (show n + 0 < 32 by omega), Nat.add_zero]
theorem mk_t1 {n : Nat} (hn : n < 32) (x : Int32) : (x >>> (nI n &&& 31)) &&& 1 = 1 ↔ bt x n = true := by
  rw [mk_shr1 hn]
  cases bt x n
  · exact ⟨fun h => absurd h (by decide), fun h => absurd h (by decide)⟩
  · exact ⟨fun _ => rfl, fun _ => rfl⟩
theorem mk_t0 {n : Nat} (hn : n < 32) (x : Int32) : (x >>> (nI n &&& 31)) &&& 1 = 0 ↔ bt x n = false := by
  rw [mk_shr1 hn]
  cases bt x n
  · exact ⟨fun _ => rfl, fun _ => rfl⟩
  · exact ⟨fun h => absurd h (by decide), fun h => absurd h (by decide)⟩
theorem mk_bit {n : Nat} (hn : n < 32) (i : Nat) : bt ((1 : Int32) <<< (nI n &&& 31)) i = decide (i = n) := by
  rcases Nat.lt_or_ge i 32 with h | h
  · rw [b_shl n hn 1 h]
    by_cases e : n ≤ i
    · rw [mk_one (i - n) (by omega), decide_eq_true e, Bool.true_and]
      by_cases e2 : i = n
      · subst e2; rw [decide_eq_true (show i - i = 0 by omega), decide_eq_true rfl]
      · rw [decide_eq_false (show ¬ i - n = 0 by omega), decide_eq_false e2]
    · rw [decide_eq_false e, Bool.false_and, decide_eq_false (show ¬ i = n by omega)]
  · rw [b_big h, decide_eq_false (by omega)]
theorem mk_not (x : Int32) {i : Nat} (hi : i < 32) : bt (x ^^^ (-1)) i = !bt x i := by
  rw [b_xor, b_m1 i hi, Bool.xor_true]
/-- no bit at 8 or beyond -/
def mk_sm (x : Int32) : Prop := ∀ q, 8 ≤ q → bt x q = false
/-- the set of a mask -/
def mk_st (x : Int32) (p : Nat) : Prop := p < 8 ∧ bt x p = true
theorem mk_sm_or {x y : Int32} (hx : mk_sm x) (hy : mk_sm y) : mk_sm (x ||| y) := fun q hq => by rw [b_or, hx q hq, hy q hq]; rfl
theorem mk_sm_and {x : Int32} (hx : mk_sm x) (y : Int32) : mk_sm (x &&& y) := fun q hq => by rw [b_and, hx q hq]; rfl
theorem mk_sm_and2 (x : Int32) {y : Int32} (hy : mk_sm y) : mk_sm (x &&& y) := fun q hq => by rw [b_and, hy q hq, Bool.and_false]
theorem mk_sm_bit {n : Nat} (hn : n < 8) : mk_sm ((1 : Int32) <<< (nI n &&& 31)) := fun q hq => by
  rw [mk_bit (by omega), decide_eq_false (by omega)]
theorem mk_sm_0 : mk_sm 0 := fun q _ => b_0 q
theorem mk_sm_255 : mk_sm 255 := fun q hq => by rw [b_255, decide_eq_false (by omega)]
theorem mk_ext {x y : Int32} (hx : mk_sm x) (hy : mk_sm y) (h : ∀ p, p < 8 → bt x p = bt y p) : x = y := by
  apply b_ext
  intro i _
  rcases Nat.lt_or_ge i 8 with h8 | h8
  · exact h i h8
  · rw [hx i h8, hy i h8]
theorem mk_beq {a b : Bool} (h : a = true ↔ b = true) : a = b := by
  cases a
  · cases b
    · rfl
    · exact absurd (h.mpr rfl) (by decide)
  · exact (h.mp rfl).symm
theorem mk_ext' {x y : Int32} (hx : mk_sm x) (hy : mk_sm y) (h : ∀ p, p < 8 → (bt x p = true ↔ bt y p = true)) : x = y :=
  mk_ext hx hy (fun p hp => mk_beq (h p hp))
theorem mk_nt {b : Bool} (h : ¬ b = true) : b = false := by
  cases b
  · rfl
  · exact absurd rfl h
theorem mk_eq0 {x : Int32} (hx : mk_sm x) : x = 0 ↔ ∀ p, ¬ mk_st x p := by
  constructor
  · intro e p hp
    rw [e] at hp
    have h2 := hp.2
    rw [b_0] at h2
    exact absurd h2 (by decide)
  · intro h
    refine mk_ext hx mk_sm_0 (fun p hp => ?_)
    rw [b_0]
    exact mk_nt (fun z => h p ⟨hp, z⟩)
theorem mk_st_diff (x y : Int32) : mk_st (x &&& (y ^^^ (-1))) = fun p => mk_st x p ∧ ¬ mk_st y p := by
  funext p
  apply propext
  constructor
  · rintro ⟨h8, h⟩
    rw [b_and, mk_not y (by omega)] at h
    have h1 := (Bool.and_eq_true_iff.mp h)
    refine ⟨⟨h8, h1.1⟩, fun z => ?_⟩
    rw [z.2] at h1
    exact absurd h1.2 (by decide)
  · rintro ⟨⟨h8, h⟩, hn⟩
    refine ⟨h8, ?_⟩
    rw [b_and, mk_not y (by omega), h, mk_nt (fun z => hn ⟨h8, z⟩)]
    rfl
theorem mk_st_or (x y : Int32) : mk_st (x ||| y) = fun p => mk_st x p ∨ mk_st y p := by
  funext p
  apply propext
  constructor
  · rintro ⟨h8, h⟩
    rw [b_or] at h
    rcases Bool.or_eq_true_iff.mp h with h | h
    · exact Or.inl ⟨h8, h⟩
    · exact Or.inr ⟨h8, h⟩
  · rintro (⟨h8, h⟩ | ⟨h8, h⟩)
    · exact ⟨h8, by rw [b_or, h]; rfl⟩
    · exact ⟨h8, by rw [b_or, h, Bool.or_true]⟩
theorem mk_st_255 : mk_st 255 = fun p => p < 8 := by
  funext p
  apply propext
  exact ⟨fun h => h.1, fun h => ⟨h, by rw [b_255, decide_eq_true h]⟩⟩
theorem mk_orbit (x : Int32) {n : Nat} (hn : n < 32) (q : Nat) :
    bt (x ||| ((1 : Int32) <<< (nI n &&& 31))) q = true ↔ bt x q = true ∨ q = n := by
  rw [b_or, mk_bit hn, Bool.or_eq_true_iff, decide_eq_true_eq]
/-- two moves against a mask -/
theorem mk_mv {a b : Nat} (ha : a < 32) (hb : b < 32) (q : Nat) :
    bt (((1 : Int32) <<< (nI a &&& 31)) ||| ((1 : Int32) <<< (nI b &&& 31))) q = true ↔ q = a ∨ q = b := by
  rw [b_or, mk_bit ha, mk_bit hb, Bool.or_eq_true_iff, decide_eq_true_eq, decide_eq_true_eq]
/-! counting -/
def mk_cn (f : Nat → Bool) : Nat → Nat
  | 0 => 0
  | n + 1 => mk_cn f n + (if f n = true then 1 else 0)
theorem mk_cn_le (f : Nat → Bool) : ∀ n, mk_cn f n ≤ n := by
  intro n
  induction n with
  | zero => exact Nat.le_refl _
  | succ n ih =>
    show mk_cn f n + (if f n = true then 1 else 0) ≤ n + 1
    by_cases h : f n = true
    · rw [if_pos h]; omega
    · rw [if_neg h]; omega
theorem mk_cn_mono {f g : Nat → Bool} : ∀ n, (∀ p, p < n → f p = true → g p = true) → mk_cn f n ≤ mk_cn g n := by
  intro n
  induction n with
  | zero => intro _; exact Nat.le_refl _
  | succ n ih =>
    intro h
    show mk_cn f n + (if f n = true then 1 else 0) ≤ mk_cn g n + (if g n = true then 1 else 0)
    have h1 := ih (fun p hp => h p (by omega))
    by_cases h2 : f n = true
    · rw [if_pos h2, if_pos (h n (by omega) h2)]; omega
    · rw [if_neg h2]; omega
theorem mk_cn_lt {f g : Nat → Bool} : ∀ n, (∀ p, p < n → f p = true → g p = true) → ∀ p, p < n → ¬ f p = true → g p = true → mk_cn f n < mk_cn g n := by
  intro n
  induction n with
  | zero => intro _ p hp; omega
  | succ n ih =>
    intro h p hp hf hg
    show mk_cn f n + (if f n = true then 1 else 0) < mk_cn g n + (if g n = true then 1 else 0)
    by_cases e : p = n
    · subst e
      rw [if_neg hf, if_pos hg]
      have h1 := mk_cn_mono p (fun q hq => h q (by omega))
      omega
    · have h1 := ih (fun q hq => h q (by omega)) p (by omega) hf hg
      by_cases h2 : f n = true
      · rw [if_pos h2, if_pos (h n (by omega) h2)]; omega
      · rw [if_neg h2]; omega
theorem mk_cn_z {f : Nat → Bool} : ∀ n, (∀ p, p < n → ¬ f p = true) → mk_cn f n = 0 := by
  intro n
  induction n with
  | zero => intro _; rfl
  | succ n ih =>
    intro h
    show mk_cn f n + (if f n = true then 1 else 0) = 0
    rw [if_neg (h n (by omega)), ih (fun p hp => h p (by omega))]
theorem mk_cn_p {f : Nat → Bool} {n p : Nat} (hp : p < n) (h : f p = true) : 0 < mk_cn f n := by
  have h1 := mk_cn_lt (f := fun _ => false) (g := f) n (fun _ _ z => absurd z (by decide)) p hp (by decide) h
  omega
/-! a mask for every set -/
theorem mk_nI {n p : Nat} (hp : p < 32) : bt (nI n) p = n.testBit p := by
  show (BitVec.ofNat 32 n).getLsbD p = n.testBit p
  rw [BitVec.getLsbD_ofNat, decide_eq_true hp, Bool.true_and]
theorem mk_sm_nI {n : Nat} (h : n < 256) : mk_sm (nI n) := by
  intro q hq
  rcases Nat.lt_or_ge q 32 with h32 | h32
  · rw [mk_nI h32]
    have h1 : 2 ^ 8 ≤ 2 ^ q := Nat.pow_le_pow_right (by decide) hq
    exact Nat.testBit_lt_two_pow (by omega)
  · exact b_big h32
theorem mk_ex0 (P : Nat → Prop) : ∀ k, ∃ n, n < 2 ^ k ∧ ∀ p, p < k → (n.testBit p = true ↔ P p) := by
  intro k
  induction k with
  | zero => exact ⟨0, by decide, fun p hp => absurd hp (Nat.not_lt_zero _)⟩
  | succ k ih =>
    obtain ⟨n, hn, h⟩ := ih
    have e2 : 2 ^ (k + 1) = 2 ^ k + 2 ^ k := by rw [Nat.pow_succ]; omega
    by_cases hP : P k
    · refine ⟨2 ^ k + n, by omega, fun p hp => ?_⟩
      by_cases e : p = k
      · subst e
        rw [Nat.testBit_two_pow_add_eq, Nat.testBit_lt_two_pow hn]
        exact ⟨fun _ => hP, fun _ => rfl⟩
      · rw [Nat.testBit_two_pow_add_gt (by omega)]
        exact h p (by omega)
    · refine ⟨n, by omega, fun p hp => ?_⟩
      by_cases e : p = k
      · subst e
        rw [Nat.testBit_lt_two_pow hn]
        exact ⟨fun z => absurd z (by decide), fun z => absurd z hP⟩
      · exact h p (by omega)
theorem mk_ex (P : Nat → Prop) : ∃ n, n < 256 ∧ ∀ p, p < 8 → (bt (nI n) p = true ↔ P p) := by
  obtain ⟨n, hn, h⟩ := mk_ex0 P 8
  exact ⟨n, hn, fun p hp => by rw [mk_nI (by omega)]; exact h p hp⟩
/-- the mask of a set -/
noncomputable def mk_of (P : Nat → Prop) : Int32 := nI (Classical.choose (mk_ex P))
theorem mk_of_sm (P : Nat → Prop) : mk_sm (mk_of P) := mk_sm_nI (Classical.choose_spec (mk_ex P)).1
theorem mk_of_bt (P : Nat → Prop) {p : Nat} (hp : p < 8) : bt (mk_of P) p = true ↔ P p := (Classical.choose_spec (mk_ex P)).2 p hp
theorem mk_of_eq {P : Nat → Prop} {x : Int32} (hx : mk_sm x) (h : ∀ p, p < 8 → (bt x p = true ↔ P p)) : x = mk_of P :=
  mk_ext' hx (mk_of_sm P) (fun p hp => (h p hp).trans (mk_of_bt P hp).symm)
/-- 1 or 0 by a proposition -/
noncomputable def mk_b (P : Prop) : Int32 := @ite _ P (Classical.propDecidable P) 1 0
theorem mk_b_t {P : Prop} (h : P) : mk_b P = 1 := if_pos h
theorem mk_b_f {P : Prop} (h : ¬ P) : mk_b P = 0 := if_neg h
theorem mk_b_c {P Q : Prop} (h : P ↔ Q) : mk_b P = mk_b Q := by rw [propext h]
theorem mk_b_1 {P : Prop} : ¬ mk_b P = 0 ↔ P := by
  by_cases h : P
  · rw [mk_b_t h]; exact ⟨fun _ => h, fun _ => by decide⟩
  · rw [mk_b_f h]; exact ⟨fun z => absurd rfl z, fun z => absurd z h⟩
end
section
/-! the pure steps: closing ways (Warshall), forcing by passes, forcing by rounds -/
def gm_ok (O C F G : Nat → Nat) : Prop := ∀ p, p < 8 → O p < 2 ∧ C p ≤ 5 ∧ F p < 8 ∧ G p < 8
/-! ===== closing ways ===== -/
def wa_row (a : Nat → Int32) (k p : Nat) : Int32 := if bt (a p) k = true then a p ||| a k else a p
theorem wa_bt (a : Nat → Int32) (k p q : Nat) :
    bt (wa_row a k p) q = true ↔ bt (a p) q = true ∨ (bt (a p) k = true ∧ bt (a k) q = true) := by
  unfold wa_row
  by_cases h : bt (a p) k = true
  · rw [if_pos h, b_or, Bool.or_eq_true_iff]
    exact ⟨fun z => z.elim Or.inl (fun z => Or.inr ⟨h, z⟩), fun z => z.elim Or.inl (fun z => Or.inr z.2)⟩
  · rw [if_neg h]
    exact ⟨Or.inl, fun z => z.elim id (fun z => absurd z.1 h)⟩
theorem wa_self (a : Nat → Int32) (k : Nat) : wa_row a k k = a k := by
  unfold wa_row
  by_cases h : bt (a k) k = true
  · rw [if_pos h]
    apply b_ext
    intro i _
    rw [b_or, Bool.or_self]
  · rw [if_neg h]
def wa_I (R : Nat → Nat → Prop) (k : Nat) (a : Nat → Int32) : Prop :=
  (∀ p, p < 8 → mk_sm (a p)) ∧ (∀ p q, p < 8 → q < 8 → bt (a p) q = true → Relation.TransGen R p q) ∧
  (∀ p q, p < 8 → q < 8 → R p q → bt (a p) q = true) ∧
  (∀ j, j < k → ∀ p q, p < 8 → q < 8 → bt (a p) j = true → bt (a j) q = true → bt (a p) q = true)
theorem wa_start {R : Nat → Nat → Prop} {a : Nat → Int32} (hs : ∀ p, p < 8 → mk_sm (a p))
    (h : ∀ p q, p < 8 → q < 8 → (bt (a p) q = true ↔ R p q)) : wa_I R 0 a :=
  ⟨hs, fun p q hp hq z => Relation.TransGen.single ((h p q hp hq).mp z), fun p q hp hq z => (h p q hp hq).mpr z, fun j hj => absurd hj (Nat.not_lt_zero _)⟩
theorem wa_step {R : Nat → Nat → Prop} {k : Nat} {a a' : Nat → Int32} (hk : k < 8) (h : wa_I R k a)
    (ha : ∀ p, p < 8 → a' p = wa_row a k p) : wa_I R (k + 1) a' := by
  obtain ⟨hs, h1, h2, h3⟩ := h
  have hb : ∀ p q, p < 8 → (bt (a' p) q = true ↔ bt (a p) q = true ∨ (bt (a p) k = true ∧ bt (a k) q = true)) := by
    intro p q hp
    rw [ha p hp]
    exact wa_bt a k p q
  refine ⟨?_, ?_, ?_, ?_⟩
  · intro p hp q hq
    refine mk_nt (fun z => ?_)
    rcases (hb p q hp).mp z with z | ⟨_, z⟩
    · rw [hs p hp q hq] at z; exact absurd z (by decide)
    · rw [hs k hk q hq] at z; exact absurd z (by decide)
  · intro p q hp hq z
    rcases (hb p q hp).mp z with z | ⟨z1, z2⟩
    · exact h1 p q hp hq z
    · exact (h1 p k hp hk z1).trans (h1 k q hk hq z2)
  · intro p q hp hq z
    exact (hb p q hp).mpr (Or.inl (h2 p q hp hq z))
  · intro j hj p q hp hq z1 z2
    apply (hb p q hp).mpr
    by_cases e : j = k
    · subst e
      have z3 : bt (a p) j = true := ((hb p j hp).mp z1).elim id (fun z => z.1)
      have z4 : bt (a j) q = true := by
        rw [ha j hk, wa_self] at z2
        exact z2
      exact Or.inr ⟨z3, z4⟩
    · have hjk : j < k := by omega
      have hj8 : j < 8 := by omega
      rcases (hb p j hp).mp z1 with y1 | ⟨y1, y2⟩
      · rcases (hb j q hj8).mp z2 with w1 | ⟨w1, w2⟩
        · exact Or.inl (h3 j hjk p q hp hq y1 w1)
        · exact Or.inr ⟨h3 j hjk p k hp hk y1 w1, w2⟩
      · rcases (hb j q hj8).mp z2 with w1 | ⟨w1, w2⟩
        · exact Or.inr ⟨y1, h3 j hjk k q hk hq y2 w1⟩
        · exact Or.inr ⟨y1, w2⟩
theorem wa_end {R : Nat → Nat → Prop} {a : Nat → Int32} (h : wa_I R 8 a) (hR : ∀ p q, R p q → p < 8 ∧ q < 8) {p q : Nat}
    (hp : p < 8) (hq : q < 8) : bt (a p) q = true ↔ Relation.TransGen R p q := by
  obtain ⟨_, h1, h2, h3⟩ := h
  constructor
  · exact h1 p q hp hq
  · intro t
    have H : ∀ r, Relation.TransGen R p r → r < 8 ∧ bt (a p) r = true := by
      intro r t
      induction t with
      | single e => exact ⟨(hR _ _ e).2, h2 _ _ hp (hR _ _ e).2 e⟩
      | tail _ e ih => exact ⟨(hR _ _ e).2, h3 _ ih.1 _ _ hp (hR _ _ e).2 ih.2 (h2 _ _ ih.1 (hR _ _ e).2 e)⟩
    exact (H q t).2
theorem pg_E8 {O C F G : Nat → Nat} (hg : gm_ok O C F G) {i : Nat} {s : Nat → Nat} (hs : ∀ p, s p = F p ∨ s p = G p) {c p q : Nat}
    (h : pg_Ec O C F G i s c p q) : p < 8 ∧ q < 8 := by
  obtain ⟨h8, _, _, e⟩ := h
  obtain ⟨_, _, hF, hG⟩ := hg p h8
  refine ⟨h8, ?_⟩
  have hm : q = F p ∨ q = G p := by
    by_cases ho : O p = i
    · rw [e.1 ho]; exact hs p
    · exact e.2 ho
  rcases hm with e | e
  · rw [e]; exact hF
  · rw [e]; exact hG
/-! ===== forcing by passes ===== -/
def fo_c (O F G : Nat → Nat) (i : Nat) (S B : Nat → Prop) (p : Nat) : Prop :=
  S p ∧ ((O p = i ∧ ∃ q, (q = F p ∨ q = G p) ∧ S q ∧ B q) ∨ (O p ≠ i ∧ ∀ q, (q = F p ∨ q = G p) → S q → B q))
def fo_I (O F G : Nat → Nat) (i : Nat) (S T : Nat → Prop) (k : Nat) (A B : Nat → Prop) : Prop :=
  (∀ p, T p → A p) ∧ (∀ p, A p → S p) ∧
  (∃ rk : Nat → Nat, (∀ p, A p → rk p ≤ k) ∧ ∀ p, A p → T p ∨ (O p = i ∧ ∃ q, (q = F p ∨ q = G p) ∧ A q ∧ rk q < rk p) ∨
    (O p ≠ i ∧ ∀ q, (q = F p ∨ q = G p) → S q → A q ∧ rk q < rk p)) ∧
  (k = 0 ∨ ∀ p, A p ↔ B p ∨ fo_c O F G i S B p)
theorem fo_start {O F G : Nat → Nat} {i : Nat} {S T B : Nat → Prop} (h : ∀ p, T p → S p) : fo_I O F G i S T 0 T B :=
  ⟨fun _ z => z, h, ⟨fun _ => 0, fun _ _ => Nat.le_refl _, fun _ z => Or.inl z⟩, Or.inl rfl⟩
theorem fo_step {O F G : Nat → Nat} {i : Nat} {S T A B A' : Nat → Prop} {k : Nat} (h : fo_I O F G i S T k A B)
    (hA : ∀ p, A' p ↔ A p ∨ fo_c O F G i S A p) : fo_I O F G i S T (k + 1) A' A := by
  obtain ⟨hT, hS, ⟨rk, hr, hk⟩, _⟩ := h
  have up : ∀ p, A p → A' p := fun p z => (hA p).mpr (Or.inl z)
  refine ⟨fun p z => up p (hT p z), fun p z => ((hA p).mp z).elim (hS p) (fun z => z.1), ?_, Or.inr hA⟩
  obtain ⟨rk', hrk'⟩ := Classical.axiomOfChoice (r := fun p v : Nat => (A p → v = rk p) ∧ (¬ A p → v = k + 1)) (fun p => by
    by_cases h : A p
    · exact ⟨rk p, fun _ => rfl, fun z => absurd h z⟩
    · exact ⟨k + 1, fun z => absurd z h, fun _ => rfl⟩)
  refine ⟨rk', ?_, ?_⟩
  · intro p _
    by_cases h : A p
    · rw [(hrk' p).1 h]; exact Nat.le_succ_of_le (hr p h)
    · rw [(hrk' p).2 h]; exact Nat.le_refl _
  · intro p hp
    by_cases h : A p
    · rcases hk p h with z | ⟨ho, q, hq, ha, hl⟩ | ⟨ho, z⟩
      · exact Or.inl z
      · refine Or.inr (Or.inl ⟨ho, q, hq, up q ha, ?_⟩)
        rw [(hrk' p).1 h, (hrk' q).1 ha]; exact hl
      · refine Or.inr (Or.inr ⟨ho, fun q hq hs => ?_⟩)
        obtain ⟨ha, hl⟩ := z q hq hs
        refine ⟨up q ha, ?_⟩
        rw [(hrk' p).1 h, (hrk' q).1 ha]; exact hl
    · rcases (hA p).mp hp with z | ⟨_, ⟨ho, q, hq, _, ha⟩ | ⟨ho, z⟩⟩
      · exact absurd z h
      · refine Or.inr (Or.inl ⟨ho, q, hq, up q ha, ?_⟩)
        rw [(hrk' p).2 h, (hrk' q).1 ha]
        exact Nat.lt_succ_of_le (hr q ha)
      · refine Or.inr (Or.inr ⟨ho, fun q hq hs => ?_⟩)
        have ha := z q hq hs
        refine ⟨up q ha, ?_⟩
        rw [(hrk' p).2 h, (hrk' q).1 ha]
        exact Nat.lt_succ_of_le (hr q ha)
theorem fo_end {O F G : Nat → Nat} {i : Nat} {S T A : Nat → Prop} {k : Nat} (h : fo_I O F G i S T k A A) (hk : k ≠ 0) :
    pg_Attr O F G i S T A := by
  obtain ⟨hT, hS, ⟨rk, _, hr⟩, hc⟩ := h
  have hc := hc.resolve_left hk
  exact ⟨hT, hS, fun p q hp ho hq hs ha => (hc p).mpr (Or.inr ⟨hp, Or.inl ⟨ho, q, hq, hs, ha⟩⟩),
    fun p hp ho z => (hc p).mpr (Or.inr ⟨hp, Or.inr ⟨ho, z⟩⟩), rk, hr⟩
/-! ===== forcing by rounds (the reference's): the least closed set ===== -/
def ro_c (O F G : Nat → Nat) (B : Nat → Prop) (p : Nat) : Prop :=
  (O p = 0 ∧ (B (F p) ∨ B (G p))) ∨ (O p ≠ 0 ∧ B (F p) ∧ B (G p))
def ro_cl (O F G : Nat → Nat) (D : Nat → Prop) : Prop := ∀ p, p < 8 → ro_c O F G D p → D p
/-- A is the least closed set over T -/
def ro_Least (O F G : Nat → Nat) (T A : Nat → Prop) : Prop :=
  (∀ p, T p → A p) ∧ ro_cl O F G A ∧ ∀ D : Nat → Prop, (∀ p, T p → D p) → ro_cl O F G D → ∀ p, A p → D p
theorem ro_uniq {O F G : Nat → Nat} {T A B : Nat → Prop} (hA : ro_Least O F G T A) (hB : ro_Least O F G T B) (p : Nat) : A p ↔ B p :=
  ⟨hA.2.2 B hB.1 hB.2.1 p, hB.2.2 A hA.1 hA.2.1 p⟩
theorem ro_attr {O C F G : Nat → Nat} (hg : gm_ok O C F G) {T A : Nat → Prop} (h : pg_Attr O F G 0 (fun p => p < 8) T A) :
    ro_Least O F G T A := by
  obtain ⟨hT, hS, h1, h2, rk, hr⟩ := h
  refine ⟨hT, ?_, ?_⟩
  · intro p hp hc
    obtain ⟨_, _, hF, hG⟩ := hg p hp
    rcases hc with ⟨ho, z⟩ | ⟨ho, z1, z2⟩
    · rcases z with z | z
      · exact h1 p (F p) hp ho (Or.inl rfl) hF z
      · exact h1 p (G p) hp ho (Or.inr rfl) hG z
    · refine h2 p hp ho (fun q hq _ => ?_)
      rcases hq with e | e
      · rw [e]; exact z1
      · rw [e]; exact z2
  · intro D hD hcl
    have H : ∀ r p, rk p ≤ r → A p → D p := by
      intro r
      induction r with
      | zero =>
        intro p hp ha
        have h8 := hS p ha
        obtain ⟨_, _, hF, _⟩ := hg p h8
        rcases hr p ha with z | ⟨_, q, _, _, hl⟩ | ⟨_, z⟩
        · exact hD p z
        · omega
        · have := (z (F p) (Or.inl rfl) hF).2
          omega
      | succ r ih =>
        intro p hp ha
        have h8 := hS p ha
        obtain ⟨_, _, hF, hG⟩ := hg p h8
        rcases hr p ha with z | ⟨ho, q, hq, hqa, hl⟩ | ⟨ho, z⟩
        · exact hD p z
        · have hd := ih q (by omega) hqa
          refine hcl p h8 (Or.inl ⟨ho, ?_⟩)
          rcases hq with e | e
          · rw [e] at hd; exact Or.inl hd
          · rw [e] at hd; exact Or.inr hd
        · have z1 := z (F p) (Or.inl rfl) hF
          have z2 := z (G p) (Or.inr rfl) hG
          exact hcl p h8 (Or.inr ⟨ho, ih _ (by omega) z1.1, ih _ (by omega) z2.1⟩)
    intro p ha
    exact H _ p (Nat.le_refl _) ha
end
section
/-! X: owner, moves, the scans and forcing -/
def xg_G (o : Int32) (co fi se : Nat → Int32) (O C F G : Nat → Nat) : Prop :=
  ∀ p, p < 8 → (o >>> (nI p &&& 31)) &&& 1 = nI (O p) ∧ co p = nI (C p) ∧ fi p = nI (F p) ∧ se p = nI (G p)
/-- a mask that grows along a scan: b, and those below j that satisfy P -/
def mk_J (b : Int32) (P : Nat → Prop) (j : Nat) (x : Int32) : Prop := ∀ q, bt x q = true ↔ bt b q = true ∨ (q < j ∧ P q)
theorem mk_J0 (b : Int32) (P : Nat → Prop) : mk_J b P 0 b := fun q => ⟨Or.inl, fun z => z.elim id (fun z => absurd z.1 (Nat.not_lt_zero _))⟩
theorem mk_Jt {b x : Int32} {P : Nat → Prop} {j : Nat} (h : mk_J b P j x) (hj : j < 32) (hP : P j) :
    mk_J b P (j + 1) (x ||| ((1 : Int32) <<< (nI j &&& 31))) := by
  intro q
  rw [mk_orbit x hj, h q]
  constructor
  · rintro ((z | ⟨z1, z2⟩) | z)
    · exact Or.inl z
    · exact Or.inr ⟨by omega, z2⟩
    · subst z; exact Or.inr ⟨by omega, hP⟩
  · rintro (z | ⟨z1, z2⟩)
    · exact Or.inl (Or.inl z)
    · by_cases e : q = j
      · exact Or.inr e
      · exact Or.inl (Or.inr ⟨by omega, z2⟩)
theorem mk_Jf {b x : Int32} {P : Nat → Prop} {j : Nat} (h : mk_J b P j x) (hP : ¬ P j) : mk_J b P (j + 1) x := by
  intro q
  rw [h q]
  constructor
  · rintro (z | ⟨z1, z2⟩)
    · exact Or.inl z
    · exact Or.inr ⟨by omega, z2⟩
  · rintro (z | ⟨z1, z2⟩)
    · exact Or.inl z
    · by_cases e : q = j
      · subst e; exact absurd z2 hP
      · exact Or.inr ⟨by omega, z2⟩
theorem mk_J_sm {b x : Int32} {P : Nat → Prop} (h : mk_J b P 8 x) (hb : mk_sm b) : mk_sm x := by
  intro q hq
  refine mk_nt (fun z => ?_)
  rcases (h q).mp z with z | ⟨z, _⟩
  · rw [hb q hq] at z; exact absurd z (by decide)
  · omega
theorem mk_J_z {x : Int32} {P : Nat → Prop} (h : mk_J 0 P 8 x) (q : Nat) : bt x q = true ↔ q < 8 ∧ P q := by
  rw [h q, b_0]
  exact ⟨fun z => z.elim (fun z => absurd z (by decide)) id, Or.inr⟩
/-- two moves, a mask, a further mask -/
theorem mk_st3 {a b : Nat} (ha : a < 8) (hb : b < 8) (m x : Int32) (q : Nat) :
    mk_st (((((1 : Int32) <<< (nI a &&& 31)) ||| ((1 : Int32) <<< (nI b &&& 31))) &&& m) &&& x) q ↔ (q = a ∨ q = b) ∧ mk_st m q ∧ bt x q = true := by
  unfold mk_st
  rw [b_and, b_and, Bool.and_eq_true_iff, Bool.and_eq_true_iff, mk_mv (by omega) (by omega)]
  exact ⟨fun ⟨h8, ⟨h1, h2⟩, h3⟩ => ⟨h1, ⟨h8, h2⟩, h3⟩, fun ⟨h1, ⟨h8, h2⟩, h3⟩ => ⟨h8, ⟨h1, h2⟩, h3⟩⟩
theorem mk_some {a b : Nat} (ha : a < 8) (hb : b < 8) {m : Int32} (hm : mk_sm m) (x : Int32) :
    ((((1 : Int32) <<< (nI a &&& 31)) ||| ((1 : Int32) <<< (nI b &&& 31))) &&& m) &&& x = 0 ↔ ¬ ∃ q, (q = a ∨ q = b) ∧ mk_st m q ∧ mk_st x q := by
  rw [mk_eq0 (mk_sm_and (mk_sm_and2 _ hm) x)]
  constructor
  · rintro h ⟨q, h1, h2, h3⟩
    exact h q ((mk_st3 ha hb m x q).mpr ⟨h1, h2, h3.2⟩)
  · intro h q hq
    obtain ⟨h1, h2, h3⟩ := (mk_st3 ha hb m x q).mp hq
    exact h ⟨q, h1, h2, h2.1, h3⟩
theorem mk_every {a b : Nat} (ha : a < 8) (hb : b < 8) {m : Int32} (hm : mk_sm m) (x : Int32) :
    ((((1 : Int32) <<< (nI a &&& 31)) ||| ((1 : Int32) <<< (nI b &&& 31))) &&& m) &&& (x ^^^ (-1)) = 0 ↔ ∀ q, (q = a ∨ q = b) → mk_st m q → mk_st x q := by
  rw [mk_eq0 (mk_sm_and (mk_sm_and2 _ hm) _)]
  constructor
  · intro h q h1 h2
    refine ⟨h2.1, ?_⟩
    apply Classical.byContradiction
    intro hn
    refine h q ((mk_st3 ha hb m _ q).mpr ⟨h1, h2, ?_⟩)
    have h8 := h2.1
    rw [mk_not x (by omega), mk_nt hn]
    rfl
  · intro h q hq
    obtain ⟨h1, h2, h3⟩ := (mk_st3 ha hb m _ q).mp hq
    have h8 := h2.1
    rw [mk_not x (by omega), (h q h1 h2).2] at h3
    exact absurd h3 (by decide)
theorem mk_diff {b c : Int32} (hb : mk_sm b) (hc : mk_sm c) (h : ∀ q, bt b q = true → bt c q = true) (ne : ¬ c = b) : mk_cn (bt b) 8 < mk_cn (bt c) 8 := by
  apply Classical.byContradiction
  intro hn
  apply ne
  refine mk_ext' hc hb (fun p hp => ⟨fun z => ?_, h p⟩)
  apply Classical.byContradiction
  intro hnb
  exact hn (mk_cn_lt 8 (fun q _ => h q) p hp hnb z)
section
variable {o dp : Int32} {co fi se lv sg gv wo re : Nat → Int32} {O C F G : Nat → Nat}
theorem xw_owner (hx : xg_G o co fi se O C F G) {p : Nat} (hp : p < 8) {post : Int32 → Prop} (h : post (nI (O p))) :
    wpX_owner post (o, dp, co, fi, se, lv, sg, gv, wo, re) (nI p) := by
  show post ((o >>> (nI p &&& 31)) &&& 1)
  rw [(hx p hp).1]; exact h
theorem xw_moves (hx : xg_G o co fi se O C F G) {p : Nat} (hp : p < 8) {post : Int32 → Prop}
    (h : post (((1 : Int32) <<< (nI (F p) &&& 31)) ||| ((1 : Int32) <<< (nI (G p) &&& 31)))) :
    wpX_moves post (o, dp, co, fi, se, lv, sg, gv, wo, re) (nI p) := by
  have hin : vp_in (nI p) 8 := vp_in_nI hp (by omega)
  refine And.intro hin (And.intro hin ?_)
  show post (((1 : Int32) <<< (fi (nI p).toNatClampNeg &&& 31)) ||| ((1 : Int32) <<< (se (nI p).toNatClampNeg &&& 31)))
  rw [nI_clamp (by omega : p < 2 ^ 31), (hx p hp).2.2.1, (hx p hp).2.2.2]
  exact h
theorem xw_greatest_l (hg : gm_ok O C F G) (hx : xg_G o co fi se O C F G) {m : Int32} {post : Int32 → Prop}
    (h : ∀ g, g ≤ 5 → (∀ p, mk_st m p → C p ≤ g) → ((∃ p, mk_st m p) → ∃ p, mk_st m p ∧ C p = g) → post (nI g)) :
    ∀ d j, j + d = 8 → ∀ g, g ≤ 5 → (g = 0 ∨ ∃ p, mk_st m p ∧ C p = g) → (∀ p, p < j → mk_st m p → C p ≤ g) →
      wX_greatest_4 post m o dp co fi se lv sg gv wo re (d + 1) (nI g) (nI j) := by
  intro d
  induction d with
  | zero =>
    intro j hj g hg5 h1 h2
    have e : j = 8 := by omega
    subst e
    refine br_t (show (8 : Int32) ≤ nI 8 by decide) (h g hg5 (fun p hp => h2 p hp.1 hp) ?_)
    rintro ⟨p, hp⟩
    rcases h1 with e | h1
    · have h3 := h2 p hp.1 hp
      exact ⟨p, hp, by omega⟩
    · exact h1
  | succ d ih =>
    intro j hj g hg5 h1 h2
    have hj8 : j < 8 := by omega
    have hc5 := (hg j hj8).2.1
    have hco : co (nI j).toNatClampNeg = nI (C j) := by rw [nI_clamp (by omega : j < 2 ^ 31)]; exact (hx j hj8).2.1
    have hin : vp_in (nI j) 8 := vp_in_nI hj8 (by omega)
    refine br_f (nI_ge (b := 8) hj8 (by decide)) ?_
    by_cases hb : bt m j = true
    · refine br_t ((mk_t1 (by omega) m).mpr hb) ⟨hin, ?_⟩
      refine pk_le (C j) g (fun hle => nm_r (nI_1 j) (ih (j + 1) (by omega) g hg5 h1 ?_))
        (fun hlt => ⟨hin, nm_r hco (nm_r (nI_1 j) (ih (j + 1) (by omega) (C j) hc5 (Or.inr ⟨j, ⟨hj8, hb⟩, rfl⟩) ?_))⟩) hco rfl
      · intro p hp hs
        by_cases e : p = j
        · subst e; exact hle
        · exact h2 p (by omega) hs
      · intro p hp hs
        by_cases e : p = j
        · subst e; exact Nat.le_refl _
        · have h3 := h2 p (by omega) hs
          omega
    · refine br_f (fun z => hb ((mk_t1 (by omega) m).mp z)) (nm_r (nI_1 j) (ih (j + 1) (by omega) g hg5 h1 ?_))
      intro p hp hs
      by_cases e : p = j
      · subst e; exact absurd hs.2 hb
      · exact h2 p (by omega) hs
theorem xw_greatest (hg : gm_ok O C F G) (hx : xg_G o co fi se O C F G) {m : Int32} {post : Int32 → Prop}
    (h : ∀ g, g ≤ 5 → (∀ p, mk_st m p → C p ≤ g) → ((∃ p, mk_st m p) → ∃ p, mk_st m p ∧ C p = g) → post (nI g)) :
    wpX_greatest post (o, dp, co, fi, se, lv, sg, gv, wo, re) m :=
  Exists.intro 9 (xw_greatest_l hg hx h 8 0 rfl 0 (by omega) (Or.inl rfl) (fun p hp => absurd hp (Nat.not_lt_zero _)))
theorem xw_withColour_l (hg : gm_ok O C F G) (hx : xg_G o co fi se O C F G) {m : Int32} {c : Nat} (hc : c ≤ 5) {post : Int32 → Prop}
    (h : ∀ x, mk_J 0 (fun q => bt m q = true ∧ C q = c) 8 x → post x) :
    ∀ d j, j + d = 8 → ∀ x, mk_J 0 (fun q => bt m q = true ∧ C q = c) j x →
      wX_withColour_5 post m (nI c) o dp co fi se lv sg gv wo re (d + 1) x (nI j) := by
  intro d
  induction d with
  | zero =>
    intro j hj x hJ
    have e : j = 8 := by omega
    subst e
    exact br_t (show (8 : Int32) ≤ nI 8 by decide) (h x hJ)
  | succ d ih =>
    intro j hj x hJ
    have hj8 : j < 8 := by omega
    have hc5 := (hg j hj8).2.1
    have hco : co (nI j).toNatClampNeg = nI (C j) := by rw [nI_clamp (by omega : j < 2 ^ 31)]; exact (hx j hj8).2.1
    have hin : vp_in (nI j) 8 := vp_in_nI hj8 (by omega)
    refine br_f (nI_ge (b := 8) hj8 (by decide)) ?_
    by_cases hb : bt m j = true
    · refine br_t ((mk_t1 (by omega) m).mpr hb) ⟨hin, ?_⟩
      exact pk_eq (C j) c (fun e => nm_e (nm_r (nI_1 j) (ih (j + 1) (by omega) _ (mk_Jt hJ (by omega) ⟨hb, e⟩))))
        (fun e => nm_r (nI_1 j) (ih (j + 1) (by omega) x (mk_Jf hJ (fun z => e z.2)))) hco rfl
    · exact br_f (fun z => hb ((mk_t1 (by omega) m).mp z)) (nm_r (nI_1 j) (ih (j + 1) (by omega) x (mk_Jf hJ (fun z => hb z.1))))
theorem xw_withColour (hg : gm_ok O C F G) (hx : xg_G o co fi se O C F G) {m : Int32} {c : Nat} (hc : c ≤ 5) {post : Int32 → Prop}
    (h : ∀ x, mk_sm x → (∀ p, mk_st x p ↔ mk_st m p ∧ C p = c) → post x) :
    wpX_withColour post (o, dp, co, fi, se, lv, sg, gv, wo, re) m (nI c) :=
  Exists.intro 9 (xw_withColour_l hg hx hc (fun x hJ => h x (mk_J_sm hJ mk_sm_0) (fun p => by
    unfold mk_st
    rw [mk_J_z hJ p]
    exact ⟨fun ⟨a, _, b, c⟩ => ⟨⟨a, b⟩, c⟩, fun ⟨⟨a, b⟩, c⟩ => ⟨a, a, b, c⟩⟩)) 8 0 rfl 0 (mk_J0 _ _))
theorem xw_lowOnly_l (hg : gm_ok O C F G) (hx : xg_G o co fi se O C F G) {m : Int32} {c : Nat} (hc : c ≤ 5) {post : Int32 → Prop}
    (h : ∀ x, mk_J 0 (fun q => bt m q = true ∧ C q ≤ c) 8 x → post x) :
    ∀ d j, j + d = 8 → ∀ x, mk_J 0 (fun q => bt m q = true ∧ C q ≤ c) j x →
      wX_lowOnly_5 post m (nI c) o dp co fi se lv sg gv wo re (d + 1) x (nI j) := by
  intro d
  induction d with
  | zero =>
    intro j hj x hJ
    have e : j = 8 := by omega
    subst e
    exact br_t (show (8 : Int32) ≤ nI 8 by decide) (h x hJ)
  | succ d ih =>
    intro j hj x hJ
    have hj8 : j < 8 := by omega
    have hc5 := (hg j hj8).2.1
    have hco : co (nI j).toNatClampNeg = nI (C j) := by rw [nI_clamp (by omega : j < 2 ^ 31)]; exact (hx j hj8).2.1
    have hin : vp_in (nI j) 8 := vp_in_nI hj8 (by omega)
    refine br_f (nI_ge (b := 8) hj8 (by decide)) ?_
    by_cases hb : bt m j = true
    · refine br_t ((mk_t1 (by omega) m).mpr hb) ⟨hin, ?_⟩
      exact pk_lt c (C j) (fun e => nm_r (nI_1 j) (ih (j + 1) (by omega) x (mk_Jf hJ (fun z => by have := z.2; omega))))
        (fun e => nm_e (nm_r (nI_1 j) (ih (j + 1) (by omega) _ (mk_Jt hJ (by omega) ⟨hb, e⟩)))) rfl hco
    · exact br_f (fun z => hb ((mk_t1 (by omega) m).mp z)) (nm_r (nI_1 j) (ih (j + 1) (by omega) x (mk_Jf hJ (fun z => hb z.1))))
theorem xw_lowOnly (hg : gm_ok O C F G) (hx : xg_G o co fi se O C F G) {m : Int32} {c : Nat} (hc : c ≤ 5) {post : Int32 → Prop}
    (h : ∀ x, (∀ q, bt x q = true ↔ q < 8 ∧ bt m q = true ∧ C q ≤ c) → post x) :
    wpX_lowOnly post (o, dp, co, fi, se, lv, sg, gv, wo, re) m (nI c) :=
  Exists.intro 9 (xw_lowOnly_l hg hx hc (fun x hJ => h x (mk_J_z hJ)) 8 0 rfl 0 (mk_J0 _ _))
/-! forcing: one position of a pass -/
theorem xw_f119 {post : Int32 → Prop} {J9 : Int32 → Int32 → Int32 → Prop} {J30 : Int32 → Int32 → Prop} {x1 m c b k : Int32} {p : Nat}
    (h : J30 (c ||| ((1 : Int32) <<< (nI p &&& 31))) (nI (p + 1))) :
    wX_forced_119 post J9 J30 x1 m c b k (nI p) o dp co fi se lv sg gv wo re := nm_e (nm_r (nI_1 p) h)
theorem xw_f104 (hg : gm_ok O C F G) (hx : xg_G o co fi se O C F G) {post : Int32 → Prop} {J9 : Int32 → Int32 → Int32 → Prop} {J30 : Int32 → Int32 → Prop}
    {m c b k z : Int32} {i p : Nat} (hi : i < 2) (hp : p < 8) {ev : Prop} (he : ¬ z = 0 ↔ ev)
    (h1 : O p ≠ i → ev → J30 (c ||| ((1 : Int32) <<< (nI p &&& 31))) (nI (p + 1))) (h0 : (O p = i ∨ ¬ ev) → J30 c (nI (p + 1))) :
    wX_forced_104 post J9 J30 (nI i) m c b k (nI p) z o dp co fi se lv sg gv wo re := by
  have ho := (hg p hp).1
  refine xw_owner hx hp ?_
  refine pk_eq (O p) i (fun e => nm_r (nI_1 p) (h0 (Or.inl e))) (fun e => ?_)
  refine br_c (fun e0 => nm_r (nI_1 p) (h0 (Or.inr (fun t => he.mpr t e0)))) (fun e0 => xw_f119 (h1 e (he.mp e0)))
theorem xw_f87 (hg : gm_ok O C F G) (hx : xg_G o co fi se O C F G) {post : Int32 → Prop} {J9 : Int32 → Int32 → Int32 → Prop} {J30 : Int32 → Int32 → Prop}
    {m c b k y z : Int32} {i p : Nat} (hi : i < 2) (hp : p < 8) {so ev : Prop} (hs : ¬ y = 0 ↔ so) (he : ¬ z = 0 ↔ ev)
    (h1 : (O p = i ∧ so) ∨ (O p ≠ i ∧ ev) → J30 (c ||| ((1 : Int32) <<< (nI p &&& 31))) (nI (p + 1)))
    (h0 : ¬ ((O p = i ∧ so) ∨ (O p ≠ i ∧ ev)) → J30 c (nI (p + 1))) :
    wX_forced_87 post J9 J30 (nI i) m c b k (nI p) y z o dp co fi se lv sg gv wo re := by
  have ho := (hg p hp).1
  refine xw_owner hx hp ?_
  refine pk_eq (O p) i (fun e => ?_) (fun e => ?_)
  · refine br_c (fun e0 => ?_) (fun e0 => xw_f119 (h1 (Or.inl ⟨e, hs.mp e0⟩)))
    exact xw_f104 hg hx hi hp he (fun ne _ => absurd e ne) (fun _ => h0 (fun t => t.elim (fun t => hs.mpr t.2 e0) (fun t => t.1 e)))
  · exact xw_f104 hg hx hi hp he (fun _ t => h1 (Or.inr ⟨e, t⟩)) (fun t => h0 (fun w => w.elim (fun w => e w.1) (fun w => t.elim e (fun t => t w.2))))
theorem xw_f70 (hg : gm_ok O C F G) (hx : xg_G o co fi se O C F G) {post : Int32 → Prop} {J9 : Int32 → Int32 → Int32 → Prop} {J30 : Int32 → Int32 → Prop}
    {m c b k x8 y : Int32} {i p : Nat} (hi : i < 2) (hp : p < 8) {so ev : Prop} (hs : ¬ y = 0 ↔ so) (he : x8 &&& (b ^^^ (-1)) = 0 ↔ ev)
    (h1 : (O p = i ∧ so) ∨ (O p ≠ i ∧ ev) → J30 (c ||| ((1 : Int32) <<< (nI p &&& 31))) (nI (p + 1)))
    (h0 : ¬ ((O p = i ∧ so) ∨ (O p ≠ i ∧ ev)) → J30 c (nI (p + 1))) :
    wX_forced_70 post J9 J30 (nI i) m c b k (nI p) x8 y o dp co fi se lv sg gv wo re :=
  br_c (fun e => xw_f87 hg hx hi hp hs (ev := ev) ⟨fun _ => he.mp e, fun _ => by decide⟩ h1 h0)
    (fun e => xw_f87 hg hx hi hp hs (ev := ev) ⟨fun z => absurd rfl z, fun z => absurd (he.mpr z) e⟩ h1 h0)
theorem xw_f30 (hg : gm_ok O C F G) (hx : xg_G o co fi se O C F G) {post : Int32 → Prop} {J9 : Int32 → Int32 → Int32 → Prop}
    {m b : Int32} (hm : mk_sm m) {i k : Nat} (hi : i < 2)
    (H : ∀ c, mk_J b (fo_c O F G i (mk_st m) (mk_st b)) 8 c → J9 c b (nI (k + 1))) :
    ∀ d p, p + d = 8 → ∀ c, mk_J b (fo_c O F G i (mk_st m) (mk_st b)) p c →
      wX_forced_30 post J9 (nI i) m b (nI k) o dp co fi se lv sg gv wo re (d + 1) c (nI p) := by
  intro d
  induction d with
  | zero =>
    intro j hj x hJ
    have e : j = 8 := by omega
    subst e
    exact br_t (show (8 : Int32) ≤ nI 8 by decide) (nm_r (nI_1 k) (H x hJ))
  | succ d ih =>
    intro p hj c hJ
    have hp : p < 8 := by omega
    obtain ⟨_, _, hF, hG⟩ := hg p hp
    refine br_f (nI_ge (b := 8) hp (by decide)) ?_
    by_cases hb : bt m p = true
    · refine br_t ((mk_t1 (by omega) m).mpr hb) (xw_moves hx hp (nm_e ?_))
      have h1 : (O p = i ∧ ∃ q, (q = F p ∨ q = G p) ∧ mk_st m q ∧ mk_st b q) ∨ (O p ≠ i ∧ ∀ q, (q = F p ∨ q = G p) → mk_st m q → mk_st b q) →
          wX_forced_30 post J9 (nI i) m b (nI k) o dp co fi se lv sg gv wo re (d + 1) (c ||| ((1 : Int32) <<< (nI p &&& 31))) (nI (p + 1)) :=
        fun z => ih (p + 1) (by omega) _ (mk_Jt hJ (by omega) ⟨⟨hp, hb⟩, z⟩)
      have h0 : ¬ ((O p = i ∧ ∃ q, (q = F p ∨ q = G p) ∧ mk_st m q ∧ mk_st b q) ∨ (O p ≠ i ∧ ∀ q, (q = F p ∨ q = G p) → mk_st m q → mk_st b q)) →
          wX_forced_30 post J9 (nI i) m b (nI k) o dp co fi se lv sg gv wo re (d + 1) c (nI (p + 1)) :=
        fun z => ih (p + 1) (by omega) _ (mk_Jf hJ (fun w => z w.2))
      have he := mk_every hF hG hm b
      have hs := mk_some hF hG hm b
      exact br_c (fun e => xw_f70 hg hx hi hp ⟨fun z => absurd rfl z, fun z => absurd z (hs.mp e)⟩ he h1 h0)
        (fun e => xw_f70 hg hx hi hp ⟨fun _ => Classical.byContradiction (fun z => e (hs.mpr z)), fun _ => by decide⟩ he h1 h0)
    · exact br_f (fun z => hb ((mk_t1 (by omega) m).mp z)) (nm_r (nI_1 p) (ih (p + 1) (by omega) c (mk_Jf hJ (fun z => hb z.1.2))))
theorem xw_f9 (hg : gm_ok O C F G) (hx : xg_G o co fi se O C F G) {post : Int32 → Prop} {m T : Int32} (hm : mk_sm m) {i : Nat} (hi : i < 2)
    (hT : mk_sm T) (hT0 : ¬ T = 0) (H : ∀ A, mk_sm A → pg_Attr O F G i (mk_st m) (mk_st T) (mk_st A) → post A) :
    ∀ d k, k + d = 9 → ∀ c b, mk_sm c → mk_sm b → fo_I O F G i (mk_st m) (mk_st T) k (mk_st c) (mk_st b) →
      (∀ q, bt b q = true → bt c q = true) → k ≤ mk_cn (bt b) 8 → (k = 0 → b = 0) →
      wX_forced_9 post (nI i) m o dp co fi se lv sg gv wo re (d + 1) c b (nI k) := by
  intro d
  induction d with
  | zero =>
    intro k hk c b _ _ _ _ hn _
    have := mk_cn_le (bt b) 8
    omega
  | succ d ih =>
    intro k hk c b hc hb hI hs hn h0
    refine br_f (nI_nlt (a := 8) (b := k) (by omega) (by omega)) ?_
    by_cases e : c = b
    · refine br_t e (H c hc ?_)
      subst e
      refine fo_end hI (fun z => hT0 ?_)
      have c0 := h0 z
      refine (mk_eq0 hT).mpr (fun p hp => ?_)
      have := hI.1 p hp
      rw [c0] at this
      exact (mk_eq0 mk_sm_0).mp rfl p this
    · refine br_f e (Exists.intro 9 ?_)
      refine xw_f30 hg hx hm hi (fun c' hJ => ?_) 8 0 rfl c (mk_J0 _ _)
      have hlt := mk_diff hb hc hs e
      refine ih (k + 1) (by omega) c' c (mk_J_sm hJ hc) hc (fo_step hI (fun p => ?_)) (fun q z => (hJ q).mpr (Or.inl z)) (by omega) (fun z => by omega)
      constructor
      · intro hp
        rcases (hJ p).mp hp.2 with z | z
        · exact Or.inl ⟨hp.1, z⟩
        · exact Or.inr z.2
      · rintro (z | z)
        · exact ⟨z.1, (hJ p).mpr (Or.inl z.2)⟩
        · exact ⟨z.1.1, (hJ p).mpr (Or.inr ⟨z.1.1, z⟩)⟩
theorem xw_forced (hg : gm_ok O C F G) (hx : xg_G o co fi se O C F G) {post : Int32 → Prop} {m T : Int32} (hm : mk_sm m) {i : Nat} (hi : i < 2)
    (hT : mk_sm T) (hT0 : ¬ T = 0) (hTm : ∀ p, mk_st T p → mk_st m p)
    (H : ∀ A, mk_sm A → pg_Attr O F G i (mk_st m) (mk_st T) (mk_st A) → post A) :
    wpX_forced post (o, dp, co, fi, se, lv, sg, gv, wo, re) (nI i) T m :=
  Exists.intro 10 (xw_f9 hg hx hm hi hT hT0 H 9 0 rfl T 0 hT mk_sm_0 (fo_start hTm) (fun q z => by rw [b_0] at z; exact absurd z (by decide)) (Nat.zero_le _) (fun _ => rfl))
end
end
section
/-! the solution of a level, pure -/
def so_Sol (O C F G : Nat → Nat) (m : Int32) (wo : Nat → Int32) : Prop :=
  (∀ i, i < 2 → mk_sm (wo i)) ∧ (∀ p, mk_st m p ↔ mk_st (wo 0) p ∨ mk_st (wo 1) p) ∧ (∀ p, mk_st (wo 0) p → mk_st (wo 1) p → False) ∧
  ∀ i, i < 2 → pg_Won O C F G i (mk_st m) (mk_st (wo i))
def so_P (i j : Nat) : Prop := (i = 0 ∧ j = 1) ∨ (i = 1 ∧ j = 0)
theorem so_P_of (g : Nat) : so_P (g % 2) (1 - g % 2) := by
  rcases Nat.mod_two_eq_zero_or_one g with e | e
  · rw [e]; exact Or.inl ⟨rfl, rfl⟩
  · rw [e]; exact Or.inr ⟨rfl, rfl⟩
theorem so_P_lt {i j : Nat} (h : so_P i j) : i < 2 ∧ j < 2 ∧ i ≠ j := by
  rcases h with ⟨a, b⟩ | ⟨a, b⟩ <;> subst a <;> subst b <;> decide
theorem so_P_c {i j : Nat} (h : so_P i j) {x : Nat} (hx : x < 2) : x = i ∨ x = j := by
  rcases h with ⟨a, b⟩ | ⟨a, b⟩ <;> subst a <;> subst b <;> omega
theorem so_get {O C F G : Nat → Nat} {m : Int32} {wo : Nat → Int32} (h : so_Sol O C F G m wo) {i j : Nat} (hij : so_P i j) :
    (∀ p, mk_st m p ↔ mk_st (wo i) p ∨ mk_st (wo j) p) ∧ (∀ p, mk_st (wo i) p → mk_st (wo j) p → False) := by
  obtain ⟨_, h1, h2, _⟩ := h
  rcases hij with ⟨a, b⟩ | ⟨a, b⟩ <;> subst a <;> subst b
  · exact ⟨h1, h2⟩
  · exact ⟨fun p => (h1 p).trans Or.comm, fun p a b => h2 p b a⟩
theorem so_mk {O C F G : Nat → Nat} {m : Int32} {wo : Nat → Int32} {i j : Nat} (hij : so_P i j) (si : mk_sm (wo i)) (sj : mk_sm (wo j))
    (h1 : ∀ p, mk_st m p ↔ mk_st (wo i) p ∨ mk_st (wo j) p) (h2 : ∀ p, mk_st (wo i) p → mk_st (wo j) p → False)
    (wi : pg_Won O C F G i (mk_st m) (mk_st (wo i))) (wj : pg_Won O C F G j (mk_st m) (mk_st (wo j))) : so_Sol O C F G m wo := by
  refine ⟨?_, ?_, ?_, ?_⟩
  · intro x hx
    rcases so_P_c hij hx with e | e <;> subst e
    · exact si
    · exact sj
  · rcases hij with ⟨a, b⟩ | ⟨a, b⟩ <;> subst a <;> subst b
    · exact h1
    · exact fun p => (h1 p).trans Or.comm
  · rcases hij with ⟨a, b⟩ | ⟨a, b⟩ <;> subst a <;> subst b
    · exact h2
    · exact fun p a b => h2 p b a
  · intro x hx
    rcases so_P_c hij hx with e | e <;> subst e
    · exact wi
    · exact wj
theorem so_max_u {C : Nat → Nat} {m : Int32} {g g' : Nat} (h1 : ∀ p, mk_st m p → C p ≤ g) (h2 : ∃ p, mk_st m p ∧ C p = g)
    (h3 : ∀ p, mk_st m p → C p ≤ g') (h4 : ∃ p, mk_st m p ∧ C p = g') : g' = g := by
  obtain ⟨p, hp, e⟩ := h2
  obtain ⟨q, hq, f⟩ := h4
  have a := h1 q hq
  have b := h3 p hp
  omega
theorem so_cnt {m A : Int32} {p : Nat} (hA : mk_st A p) (hm : mk_st m p) : mk_cn (bt (m &&& (A ^^^ (-1)))) 8 < mk_cn (bt m) 8 := by
  refine mk_cn_lt 8 (fun q _ z => ?_) p hm.1 ?_ hm.2
  · rw [b_and] at z
    exact (Bool.and_eq_true_iff.mp z).1
  · intro z
    have h : mk_st (m &&& (A ^^^ (-1))) p := ⟨hm.1, z⟩
    rw [mk_st_diff] at h
    exact h.2 hA
theorem so_empty {O C F G : Nat → Nat} (wo : Nat → Int32) : so_Sol O C F G 0 (upd (upd wo 0 0) 1 0) := by
  have e0 : upd (upd wo 0 0) 1 0 0 = 0 := rfl
  have e1 : upd (upd wo 0 0) 1 0 1 = 0 := rfl
  have hn : ∀ p, ¬ mk_st 0 p := (mk_eq0 mk_sm_0).mp rfl
  refine so_mk (i := 0) (j := 1) (Or.inl ⟨rfl, rfl⟩) ?_ ?_ ?_ ?_ ?_ ?_
  · rw [e0]; exact mk_sm_0
  · rw [e1]; exact mk_sm_0
  · intro p; rw [e0, e1]; exact ⟨Or.inl, fun z => z.elim id id⟩
  · intro p h; rw [e0] at h; exact absurd h (hn p)
  · rw [e0]; exact pg_won0 _ _ _ _ _ _ _ hn
  · rw [e1]; exact pg_won0 _ _ _ _ _ _ _ hn
theorem so_z1 {O C F G : Nat → Nat} {m A T : Int32} {wo : Nat → Int32} {i j g : Nat} (hij : so_P i j) (hg : g % 2 = i)
    (hS : ∀ p, mk_st m p → mk_st m (F p) ∨ mk_st m (G p)) (hC : ∀ p, mk_st m p → C p ≤ g) (hT : ∀ p, mk_st T p → C p = g)
    (hm : mk_sm m) (hA : pg_Attr O F G i (mk_st m) (mk_st T) (mk_st A)) (h : so_Sol O C F G (m &&& (A ^^^ (-1))) wo) (hl : wo j = 0) :
    so_Sol O C F G m (upd wo i m) := by
  have hlt := so_P_lt hij
  have ei : upd wo i m i = m := pk_us
  have ej : upd wo i m j = 0 := (pk_un (fun z => hlt.2.2 z.symm)).trans hl
  have hn : ∀ p, ¬ mk_st 0 p := (mk_eq0 mk_sm_0).mp rfl
  have hg1 := so_get h hij
  have hwi := h.2.2.2 i hlt.1
  have es : mk_st (wo i) = mk_st (m &&& (A ^^^ (-1))) := by
    funext p
    apply propext
    rw [hg1.1 p, hl]
    exact ⟨Or.inl, fun z => z.elim id (fun z => absurd z (hn p))⟩
  rw [es, mk_st_diff] at hwi
  refine so_mk hij ?_ ?_ ?_ ?_ ?_ ?_
  · rw [ei]; exact hm
  · rw [ej]; exact mk_sm_0
  · intro p; rw [ei, ej]; exact ⟨Or.inl, fun z => z.elim id (fun z => absurd z (hn p))⟩
  · intro p _ z; rw [ej] at z; exact hn p z
  · rw [ei]; exact pg_z1 hS hg hC hT hA hwi
  · rw [ej]; exact pg_won0 _ _ _ _ _ _ _ hn
theorem so_z2 {O C F G : Nat → Nat} (hok : gm_ok O C F G) {m A T B : Int32} {wo1 wo2 : Nat → Int32} {i j : Nat} (hij : so_P i j)
    (hA : pg_Attr O F G i (mk_st m) (mk_st T) (mk_st A)) (h1 : so_Sol O C F G (m &&& (A ^^^ (-1))) wo1) (hsB : mk_sm B)
    (hB : pg_Attr O F G j (mk_st m) (mk_st (wo1 j)) (mk_st B)) (h2 : so_Sol O C F G (m &&& (B ^^^ (-1))) wo2) :
    so_Sol O C F G m (upd wo2 j (wo2 j ||| B)) := by
  have hlt := so_P_lt hij
  have ej : upd wo2 j (wo2 j ||| B) j = wo2 j ||| B := pk_us
  have ei : upd wo2 j (wo2 j ||| B) i = wo2 i := pk_un hlt.2.2
  have g1 := so_get h1 hij
  have g2 := so_get h2 hij
  have w1 := h1.2.2.2 j hlt.2.1
  have w2i := h2.2.2.2 i hlt.1
  have w2j := h2.2.2.2 j hlt.2.1
  rw [mk_st_diff] at g1 g2 w1 w2i w2j
  have hz := pg_z2 (Wi := mk_st (wo2 i)) (Wj := mk_st (wo2 j)) hlt.2.2 (fun p hp => so_P_c hij (hok p hp.1).1) hA
    (fun p hp => (g1.1 p).mpr (Or.inr hp)) w1 hB (fun p hp => (g2.1 p).mpr (Or.inl hp)) (fun p hp => (g2.1 p).mpr (Or.inr hp)) w2i w2j
  refine so_mk hij ?_ ?_ ?_ ?_ ?_ ?_
  · rw [ei]; exact h2.1 i hlt.1
  · rw [ej]; exact mk_sm_or (h2.1 j hlt.2.1) hsB
  · intro p
    rw [ei, ej, mk_st_or]
    constructor
    · intro hp
      by_cases hb : mk_st B p
      · exact Or.inr (Or.inr hb)
      · rcases (g2.1 p).mp ⟨hp, hb⟩ with z | z
        · exact Or.inl z
        · exact Or.inr (Or.inl z)
    · rintro (z | z | z)
      · exact ((g2.1 p).mpr (Or.inl z)).1
      · exact ((g2.1 p).mpr (Or.inr z)).1
      · exact hB.2.1 p z
  · intro p a b
    rw [ei] at a
    rw [ej, mk_st_or] at b
    rcases b with z | z
    · exact g2.2 p a z
    · exact ((g2.1 p).mpr (Or.inl a)).2 z
  · rw [ei]; exact hz.1
  · rw [ej, mk_st_or]; exact hz.2
/-! the whole game -/
def pg_W (O C F G : Nat → Nat) (i p : Nat) : Prop := ∃ s : Nat → Nat, (∀ p, s p = F p ∨ s p = G p) ∧ pg_Win O C F G i s p
noncomputable def pg_reg (O C F G : Nat → Nat) : Int32 := mk_of (pg_W O C F G 0)
theorem so_top {O C F G : Nat → Nat} (hok : gm_ok O C F G) {wo : Nat → Int32} (h : so_Sol O C F G 255 wo) :
    wo 0 = pg_reg O C F G ∧ wo 1 = 255 &&& (pg_reg O C F G ^^^ (-1)) ∧
    ∀ i, i < 2 → ∃ s : Nat → Nat, (∀ p, s p = F p ∨ s p = G p) ∧ ∀ p, mk_st (wo i) p → pg_Win O C F G i s p := by
  obtain ⟨hs, hc, hd, hw⟩ := h
  rw [mk_st_255] at hc hw
  have hF : ∀ p, p < 8 → F p < 8 := fun p hp => (hok p hp).2.2.1
  have hG : ∀ p, p < 8 → G p < 8 := fun p hp => (hok p hp).2.2.2
  have e0 : wo 0 = pg_reg O C F G := by
    refine mk_of_eq (hs 0 (by decide)) (fun p hp => ?_)
    constructor
    · intro hb
      obtain ⟨s, h1, h2⟩ := pg_win_of hF hG (fun p hp => hp.1) (hw 0 (by decide))
      exact ⟨s, h1, h2 p ⟨hp, hb⟩⟩
    · rintro ⟨s, h1, h2⟩
      rcases (hc p).mp hp with z | z
      · exact z.2
      · exact absurd (pg_nowin (i := 0) (j := 1) (by decide) (by decide) (by decide) (fun p hp => by have := (hok p hp).1; omega)
          (fun p hp => (hok p hp).2.1) hF hG (fun p hp => hp.1) (hw 1 (by decide)) z h1 h2) id
  refine ⟨e0, ?_, fun i hi => pg_win_of hF hG (fun p hp => hp.1) (hw i hi)⟩
  refine mk_ext' (hs 1 (by decide)) (mk_sm_and mk_sm_255 _) (fun p hp => ?_)
  rw [← e0]
  have hd1 := congrFun (mk_st_diff 255 (wo 0)) p
  constructor
  · intro hb
    have h3 : mk_st (255 &&& (wo 0 ^^^ (-1))) p := by
      rw [hd1]
      exact ⟨by rw [mk_st_255]; exact hp, fun z => hd p z ⟨hp, hb⟩⟩
    exact h3.2
  · intro hb
    have h3 : mk_st (255 &&& (wo 0 ^^^ (-1))) p := ⟨hp, hb⟩
    rw [hd1] at h3
    rcases (hc p).mp hp with z | z
    · exact absurd z h3.2
    · exact z.2
end
section
/-! X: the stack and its steps -/
section
variable {o dp : Int32} {co fi se lv sg gv wo re : Nat → Int32} {O C F G : Nat → Nat}
theorem xw_push {d : Nat} (hd : d < 12) {x : Int32} {post : SX → Prop}
    (h : post (o, nI (d + 1), co, fi, se, upd lv d x, upd sg d 0, gv, wo, re)) :
    wpX_push post (o, nI d, co, fi, se, lv, sg, gv, wo, re) x := by
  have hin : vp_in (nI d) 12 := vp_in_nI hd (by omega)
  have hcl : (nI d).toNatClampNeg = d := nI_clamp (by omega)
  refine And.intro hin (nm_r (e' := upd lv d x) (by rw [hcl]) (And.intro hin (nm_r (e' := upd sg d 0) (by rw [hcl]) (nm_r (nI_1 d) h))))
theorem xw_begin (hg : gm_ok O C F G) (hx : xg_G o co fi se O C F G) {d : Nat} (hd : d < 11) {m : Int32} (hl : lv d = m) (hm : mk_sm m) {post : SX → Prop}
    (h0 : m = 0 → post (o, nI d, co, fi, se, lv, sg, gv, upd (upd wo 0 0) 1 0, re))
    (h1 : ¬ m = 0 → ∀ g T A, g ≤ 5 → (∀ p, mk_st m p → C p ≤ g) → (∃ p, mk_st m p ∧ C p = g) → (∀ p, mk_st T p ↔ mk_st m p ∧ C p = g) →
      mk_sm A → pg_Attr O F G (g % 2) (mk_st m) (mk_st T) (mk_st A) →
      post (o, nI (d + 2), co, fi, se, upd lv (d + 1) (m &&& (A ^^^ (-1))), upd (upd sg d 1) (d + 1) 0, gv, wo, re)) :
    wpX_begin post (o, nI (d + 1), co, fi, se, lv, sg, gv, wo, re) (nI d) := by
  have hin : vp_in (nI d) 12 := vp_in_nI (by omega) (by omega)
  have hcl : (nI d).toNatClampNeg = d := nI_clamp (by omega)
  refine And.intro hin (nm_r (e' := m) (by rw [hcl]; exact hl) ?_)
  by_cases e : m = 0
  · exact br_t e (nm_e (nm_e (nm_r (nI_pred d) (h0 e))))
  · have hex : ∃ p, mk_st m p := Classical.byContradiction (fun z => e ((mk_eq0 hm).mpr (fun p hp => z ⟨p, hp⟩)))
    refine br_f e (xw_greatest hg hx (fun g g5 g1 g2 => xw_withColour hg hx g5 (fun T T1 T2 => ?_)))
    show wpX_forced _ _ (nI g &&& 1) T m
    rw [pk_andN (n := g) (m := 1) (by omega) 1 (by decide)]
    have hT0 : ¬ T = 0 := by
      intro z
      obtain ⟨p, hp, e⟩ := g2 hex
      exact (mk_eq0 T1).mp z p ((T2 p).mpr ⟨hp, e⟩)
    exact xw_forced hg hx hm (Nat.mod_lt _ (by decide)) T1 hT0 (fun p hp => ((T2 p).mp hp).1)
      (fun A A1 A2 => And.intro hin (nm_r (e' := upd sg d 1) (by rw [hcl]) (xw_push (d := d + 1) (by omega) (h1 e g T A g5 g1 (g2 hex) T2 A1 A2))))
theorem xw_goOn (hg : gm_ok O C F G) (hx : xg_G o co fi se O C F G) {d : Nat} (hd : d < 11) {m : Int32} (hl : lv d = m) (hm : mk_sm m) {post : SX → Prop}
    {g : Nat} (g1 : ∀ p, mk_st m p → C p ≤ g) (g2 : ∃ p, mk_st m p ∧ C p = g)
    (hw : mk_sm (wo (1 - g % 2))) (hwm : ∀ p, mk_st (wo (1 - g % 2)) p → mk_st m p)
    (h0 : wo (1 - g % 2) = 0 → post (o, nI d, co, fi, se, lv, sg, gv, upd wo (g % 2) m, re))
    (h1 : ¬ wo (1 - g % 2) = 0 → ∀ B, mk_sm B → pg_Attr O F G (1 - g % 2) (mk_st m) (mk_st (wo (1 - g % 2))) (mk_st B) →
      post (o, nI (d + 2), co, fi, se, upd lv (d + 1) (m &&& (B ^^^ (-1))), upd (upd sg d 2) (d + 1) 0, upd gv d B, wo, re)) :
    wpX_goOn post (o, nI (d + 1), co, fi, se, lv, sg, gv, wo, re) (nI d) := by
  have hin : vp_in (nI d) 12 := vp_in_nI (by omega) (by omega)
  have hcl : (nI d).toNatClampNeg = d := nI_clamp (by omega)
  refine And.intro hin (nm_r (e' := m) (by rw [hcl]; exact hl) ?_)
  refine xw_greatest hg hx (fun g' g5 g3 g4 => ?_)
  have hex : ∃ p, mk_st m p := by
    obtain ⟨p, hp, _⟩ := g2
    exact ⟨p, hp⟩
  have eg : g' = g := so_max_u g1 g2 g3 (g4 hex)
  subst eg
  have hi : g' % 2 < 2 := Nat.mod_lt _ (by decide)
  have hj : 1 - g' % 2 < 2 := by omega
  refine nm_r (e' := nI (g' % 2)) (pk_andN (n := g') (m := 1) (by omega) 1 (by decide)) ?_
  have e1 : (1 : Int32) - nI (g' % 2) = nI (1 - g' % 2) := pk_sub (a := 1) (by omega)
  rw [e1]
  refine And.intro (vp_in_nI hj (by omega)) (nm_r (e' := wo (1 - g' % 2)) (by rw [nI_clamp (by omega : 1 - g' % 2 < 2 ^ 31)]) ?_)
  by_cases e : wo (1 - g' % 2) = 0
  · exact br_t e (And.intro (vp_in_nI hi (by omega)) (nm_r (e' := upd wo (g' % 2) m) (by rw [nI_clamp (by omega : g' % 2 < 2 ^ 31)]) (nm_r (nI_pred d) (h0 e))))
  · exact br_f e (xw_forced hg hx hm hj hw e hwm (fun B B1 B2 => And.intro hin (nm_r (e' := upd gv d B) (by rw [hcl])
      (And.intro hin (nm_r (e' := upd sg d 2) (by rw [hcl]) (xw_push (d := d + 1) (by omega) (h1 e B B1 B2)))))))
theorem xw_finish (hg : gm_ok O C F G) (hx : xg_G o co fi se O C F G) {d : Nat} (hd : d < 11) {m : Int32} (hl : lv d = m) {post : SX → Prop}
    {g : Nat} (g1 : ∀ p, mk_st m p → C p ≤ g) (g2 : ∃ p, mk_st m p ∧ C p = g) {B : Int32} (hB : gv d = B)
    (h : post (o, nI d, co, fi, se, lv, sg, gv, upd wo (1 - g % 2) (wo (1 - g % 2) ||| B), re)) :
    wpX_finish post (o, nI (d + 1), co, fi, se, lv, sg, gv, wo, re) (nI d) := by
  have hin : vp_in (nI d) 12 := vp_in_nI (by omega) (by omega)
  have hcl : (nI d).toNatClampNeg = d := nI_clamp (by omega)
  refine And.intro hin ?_
  show wpX_greatest _ _ (lv (nI d).toNatClampNeg)
  rw [hcl, hl]
  refine xw_greatest hg hx (fun g' g5 g3 g4 => ?_)
  have hex : ∃ p, mk_st m p := by
    obtain ⟨p, hp, _⟩ := g2
    exact ⟨p, hp⟩
  have eg : g' = g := so_max_u g1 g2 g3 (g4 hex)
  subst eg
  have hi : g' % 2 < 2 := Nat.mod_lt _ (by decide)
  have hj : 1 - g' % 2 < 2 := by omega
  refine nm_r (e' := nI (g' % 2)) (pk_andN (n := g') (m := 1) (by omega) 1 (by decide)) ?_
  have e1 : (1 : Int32) - nI (g' % 2) = nI (1 - g' % 2) := pk_sub (a := 1) (by omega)
  rw [e1]
  have hin2 : vp_in (nI (1 - g' % 2)) 2 := vp_in_nI hj (by omega)
  refine And.intro hin2 (And.intro hin (And.intro hin2 (nm_r (e' := upd wo (1 - g' % 2) (wo (1 - g' % 2) ||| B)) ?_ (nm_r (nI_pred d) h))))
  rw [nI_clamp (by omega : 1 - g' % 2 < 2 ^ 31), ← hB]
end
end
section
/-! X: the solving loop: a level of n positions is solved in at most so_B n steps -/
def so_B : Nat → Nat
  | 0 => 1
  | n + 1 => 2 * so_B n + 3
theorem so_B_pos (n : Nat) : 1 ≤ so_B n := by
  cases n with
  | zero => exact Nat.le_refl _
  | succ n => show 1 ≤ 2 * so_B n + 3; omega
section
variable {o dp : Int32} {co fi se lv sg gv wo re : Nat → Int32} {O C F G : Nat → Nat}
/-- a step at an empty level -/
theorem xw_s0 (hg : gm_ok O C F G) (hx : xg_G o co fi se O C F G) {post : SX → Prop} {d t k : Nat} (hd : d ≤ 8) (hl : lv d = 0) (hs : sg d = 0)
    (ht : t < 2000) (hk : k + t = 2001)
    (K : ∀ k' t' lv' sg' gv' wo', k' + t' = 2001 → t' ≤ t + 1 → (∀ e, e < d → lv' e = lv e ∧ sg' e = sg e ∧ gv' e = gv e) →
      so_Sol O C F G 0 wo' → wX_solve_14 post k' (nI t') o (nI d) co fi se lv' sg' gv' wo' re) :
    wX_solve_14 post k (nI t) o (nI (d + 1)) co fi se lv sg gv wo re := by
  obtain ⟨k', rfl⟩ : ∃ k', k = k' + 1 := ⟨k - 1, by omega⟩
  have hcl : (nI d).toNatClampNeg = d := nI_clamp (by omega)
  refine br_f (nI_ge (b := 2000) ht (by omega)) (br_f (nI_nle (by omega) (by omega)) (nm_r (nI_pred d) (And.intro (vp_in_nI (by omega) (by omega)) ?_)))
  refine br_t (by rw [hcl]; exact hs) ?_
  refine xw_begin hg hx (by omega) hl mk_sm_0 (fun _ => ?_) (fun z => absurd rfl z)
  exact nm_r (nI_1 t) (K k' (t + 1) _ _ _ _ (by omega) (by omega) (fun e _ => ⟨rfl, rfl, rfl⟩) (so_empty wo))
theorem xw_sol_l (hg : gm_ok O C F G) (hx : xg_G o co fi se O C F G) {post : SX → Prop} : ∀ n (m : Int32) (d t k : Nat) (lv sg gv wo : Nat → Int32),
    mk_sm m → (∀ p, mk_st m p → mk_st m (F p) ∨ mk_st m (G p)) → mk_cn (bt m) 8 ≤ n → d + n ≤ 8 → lv d = m → sg d = 0 →
    k + t = 2001 → t + so_B n ≤ 2000 →
    (∀ k' t' lv' sg' gv' wo', k' + t' = 2001 → t' ≤ t + so_B n → (∀ e, e < d → lv' e = lv e ∧ sg' e = sg e ∧ gv' e = gv e) →
      so_Sol O C F G m wo' → wX_solve_14 post k' (nI t') o (nI d) co fi se lv' sg' gv' wo' re) →
    wX_solve_14 post k (nI t) o (nI (d + 1)) co fi se lv sg gv wo re := by
  intro n
  induction n with
  | zero =>
    intro m d t k lv sg gv wo hm hS hc hd hl hs hk ht K
    have e0 : m = 0 := (mk_eq0 hm).mpr (fun p hp => by have := mk_cn_p (f := bt m) hp.1 hp.2; omega)
    subst e0
    have hB : so_B 0 = 1 := rfl
    rw [hB] at ht K
    exact xw_s0 hg hx (by omega) hl hs (by omega) hk K
  | succ n ih =>
    intro m d t k lv sg gv wo hm hS hc hd hl hs hk ht K
    have hB : so_B (n + 1) = 2 * so_B n + 3 := rfl
    have hBp := so_B_pos n
    rw [hB] at ht K
    by_cases e0 : m = 0
    · subst e0
      exact xw_s0 hg hx (by omega) hl hs (by omega) hk (fun k' t' lv' sg' gv' wo' a b => K k' t' lv' sg' gv' wo' a (by omega))
    · obtain ⟨k', rfl⟩ : ∃ k', k = k' + 1 := ⟨k - 1, by omega⟩
      have hcl : (nI d).toNatClampNeg = d := nI_clamp (by omega)
      have hin : vp_in (nI d) 12 := vp_in_nI (by omega) (by omega)
      refine br_f (nI_ge (b := 2000) (by omega) (by omega)) (br_f (nI_nle (by omega) (by omega)) (nm_r (nI_pred d) (And.intro hin ?_)))
      refine br_t (by rw [hcl]; exact hs) ?_
      refine xw_begin hg hx (by omega) hl hm (fun z => absurd z e0) (fun _ g T A g5 g1 g2 T2 A1 A2 => ?_)
      refine nm_r (nI_1 t) ?_
      have hij := so_P_of g
      have hlt := so_P_lt hij
      obtain ⟨pT, hpm, hpg⟩ := id g2
      have hpA : mk_st A pT := A2.1 pT ((T2 pT).mpr ⟨hpm, hpg⟩)
      have hc1 := so_cnt hpA hpm
      have hS1 : ∀ p, mk_st (m &&& (A ^^^ (-1))) p → mk_st (m &&& (A ^^^ (-1))) (F p) ∨ mk_st (m &&& (A ^^^ (-1))) (G p) := by
        rw [mk_st_diff]
        exact pg_sub hS A2
      refine ih (m &&& (A ^^^ (-1))) (d + 1) (t + 1) k' _ _ _ _ (mk_sm_and hm _) hS1 (by omega) (by omega) pk_us pk_us (by omega) (by omega) ?_
      intro k1 t1 lv1 sg1 gv1 wo1 hk1 ht1 hp1 hsol1
      obtain ⟨k1', rfl⟩ : ∃ k', k1 = k' + 1 := ⟨k1 - 1, by omega⟩
      have hl1 : lv1 d = m := ((hp1 d (by omega)).1.trans (pk_un (by omega))).trans hl
      have hs1 : sg1 d = 1 := ((hp1 d (by omega)).2.1.trans (pk_un (by omega))).trans pk_us
      have pr1 : ∀ e, e < d → lv1 e = lv e ∧ sg1 e = sg e ∧ gv1 e = gv e := fun e he =>
        ⟨(hp1 e (by omega)).1.trans (pk_un (by omega)), ((hp1 e (by omega)).2.1.trans (pk_un (by omega))).trans (pk_un (by omega)), (hp1 e (by omega)).2.2⟩
      have gt1 := so_get hsol1 hij
      have hwm : ∀ p, mk_st (wo1 (1 - g % 2)) p → mk_st m p := by
        intro p hp
        have h3 := (gt1.1 p).mpr (Or.inr hp)
        rw [mk_st_diff] at h3
        exact h3.1
      refine br_f (nI_ge (b := 2000) (by omega) (by omega)) (br_f (nI_nle (by omega) (by omega)) (nm_r (nI_pred d) (And.intro hin ?_)))
      refine br_f (by rw [hcl, hs1]; decide) (And.intro hin (br_t (by rw [hcl]; exact hs1) ?_))
      refine xw_goOn hg hx (by omega) hl1 hm g1 g2 (hsol1.1 _ hlt.2.1) hwm (fun hz => ?_) (fun hz B B1 B2 => ?_)
      · exact nm_r (nI_1 t1) (K k1' (t1 + 1) _ _ _ _ (by omega) (by omega) pr1
          (so_z1 hij rfl hS g1 (fun p hp => ((T2 p).mp hp).2) hm A2 hsol1 hz))
      · refine nm_r (nI_1 t1) ?_
        have hexL : ∃ p, mk_st (wo1 (1 - g % 2)) p :=
          Classical.byContradiction (fun z => hz ((mk_eq0 (hsol1.1 _ hlt.2.1)).mpr (fun p hp => z ⟨p, hp⟩)))
        obtain ⟨pL, hpL⟩ := hexL
        have hc2 := so_cnt (B2.1 pL hpL) (hwm pL hpL)
        have hS2 : ∀ p, mk_st (m &&& (B ^^^ (-1))) p → mk_st (m &&& (B ^^^ (-1))) (F p) ∨ mk_st (m &&& (B ^^^ (-1))) (G p) := by
          rw [mk_st_diff]
          exact pg_sub hS B2
        refine ih (m &&& (B ^^^ (-1))) (d + 1) (t1 + 1) k1' _ _ _ _ (mk_sm_and hm _) hS2 (by omega) (by omega) pk_us pk_us (by omega) (by omega) ?_
        intro k2 t2 lv2 sg2 gv2 wo2 hk2 ht2 hp2 hsol2
        obtain ⟨k2', rfl⟩ : ∃ k', k2 = k' + 1 := ⟨k2 - 1, by omega⟩
        have hl2 : lv2 d = m := ((hp2 d (by omega)).1.trans (pk_un (by omega))).trans hl1
        have hs2 : sg2 d = 2 := ((hp2 d (by omega)).2.1.trans (pk_un (by omega))).trans pk_us
        have hg2 : gv2 d = B := (hp2 d (by omega)).2.2.trans pk_us
        have pr2 : ∀ e, e < d → lv2 e = lv e ∧ sg2 e = sg e ∧ gv2 e = gv e := fun e he =>
          ⟨((hp2 e (by omega)).1.trans (pk_un (by omega))).trans (pr1 e he).1,
           (((hp2 e (by omega)).2.1.trans (pk_un (by omega))).trans (pk_un (by omega))).trans (pr1 e he).2.1,
           ((hp2 e (by omega)).2.2.trans (pk_un (by omega))).trans (pr1 e he).2.2⟩
        refine br_f (nI_ge (b := 2000) (by omega) (by omega)) (br_f (nI_nle (by omega) (by omega)) (nm_r (nI_pred d) (And.intro hin ?_)))
        refine br_f (by rw [hcl, hs2]; decide) (And.intro hin (br_f (by rw [hcl, hs2]; decide) ?_))
        refine xw_finish hg hx (by omega) hl2 g1 g2 hg2 ?_
        exact nm_r (nI_1 t2) (K k2' (t2 + 1) _ _ _ _ (by omega) (by omega) pr2 (so_z2 hg hij A2 hsol1 B1 B2 hsol2))
theorem xw_solve (hg : gm_ok O C F G) (hx : xg_G o co fi se O C F G) {post : SX → Prop}
    (h : ∀ dp' lv' sg' gv' wo', so_Sol O C F G 255 wo' → post (o, dp', co, fi, se, lv', sg', gv', wo', re)) :
    wpX_solve post (o, dp, co, fi, se, lv, sg, gv, wo, re) := by
  unfold wpX_solve
  refine xw_push (d := 0) (by omega) (Exists.intro 2001 ?_)
  have hS : ∀ p, mk_st 255 p → mk_st 255 (F p) ∨ mk_st 255 (G p) := by
    rw [mk_st_255]
    exact fun p hp => Or.inl (hg p hp).2.2.1
  refine xw_sol_l hg hx 8 255 0 0 2001 _ _ _ _ mk_sm_255 hS (mk_cn_le _ 8) (by omega) pk_us pk_us rfl (by decide) ?_
  intro k' t' lv' sg' gv' wo' hk ht _ hs
  have hB : so_B 8 = 1021 := rfl
  obtain ⟨k'', rfl⟩ : ∃ k'', k' = k'' + 1 := ⟨k' - 1, by omega⟩
  exact br_f (nI_ge (b := 2000) (by omega) (by omega)) (br_t (show nI 0 ≤ 0 by decide) (h _ _ _ _ _ hs))
end
end
section
/-! closing ways and judging a plan: the pure steps that both sides share -/
def wa_in (a : Nat → Int32) (k p : Nat) (c : Nat → Int32) : Prop := ∀ q, q < 8 → c q = if q < p then wa_row a k q else a q
theorem wa_in0 (a : Nat → Int32) (k : Nat) : wa_in a k 0 a := fun q _ => (if_neg (Nat.not_lt_zero q)).symm
theorem wa_inP {a c : Nat → Int32} {k p : Nat} (h : wa_in a k p c) (hp : p < 8) : c p = a p := (h p hp).trans (if_neg (Nat.lt_irrefl p))
theorem wa_inK {a c : Nat → Int32} {k p : Nat} (h : wa_in a k p c) (hk : k < 8) : c k = a k := by
  rw [h k hk]
  by_cases e : k < p
  · rw [if_pos e, wa_self]
  · rw [if_neg e]
theorem wa_in_t {a c : Nat → Int32} {k p : Nat} (h : wa_in a k p c) (hb : bt (a p) k = true) : wa_in a k (p + 1) (upd c p (a p ||| a k)) := by
  intro q hq
  by_cases e : q = p
  · subst e
    rw [pk_us, if_pos (by omega)]
    unfold wa_row
    rw [if_pos hb]
  · rw [pk_un e, h q hq]
    by_cases e2 : q < p
    · rw [if_pos e2, if_pos (by omega)]
    · rw [if_neg e2, if_neg (by omega)]
theorem wa_in_f {a c : Nat → Int32} {k p : Nat} (h : wa_in a k p c) (hb : ¬ bt (a p) k = true) : wa_in a k (p + 1) c := by
  intro q hq
  rw [h q hq]
  by_cases e : q = p
  · subst e
    rw [if_neg (by omega), if_pos (by omega)]
    unfold wa_row
    rw [if_neg hb]
  · by_cases e2 : q < p
    · rw [if_pos e2, if_pos (by omega)]
    · rw [if_neg e2, if_neg (by omega)]
theorem wa_in8 {a c : Nat → Int32} {k : Nat} (h : wa_in a k 8 c) : ∀ q, q < 8 → c q = wa_row a k q := fun q hq => (h q hq).trans (if_pos hq)
/-- the closed ways -/
def wa_T (R : Nat → Nat → Prop) (a : Nat → Int32) : Prop :=
  (∀ p, p < 8 → mk_sm (a p)) ∧ ∀ p q, p < 8 → q < 8 → (bt (a p) q = true ↔ Relation.TransGen R p q)
theorem wa_T_of {O C F G : Nat → Nat} (hg : gm_ok O C F G) {i : Nat} {s : Nat → Nat} (hs : ∀ p, s p = F p ∨ s p = G p) {c : Nat} {a : Nat → Int32}
    (h : wa_I (pg_Ec O C F G i s c) 8 a) : wa_T (pg_Ec O C F G i s c) a :=
  ⟨h.1, fun _ _ hp hq => wa_end h (fun _ _ e => pg_E8 hg hs e) hp hq⟩
/-- one move, as masks -/
def wa_M (R : Nat → Nat → Prop) (j : Nat) (a : Nat → Int32) : Prop := ∀ p, p < j → ∀ q, bt (a p) q = true ↔ R p q
theorem wa_M_s {R : Nat → Nat → Prop} {j : Nat} {a a' : Nat → Int32} (h : wa_M R j a) (hk : ∀ p, p < j → a' p = a p)
    (hj : ∀ q, bt (a' j) q = true ↔ R j q) : wa_M R (j + 1) a' := by
  intro p hp q
  by_cases e : p = j
  · subst e; exact hj q
  · rw [hk p (by omega)]; exact h p (by omega) q
theorem wa_M_I {O C F G : Nat → Nat} (hg : gm_ok O C F G) {i : Nat} {s : Nat → Nat} (hs : ∀ p, s p = F p ∨ s p = G p) {c : Nat} {a : Nat → Int32}
    (h : wa_M (pg_Ec O C F G i s c) 8 a) : wa_I (pg_Ec O C F G i s c) 0 a := by
  refine wa_start (fun p hp q hq => mk_nt (fun z => ?_)) (fun p q hp _ => h p hp q)
  have := (pg_E8 hg hs ((h p hp q).mp z)).2
  omega
/-- the positions of colours below c that lie on a bad circle -/
def lo_I (O C F G : Nat → Nat) (i : Nat) (s : Nat → Nat) (c : Nat) (x : Int32) : Prop :=
  mk_sm x ∧ ∀ p, p < 8 → (bt x p = true ↔ C p < c ∧ pg_Bad O C F G i s p)
theorem lo_0 {O C F G : Nat → Nat} {i : Nat} {s : Nat → Nat} (hi : i < 2) : lo_I O C F G i s (1 - i) 0 := by
  refine ⟨mk_sm_0, fun p _ => ?_⟩
  rw [b_0]
  refine ⟨fun z => absurd z (by decide), fun z => ?_⟩
  have h1 := z.1
  have h2 := z.2.1
  omega
theorem lo_s {O C F G : Nat → Nat} {i : Nat} {s : Nat → Nat} {c : Nat} {x y : Int32} {a : Nat → Int32} (hi : i < 2) (hc : c % 2 ≠ i)
    (h : lo_I O C F G i s c x) (ha : wa_T (pg_Ec O C F G i s c) a) (hJ : mk_J x (fun p => C p = c ∧ bt (a p) p = true) 8 y) :
    lo_I O C F G i s (c + 2) y := by
  refine ⟨mk_J_sm hJ h.1, fun p hp => ?_⟩
  rw [hJ p, h.2 p hp]
  constructor
  · rintro (⟨z1, z2⟩ | ⟨_, z1, z2⟩)
    · exact ⟨by omega, z2⟩
    · refine ⟨by omega, by omega, ?_⟩
      rw [z1]
      exact (ha.2 p p hp hp).mp z2
  · rintro ⟨z1, z2⟩
    by_cases e : C p < c
    · exact Or.inl ⟨e, z2⟩
    · have h3 := z2.1
      have e2 : C p = c := by omega
      refine Or.inr ⟨hp, e2, (ha.2 p p hp hp).mpr ?_⟩
      have h4 := z2.2
      rw [e2] at h4
      exact h4
theorem lo_end {O C F G : Nat → Nat} (hg : gm_ok O C F G) {i : Nat} {s : Nat → Nat} {c : Nat} {x : Int32} (h : lo_I O C F G i s c x) (hc : 6 ≤ c) :
    mk_sm x ∧ ∀ p, p < 8 → (bt x p = true ↔ pg_Bad O C F G i s p) := by
  refine ⟨h.1, fun p hp => ?_⟩
  rw [h.2 p hp]
  have := (hg p hp).2.1
  exact ⟨fun z => z.2, fun z => ⟨by omega, z⟩⟩
theorem lo_tg8 {O C F G : Nat → Nat} (hg : gm_ok O C F G) {i : Nat} {s : Nat → Nat} (hs : ∀ p, s p = F p ∨ s p = G p) {c p q : Nat}
    (h : Relation.TransGen (pg_Ec O C F G i s c) p q) : q < 8 := by
  cases h with
  | single e => exact (pg_E8 hg hs e).2
  | tail _ e => exact (pg_E8 hg hs e).2
/-- ways against the lost -/
theorem lo_and {O C F G : Nat → Nat} (hg : gm_ok O C F G) {i : Nat} {s : Nat → Nat} (hs : ∀ p, s p = F p ∨ s p = G p) {x : Int32} {a : Nat → Int32}
    (hx : mk_sm x ∧ ∀ p, p < 8 → (bt x p = true ↔ pg_Bad O C F G i s p)) (ha : wa_T (pg_Ec O C F G i s 5) a) {p : Nat} (hp : p < 8) :
    a p &&& x = 0 ↔ ∀ q, Relation.TransGen (pg_Ec O C F G i s 5) p q → ¬ pg_Bad O C F G i s q := by
  rw [mk_eq0 (mk_sm_and2 _ hx.1)]
  constructor
  · intro h q t hb
    have hq := lo_tg8 hg hs t
    refine h q ⟨hq, ?_⟩
    rw [b_and, (ha.2 p q hp hq).mpr t, (hx.2 q hq).mpr hb]
    rfl
  · intro h q hq
    have h2 := hq.2
    rw [b_and] at h2
    obtain ⟨h3, h4⟩ := Bool.and_eq_true_iff.mp h2
    exact h q ((ha.2 p q hp hq.1).mp h3) ((hx.2 q hq.1).mp h4)
theorem lo_win {O C F G : Nat → Nat} (hg : gm_ok O C F G) {i : Nat} {s : Nat → Nat} (hs : ∀ p, s p = F p ∨ s p = G p) {x : Int32} {a : Nat → Int32}
    (hx : mk_sm x ∧ ∀ p, p < 8 → (bt x p = true ↔ pg_Bad O C F G i s p)) (ha : wa_T (pg_Ec O C F G i s 5) a) {p : Nat} (hp : p < 8) :
    (a p ||| ((1 : Int32) <<< (nI p &&& 31))) &&& x = 0 ↔ pg_Win O C F G i s p := by
  have h1 := lo_and hg hs hx ha hp
  rw [mk_eq0 (mk_sm_and2 _ hx.1)] at h1 ⊢
  unfold pg_Win
  rw [← h1, ← hx.2 p hp]
  constructor
  · intro h
    refine ⟨fun z => h p ⟨hp, ?_⟩, fun q hq => h q ⟨hq.1, ?_⟩⟩
    · rw [b_and, (mk_orbit (a p) (by omega) p).mpr (Or.inr rfl), z]
      rfl
    · have h2 := hq.2
      rw [b_and] at h2 ⊢
      obtain ⟨h3, h4⟩ := Bool.and_eq_true_iff.mp h2
      rw [(mk_orbit (a p) (by omega) q).mpr (Or.inl h3), h4]
      rfl
  · rintro ⟨h2, h3⟩ q hq
    have h4 := hq.2
    rw [b_and] at h4
    obtain ⟨h5, h6⟩ := Bool.and_eq_true_iff.mp h4
    rcases (mk_orbit (a p) (by omega) q).mp h5 with z | z
    · exact h3 q ⟨hq.1, by rw [b_and, z, h6]; rfl⟩
    · subst z; exact h2 h6
end
section
/-! X: closeWays, badCircles, isGood -/
section
variable {o dp : Int32} {co fi se lv sg gv wo re : Nat → Int32} {O C F G : Nat → Nat}
theorem xw_movesBy (hg : gm_ok O C F G) (hx : xg_G o co fi se O C F G) {p i : Nat} (hp : p < 8) (hi : i < 2) {ch : Int32} {post : Int32 → Prop}
    (h : ∀ r, (∀ q, bt r q = true ↔ pg_E O F G i (pg_ch F G (bt ch)) p q) → post r) :
    wpX_movesBy post (o, dp, co, fi, se, lv, sg, gv, wo, re) (nI p) (nI i) ch := by
  have hin : vp_in (nI p) 8 := vp_in_nI hp (by omega)
  have hcl : (nI p).toNatClampNeg = p := nI_clamp (by omega)
  obtain ⟨ho, _, hF, hG⟩ := hg p hp
  obtain ⟨_, _, hf, hs⟩ := hx p hp
  unfold wpX_movesBy
  refine xw_owner hx hp ?_
  refine pk_eq (O p) i (fun e => ?_) (fun e => ?_)
  · by_cases hb : bt ch p = true
    · refine br_t ((mk_t1 (by omega) ch).mpr hb) (And.intro hin ?_)
      rw [hcl, hs]
      refine h _ (fun q => ?_)
      rw [mk_bit (by omega), decide_eq_true_eq]
      have es : pg_ch F G (bt ch) p = G p := if_pos hb
      exact ⟨fun z => ⟨fun _ => z.trans es.symm, fun n => absurd e n⟩, fun z => (z.1 e).trans es⟩
    · refine br_f (fun z => hb ((mk_t1 (by omega) ch).mp z)) (And.intro hin ?_)
      rw [hcl, hf]
      refine h _ (fun q => ?_)
      rw [mk_bit (by omega), decide_eq_true_eq]
      have es : pg_ch F G (bt ch) p = F p := if_neg hb
      exact ⟨fun z => ⟨fun _ => z.trans es.symm, fun n => absurd e n⟩, fun z => (z.1 e).trans es⟩
  · refine xw_moves hx hp (h _ (fun q => ?_))
    rw [mk_mv (by omega) (by omega)]
    exact ⟨fun z => ⟨fun n => absurd n e, fun _ => z⟩, fun z => z.2 e⟩
theorem xw_cw72 {post : SX → Prop}
    {J62 : Int32 → (Nat → Int32) → (Nat → Int32) → (Nat → Int32) → (Nat → Int32) → (Nat → Int32) → (Nat → Int32) → (Nat → Int32) → (Nat → Int32) → Prop}
    {k : Nat} (hk : k < 8) {a : Nat → Int32} (H : ∀ c, (∀ q, q < 8 → c q = wa_row a k q) → J62 (nI (k + 1)) co fi se lv sg gv wo c) :
    ∀ d p, p + d = 8 → ∀ c, wa_in a k p c → wX_closeWays_72 post J62 (nI k) o dp (d + 1) (nI p) co fi se lv sg gv wo c := by
  intro d
  induction d with
  | zero =>
    intro j hj c hc
    have e : j = 8 := by omega
    subst e
    exact br_t (show (8 : Int32) ≤ nI 8 by decide) (nm_r (nI_1 k) (H c (wa_in8 hc)))
  | succ d ih =>
    intro p hj c hc
    have hp : p < 8 := by omega
    have hin : vp_in (nI p) 8 := vp_in_nI hp (by omega)
    have hcl : (nI p).toNatClampNeg = p := nI_clamp (by omega)
    have hck : (nI k).toNatClampNeg = k := nI_clamp (by omega)
    have e1 : c (nI p).toNatClampNeg = a p := by rw [hcl]; exact wa_inP hc hp
    have e2 : c (nI k).toNatClampNeg = a k := by rw [hck]; exact wa_inK hc hk
    refine br_f (nI_ge (b := 8) hp (by decide)) (And.intro hin ?_)
    rw [e1, e2]
    by_cases hb : bt (a p) k = true
    · exact br_t ((mk_t1 (by omega) _).mpr hb) (And.intro hin (And.intro (vp_in_nI hk (by omega)) (And.intro hin
        (nm_r (e' := upd c p (a p ||| a k)) (by rw [hcl]) (nm_r (nI_1 p) (ih (p + 1) (by omega) _ (wa_in_t hc hb)))))))
    · exact br_f (fun z => hb ((mk_t1 (by omega) _).mp z)) (nm_r (nI_1 p) (ih (p + 1) (by omega) c (wa_in_f hc hb)))
theorem xw_cw62 {R : Nat → Nat → Prop} {post : SX → Prop} (H : ∀ c, wa_I R 8 c → post (o, dp, co, fi, se, lv, sg, gv, wo, c)) :
    ∀ d k, k + d = 8 → ∀ c, wa_I R k c → wX_closeWays_62 post o dp (d + 1) (nI k) co fi se lv sg gv wo c := by
  intro d
  induction d with
  | zero =>
    intro j hj c hc
    have e : j = 8 := by omega
    subst e
    exact br_t (show (8 : Int32) ≤ nI 8 by decide) (H c hc)
  | succ d ih =>
    intro k hj c hc
    have hk : k < 8 := by omega
    refine br_f (nI_ge (b := 8) hk (by decide)) (Exists.intro 9 ?_)
    exact xw_cw72 hk (fun c' hc' => ih (k + 1) (by omega) c' (wa_step hk hc hc')) 8 0 rfl c (wa_in0 _ _)
theorem xw_cw3 (hg : gm_ok O C F G) (hx : xg_G o co fi se O C F G) {i c : Nat} (hi : i < 2) (hc : c ≤ 5) {ch : Int32} {post : SX → Prop}
    (H : ∀ a, wa_M (pg_Ec O C F G i (pg_ch F G (bt ch)) c) 8 a → ∃ n, wX_closeWays_62 post o dp n 0 co fi se lv sg gv wo a) :
    ∀ d j, j + d = 8 → ∀ a, wa_M (pg_Ec O C F G i (pg_ch F G (bt ch)) c) j a →
      wX_closeWays_3 post (nI i) ch (nI c) o dp (d + 1) (nI j) co fi se lv sg gv wo a := by
  intro d
  induction d with
  | zero =>
    intro j hj a ha
    have e : j = 8 := by omega
    subst e
    exact br_t (show (8 : Int32) ≤ nI 8 by decide) (H a ha)
  | succ d ih =>
    intro j hj a ha
    have hj8 : j < 8 := by omega
    have hin : vp_in (nI j) 8 := vp_in_nI hj8 (by omega)
    have hcl : (nI j).toNatClampNeg = j := nI_clamp (by omega)
    have hc5 := (hg j hj8).2.1
    have hco : co (nI j).toNatClampNeg = nI (C j) := by rw [hcl]; exact (hx j hj8).2.1
    refine br_f (nI_ge (b := 8) hj8 (by decide)) (And.intro hin (nm_r (e' := upd a j 0) (by rw [hcl]) ?_))
    refine xw_movesBy hg hx hj8 hi (fun r hr => And.intro hin ?_)
    refine pk_lt c (C j) (fun hlt => ?_) (fun hle => ?_) rfl hco
    · refine nm_r (nI_1 j) (ih (j + 1) (by omega) _ (wa_M_s ha (fun p hp => pk_un (by omega)) (fun q => ?_)))
      rw [pk_us, b_0]
      refine ⟨fun z => absurd z (by decide), fun z => ?_⟩
      have := z.2.1
      omega
    · refine xw_lowOnly hg hx hc (fun x hx2 => And.intro hin (nm_r (e' := upd (upd a j 0) j x) (by rw [hcl]) (nm_r (nI_1 j) (ih (j + 1) (by omega) _ ?_))))
      refine wa_M_s ha (fun p hp => (pk_un (by omega)).trans (pk_un (by omega))) (fun q => ?_)
      rw [pk_us, hx2 q, hr q]
      refine ⟨fun z => ⟨hj8, hle, z.2.2, z.2.1⟩, fun z => ⟨(pg_E8 hg (pg_ch_mv F G (bt ch)) z).2, z.2.2.2, z.2.2.1⟩⟩
theorem xw_closeWays (hg : gm_ok O C F G) (hx : xg_G o co fi se O C F G) {i c : Nat} (hi : i < 2) (hc : c ≤ 5) {ch : Int32} {post : SX → Prop}
    (H : ∀ a, wa_T (pg_Ec O C F G i (pg_ch F G (bt ch)) c) a → post (o, dp, co, fi, se, lv, sg, gv, wo, a)) :
    wpX_closeWays post (o, dp, co, fi, se, lv, sg, gv, wo, re) (nI i) ch (nI c) :=
  Exists.intro 9 (xw_cw3 hg hx hi hc (fun a ha => Exists.intro 9
    (xw_cw62 (fun a' ha' => H a' (wa_T_of hg (pg_ch_mv F G (bt ch)) ha')) 8 0 rfl a (wa_M_I hg (pg_ch_mv F G (bt ch)) ha))) 8 0 rfl re
    (fun p hp => absurd hp (Nat.not_lt_zero _)))
theorem xw_bc24 (hg : gm_ok O C F G) (hx : xg_G o co fi se O C F G) {post : Int32 → SX → Prop}
    {J7 : Int32 → Int32 → Int32 → Int32 → (Nat → Int32) → (Nat → Int32) → (Nat → Int32) → (Nat → Int32) → (Nat → Int32) → (Nat → Int32) → (Nat → Int32) → (Nat → Int32) → Prop}
    {x1 ch x : Int32} {c : Nat} (hc : c ≤ 5)
    (H : ∀ y, mk_J x (fun p => C p = c ∧ bt (re p) p = true) 8 y → J7 y (nI (c + 2)) o dp co fi se lv sg gv wo re) :
    ∀ d p, p + d = 8 → ∀ y, mk_J x (fun p => C p = c ∧ bt (re p) p = true) p y →
      wX_badCircles_24 post J7 x1 ch (nI c) o dp co fi se lv sg gv wo re (d + 1) y (nI p) := by
  intro d
  induction d with
  | zero =>
    intro j hj y hy
    have e : j = 8 := by omega
    subst e
    exact br_t (show (8 : Int32) ≤ nI 8 by decide) (nm_r (nI_add c 2) (H y hy))
  | succ d ih =>
    intro p hj y hy
    have hp : p < 8 := by omega
    have hin : vp_in (nI p) 8 := vp_in_nI hp (by omega)
    have hcl : (nI p).toNatClampNeg = p := nI_clamp (by omega)
    have hc5 := (hg p hp).2.1
    have hco : co (nI p).toNatClampNeg = nI (C p) := by rw [hcl]; exact (hx p hp).2.1
    refine br_f (nI_ge (b := 8) hp (by decide)) (And.intro hin ?_)
    refine pk_eq (C p) c (fun e => And.intro hin ?_) (fun e => nm_r (nI_1 p) (ih (p + 1) (by omega) y (mk_Jf hy (fun z => e z.1)))) hco rfl
    rw [hcl]
    by_cases hb : bt (re p) p = true
    · exact br_t ((mk_t1 (by omega) _).mpr hb) (nm_e (nm_r (nI_1 p) (ih (p + 1) (by omega) _ (mk_Jt hy (by omega) ⟨e, hb⟩))))
    · exact br_f (fun z => hb ((mk_t1 (by omega) _).mp z)) (nm_r (nI_1 p) (ih (p + 1) (by omega) y (mk_Jf hy (fun z => hb z.2))))
theorem xw_bc7 (hg : gm_ok O C F G) (hx : xg_G o co fi se O C F G) {i : Nat} (hi : i < 2) {ch : Int32} {post : Int32 → SX → Prop}
    (H : ∀ x a, (mk_sm x ∧ ∀ p, p < 8 → (bt x p = true ↔ pg_Bad O C F G i (pg_ch F G (bt ch)) p)) → post x (o, dp, co, fi, se, lv, sg, gv, wo, a)) :
    ∀ d c, 6 ≤ c + 2 * d → c ≤ 7 → c % 2 ≠ i → ∀ x a, lo_I O C F G i (pg_ch F G (bt ch)) c x →
      wX_badCircles_7 post (nI i) ch (d + 1) x (nI c) o dp co fi se lv sg gv wo a := by
  intro d
  induction d with
  | zero =>
    intro c h6 h7 _ x a hI
    exact br_t (nI_lt (a := 5) (by omega) (by omega)) (H x a (lo_end hg hI (by omega)))
  | succ d ih =>
    intro c h6 h7 hp x a hI
    by_cases e : 5 < c
    · exact br_t (nI_lt (a := 5) e (by omega)) (H x a (lo_end hg hI (by omega)))
    · refine br_f (nI_nlt (b := c) (a := 5) (by omega) (by omega)) (xw_closeWays hg hx hi (by omega) (fun a' ha' => Exists.intro 9 ?_))
      exact xw_bc24 hg hx (by omega) (fun y hy => ih (c + 2) (by omega) (by omega) (by omega) y a' (lo_s hi hp hI ha' hy)) 8 0 rfl x (mk_J0 _ _)
theorem xw_badCircles (hg : gm_ok O C F G) (hx : xg_G o co fi se O C F G) {i : Nat} (hi : i < 2) {ch : Int32} {post : Int32 → SX → Prop}
    (H : ∀ x a, (mk_sm x ∧ ∀ p, p < 8 → (bt x p = true ↔ pg_Bad O C F G i (pg_ch F G (bt ch)) p)) → post x (o, dp, co, fi, se, lv, sg, gv, wo, a)) :
    wpX_badCircles post (o, dp, co, fi, se, lv, sg, gv, wo, re) (nI i) ch :=
  nm_r (e' := nI (1 - i)) (pk_sub (a := 1) (by omega)) (Exists.intro 4 (xw_bc7 hg hx hi H 3 (1 - i) (by omega) (by omega) (by omega) 0 re (lo_0 hi)))
theorem xw_ig18 {post : Int32 → SX → Prop} {rg x : Int32} {W : Nat → Prop}
    (hW : ∀ p, p < 8 → ((re p ||| ((1 : Int32) <<< (nI p &&& 31))) &&& x = 0 ↔ W p))
    (H : post (mk_b (∀ p, mk_st rg p → W p)) (o, dp, co, fi, se, lv, sg, gv, wo, re)) :
    ∀ d j, j + d = 8 → (∀ p, p < j → mk_st rg p → W p) → wX_isGood_18 post rg x o dp co fi se lv sg gv wo re (d + 1) (nI j) := by
  intro d
  induction d with
  | zero =>
    intro j hj h
    have e : j = 8 := by omega
    subst e
    rw [mk_b_t (fun p hp => h p hp.1 hp)] at H
    exact br_t (show (8 : Int32) ≤ nI 8 by decide) H
  | succ d ih =>
    intro j hj h
    have hj8 : j < 8 := by omega
    have hin : vp_in (nI j) 8 := vp_in_nI hj8 (by omega)
    have hcl : (nI j).toNatClampNeg = j := nI_clamp (by omega)
    refine br_f (nI_ge (b := 8) hj8 (by decide)) ?_
    by_cases hb : bt rg j = true
    · refine br_t ((mk_t1 (by omega) rg).mpr hb) (And.intro hin ?_)
      rw [hcl]
      refine br_c (fun e => nm_r (nI_1 j) (ih (j + 1) (by omega) ?_)) (fun e => ?_)
      · intro p hp hs
        by_cases ep : p = j
        · subst ep; exact (hW p hj8).mp e
        · exact h p (by omega) hs
      · rw [mk_b_f (fun z => e ((hW j hj8).mpr (z j ⟨hj8, hb⟩)))] at H
        exact H
    · refine br_f (fun z => hb ((mk_t1 (by omega) rg).mp z)) (nm_r (nI_1 j) (ih (j + 1) (by omega) ?_))
      intro p hp hs
      by_cases ep : p = j
      · subst ep; exact absurd hs.2 hb
      · exact h p (by omega) hs
theorem xw_isGood (hg : gm_ok O C F G) (hx : xg_G o co fi se O C F G) {i : Nat} (hi : i < 2) {ch rg : Int32} {post : Int32 → SX → Prop}
    (H : ∀ a, post (mk_b (∀ p, mk_st rg p → pg_Win O C F G i (pg_ch F G (bt ch)) p)) (o, dp, co, fi, se, lv, sg, gv, wo, a)) :
    wpX_isGood post (o, dp, co, fi, se, lv, sg, gv, wo, re) (nI i) ch rg := by
  refine xw_badCircles hg hx hi (fun x a hb => ?_)
  refine xw_closeWays (c := 5) hg hx hi (by omega) (fun a' ha' => Exists.intro 9 ?_)
  exact xw_ig18 (fun p hp => lo_win hg (pg_ch_mv F G (bt ch)) hb ha' hp) (H a') 8 0 rfl (fun p hp => absurd hp (Nat.not_lt_zero _))
end
end
section
/-! Y: close, plan, wonBy0, region, good -/
def yg_G (ow co fi se : Nat → Int32) (O C F G : Nat → Nat) : Prop :=
  ∀ p, p < 8 → ow p = nI (O p) ∧ co p = nI (C p) ∧ fi p = nI (F p) ∧ se p = nI (G p)
section
variable {kn wi : Int32} {ow co fi se re : Nat → Int32} {O C F G : Nat → Nat}
theorem yw_c169 {post : SY → Prop} {J159 : Int32 → (Nat → Int32) → (Nat → Int32) → (Nat → Int32) → (Nat → Int32) → (Nat → Int32) → Prop}
    {k : Nat} (hk : k < 8) {a : Nat → Int32} (H : ∀ c, (∀ q, q < 8 → c q = wa_row a k q) → J159 (nI (k + 1)) ow co fi se c) :
    ∀ d p, p + d = 8 → ∀ c, wa_in a k p c → wY_close_169 post J159 (nI k) kn wi (d + 1) (nI p) ow co fi se c := by
  intro d
  induction d with
  | zero =>
    intro j hj c hc
    have e : j = 8 := by omega
    subst e
    exact br_t (show (8 : Int32) ≤ nI 8 by decide) (nm_r (nI_1 k) (H c (wa_in8 hc)))
  | succ d ih =>
    intro p hj c hc
    have hp : p < 8 := by omega
    have hin : vp_in (nI p) 8 := vp_in_nI hp (by omega)
    have hcl : (nI p).toNatClampNeg = p := nI_clamp (by omega)
    have hck : (nI k).toNatClampNeg = k := nI_clamp (by omega)
    have e1 : c (nI p).toNatClampNeg = a p := by rw [hcl]; exact wa_inP hc hp
    have e2 : c (nI k).toNatClampNeg = a k := by rw [hck]; exact wa_inK hc hk
    refine br_f (nI_ge (b := 8) hp (by decide)) (And.intro hin ?_)
    rw [e1, e2]
    by_cases hb : bt (a p) k = true
    · exact br_t ((mk_t1 (by omega) _).mpr hb) (And.intro hin (And.intro (vp_in_nI hk (by omega)) (And.intro hin
        (nm_r (e' := upd c p (a p ||| a k)) (by rw [hcl]) (nm_r (nI_1 p) (ih (p + 1) (by omega) _ (wa_in_t hc hb)))))))
    · exact br_f (fun z => hb ((mk_t1 (by omega) _).mp z)) (nm_r (nI_1 p) (ih (p + 1) (by omega) c (wa_in_f hc hb)))
theorem yw_c159 {R : Nat → Nat → Prop} {post : SY → Prop} (H : ∀ c, wa_I R 8 c → post (kn, wi, ow, co, fi, se, c)) :
    ∀ d k, k + d = 8 → ∀ c, wa_I R k c → wY_close_159 post kn wi (d + 1) (nI k) ow co fi se c := by
  intro d
  induction d with
  | zero =>
    intro j hj c hc
    have e : j = 8 := by omega
    subst e
    exact br_t (show (8 : Int32) ≤ nI 8 by decide) (H c hc)
  | succ d ih =>
    intro k hj c hc
    have hk : k < 8 := by omega
    refine br_f (nI_ge (b := 8) hk (by decide)) (Exists.intro 9 ?_)
    exact yw_c169 hk (fun c' hc' => ih (k + 1) (by omega) c' (wa_step hk hc hc')) 8 0 rfl c (wa_in0 _ _)
theorem yw_c90 (hg : gm_ok O C F G) (hy : yg_G ow co fi se O C F G) {post : SY → Prop}
    {J3 : Int32 → (Nat → Int32) → (Nat → Int32) → (Nat → Int32) → (Nat → Int32) → (Nat → Int32) → Prop} {x1 x2 x7 : Int32} {c j : Nat} (hc : c ≤ 5) (hj8 : j < 8)
    (h0 : c < C j → J3 (nI (j + 1)) ow co fi se (upd re j 0))
    (h1 : C j ≤ c → ∀ x8, (∀ q, bt x8 q = true ↔ q < 8 ∧ C q ≤ c) → J3 (nI (j + 1)) ow co fi se (upd re j (x7 &&& x8))) :
    ∀ d q, q + d = 8 → ∀ x8, mk_J 0 (fun q => C q ≤ c) q x8 →
      wY_close_90 post J3 x1 x2 (nI c) (nI j) x7 kn wi ow co fi se re (d + 1) x8 (nI q) := by
  intro d
  have hinj : vp_in (nI j) 8 := vp_in_nI hj8 (by omega)
  have hclj : (nI j).toNatClampNeg = j := nI_clamp (by omega)
  have hcj := (hg j hj8).2.1
  have hcoj : co (nI j).toNatClampNeg = nI (C j) := by rw [hclj]; exact (hy j hj8).2.1
  induction d with
  | zero =>
    intro q hq x8 hJ
    have e : q = 8 := by omega
    subst e
    refine br_t (show (8 : Int32) ≤ nI 8 by decide) (And.intro hinj ?_)
    exact pk_lt c (C j) (fun e => And.intro hinj (nm_r (e' := upd re j 0) (by rw [hclj]) (nm_r (nI_1 j) (h0 e))))
      (fun e => And.intro hinj (nm_r (e' := upd re j (x7 &&& x8)) (by rw [hclj]) (nm_r (nI_1 j) (h1 e x8 (mk_J_z hJ))))) rfl hcoj
  | succ d ih =>
    intro q hq x8 hJ
    have hq8 : q < 8 := by omega
    have hin : vp_in (nI q) 8 := vp_in_nI hq8 (by omega)
    have hcl : (nI q).toNatClampNeg = q := nI_clamp (by omega)
    have hc5 := (hg q hq8).2.1
    have hco : co (nI q).toNatClampNeg = nI (C q) := by rw [hcl]; exact (hy q hq8).2.1
    refine br_f (nI_ge (b := 8) hq8 (by decide)) (And.intro hin ?_)
    exact pk_lt c (C q) (fun e => nm_r (nI_1 q) (ih (q + 1) (by omega) x8 (mk_Jf hJ (fun z => by omega))))
      (fun e => nm_e (nm_r (nI_1 q) (ih (q + 1) (by omega) _ (mk_Jt hJ (by omega) e)))) rfl hco
theorem yw_c62 (hg : gm_ok O C F G) (hy : yg_G ow co fi se O C F G) {post : SY → Prop}
    {J3 : Int32 → (Nat → Int32) → (Nat → Int32) → (Nat → Int32) → (Nat → Int32) → (Nat → Int32) → Prop} {x2 x5 z0 : Int32} {c i j : Nat} (hi : i < 2) (hc : c ≤ 5) (hj8 : j < 8)
    (s : Nat → Nat) (hs : ∀ p, s p = F p ∨ s p = G p) (hz : ∀ q, bt z0 q = true ↔ q = s j) (h5 : ∀ q, bt x5 q = true ↔ q = F j ∨ q = G j)
    (H : ∀ x, (∀ q, bt x q = true ↔ pg_Ec O C F G i s c j q) → J3 (nI (j + 1)) ow co fi se (upd re j x)) :
    wY_close_62 post J3 (nI i) x2 (nI c) (nI j) x5 z0 kn wi ow co fi se re := by
  have hinj : vp_in (nI j) 8 := vp_in_nI hj8 (by omega)
  have hclj : (nI j).toNatClampNeg = j := nI_clamp (by omega)
  obtain ⟨hO, _, hF, hG⟩ := hg j hj8
  have how : ow (nI j).toNatClampNeg = nI (O j) := by rw [hclj]; exact (hy j hj8).1
  have h0 : c < C j → J3 (nI (j + 1)) ow co fi se (upd re j 0) := by
    intro hlt
    refine H 0 (fun q => ?_)
    rw [b_0]
    refine ⟨fun z => absurd z (by decide), fun z => ?_⟩
    have := z.2.1
    omega
  have h1 : ∀ x7 : Int32, (∀ q, bt x7 q = true ↔ pg_E O F G i s j q) → C j ≤ c → ∀ x8, (∀ q, bt x8 q = true ↔ q < 8 ∧ C q ≤ c) →
      J3 (nI (j + 1)) ow co fi se (upd re j (x7 &&& x8)) := by
    intro x7 h7 hle x8 h8
    refine H _ (fun q => ?_)
    rw [b_and, Bool.and_eq_true_iff, h7 q, h8 q]
    exact ⟨fun z => ⟨hj8, hle, z.2.2, z.1⟩, fun z => ⟨z.2.2.2, (pg_E8 hg hs z).2, z.2.2.1⟩⟩
  refine And.intro hinj (pk_eq (O j) i (fun e => Exists.intro 9 ?_) (fun e => Exists.intro 9 ?_) how rfl)
  · refine yw_c90 hg hy hc hj8 h0 (h1 z0 (fun q => ?_)) 8 0 rfl 0 (mk_J0 _ _)
    rw [hz q]
    exact ⟨fun z => ⟨fun _ => z, fun n => absurd e n⟩, fun z => z.1 e⟩
  · refine yw_c90 hg hy hc hj8 h0 (h1 x5 (fun q => ?_)) 8 0 rfl 0 (mk_J0 _ _)
    rw [h5 q]
    exact ⟨fun z => ⟨fun n => absurd n e, fun _ => z⟩, fun z => z.2 e⟩
theorem yw_c3 (hg : gm_ok O C F G) (hy : yg_G ow co fi se O C F G) {i c : Nat} (hi : i < 2) (hc : c ≤ 5) {ch : Int32} {post : SY → Prop}
    (H : ∀ a, wa_M (pg_Ec O C F G i (pg_ch F G (bt ch)) c) 8 a → ∃ n, wY_close_159 post kn wi n 0 ow co fi se a) :
    ∀ d j, j + d = 8 → ∀ a, wa_M (pg_Ec O C F G i (pg_ch F G (bt ch)) c) j a →
      wY_close_3 post (nI i) ch (nI c) kn wi (d + 1) (nI j) ow co fi se a := by
  intro d
  induction d with
  | zero =>
    intro j hj a ha
    have e : j = 8 := by omega
    subst e
    exact br_t (show (8 : Int32) ≤ nI 8 by decide) (H a ha)
  | succ d ih =>
    intro j hj a ha
    have hj8 : j < 8 := by omega
    have hin : vp_in (nI j) 8 := vp_in_nI hj8 (by omega)
    have hcl : (nI j).toNatClampNeg = j := nI_clamp (by omega)
    obtain ⟨hO, _, hF, hG⟩ := hg j hj8
    obtain ⟨_, _, hf, hs⟩ := hy j hj8
    have hf' : fi (nI j).toNatClampNeg = nI (F j) := by rw [hcl]; exact hf
    have hs' : se (nI j).toNatClampNeg = nI (G j) := by rw [hcl]; exact hs
    have K : ∀ x, (∀ q, bt x q = true ↔ pg_Ec O C F G i (pg_ch F G (bt ch)) c j q) →
        wY_close_3 post (nI i) ch (nI c) kn wi (d + 1) (nI (j + 1)) ow co fi se (upd a j x) := by
      intro x hx
      refine ih (j + 1) (by omega) _ (wa_M_s ha (fun p hp => pk_un (by omega)) (fun q => ?_))
      rw [pk_us]
      exact hx q
    refine br_f (nI_ge (b := 8) hj8 (by decide)) (And.intro hin (And.intro hin (nm_e ?_)))
    rw [hf', hs']
    by_cases hb : bt ch j = true
    · refine br_t ((mk_t1 (by omega) ch).mpr hb) (And.intro hin ?_)
      refine yw_c62 hg hy hi hc hj8 (pg_ch F G (bt ch)) (pg_ch_mv F G (bt ch)) (fun q => ?_) (fun q => mk_mv (by omega) (by omega) q) K
      rw [mk_bit (by omega), decide_eq_true_eq, show pg_ch F G (bt ch) j = G j from if_pos hb]
    · refine br_f (fun z => hb ((mk_t1 (by omega) ch).mp z)) (And.intro hin ?_)
      refine yw_c62 hg hy hi hc hj8 (pg_ch F G (bt ch)) (pg_ch_mv F G (bt ch)) (fun q => ?_) (fun q => mk_mv (by omega) (by omega) q) K
      rw [mk_bit (by omega), decide_eq_true_eq, show pg_ch F G (bt ch) j = F j from if_neg hb]
theorem yw_close (hg : gm_ok O C F G) (hy : yg_G ow co fi se O C F G) {i c : Nat} (hi : i < 2) (hc : c ≤ 5) {ch : Int32} {post : SY → Prop}
    (H : ∀ a, wa_T (pg_Ec O C F G i (pg_ch F G (bt ch)) c) a → post (kn, wi, ow, co, fi, se, a)) :
    wpY_close post (kn, wi, ow, co, fi, se, re) (nI i) ch (nI c) :=
  Exists.intro 9 (yw_c3 hg hy hi hc (fun a ha => Exists.intro 9
    (yw_c159 (fun a' ha' => H a' (wa_T_of hg (pg_ch_mv F G (bt ch)) ha')) 8 0 rfl a (wa_M_I hg (pg_ch_mv F G (bt ch)) ha))) 8 0 rfl re
    (fun p hp => absurd hp (Nat.not_lt_zero _)))
theorem yw_p25 (hg : gm_ok O C F G) (hy : yg_G ow co fi se O C F G) {post : Int32 → SY → Prop}
    {J7 : Int32 → Int32 → Int32 → Int32 → (Nat → Int32) → (Nat → Int32) → (Nat → Int32) → (Nat → Int32) → (Nat → Int32) → Prop}
    {x1 ch x : Int32} {c : Nat} (hc : c ≤ 5)
    (H : ∀ y, mk_J x (fun p => C p = c ∧ bt (re p) p = true) 8 y → J7 y (nI (c + 2)) kn wi ow co fi se re) :
    ∀ d p, p + d = 8 → ∀ y, mk_J x (fun p => C p = c ∧ bt (re p) p = true) p y →
      wY_plan_25 post J7 x1 ch (nI c) kn wi ow co fi se re (d + 1) y (nI p) := by
  intro d
  induction d with
  | zero =>
    intro j hj y hy
    have e : j = 8 := by omega
    subst e
    exact br_t (show (8 : Int32) ≤ nI 8 by decide) (nm_r (nI_add c 2) (H y hy))
  | succ d ih =>
    intro p hj y hJ
    have hp : p < 8 := by omega
    have hin : vp_in (nI p) 8 := vp_in_nI hp (by omega)
    have hcl : (nI p).toNatClampNeg = p := nI_clamp (by omega)
    have hc5 := (hg p hp).2.1
    have hco : co (nI p).toNatClampNeg = nI (C p) := by rw [hcl]; exact (hy p hp).2.1
    refine br_f (nI_ge (b := 8) hp (by decide)) (And.intro hin ?_)
    refine pk_eq (C p) c (fun e => And.intro hin ?_) (fun e => nm_r (nI_1 p) (ih (p + 1) (by omega) y (mk_Jf hJ (fun z => e z.1)))) hco rfl
    rw [hcl]
    by_cases hb : bt (re p) p = true
    · exact br_t ((mk_t1 (by omega) _).mpr hb) (nm_e (nm_r (nI_1 p) (ih (p + 1) (by omega) _ (mk_Jt hJ (by omega) ⟨e, hb⟩))))
    · exact br_f (fun z => hb ((mk_t1 (by omega) _).mp z)) (nm_r (nI_1 p) (ih (p + 1) (by omega) y (mk_Jf hJ (fun z => hb z.2))))
theorem yw_p95 {post : Int32 → SY → Prop} {x : Int32} {W : Nat → Prop}
    (hW : ∀ p, p < 8 → ((bt x p = false ∧ re p &&& x = 0) ↔ W p))
    (H : ∀ r, mk_sm r → (∀ p, p < 8 → (bt r p = true ↔ W p)) → post r (kn, wi, ow, co, fi, se, re)) :
    ∀ d j, j + d = 8 → ∀ r, mk_J 0 W j r → wY_plan_95 post x kn wi ow co fi se re (d + 1) r (nI j) := by
  intro d
  induction d with
  | zero =>
    intro j hj r hJ
    have e : j = 8 := by omega
    subst e
    exact br_t (show (8 : Int32) ≤ nI 8 by decide) (H r (mk_J_sm hJ mk_sm_0) (fun p hp => (mk_J_z hJ p).trans ⟨fun z => z.2, fun z => ⟨hp, z⟩⟩))
  | succ d ih =>
    intro j hj r hJ
    have hj8 : j < 8 := by omega
    have hin : vp_in (nI j) 8 := vp_in_nI hj8 (by omega)
    have hcl : (nI j).toNatClampNeg = j := nI_clamp (by omega)
    refine br_f (nI_ge (b := 8) hj8 (by decide)) ?_
    by_cases hb : bt x j = false
    · refine br_t ((mk_t0 (by omega) x).mpr hb) (And.intro hin ?_)
      rw [hcl]
      exact br_c (fun e => nm_e (nm_r (nI_1 j) (ih (j + 1) (by omega) _ (mk_Jt hJ (by omega) ((hW j hj8).mp ⟨hb, e⟩)))))
        (fun e => nm_r (nI_1 j) (ih (j + 1) (by omega) r (mk_Jf hJ (fun z => e ((hW j hj8).mpr z).2))))
    · exact br_f (fun z => hb ((mk_t0 (by omega) x).mp z)) (nm_r (nI_1 j) (ih (j + 1) (by omega) r (mk_Jf hJ (fun z => hb ((hW j hj8).mpr z).1))))
theorem yw_p7 (hg : gm_ok O C F G) (hy : yg_G ow co fi se O C F G) {i : Nat} (hi : i < 2) {ch : Int32} {post : Int32 → SY → Prop}
    (H : ∀ r a, mk_sm r → (∀ p, p < 8 → (bt r p = true ↔ pg_Win O C F G i (pg_ch F G (bt ch)) p)) → post r (kn, wi, ow, co, fi, se, a)) :
    ∀ d c, 6 ≤ c + 2 * d → c ≤ 7 → c % 2 ≠ i → ∀ x a, lo_I O C F G i (pg_ch F G (bt ch)) c x →
      wY_plan_7 post (nI i) ch (d + 1) x (nI c) kn wi ow co fi se a := by
  have hmv := pg_ch_mv F G (bt ch)
  have fin : ∀ n c, 6 ≤ c → c ≤ 7 → ∀ x a, lo_I O C F G i (pg_ch F G (bt ch)) c x → wY_plan_7 post (nI i) ch (n + 1) x (nI c) kn wi ow co fi se a := by
    intro n c h6 h7 x a hI
    have hb := lo_end hg hI h6
    refine br_t (nI_le (a := 6) h6 (by omega)) (yw_close (c := 5) hg hy hi (by omega) (fun a' ha' => Exists.intro 9 ?_))
    refine yw_p95 (W := pg_Win O C F G i (pg_ch F G (bt ch))) (fun p hp => ?_) (fun r h1 h2 => H r a' h1 h2) 8 0 rfl 0 (mk_J0 _ _)
    unfold pg_Win
    rw [lo_and hg hmv hb ha' hp, ← hb.2 p hp, Bool.not_eq_true]
  intro d
  induction d with
  | zero =>
    intro c h6 h7 _ x a hI
    exact fin 0 c (by omega) h7 x a hI
  | succ d ih =>
    intro c h6 h7 hp x a hI
    by_cases e : 6 ≤ c
    · exact fin (d + 1) c e h7 x a hI
    · refine br_f (nI_ge (b := 6) (by omega) (by omega)) (yw_close hg hy hi (by omega) (fun a' ha' => Exists.intro 9 ?_))
      exact yw_p25 hg hy (by omega) (fun y hy => ih (c + 2) (by omega) (by omega) (by omega) y a' (lo_s hi hp hI ha' hy)) 8 0 rfl x (mk_J0 _ _)
theorem yw_plan (hg : gm_ok O C F G) (hy : yg_G ow co fi se O C F G) {i : Nat} (hi : i < 2) {ch : Int32} {post : Int32 → SY → Prop}
    (H : ∀ r a, mk_sm r → (∀ p, p < 8 → (bt r p = true ↔ pg_Win O C F G i (pg_ch F G (bt ch)) p)) → post r (kn, wi, ow, co, fi, se, a)) :
    wpY_plan post (kn, wi, ow, co, fi, se, re) (nI i) ch :=
  nm_r (e' := nI (1 - i)) (pk_sub (a := 1) (by omega)) (Exists.intro 4 (yw_p7 hg hy hi H 3 (1 - i) (by omega) (by omega) (by omega) 0 re (lo_0 hi)))
end
end
section
/-! Y: what some plan of player 0 wins from; region; good -/
/-- choices at positions of player 0 alone -/
def wn_ok (O : Nat → Nat) (c : Nat) : Prop := ∀ q, q < 8 → bt (nI c) q = true → O q = 0
def wn_I (O C F G : Nat → Nat) (c : Nat) (x : Int32) : Prop :=
  mk_sm x ∧ ∀ p, p < 8 → (bt x p = true ↔ ∃ c', c' < c ∧ wn_ok O c' ∧ pg_Win O C F G 0 (pg_ch F G (bt (nI c'))) p)
theorem wn_0 (O C F G : Nat → Nat) : wn_I O C F G 0 0 := by
  refine ⟨mk_sm_0, fun p _ => ?_⟩
  rw [b_0]
  exact ⟨fun z => absurd z (by decide), fun ⟨c', h, _⟩ => absurd h (Nat.not_lt_zero _)⟩
theorem wn_t {O C F G : Nat → Nat} {c : Nat} {x r : Int32} (h : wn_I O C F G c x) (hc : wn_ok O c) (hr : mk_sm r)
    (hw : ∀ p, p < 8 → (bt r p = true ↔ pg_Win O C F G 0 (pg_ch F G (bt (nI c))) p)) : wn_I O C F G (c + 1) (x ||| r) := by
  refine ⟨mk_sm_or h.1 hr, fun p hp => ?_⟩
  rw [b_or, Bool.or_eq_true_iff, h.2 p hp, hw p hp]
  constructor
  · rintro (⟨c', h1, h2⟩ | h1)
    · exact ⟨c', by omega, h2⟩
    · exact ⟨c, by omega, hc, h1⟩
  · rintro ⟨c', h1, h2⟩
    by_cases e : c' = c
    · subst e; exact Or.inr h2.2
    · exact Or.inl ⟨c', by omega, h2⟩
theorem wn_f {O C F G : Nat → Nat} {c : Nat} {x : Int32} (h : wn_I O C F G c x) (hc : ¬ wn_ok O c) : wn_I O C F G (c + 1) x := by
  refine ⟨h.1, fun p hp => ?_⟩
  rw [h.2 p hp]
  constructor
  · rintro ⟨c', h1, h2⟩
    exact ⟨c', by omega, h2⟩
  · rintro ⟨c', h1, h2⟩
    by_cases e : c' = c
    · subst e; exact absurd h2.1 hc
    · exact ⟨c', by omega, h2⟩
/-- a mask of choices for every plan -/
theorem wn_ch {F G s : Nat → Nat} (hs : ∀ p, s p = F p ∨ s p = G p) (P : Nat → Prop) :
    ∃ c, c < 256 ∧ (∀ q, q < 8 → bt (nI c) q = true → P q) ∧ ∀ q, q < 8 → P q → pg_ch F G (bt (nI c)) q = s q := by
  obtain ⟨c, hc, hb⟩ := mk_ex (fun q => P q ∧ s q = G q)
  refine ⟨c, hc, fun q hq z => ((hb q hq).mp z).1, fun q hq hP => ?_⟩
  unfold pg_ch
  by_cases e : bt (nI c) q = true
  · rw [if_pos e]; exact ((hb q hq).mp e).2.symm
  · rw [if_neg e]
    rcases hs q with z | z
    · exact z.symm
    · exact absurd ((hb q hq).mpr ⟨hP, z⟩) e
theorem wn_end {O C F G : Nat → Nat} {x : Int32} (h : wn_I O C F G 256 x) : x = pg_reg O C F G := by
  refine mk_of_eq h.1 (fun p hp => ?_)
  rw [h.2 p hp]
  constructor
  · rintro ⟨c', _, _, h2⟩
    exact ⟨_, pg_ch_mv F G _, h2⟩
  · rintro ⟨s, hs, hw⟩
    obtain ⟨c, hc, h1, h2⟩ := wn_ch hs (fun q => O q = 0)
    exact ⟨c, hc, h1, (pg_Win_cg h2 p).mpr hw⟩
/-- what is due to a player -/
noncomputable def pg_due (O C F G : Nat → Nat) (i : Nat) : Int32 := if i = 0 then pg_reg O C F G else 255 &&& (pg_reg O C F G ^^^ (-1))
theorem pg_reg_sm (O C F G : Nat → Nat) : mk_sm (pg_reg O C F G) := mk_of_sm _
theorem pg_due_sm (O C F G : Nat → Nat) (i : Nat) : mk_sm (pg_due O C F G i) := by
  unfold pg_due
  by_cases h : i = 0
  · rw [if_pos h]; exact pg_reg_sm O C F G
  · rw [if_neg h]; exact mk_sm_and mk_sm_255 _
/-- the choices c are a plan of i that wins from all that is due -/
def pg_good (O C F G : Nat → Nat) (i : Nat) (ch : Int32) : Prop := ∀ p, mk_st (pg_due O C F G i) p → pg_Win O C F G i (pg_ch F G (bt ch)) p
theorem pg_good_m {O C F G : Nat → Nat} {i : Nat} {ch r : Int32} (hr : ∀ p, p < 8 → (bt r p = true ↔ pg_Win O C F G i (pg_ch F G (bt ch)) p)) :
    pg_due O C F G i &&& (r ^^^ (-1)) = 0 ↔ pg_good O C F G i ch := by
  rw [mk_eq0 (mk_sm_and (pg_due_sm O C F G i) _), mk_st_diff]
  constructor
  · intro h p hp
    apply (hr p hp.1).mp
    apply Classical.byContradiction
    intro z
    exact h p ⟨hp, fun w => z w.2⟩
  · rintro h p ⟨h1, h2⟩
    exact h2 ⟨h1.1, (hr p h1.1).mpr (h p h1)⟩
section
variable {kn wi : Int32} {ow co fi se re : Nat → Int32} {O C F G : Nat → Nat}
theorem yw_w35 (hg : gm_ok O C F G) (hy : yg_G ow co fi se O C F G) {post : Int32 → SY → Prop} {mi : Int32} (hm : ∀ q, bt mi q = true ↔ q < 8 ∧ O q = 0)
    (H : ∀ a, post (pg_reg O C F G) (kn, wi, ow, co, fi, se, a)) :
    ∀ d c, c + d = 256 → ∀ x a, wn_I O C F G c x → wY_wonBy0_35 post mi (d + 1) x (nI c) kn wi ow co fi se a := by
  intro d
  induction d with
  | zero =>
    intro c hc x a hI
    have e : c = 256 := by omega
    subst e
    have H1 := H a
    rw [← wn_end hI] at H1
    exact br_t (show (256 : Int32) ≤ nI 256 by decide) H1
  | succ d ih =>
    intro c hc x a hI
    have hc8 : c < 256 := by omega
    have hk : nI c &&& (mi ^^^ (-1)) = 0 ↔ wn_ok O c := by
      rw [mk_eq0 (mk_sm_and (mk_sm_nI hc8) _), mk_st_diff]
      constructor
      · intro h q hq hb
        apply Classical.byContradiction
        intro z
        exact h q ⟨⟨hq, hb⟩, fun w => z ((hm q).mp w.2).2⟩
      · rintro h q ⟨h1, h2⟩
        exact h2 ⟨h1.1, (hm q).mpr ⟨h1.1, h q h1.1 h1.2⟩⟩
    refine br_f (nI_ge (b := 256) hc8 (by decide)) ?_
    refine br_c (fun e => ?_) (fun e => nm_r (nI_1 c) (ih (c + 1) (by omega) x a (wn_f hI (fun z => e (hk.mpr z)))))
    refine yw_plan (i := 0) hg hy (by omega) (fun r a' h1 h2 => ?_)
    exact nm_e (nm_r (nI_1 c) (ih (c + 1) (by omega) _ a' (wn_t hI (hk.mp e) h1 h2)))
theorem yw_w4 (hg : gm_ok O C F G) (hy : yg_G ow co fi se O C F G) {post : Int32 → SY → Prop}
    (H : ∀ a, post (pg_reg O C F G) (kn, wi, ow, co, fi, se, a)) :
    ∀ d j, j + d = 8 → ∀ x, mk_J 0 (fun p => O p = 0) j x → wY_wonBy0_4 post kn wi ow co fi se re (d + 1) x (nI j) := by
  intro d
  induction d with
  | zero =>
    intro j hj x hJ
    have e : j = 8 := by omega
    subst e
    refine br_t (show (8 : Int32) ≤ nI 8 by decide) (Exists.intro 257 ?_)
    exact yw_w35 hg hy (mk_J_z hJ) H 256 0 rfl 0 re (wn_0 O C F G)
  | succ d ih =>
    intro j hj x hJ
    have hj8 : j < 8 := by omega
    have hin : vp_in (nI j) 8 := vp_in_nI hj8 (by omega)
    have hcl : (nI j).toNatClampNeg = j := nI_clamp (by omega)
    have hO := (hg j hj8).1
    have how : ow (nI j).toNatClampNeg = nI (O j) := by rw [hcl]; exact (hy j hj8).1
    refine br_f (nI_ge (b := 8) hj8 (by decide)) (And.intro hin ?_)
    exact pk_eq (O j) 0 (fun e => nm_e (nm_r (nI_1 j) (ih (j + 1) (by omega) _ (mk_Jt hJ (by omega) e))))
      (fun e => nm_r (nI_1 j) (ih (j + 1) (by omega) x (mk_Jf hJ e))) how rfl
theorem yw_wonBy0 (hg : gm_ok O C F G) (hy : yg_G ow co fi se O C F G) {post : Int32 → SY → Prop}
    (H : ∀ a, post (pg_reg O C F G) (kn, wi, ow, co, fi, se, a)) : wpY_wonBy0 post (kn, wi, ow, co, fi, se, re) :=
  Exists.intro 9 (yw_w4 hg hy H 8 0 rfl 0 (mk_J0 _ _))
theorem yw_region (hg : gm_ok O C F G) (hy : yg_G ow co fi se O C F G) {post : Int32 → SY → Prop} (hk : kn = 0 ∨ wi = pg_reg O C F G)
    (H : ∀ kn' a, post (pg_reg O C F G) (kn', pg_reg O C F G, ow, co, fi, se, a)) : wpY_region post (kn, wi, ow, co, fi, se, re) := by
  unfold wpY_region
  by_cases e : kn = 0
  · exact br_t e (yw_wonBy0 hg hy (fun a => H 1 a))
  · have ew := hk.resolve_left e
    subst ew
    exact br_f e (H kn re)
theorem yw_g32 (hg : gm_ok O C F G) (hy : yg_G ow co fi se O C F G) {i : Nat} (hi : i < 2) {ch : Int32} {post : Int32 → SY → Prop}
    (H : ∀ a, post (mk_b (pg_good O C F G i ch)) (kn, wi, ow, co, fi, se, a)) :
    wY_good_32 post (nI i) ch (pg_due O C F G i) kn wi ow co fi se re := by
  refine yw_plan hg hy hi (fun r a h1 h2 => ?_)
  have h3 := pg_good_m h2
  have H1 := H a
  refine br_c (fun e => ?_) (fun e => ?_)
  · rw [mk_b_t (h3.mp e)] at H1; exact H1
  · rw [mk_b_f (fun z => e (h3.mpr z))] at H1; exact H1
theorem yw_good (hg : gm_ok O C F G) (hy : yg_G ow co fi se O C F G) {i : Nat} (hi : i < 2) {ch : Int32} {post : Int32 → SY → Prop}
    (hk : kn = 0 ∨ wi = pg_reg O C F G)
    (H : ∀ kn' a, post (mk_b (pg_good O C F G i ch)) (kn', pg_reg O C F G, ow, co, fi, se, a)) :
    wpY_good post (kn, wi, ow, co, fi, se, re) (nI i) ch := by
  refine br_f (nI_pos (by omega)) (br_t (nI_le (b := 1) (by omega) (by decide)) ?_)
  refine pk_eq i 0 (fun e => ?_) (fun e => ?_)
  · refine yw_region hg hy hk (fun kn' a => ?_)
    have h := yw_g32 (kn := kn') (wi := pg_reg O C F G) (re := a) (post := post) hg hy hi (ch := ch) (fun a => H kn' a)
    rw [show pg_due O C F G i = pg_reg O C F G from if_pos e] at h
    exact h
  · refine yw_region hg hy hk (fun kn' a => ?_)
    have h := yw_g32 (kn := kn') (wi := pg_reg O C F G) (re := a) (post := post) hg hy hi (ch := ch) (fun a => H kn' a)
    rw [show pg_due O C F G i = 255 &&& (pg_reg O C F G ^^^ (-1)) from if_neg e] at h
    exact h
end
end
section
/-! good, plans, firstPlan of both -/
noncomputable def pl_n (P : Nat → Prop) : Nat → Nat
  | 0 => 0
  | n + 1 => pl_n P n + @ite _ (P n) (Classical.propDecidable (P n)) 1 0
theorem pl_t {P : Nat → Prop} {n : Nat} (h : P n) : pl_n P (n + 1) = pl_n P n + 1 := by
  show pl_n P n + @ite _ (P n) (Classical.propDecidable (P n)) 1 0 = _
  rw [if_pos h]
theorem pl_f {P : Nat → Prop} {n : Nat} (h : ¬ P n) : pl_n P (n + 1) = pl_n P n := by
  show pl_n P n + @ite _ (P n) (Classical.propDecidable (P n)) 1 0 = _
  rw [if_neg h]
  rfl
theorem so_due {O C F G : Nat → Nat} (hok : gm_ok O C F G) {wo : Nat → Int32} (h : so_Sol O C F G 255 wo) {i : Nat} (hi : i < 2) : wo i = pg_due O C F G i := by
  obtain ⟨h0, h1, _⟩ := so_top hok h
  unfold pg_due
  by_cases e : i = 0
  · rw [if_pos e, e]; exact h0
  · have e1 : i = 1 := by omega
    rw [if_neg e, e1]; exact h1
theorem so_plan {O C F G : Nat → Nat} (hok : gm_ok O C F G) {wo : Nat → Int32} (h : so_Sol O C F G 255 wo) {i : Nat} (hi : i < 2) :
    ∃ c, c < 256 ∧ pg_good O C F G i (nI c) := by
  obtain ⟨s, hs, hw⟩ := (so_top hok h).2.2 i hi
  obtain ⟨c, hc, _, h2⟩ := wn_ch hs (fun _ => True)
  refine ⟨c, hc, fun p hp => ?_⟩
  rw [← so_due hok h hi] at hp
  exact (pg_Win_cg (fun q hq _ => h2 q hq trivial) p).mpr (hw p hp)
/-- the first plan -/
def pl_F (P : Nat → Prop) (L : Nat) : Prop := L < 256 ∧ P L ∧ ∀ k, k < L → ¬ P k
theorem pl_F_of {P : Nat → Prop} (h : ∃ c, c < 256 ∧ P c) : ∃ L, pl_F P L := by
  obtain ⟨L, ⟨h1, h2⟩, h3⟩ := pk_least (fun c => c < 256 ∧ P c) h
  exact ⟨L, h1, h2, fun k hk z => h3 k hk ⟨by omega, z⟩⟩
section
variable {o dp : Int32} {co fi se lv sg gv wo re : Nat → Int32} {O C F G : Nat → Nat}
theorem xw_ig (hg : gm_ok O C F G) (hx : xg_G o co fi se O C F G) (hw : so_Sol O C F G 255 wo) {i : Nat} (hi : i < 2) {ch : Int32} {post : Int32 → SX → Prop}
    (H : ∀ a, post (mk_b (pg_good O C F G i ch)) (o, dp, co, fi, se, lv, sg, gv, wo, a)) :
    wpX_isGood post (o, dp, co, fi, se, lv, sg, gv, wo, re) (nI i) ch (wo (nI i).toNatClampNeg) := by
  rw [nI_clamp (by omega : i < 2 ^ 31), so_due hg hw hi]
  exact xw_isGood hg hx hi H
theorem xw_good (hg : gm_ok O C F G) (hx : xg_G o co fi se O C F G) {i : Nat} (hi : i < 2) {ch : Int32} {post : Int32 → SX → Prop}
    (H : ∀ dp' lv' sg' gv' wo' a, post (mk_b (pg_good O C F G i ch)) (o, dp', co, fi, se, lv', sg', gv', wo', a)) :
    wpX_good post (o, dp, co, fi, se, lv, sg, gv, wo, re) (nI i) ch := by
  refine br_f (nI_pos (by omega)) (br_t (nI_le (b := 1) (by omega) (by decide)) ?_)
  refine xw_solve hg hx (fun dp' lv' sg' gv' wo' hs => And.intro (vp_in_nI hi (by omega)) ?_)
  refine xw_ig hg hx hs hi (fun a => And.intro ?_ (H dp' lv' sg' gv' wo' a))
  by_cases e : pg_good O C F G i ch
  · rw [mk_b_t e]; rfl
  · rw [mk_b_f e]; rfl
theorem xw_pl20 (hg : gm_ok O C F G) (hx : xg_G o co fi se O C F G) (hw : so_Sol O C F G 255 wo) {i : Nat} (hi : i < 2) {post : Int32 → SX → Prop}
    (H : ∀ a, post (nI (pl_n (fun c => pg_good O C F G i (nI c)) 256)) (o, dp, co, fi, se, lv, sg, gv, wo, a)) :
    ∀ d c, c + d = 256 → ∀ a, wX_plans_20 post (nI i) (d + 1) (nI (pl_n (fun c => pg_good O C F G i (nI c)) c)) (nI c) o dp co fi se lv sg gv wo a := by
  intro d
  induction d with
  | zero =>
    intro c hc a
    have e : c = 256 := by omega
    subst e
    exact br_t (show (255 : Int32) < nI 256 by decide) (H a)
  | succ d ih =>
    intro c hc a
    refine br_f (nI_nlt (a := 255) (b := c) (by omega) (by decide)) (And.intro (vp_in_nI hi (by omega)) ?_)
    refine xw_ig hg hx hw hi (fun a' => ?_)
    have h2 := ih (c + 1) (by omega) a'
    by_cases e : pg_good O C F G i (nI c)
    · rw [pl_t (P := fun c => pg_good O C F G i (nI c)) e] at h2
      exact br_f (mk_b_1.mpr e) (nm_r (nI_1 _) (nm_r (nI_1 c) h2))
    · rw [pl_f (P := fun c => pg_good O C F G i (nI c)) e] at h2
      exact br_t (mk_b_f e) (nm_r (nI_1 c) h2)
theorem xw_plans (hg : gm_ok O C F G) (hx : xg_G o co fi se O C F G) {i : Nat} (hi : i < 2) {post : Int32 → SX → Prop}
    (H : ∀ dp' lv' sg' gv' wo' a, post (nI (pl_n (fun c => pg_good O C F G i (nI c)) 256)) (o, dp', co, fi, se, lv', sg', gv', wo', a)) :
    wpX_plans post (o, dp, co, fi, se, lv, sg, gv, wo, re) (nI i) := by
  refine br_f (nI_pos (by omega)) (br_t (nI_le (b := 1) (by omega) (by decide)) ?_)
  refine xw_solve hg hx (fun dp' lv' sg' gv' wo' hs => Exists.intro 257 ?_)
  exact xw_pl20 hg hx hs hi (fun a => H dp' lv' sg' gv' wo' a) 256 0 rfl re
theorem xw_fp31 (hg : gm_ok O C F G) (hx : xg_G o co fi se O C F G) (hw : so_Sol O C F G 255 wo) {i : Nat} (hi : i < 2) {post : Int32 → SX → Prop} {L : Nat}
    (hL : pl_F (fun c => pg_good O C F G i (nI c)) L) (H : ∀ a, post (nI L) (o, dp, co, fi, se, lv, sg, gv, wo, a)) :
    ∀ d c, c + d = 256 → c ≤ L → ∀ a, wX_firstPlan_31 post (nI i) (d + 1) (nI c) (mk_b (pg_good O C F G i (nI c))) o dp co fi se lv sg gv wo a := by
  obtain ⟨hL1, hL2, hL3⟩ := hL
  intro d
  induction d with
  | zero => intro c hc hcL a; omega
  | succ d ih =>
    intro c hc hcL a
    by_cases e : pg_good O C F G i (nI c)
    · have ec : c = L := by
        apply Classical.byContradiction
        intro z
        exact hL3 c (by omega) e
      subst ec
      exact br_f (mk_b_1.mpr e) (H a)
    · have ec : c < L := by
        apply Classical.byContradiction
        intro z
        have e2 : c = L := by omega
        subst e2
        exact e hL2
      refine br_t (mk_b_f e) (br_f (nI_ge (b := 255) (by omega) (by decide)) (nm_r (nI_1 c) (And.intro (vp_in_nI hi (by omega)) ?_)))
      exact xw_ig hg hx hw hi (fun a' => ih (c + 1) (by omega) (by omega) a')
theorem xw_firstPlan (hg : gm_ok O C F G) (hx : xg_G o co fi se O C F G) {i : Nat} (hi : i < 2) {post : Int32 → SX → Prop}
    (H : ∀ L, pl_F (fun c => pg_good O C F G i (nI c)) L → ∀ dp' lv' sg' gv' wo' a, post (nI L) (o, dp', co, fi, se, lv', sg', gv', wo', a)) :
    wpX_firstPlan post (o, dp, co, fi, se, lv, sg, gv, wo, re) (nI i) := by
  refine br_f (nI_pos (by omega)) (br_t (nI_le (b := 1) (by omega) (by decide)) ?_)
  refine xw_solve hg hx (fun dp' lv' sg' gv' wo' hs => And.intro (vp_in_nI hi (by omega)) ?_)
  obtain ⟨L, hL⟩ := pl_F_of (so_plan hg hs hi)
  refine xw_ig (ch := nI 0) hg hx hs hi (fun a => Exists.intro 257 ?_)
  exact xw_fp31 hg hx hs hi hL (fun a => H L hL dp' lv' sg' gv' wo' a) 256 0 rfl (Nat.zero_le _) a
end
section
variable {kn wi : Int32} {ow co fi se re : Nat → Int32} {O C F G : Nat → Nat}
theorem yw_pl16 (hg : gm_ok O C F G) (hy : yg_G ow co fi se O C F G) {i : Nat} (hi : i < 2) {post : Int32 → SY → Prop}
    (H : ∀ kn' wi' a, (kn' = 0 ∨ wi' = pg_reg O C F G) → post (nI (pl_n (fun c => pg_good O C F G i (nI c)) 256)) (kn', wi', ow, co, fi, se, a)) :
    ∀ d c, c + d = 256 → ∀ kn wi a, (kn = 0 ∨ wi = pg_reg O C F G) →
      wY_plans_16 post (nI i) (d + 1) (nI (pl_n (fun c => pg_good O C F G i (nI c)) c)) (nI c) kn wi ow co fi se a := by
  intro d
  induction d with
  | zero =>
    intro c hc kn wi a hk
    have e : c = 256 := by omega
    subst e
    exact br_t (show (256 : Int32) ≤ nI 256 by decide) (H kn wi a hk)
  | succ d ih =>
    intro c hc kn wi a hk
    refine br_f (nI_ge (b := 256) (by omega) (by decide)) ?_
    refine yw_good hg hy hi hk (fun kn' a' => ?_)
    have h2 := ih (c + 1) (by omega) kn' (pg_reg O C F G) a' (Or.inr rfl)
    by_cases e : pg_good O C F G i (nI c)
    · rw [pl_t (P := fun c => pg_good O C F G i (nI c)) e] at h2
      exact br_f (mk_b_1.mpr e) (nm_r (nI_1 _) (nm_r (nI_1 c) h2))
    · rw [pl_f (P := fun c => pg_good O C F G i (nI c)) e] at h2
      exact br_t (mk_b_f e) (nm_r (nI_1 c) h2)
theorem yw_plans (hg : gm_ok O C F G) (hy : yg_G ow co fi se O C F G) {i : Nat} (hi : i < 2) {post : Int32 → SY → Prop} (hk : kn = 0 ∨ wi = pg_reg O C F G)
    (H : ∀ kn' wi' a, (kn' = 0 ∨ wi' = pg_reg O C F G) → post (nI (pl_n (fun c => pg_good O C F G i (nI c)) 256)) (kn', wi', ow, co, fi, se, a)) :
    wpY_plans post (kn, wi, ow, co, fi, se, re) (nI i) :=
  br_f (nI_pos (by omega)) (br_t (nI_le (b := 1) (by omega) (by decide)) (Exists.intro 257 (yw_pl16 hg hy hi H 256 0 rfl kn wi re hk)))
theorem yw_fp14 (hg : gm_ok O C F G) (hy : yg_G ow co fi se O C F G) {i : Nat} (hi : i < 2) {post : Int32 → SY → Prop} {L : Nat}
    (hL : pl_F (fun c => pg_good O C F G i (nI c)) L) (H : ∀ kn' wi' a, (kn' = 0 ∨ wi' = pg_reg O C F G) → post (nI L) (kn', wi', ow, co, fi, se, a)) :
    ∀ d c, c + d = 256 → c ≤ L → ∀ kn wi a, (kn = 0 ∨ wi = pg_reg O C F G) → wY_firstPlan_14 post (nI i) (d + 1) (nI c) kn wi ow co fi se a := by
  obtain ⟨hL1, hL2, hL3⟩ := hL
  intro d
  induction d with
  | zero => intro c hc hcL; omega
  | succ d ih =>
    intro c hc hcL kn wi a hk
    refine br_f (nI_ge (b := 256) (by omega) (by decide)) ?_
    refine yw_good hg hy hi hk (fun kn' a' => ?_)
    by_cases e : pg_good O C F G i (nI c)
    · have ec : c = L := by
        apply Classical.byContradiction
        intro z
        exact hL3 c (by omega) e
      subst ec
      exact br_f (mk_b_1.mpr e) (H kn' _ a' (Or.inr rfl))
    · have ec : c < L := by
        apply Classical.byContradiction
        intro z
        have e2 : c = L := by omega
        subst e2
        exact e hL2
      exact br_t (mk_b_f e) (nm_r (nI_1 c) (ih (c + 1) (by omega) (by omega) kn' _ a' (Or.inr rfl)))
theorem yw_firstPlan (hg : gm_ok O C F G) (hy : yg_G ow co fi se O C F G) {i : Nat} (hi : i < 2) {post : Int32 → SY → Prop} (hk : kn = 0 ∨ wi = pg_reg O C F G)
    {L : Nat} (hL : pl_F (fun c => pg_good O C F G i (nI c)) L)
    (H : ∀ kn' wi' a, (kn' = 0 ∨ wi' = pg_reg O C F G) → post (nI L) (kn', wi', ow, co, fi, se, a)) :
    wpY_firstPlan post (kn, wi, ow, co, fi, se, re) (nI i) :=
  br_f (nI_pos (by omega)) (br_t (nI_le (b := 1) (by omega) (by decide)) (Exists.intro 257 (yw_fp14 hg hy hi hL H 256 0 rfl (Nat.zero_le _) kn wi re hk)))
end
end
section
/-! canForce of both: the least closed set -/
def cf_P (O F G : Nat → Nat) (a b : Nat) : Prop := ∀ D : Nat → Prop, D b → ro_cl O F G D → D a
theorem cf_of {O F G : Nat → Nat} {a b : Nat} {T A : Nat → Prop} (h : ro_Least O F G T A) (hT : ∀ p, T p ↔ p = b) : A a ↔ cf_P O F G a b :=
  ⟨fun z D hD hc => h.2.2 D (fun p hp => by rw [(hT p).mp hp]; exact hD) hc a z, fun z => z A (h.1 b ((hT b).mpr rfl)) h.2.1⟩
theorem cf_T {b : Nat} (hb : b < 8) (p : Nat) : mk_st ((1 : Int32) <<< (nI b &&& 31)) p ↔ p = b := by
  unfold mk_st
  rw [mk_bit (by omega), decide_eq_true_eq]
  exact ⟨fun z => z.2, fun z => ⟨by omega, z⟩⟩
theorem ro_c_m {O F G : Nat → Nat} {A B : Nat → Prop} (h : ∀ p, A p → B p) {p : Nat} (hc : ro_c O F G A p) : ro_c O F G B p := by
  rcases hc with ⟨ho, z⟩ | ⟨ho, z1, z2⟩
  · exact Or.inl ⟨ho, z.elim (fun z => Or.inl (h _ z)) (fun z => Or.inr (h _ z))⟩
  · exact Or.inr ⟨ho, h _ z1, h _ z2⟩
/-- inside a round that began at Z -/
def rn_I (O F G : Nat → Nat) (Z : Int32) (p : Nat) (x : Int32) : Prop :=
  mk_sm x ∧ (∀ q, mk_st Z q → mk_st x q) ∧ (∀ q, q < p → ro_c O F G (mk_st Z) q → mk_st x q) ∧
  ∀ D : Nat → Prop, (∀ q, mk_st Z q → D q) → ro_cl O F G D → ∀ q, mk_st x q → D q
theorem rn_0 {O F G : Nat → Nat} {Z : Int32} (h : mk_sm Z) : rn_I O F G Z 0 Z :=
  ⟨h, fun _ z => z, fun q hq => absurd hq (Nat.not_lt_zero _), fun _ h _ => h⟩
theorem rn_t {O F G : Nat → Nat} {Z x : Int32} {p : Nat} (h : rn_I O F G Z p x) (hp : p < 8) (hc : ro_c O F G (mk_st x) p) :
    rn_I O F G Z (p + 1) (x ||| ((1 : Int32) <<< (nI p &&& 31))) := by
  obtain ⟨h1, h2, h3, h4⟩ := h
  have hs : ∀ q, mk_st (x ||| ((1 : Int32) <<< (nI p &&& 31))) q ↔ mk_st x q ∨ q = p := by
    intro q
    rw [mk_st_or]
    show (mk_st x q ∨ mk_st _ q) ↔ _
    rw [cf_T hp]
  refine ⟨mk_sm_or h1 (mk_sm_bit hp), fun q z => (hs q).mpr (Or.inl (h2 q z)), fun q hq hz => ?_, fun D hD hcl q hq => ?_⟩
  · by_cases e : q = p
    · exact (hs q).mpr (Or.inr e)
    · exact (hs q).mpr (Or.inl (h3 q (by omega) hz))
  · rcases (hs q).mp hq with z | z
    · exact h4 D hD hcl q z
    · subst z
      exact hcl q hp (ro_c_m (h4 D hD hcl) hc)
theorem rn_f {O F G : Nat → Nat} {Z x : Int32} {p : Nat} (h : rn_I O F G Z p x) (hc : ¬ ro_c O F G (mk_st x) p) : rn_I O F G Z (p + 1) x := by
  obtain ⟨h1, h2, h3, h4⟩ := h
  refine ⟨h1, h2, fun q hq hz => ?_, h4⟩
  by_cases e : q = p
  · subst e; exact absurd (ro_c_m h2 hz) hc
  · exact h3 q (by omega) hz
/-- between the rounds -/
def rn_O (O F G : Nat → Nat) (T : Nat → Prop) (k : Nat) (Z : Int32) : Prop :=
  mk_sm Z ∧ (∀ p, T p → mk_st Z p) ∧ (∀ D : Nat → Prop, (∀ p, T p → D p) → ro_cl O F G D → ∀ p, mk_st Z p → D p) ∧
  (ro_cl O F G (mk_st Z) ∨ k + 1 ≤ mk_cn (bt Z) 8)
theorem rn_s {O F G : Nat → Nat} {T : Nat → Prop} {k : Nat} {Z Y : Int32} (h : rn_O O F G T k Z) (hr : rn_I O F G Z 8 Y) : rn_O O F G T (k + 1) Y := by
  obtain ⟨h1, h2, h3, h4⟩ := h
  obtain ⟨r1, r2, r3, r4⟩ := hr
  refine ⟨r1, fun p z => r2 p (h2 p z), fun D hD hcl p z => r4 D (h3 D hD hcl) hcl p z, ?_⟩
  by_cases e : ro_cl O F G (mk_st Z)
  · have eq : Y = Z := mk_ext' r1 h1 (fun p hp => ⟨fun z => (r4 (mk_st Z) (fun _ w => w) e p ⟨hp, z⟩).2, fun z => (r2 p ⟨hp, z⟩).2⟩)
    rw [eq]
    exact Or.inl e
  · refine Or.inr ?_
    have hc := h4.resolve_left e
    have ex : ∃ p, p < 8 ∧ ro_c O F G (mk_st Z) p ∧ ¬ mk_st Z p := by
      apply Classical.byContradiction
      intro z
      apply e
      intro p hp hc
      apply Classical.byContradiction
      intro w
      exact z ⟨p, hp, hc, w⟩
    obtain ⟨p, hp, hpc, hpn⟩ := ex
    have hlt := mk_cn_lt (f := bt Z) (g := bt Y) 8 (fun q hq z => (r2 q ⟨hq, z⟩).2) p hp (fun z => hpn ⟨hp, z⟩) (r3 p hp hpc).2
    omega
theorem rn_end {O F G : Nat → Nat} {T : Nat → Prop} {Z : Int32} (h : rn_O O F G T 8 Z) : ro_Least O F G T (mk_st Z) := by
  obtain ⟨h1, h2, h3, h4⟩ := h
  refine ⟨h2, h4.resolve_right (fun z => ?_), h3⟩
  have := mk_cn_le (bt Z) 8
  omega
section
variable {o dp : Int32} {co fi se lv sg gv wo re : Nat → Int32} {O C F G : Nat → Nat}
theorem xw_bad_ok {p : Nat} (hp : p < 8) {post : Int32 → Prop} (h : post 0) : wpX_bad post (nI p) :=
  br_f (nI_pos (by omega)) (br_t (nI_lt (b := 8) hp (by decide)) h)
theorem xw_canForce (hg : gm_ok O C F G) (hx : xg_G o co fi se O C F G) {a b : Nat} (ha : a < 8) (hb : b < 8) {post : Int32 → Prop}
    (H : post (mk_b (cf_P O F G a b))) : wpX_canForce post (o, dp, co, fi, se, lv, sg, gv, wo, re) (nI a) (nI b) := by
  unfold wpX_canForce
  refine xw_bad_ok ha ?_
  refine br_t rfl ?_
  refine xw_bad_ok hb ?_
  refine br_t rfl ?_
  have hn0 : ¬ (1 : Int32) <<< (nI b &&& 31) = 0 := fun z => (mk_eq0 (mk_sm_bit hb)).mp z b ((cf_T hb b).mpr rfl)
  refine xw_forced (i := 0) hg hx mk_sm_255 (by omega) (mk_sm_bit hb) hn0 (fun p hp => by rw [mk_st_255]; exact hp.1) (fun A A1 A2 => ?_)
  rw [mk_st_255] at A2
  have h1 := cf_of (a := a) (ro_attr hg A2) (cf_T hb)
  refine br_c (fun e => ?_) (fun e => ?_)
  · rw [mk_b_t (h1.mp ⟨ha, (mk_t1 (by omega) A).mp e⟩)] at H
    exact H
  · rw [mk_b_f (fun z => e ((mk_t1 (by omega) A).mpr (h1.mpr z).2))] at H
    exact H
end
section
variable {kn wi : Int32} {ow co fi se re : Nat → Int32} {O C F G : Nat → Nat}
theorem yw_bad_ok {u : SY} {p : Nat} (hp : p < 8) {post : Int32 → Prop} (h : post 0) : wpY_bad post u (nI p) :=
  br_f (nI_pos (by omega)) (br_t (nI_le (b := 7) (by omega) (by decide)) h)
theorem yw_f119 {post : Int32 → Prop} {J25 J35 : Int32 → Int32 → Prop} {x1 x x4 : Int32} {p : Nat}
    (h : J35 (x ||| ((1 : Int32) <<< (nI p &&& 31))) (nI (p + 1))) :
    wY_canForce_119 post J25 J35 x1 x x4 (nI p) kn wi ow co fi se re := nm_e (nm_r (nI_1 p) h)
theorem yw_f84 (hg : gm_ok O C F G) (hy : yg_G ow co fi se O C F G) {post : Int32 → Prop} {J25 J35 : Int32 → Int32 → Prop} {x1 x x4 y z : Int32} {p : Nat} (hp : p < 8)
    {A1 A2 : Prop} (hs1 : ¬ y = 0 ↔ A1) (hs2 : ¬ z = 0 ↔ A2)
    (h1 : (O p = 0 ∧ (A1 ∨ A2)) ∨ (O p ≠ 0 ∧ A1 ∧ A2) → J35 (x ||| ((1 : Int32) <<< (nI p &&& 31))) (nI (p + 1)))
    (h0 : ¬ ((O p = 0 ∧ (A1 ∨ A2)) ∨ (O p ≠ 0 ∧ A1 ∧ A2)) → J35 x (nI (p + 1))) :
    wY_canForce_84 post J25 J35 x1 x x4 (nI p) y z kn wi ow co fi se re := by
  have hin : vp_in (nI p) 8 := vp_in_nI hp (by omega)
  have hO := (hg p hp).1
  have how : ow (nI p).toNatClampNeg = nI (O p) := by rw [nI_clamp (by omega : p < 2 ^ 31)]; exact (hy p hp).1
  refine And.intro hin (pk_eq (O p) 0 (fun e => ?_) (fun e => ?_) how rfl)
  · refine br_c (fun ey => br_c (fun ez => nm_r (nI_1 p) (h0 ?_)) (fun ez => yw_f119 (h1 (Or.inl ⟨e, Or.inr (hs2.mp ez)⟩)))) (fun ey => yw_f119 (h1 (Or.inl ⟨e, Or.inl (hs1.mp ey)⟩)))
    rintro (⟨_, w | w⟩ | ⟨n, _⟩)
    · exact hs1.mpr w ey
    · exact hs2.mpr w ez
    · exact n e
  · refine br_c (fun ey => nm_r (nI_1 p) (h0 ?_)) (fun ey => br_c (fun ez => nm_r (nI_1 p) (h0 ?_)) (fun ez => yw_f119 (h1 (Or.inr ⟨e, hs1.mp ey, hs2.mp ez⟩))))
    · rintro (⟨n, _⟩ | ⟨_, w, _⟩)
      · exact e n
      · exact hs1.mpr w ey
    · rintro (⟨n, _⟩ | ⟨_, _, w⟩)
      · exact e n
      · exact hs2.mpr w ez
theorem yw_f35 (hg : gm_ok O C F G) (hy : yg_G ow co fi se O C F G) {post : Int32 → Prop} {J25 : Int32 → Int32 → Prop} {x1 Z : Int32} {k : Nat}
    (H : ∀ x, rn_I O F G Z 8 x → J25 x (nI (k + 1))) :
    ∀ d p, p + d = 8 → ∀ x, rn_I O F G Z p x → wY_canForce_35 post J25 x1 (nI k) kn wi ow co fi se re (d + 1) x (nI p) := by
  intro d
  induction d with
  | zero =>
    intro j hj x hJ
    have e : j = 8 := by omega
    subst e
    exact br_t (show (8 : Int32) ≤ nI 8 by decide) (nm_r (nI_1 k) (H x hJ))
  | succ d ih =>
    intro p hj x hJ
    have hp : p < 8 := by omega
    have hin : vp_in (nI p) 8 := vp_in_nI hp (by omega)
    have hcl : (nI p).toNatClampNeg = p := nI_clamp (by omega)
    obtain ⟨_, _, hF, hG⟩ := hg p hp
    have hf : fi (nI p).toNatClampNeg = nI (F p) := by rw [hcl]; exact (hy p hp).2.2.1
    have hs : se (nI p).toNatClampNeg = nI (G p) := by rw [hcl]; exact (hy p hp).2.2.2
    have h1 : (O p = 0 ∧ (mk_st x (F p) ∨ mk_st x (G p))) ∨ (O p ≠ 0 ∧ mk_st x (F p) ∧ mk_st x (G p)) →
        wY_canForce_35 post J25 x1 (nI k) kn wi ow co fi se re (d + 1) (x ||| ((1 : Int32) <<< (nI p &&& 31))) (nI (p + 1)) :=
      fun z => ih (p + 1) (by omega) _ (rn_t hJ hp z)
    have h0 : ¬ ((O p = 0 ∧ (mk_st x (F p) ∨ mk_st x (G p))) ∨ (O p ≠ 0 ∧ mk_st x (F p) ∧ mk_st x (G p))) →
        wY_canForce_35 post J25 x1 (nI k) kn wi ow co fi se re (d + 1) x (nI (p + 1)) :=
      fun z => ih (p + 1) (by omega) _ (rn_f hJ z)
    have K : ∀ y : Int32, (¬ y = 0 ↔ mk_st x (F p)) →
        wY_canForce_62 post J25 (wY_canForce_35 post J25 x1 (nI k) kn wi ow co fi se re (d + 1)) x1 x (nI k) (nI p) y kn wi ow co fi se re := by
      intro y hy1
      refine And.intro hin ?_
      rw [hs]
      refine br_c (fun e => yw_f84 hg hy hp hy1 ⟨fun _ => ⟨hG, (mk_t1 (by omega) x).mp e⟩, fun _ => by decide⟩ h1 h0)
        (fun e => yw_f84 hg hy hp hy1 ⟨fun z => absurd rfl z, fun z => absurd ((mk_t1 (by omega) x).mpr z.2) e⟩ h1 h0)
    refine br_f (nI_ge (b := 8) hp (by decide)) (And.intro hin ?_)
    rw [hf]
    exact br_c (fun e => K 1 ⟨fun _ => ⟨hF, (mk_t1 (by omega) x).mp e⟩, fun _ => by decide⟩)
      (fun e => K 0 ⟨fun z => absurd rfl z, fun z => absurd ((mk_t1 (by omega) x).mpr z.2) e⟩)
theorem yw_f25 (hg : gm_ok O C F G) (hy : yg_G ow co fi se O C F G) {a b : Nat} (ha : a < 8) {post : Int32 → Prop} {T : Nat → Prop} (hT : ∀ p, T p ↔ p = b)
    (H : post (mk_b (cf_P O F G a b))) :
    ∀ d k, k + d = 8 → ∀ x, rn_O O F G T k x → wY_canForce_25 post (nI a) kn wi ow co fi se re (d + 1) x (nI k) := by
  intro d
  induction d with
  | zero =>
    intro j hj x hO
    have e : j = 8 := by omega
    subst e
    have h1 := cf_of (a := a) (rn_end hO) hT
    refine br_t (show (8 : Int32) ≤ nI 8 by decide) (br_c (fun e => ?_) (fun e => ?_))
    · rw [mk_b_t (h1.mp ⟨ha, (mk_t1 (by omega) x).mp e⟩)] at H
      exact H
    · rw [mk_b_f (fun z => e ((mk_t1 (by omega) x).mpr (h1.mpr z).2))] at H
      exact H
  | succ d ih =>
    intro k hj x hO
    refine br_f (nI_ge (b := 8) (by omega) (by decide)) (Exists.intro 9 ?_)
    exact yw_f35 hg hy (fun y hr => ih (k + 1) (by omega) y (rn_s hO hr)) 8 0 rfl x (rn_0 hO.1)
theorem yw_canForce (hg : gm_ok O C F G) (hy : yg_G ow co fi se O C F G) {a b : Nat} (ha : a < 8) (hb : b < 8) {post : Int32 → Prop}
    (H : post (mk_b (cf_P O F G a b))) : wpY_canForce post (kn, wi, ow, co, fi, se, re) (nI a) (nI b) := by
  unfold wpY_canForce
  refine yw_bad_ok ha ?_
  refine br_t rfl ?_
  refine yw_bad_ok hb ?_
  refine br_t rfl (nm_e (Exists.intro 9 ?_))
  refine yw_f25 hg hy ha (cf_T hb) H 8 0 rfl _ ⟨mk_sm_bit hb, fun _ z => z, fun _ h _ => h, Or.inr ?_⟩
  exact mk_cn_p hb ((cf_T hb b).mpr rfl).2
end
end
section
/-! changes of the game: set, paint, hand, mirror, the constructors -/
def pg_up (f : Nat → Nat) (p v : Nat) : Nat → Nat := fun q => if q = p then v else f q
theorem pg_up_s {f : Nat → Nat} {p v : Nat} : pg_up f p v p = v := if_pos rfl
theorem pg_up_n {f : Nat → Nat} {p v q : Nat} (h : q ≠ p) : pg_up f p v q = f q := if_neg h
theorem pg_up_up {O : Nat → Nat} {p : Nat} (h : O p < 2) : pg_up (pg_up O p (1 - O p)) p (1 - pg_up O p (1 - O p) p) = O := by
  funext q
  by_cases e : q = p
  · subst e
    rw [pg_up_s, pg_up_s]
    omega
  · rw [pg_up_n e, pg_up_n e]
theorem up_nI {a : Nat → Int32} {f : Nat → Nat} (h : ∀ q, q < 8 → a q = nI (f q)) (p v : Nat) : ∀ q, q < 8 → upd a p (nI v) q = nI (pg_up f p v q) := by
  intro q hq
  by_cases e : q = p
  · subst e; rw [pk_us, pg_up_s]
  · rw [pk_un e, pg_up_n e]; exact h q hq
/-- the owner's bit -/
theorem xo_iff {o : Int32} {q v : Nat} (hq : q < 32) (hv : v < 2) : (o >>> (nI q &&& 31)) &&& 1 = nI v ↔ (bt o q = true ↔ v = 1) := by
  rw [mk_shr1 hq]
  have hv2 : v = 0 ∨ v = 1 := by omega
  cases bt o q
  · rcases hv2 with e | e <;> subst e
    · exact ⟨fun _ => ⟨fun z => absurd z (by decide), fun z => absurd z (by decide)⟩, fun _ => rfl⟩
    · exact ⟨fun z => absurd z (by decide), fun z => absurd (z.mpr rfl) (by decide)⟩
  · rcases hv2 with e | e <;> subst e
    · exact ⟨fun z => absurd z (by decide), fun z => absurd (z.mp rfl) (by decide)⟩
    · exact ⟨fun _ => ⟨fun _ => rfl, fun _ => rfl⟩, fun _ => rfl⟩
theorem xo_flip {b : Bool} {v : Nat} (hv : v < 2) (h : b = true ↔ v = 1) : (!b) = true ↔ 1 - v = 1 := by
  cases b
  · have h1 : ¬ v = 1 := fun z => absurd (h.mpr z) (by decide)
    exact ⟨fun _ => by omega, fun _ => rfl⟩
  · have h1 : v = 1 := h.mp rfl
    exact ⟨fun z => absurd z (by decide), fun z => by omega⟩
theorem gm_O {O C F G O' : Nat → Nat} (hg : gm_ok O C F G) (h : ∀ q, q < 8 → O' q < 2) : gm_ok O' C F G := fun q hq => ⟨h q hq, (hg q hq).2⟩
theorem gm_tg {O C F G : Nat → Nat} (hg : gm_ok O C F G) (p : Nat) : gm_ok (pg_up O p (1 - O p)) C F G := by
  refine gm_O hg (fun q hq => ?_)
  by_cases e : q = p
  · rw [e, pg_up_s]; omega
  · rw [pg_up_n e]; exact (hg q hq).1
theorem xg_tg {o : Int32} {co fi se : Nat → Int32} {O C F G : Nat → Nat} (hg : gm_ok O C F G) (hx : xg_G o co fi se O C F G) {p : Nat} (hp : p < 8) :
    xg_G (o ^^^ ((1 : Int32) <<< (nI p &&& 31))) co fi se (pg_up O p (1 - O p)) C F G := by
  intro q hq
  refine ⟨?_, (hx q hq).2⟩
  have ho := (hg q hq).1
  have h1 := (xo_iff (by omega) ho).mp (hx q hq).1
  refine (xo_iff (by omega) ((gm_tg hg p q hq).1)).mpr ?_
  rw [b_xor, mk_bit (by omega)]
  by_cases e : q = p
  · subst e
    rw [decide_eq_true rfl, Bool.xor_true, pg_up_s]
    exact xo_flip ho h1
  · rw [decide_eq_false e, Bool.xor_false, pg_up_n e]
    exact h1
theorem yg_tg {ow co fi se : Nat → Int32} {O C F G : Nat → Nat} (hg : gm_ok O C F G) (hy : yg_G ow co fi se O C F G) {p : Nat} (hp : p < 8) :
    yg_G (upd ow p (1 - ow p)) co fi se (pg_up O p (1 - O p)) C F G := by
  have ho := (hg p hp).1
  have e1 : (1 : Int32) - ow p = nI (1 - O p) := by
    rw [(hy p hp).1]
    exact pk_sub (a := 1) (by omega)
  rw [e1]
  intro q hq
  exact ⟨up_nI (fun q hq => (hy q hq).1) p _ q hq, (hy q hq).2⟩
theorem xg_set {o : Int32} {co fi se : Nat → Int32} {O C F G : Nat → Nat} (hg : gm_ok O C F G) (hx : xg_G o co fi se O C F G) {p i : Nat} (hp : p < 8) (hi : i < 2) (c f g : Nat) :
    xg_G ((o &&& (((1 : Int32) <<< (nI p &&& 31)) ^^^ (-1))) ||| (nI i <<< (nI p &&& 31))) (upd co p (nI c)) (upd fi p (nI f)) (upd se p (nI g))
      (pg_up O p i) (pg_up C p c) (pg_up F p f) (pg_up G p g) := by
  intro q hq
  refine ⟨?_, up_nI (fun q hq => (hx q hq).2.1) p c q hq, up_nI (fun q hq => (hx q hq).2.2.1) p f q hq, up_nI (fun q hq => (hx q hq).2.2.2) p g q hq⟩
  have ho := (hg q hq).1
  have h1 := (xo_iff (by omega) ho).mp (hx q hq).1
  have hb : bt (nI i <<< (nI p &&& 31)) q = decide (q = p ∧ i = 1) := by
    have hi2 : i = 0 ∨ i = 1 := by omega
    rcases hi2 with e | e <;> subst e
    · rw [b_shl p (by omega) _ (by omega), nI_0, b_0, Bool.and_false, decide_eq_false (fun z => absurd z.2 (by decide))]
    · have h2 := mk_bit (n := p) (by omega) q
      have h3 : bt (nI 1 <<< (nI p &&& 31)) q = decide (q = p) := h2
      rw [h3]
      by_cases e : q = p
      · rw [decide_eq_true e, decide_eq_true ⟨e, rfl⟩]
      · rw [decide_eq_false e, decide_eq_false (fun z => e z.1)]
  by_cases e : q = p
  · subst e
    refine (xo_iff (by omega) (by rw [pg_up_s]; exact hi)).mpr ?_
    rw [pg_up_s, b_or, b_and, mk_not _ (by omega), mk_bit (by omega), decide_eq_true rfl, hb]
    show ((bt o q && false) || decide (q = q ∧ i = 1)) = true ↔ _
    rw [Bool.and_false, Bool.false_or, decide_eq_true_eq]
    exact ⟨fun z => z.2, fun z => ⟨rfl, z⟩⟩
  · refine (xo_iff (by omega) (by rw [pg_up_n e]; exact ho)).mpr ?_
    rw [pg_up_n e, b_or, b_and, mk_not _ (by omega), mk_bit (by omega), decide_eq_false e, hb, decide_eq_false (fun z => e z.1)]
    show ((bt o q && true) || false) = true ↔ _
    rw [Bool.and_true, Bool.or_false]
    exact h1
theorem yg_set {ow co fi se : Nat → Int32} {O C F G : Nat → Nat} (hy : yg_G ow co fi se O C F G) (p i c f g : Nat) :
    yg_G (upd ow p (nI i)) (upd co p (nI c)) (upd fi p (nI f)) (upd se p (nI g)) (pg_up O p i) (pg_up C p c) (pg_up F p f) (pg_up G p g) :=
  fun q hq => ⟨up_nI (fun q hq => (hy q hq).1) p i q hq, up_nI (fun q hq => (hy q hq).2.1) p c q hq, up_nI (fun q hq => (hy q hq).2.2.1) p f q hq, up_nI (fun q hq => (hy q hq).2.2.2) p g q hq⟩
theorem gm_set {O C F G : Nat → Nat} (hg : gm_ok O C F G) {p i c f g : Nat} (hi : i < 2) (hc : c ≤ 5) (hf : f < 8) (hG : g < 8) :
    gm_ok (pg_up O p i) (pg_up C p c) (pg_up F p f) (pg_up G p g) := by
  intro q hq
  by_cases e : q = p
  · subst e; rw [pg_up_s, pg_up_s, pg_up_s, pg_up_s]; exact ⟨hi, hc, hf, hG⟩
  · rw [pg_up_n e, pg_up_n e, pg_up_n e, pg_up_n e]; exact hg q hq
/-! ranges of arguments -/
theorem vb_c (n : Nat) (v : Int32) : (∃ p, p < n ∧ p < 2 ^ 31 ∧ v = nI p) ∨ (v < 0 ∨ ∃ j, n ≤ j ∧ j < 2 ^ 31 ∧ v = nI j) := by
  by_cases h : v < 0
  · exact Or.inr (Or.inl h)
  · obtain ⟨j, hj, e⟩ := nI_of h
    by_cases h2 : j < n
    · exact Or.inl ⟨j, h2, hj, e⟩
    · exact Or.inr (Or.inr ⟨j, by omega, hj, e⟩)
theorem rg_ok {A A' B : Prop} {j N : Nat} (h : j ≤ N) (hN : N < 2 ^ 31) (b : B) : (nI j < 0 → A) ∧ (¬ nI j < 0 → ((nI j ≤ nI N → B) ∧ (¬ nI j ≤ nI N → A'))) :=
  br_f (nI_pos (by omega)) (br_t (nI_le h hN) b)
theorem rg_no {A B : Prop} {v : Int32} {N : Nat} (h : v < 0 ∨ ∃ j, N + 1 ≤ j ∧ j < 2 ^ 31 ∧ v = nI j) (a : A) :
    (v < 0 → A) ∧ (¬ v < 0 → ((v ≤ nI N → B) ∧ (¬ v ≤ nI N → A))) := by
  rcases h with h | ⟨j, h1, h2, e⟩
  · exact br_t h a
  · subst e
    exact br_f (nI_pos h2) (br_f (nI_ge (by omega) h2) a)
theorem xw_bad_no {v : Int32} (h : v < 0 ∨ ∃ j, 8 ≤ j ∧ j < 2 ^ 31 ∧ v = nI j) {post : Int32 → Prop} (hp : post 1) : wpX_bad post v := by
  rcases h with h | ⟨j, h1, h2, e⟩
  · exact br_t h hp
  · subst e
    exact br_f (nI_pos h2) (br_f (nI_nlt (b := 8) h1 h2) hp)
theorem yw_bad_no {u : SY} {v : Int32} (h : v < 0 ∨ ∃ j, 8 ≤ j ∧ j < 2 ^ 31 ∧ v = nI j) {post : Int32 → Prop} (hp : post 1) : wpY_bad post u v :=
  rg_no (N := 7) h hp
theorem yw_bc_ok {u : SY} {c : Nat} (hc : c ≤ 5) {post : Int32 → Prop} (hp : post 0) : wpY_badColour post u (nI c) := rg_ok (N := 5) hc (by decide) hp
theorem yw_bc_no {u : SY} {v : Int32} (h : v < 0 ∨ ∃ j, 6 ≤ j ∧ j < 2 ^ 31 ∧ v = nI j) {post : Int32 → Prop} (hp : post 1) : wpY_badColour post u v :=
  rg_no (N := 5) h hp
end
section
/-! mirror, contested, the constructors: the loops -/
def mi_C (C : Nat → Nat) : Nat → Nat := fun q => if C q = 5 then 0 else C q + 1
def mi_O (O : Nat → Nat) : Nat → Nat := fun q => 1 - O q
/-- an array that is f below j, g from j on -/
def mi_I (f g : Nat → Nat) (j : Nat) (a : Nat → Int32) : Prop := ∀ q, q < 8 → a q = nI (if q < j then f q else g q)
theorem mi_0 {f g : Nat → Nat} {a : Nat → Int32} (h : ∀ q, q < 8 → a q = nI (g q)) : mi_I f g 0 a := fun q hq => by
  rw [if_neg (Nat.not_lt_zero q)]; exact h q hq
theorem mi_at {f g : Nat → Nat} {a : Nat → Int32} {j : Nat} (h : mi_I f g j a) (hj : j < 8) : a j = nI (g j) := by
  rw [h j hj, if_neg (Nat.lt_irrefl j)]
theorem mi_s {f g : Nat → Nat} {a : Nat → Int32} {j : Nat} (h : mi_I f g j a) {x : Int32} (hx : x = nI (f j)) : mi_I f g (j + 1) (upd a j x) := by
  intro q hq
  by_cases e : q = j
  · subst e; rw [pk_us, if_pos (by omega)]; exact hx
  · rw [pk_un e, h q hq]
    by_cases e2 : q < j
    · rw [if_pos e2, if_pos (by omega)]
    · rw [if_neg e2, if_neg (by omega)]
theorem mi_e {f g : Nat → Nat} {a : Nat → Int32} (h : mi_I f g 8 a) : ∀ q, q < 8 → a q = nI (f q) := fun q hq => by
  rw [h q hq, if_pos hq]
theorem gm_mi {O C F G : Nat → Nat} (hg : gm_ok O C F G) : gm_ok (mi_O O) (mi_C C) F G := by
  intro q hq
  obtain ⟨h1, h2, h3⟩ := hg q hq
  refine ⟨?_, ?_, h3⟩
  · show 1 - O q < 2
    omega
  · show (if C q = 5 then 0 else C q + 1) ≤ 5
    by_cases e : C q = 5
    · rw [if_pos e]; omega
    · rw [if_neg e]; omega
theorem xg_mi {o : Int32} {co co' fi se : Nat → Int32} {O C F G : Nat → Nat} (hg : gm_ok O C F G) (hx : xg_G o co fi se O C F G)
    (hc : ∀ q, q < 8 → co' q = nI (mi_C C q)) : xg_G (o ^^^ 255) co' fi se (mi_O O) (mi_C C) F G := by
  intro q hq
  refine ⟨?_, hc q hq, (hx q hq).2.2⟩
  have ho := (hg q hq).1
  have h1 := (xo_iff (by omega) ho).mp (hx q hq).1
  refine (xo_iff (by omega) (gm_mi hg q hq).1).mpr ?_
  rw [b_xor, b_255, decide_eq_true hq, Bool.xor_true]
  exact xo_flip ho h1
/-- how many positions decide -/
noncomputable def ct_n (O C F G : Nat → Nat) (j : Nat) : Nat := pl_n (fun p => ¬ pg_reg (pg_up O p (1 - O p)) C F G = pg_reg O C F G) j
theorem ct_t {O C F G : Nat → Nat} {j : Nat} (h : ¬ pg_reg (pg_up O j (1 - O j)) C F G = pg_reg O C F G) : ct_n O C F G (j + 1) = ct_n O C F G j + 1 :=
  pl_t (P := fun p => ¬ pg_reg (pg_up O p (1 - O p)) C F G = pg_reg O C F G) h
theorem ct_f {O C F G : Nat → Nat} {j : Nat} (h : pg_reg (pg_up O j (1 - O j)) C F G = pg_reg O C F G) : ct_n O C F G (j + 1) = ct_n O C F G j :=
  pl_f (P := fun p => ¬ pg_reg (pg_up O p (1 - O p)) C F G = pg_reg O C F G) (fun z => z h)
section
variable {o dp : Int32} {co fi se lv sg gv wo re : Nat → Int32} {O C F G : Nat → Nat}
theorem xw_mi14 (hg : gm_ok O C F G) {post : SX → Prop}
    (H : ∀ co', (∀ q, q < 8 → co' q = nI (mi_C C q)) → post (o, dp, co', fi, se, lv, sg, gv, wo, re)) :
    ∀ d j, j + d = 8 → ∀ co, mi_I (mi_C C) C j co → wX_mirror_14 post o dp (d + 1) (nI j) co fi se lv sg gv wo re := by
  intro d
  induction d with
  | zero =>
    intro j hj a ha
    have e : j = 8 := by omega
    subst e
    exact br_t (show (8 : Int32) ≤ nI 8 by decide) (H a (mi_e ha))
  | succ d ih =>
    intro j hj a ha
    have hj8 : j < 8 := by omega
    have hin : vp_in (nI j) 8 := vp_in_nI hj8 (by omega)
    have hcl : (nI j).toNatClampNeg = j := nI_clamp (by omega)
    have hc5 := (hg j hj8).2.1
    have hco : a (nI j).toNatClampNeg = nI (C j) := by rw [hcl]; exact mi_at ha hj8
    refine br_f (nI_ge (b := 8) hj8 (by decide)) (And.intro hin ?_)
    refine pk_eq (C j) 5 (fun e => And.intro hin (nm_r (e' := upd a j 0) (by rw [hcl]) (nm_r (nI_1 j) (ih (j + 1) (by omega) _ (mi_s ha ?_)))))
      (fun e => And.intro hin (And.intro hin (nm_r (e' := upd a j (nI (C j) + 1)) (by rw [hco, hcl]) (nm_r (nI_1 j) (ih (j + 1) (by omega) _ (mi_s ha ?_)))))) hco rfl
    · have e2 : mi_C C j = 0 := if_pos e
      rw [e2]; exact nI_0.symm
    · have e2 : mi_C C j = C j + 1 := if_neg e
      rw [e2]; exact nI_1 _
theorem xw_mirror (hg : gm_ok O C F G) (hx : xg_G o co fi se O C F G) {post : SX → Prop}
    (H : ∀ o' co', xg_G o' co' fi se (mi_O O) (mi_C C) F G → post (o', dp, co', fi, se, lv, sg, gv, wo, re)) :
    wpX_mirror post (o, dp, co, fi, se, lv, sg, gv, wo, re) :=
  nm_e (Exists.intro 9 (xw_mi14 hg (fun co' hc => H _ co' (xg_mi hg hx hc)) 8 0 rfl co (mi_0 (fun q hq => (hx q hq).2.1))))
theorem xw_ct15 (hg : gm_ok O C F G) {post : Int32 → SX → Prop}
    (H : ∀ o' dp' lv' sg' gv' wo', xg_G o' co fi se O C F G → post (nI (ct_n O C F G 8)) (o', dp', co, fi, se, lv', sg', gv', wo', re)) :
    ∀ d j, j + d = 8 → ∀ o dp lv sg gv wo, xg_G o co fi se O C F G →
      wX_contested_15 post (pg_reg O C F G) (d + 1) (nI (ct_n O C F G j)) (nI j) o dp co fi se lv sg gv wo re := by
  intro d
  induction d with
  | zero =>
    intro j hj o dp lv sg gv wo hx
    have e : j = 8 := by omega
    subst e
    exact br_t (show (8 : Int32) ≤ nI 8 by decide) (H o dp lv sg gv wo hx)
  | succ d ih =>
    intro j hj o dp lv sg gv wo hx
    have hj8 : j < 8 := by omega
    have hx1 := xg_tg hg hx hj8
    have hg1 := gm_tg hg j
    have hx2 := xg_tg hg1 hx1 hj8
    rw [pg_up_up (hg j hj8).1] at hx2
    refine br_f (nI_ge (b := 8) hj8 (by decide)) (nm_e ?_)
    refine xw_solve hg1 hx1 (fun dp' lv' sg' gv' wo' hs => ?_)
    have e0 := (so_top hg1 hs).1
    by_cases e : pg_reg (pg_up O j (1 - O j)) C F G = pg_reg O C F G
    · have h2 := ih (j + 1) (by omega) _ dp' lv' sg' gv' wo' hx2
      rw [ct_f e] at h2
      exact br_t (e0.trans e) (nm_e (nm_r (nI_1 j) h2))
    · have h2 := ih (j + 1) (by omega) _ dp' lv' sg' gv' wo' hx2
      rw [ct_t e] at h2
      exact br_f (fun z => e (e0.symm.trans z)) (nm_r (nI_1 _) (nm_e (nm_r (nI_1 j) h2)))
theorem xw_contested (hg : gm_ok O C F G) (hx : xg_G o co fi se O C F G) {post : Int32 → SX → Prop}
    (H : ∀ o' dp' lv' sg' gv' wo', xg_G o' co fi se O C F G → post (nI (ct_n O C F G 8)) (o', dp', co, fi, se, lv', sg', gv', wo', re)) :
    wpX_contested post (o, dp, co, fi, se, lv, sg, gv, wo, re) := by
  refine xw_solve (dp := dp) hg hx (fun dp' lv' sg' gv' wo' hs => ?_)
  exact nm_r (e' := pg_reg O C F G) (so_top hg hs).1 (Exists.intro 9 (xw_ct15 hg H 8 0 rfl o dp' lv' sg' gv' wo' hx))
theorem xw_in69 {post : SX → Prop} (H : ∀ fi se, (∀ q, q < 8 → fi q = nI q) → (∀ q, q < 8 → se q = nI q) → post (o, dp, co, fi, se, lv, sg, gv, wo, re)) :
    ∀ d j, j + d = 8 → ∀ fi se, (∀ q, q < j → fi q = nI q) → (∀ q, q < j → se q = nI q) →
      wX_init_69 post o dp (d + 1) (nI j) co fi se lv sg gv wo re := by
  intro d
  induction d with
  | zero =>
    intro j hj f s hf hs
    have e : j = 8 := by omega
    subst e
    exact br_t (show (8 : Int32) ≤ nI 8 by decide) (H f s hf hs)
  | succ d ih =>
    intro j hj f s hf hs
    have hj8 : j < 8 := by omega
    have hin : vp_in (nI j) 8 := vp_in_nI hj8 (by omega)
    have hcl : (nI j).toNatClampNeg = j := nI_clamp (by omega)
    have st : ∀ a : Nat → Int32, (∀ q, q < j → a q = nI q) → ∀ q, q < j + 1 → upd a j (nI j) q = nI q := by
      intro a h q hq
      by_cases e : q = j
      · subst e; exact pk_us
      · rw [pk_un e]; exact h q (by omega)
    exact br_f (nI_ge (b := 8) hj8 (by decide)) (And.intro hin (nm_r (e' := upd f j (nI j)) (by rw [hcl]) (And.intro hin (nm_r (e' := upd s j (nI j)) (by rw [hcl])
      (nm_r (nI_1 j) (ih (j + 1) (by omega) _ _ (st f hf) (st s hs)))))))
end
section
variable {kn wi : Int32} {ow co fi se re : Nat → Int32} {O C F G : Nat → Nat}
theorem yw_mi2 (hg : gm_ok O C F G) {post : SY → Prop}
    (H : ∀ ow' co', (∀ q, q < 8 → ow' q = nI (mi_O O q)) → (∀ q, q < 8 → co' q = nI (mi_C C q)) → post (0, wi, ow', co', fi, se, re)) :
    ∀ d j, j + d = 8 → ∀ ow co, mi_I (mi_O O) O j ow → mi_I (mi_C C) C j co → wY_mirror_2 post kn wi (d + 1) (nI j) ow co fi se re := by
  intro d
  induction d with
  | zero =>
    intro j hj w a hw ha
    have e : j = 8 := by omega
    subst e
    exact br_t (show (8 : Int32) ≤ nI 8 by decide) (H w a (mi_e hw) (mi_e ha))
  | succ d ih =>
    intro j hj w a hw ha
    have hj8 : j < 8 := by omega
    have hin : vp_in (nI j) 8 := vp_in_nI hj8 (by omega)
    have hcl : (nI j).toNatClampNeg = j := nI_clamp (by omega)
    obtain ⟨hO, hc5, _⟩ := hg j hj8
    have hco : a (nI j).toNatClampNeg = nI (C j) := by rw [hcl]; exact mi_at ha hj8
    have how : (1 : Int32) - w (nI j).toNatClampNeg = nI (1 - O j) := by
      rw [hcl, mi_at hw hj8]
      exact pk_sub (a := 1) (by omega)
    have hw2 : mi_I (mi_O O) O (j + 1) (upd w j (nI (1 - O j))) := mi_s hw rfl
    refine br_f (nI_ge (b := 8) hj8 (by decide)) (And.intro hin (And.intro hin (nm_r (e' := upd w j (nI (1 - O j))) (by rw [how, hcl]) (And.intro hin ?_))))
    refine pk_eq (C j) 5 (fun e => And.intro hin (nm_r (e' := upd a j 0) (by rw [hcl]) (nm_r (nI_1 j) (ih (j + 1) (by omega) _ _ hw2 (mi_s ha ?_)))))
      (fun e => And.intro hin (And.intro hin (nm_r (e' := upd a j (nI (C j) + 1)) (by rw [hco, hcl]) (nm_r (nI_1 j) (ih (j + 1) (by omega) _ _ hw2 (mi_s ha ?_)))))) hco rfl
    · have e2 : mi_C C j = 0 := if_pos e
      rw [e2]; exact nI_0.symm
    · have e2 : mi_C C j = C j + 1 := if_neg e
      rw [e2]; exact nI_1 _
theorem yw_mirror (hg : gm_ok O C F G) (hy : yg_G ow co fi se O C F G) {post : SY → Prop}
    (H : ∀ ow' co', yg_G ow' co' fi se (mi_O O) (mi_C C) F G → post (0, wi, ow', co', fi, se, re)) :
    wpY_mirror post (kn, wi, ow, co, fi, se, re) :=
  Exists.intro 9 (yw_mi2 hg (fun ow' co' h1 h2 => H ow' co' (fun q hq => ⟨h1 q hq, h2 q hq, (hy q hq).2.2⟩)) 8 0 rfl ow co
    (mi_0 (fun q hq => (hy q hq).1)) (mi_0 (fun q hq => (hy q hq).2.1)))
theorem yw_ct9 (hg : gm_ok O C F G) {post : Int32 → SY → Prop}
    (H : ∀ ow' a, yg_G ow' co fi se O C F G → post (nI (ct_n O C F G 8)) (kn, wi, ow', co, fi, se, a)) :
    ∀ d j, j + d = 8 → ∀ ow a, yg_G ow co fi se O C F G →
      wY_contested_9 post (pg_reg O C F G) (d + 1) (nI (ct_n O C F G j)) (nI j) kn wi ow co fi se a := by
  intro d
  induction d with
  | zero =>
    intro j hj w a hy
    have e : j = 8 := by omega
    subst e
    exact br_t (show (8 : Int32) ≤ nI 8 by decide) (H w a hy)
  | succ d ih =>
    intro j hj w a hy
    have hj8 : j < 8 := by omega
    have hin : vp_in (nI j) 8 := vp_in_nI hj8 (by omega)
    have hcl : (nI j).toNatClampNeg = j := nI_clamp (by omega)
    have hy1 := yg_tg hg hy hj8
    have hg1 := gm_tg hg j
    have hy2 := yg_tg hg1 hy1 hj8
    rw [pg_up_up (hg j hj8).1] at hy2
    refine br_f (nI_ge (b := 8) hj8 (by decide)) (And.intro hin (And.intro hin (nm_r (e' := upd w j (1 - w j)) (by rw [hcl]) ?_)))
    refine yw_wonBy0 hg1 hy1 (fun a' => ?_)
    have h40 : ∀ n : Nat, wY_contested_9 post (pg_reg O C F G) (d + 1) (nI n) (nI (j + 1)) kn wi
        (upd (upd w j (1 - w j)) j (1 - upd w j (1 - w j) j)) co fi se a' →
        wY_contested_40 post (wY_contested_9 post (pg_reg O C F G) (d + 1)) (pg_reg O C F G) (nI n) (nI j) kn wi (upd w j (1 - w j)) co fi se a' := by
      intro n h
      exact And.intro hin (And.intro hin (nm_r (e' := upd (upd w j (1 - w j)) j (1 - upd w j (1 - w j) j)) (by rw [hcl]) (nm_r (nI_1 j) h)))
    have h2 := ih (j + 1) (by omega) _ a' hy2
    by_cases e : pg_reg (pg_up O j (1 - O j)) C F G = pg_reg O C F G
    · rw [ct_f e] at h2
      exact br_t e (h40 _ h2)
    · rw [ct_t e] at h2
      exact br_f e (nm_r (nI_1 _) (h40 _ h2))
theorem yw_contested (hg : gm_ok O C F G) (hy : yg_G ow co fi se O C F G) {post : Int32 → SY → Prop} (hk : kn = 0 ∨ wi = pg_reg O C F G)
    (H : ∀ kn' ow' a, yg_G ow' co fi se O C F G → post (nI (ct_n O C F G 8)) (kn', pg_reg O C F G, ow', co, fi, se, a)) :
    wpY_contested post (kn, wi, ow, co, fi, se, re) := by
  unfold wpY_contested
  refine yw_region hg hy hk (fun kn' a => Exists.intro 9 ?_)
  exact yw_ct9 hg (fun ow' a' h => H kn' ow' a' h) 8 0 rfl ow a hy
theorem yw_in46 {post : SY → Prop} (H : ∀ fi se, (∀ q, q < 8 → fi q = nI q) → (∀ q, q < 8 → se q = nI q) → post (kn, wi, ow, co, fi, se, re)) :
    ∀ d j, j + d = 8 → ∀ fi se, (∀ q, q < j → fi q = nI q) → (∀ q, q < j → se q = nI q) →
      wY_init_46 post kn wi (d + 1) (nI j) ow co fi se re := by
  intro d
  induction d with
  | zero =>
    intro j hj f s hf hs
    have e : j = 8 := by omega
    subst e
    exact br_t (show (8 : Int32) ≤ nI 8 by decide) (H f s hf hs)
  | succ d ih =>
    intro j hj f s hf hs
    have hj8 : j < 8 := by omega
    have hin : vp_in (nI j) 8 := vp_in_nI hj8 (by omega)
    have hcl : (nI j).toNatClampNeg = j := nI_clamp (by omega)
    have st : ∀ a : Nat → Int32, (∀ q, q < j → a q = nI q) → ∀ q, q < j + 1 → upd a j (nI j) q = nI q := by
      intro a h q hq
      by_cases e : q = j
      · subst e; exact pk_us
      · rw [pk_un e]; exact h q (by omega)
    exact br_f (nI_ge (b := 8) hj8 (by decide)) (And.intro hin (nm_r (e' := upd f j (nI j)) (by rw [hcl]) (And.intro hin (nm_r (e' := upd s j (nI j)) (by rw [hcl])
      (nm_r (nI_1 j) (ih (j + 1) (by omega) _ _ (st f hf) (st s hs)))))))
end
end
section
/-! the relation and what is owed -/
def i_Rel (k : Nat) (u : SX) (v : SY) : Prop :=
  ∃ O C F G : Nat → Nat, gm_ok O C F G ∧ xg_G u.1 u.2.2.1 u.2.2.2.1 u.2.2.2.2.1 O C F G ∧
    yg_G v.2.2.1 v.2.2.2.1 v.2.2.2.2.1 v.2.2.2.2.2.1 O C F G ∧ (v.1 = 0 ∨ v.2.1 = pg_reg O C F G)
theorem i_up {k : Nat} {u : SX} {v : SY} (h : i_Rel k u v) : i_Rel (k + 5) u v := h
section
variable {o dp : Int32} {co fi se lv sg gv wo re : Nat → Int32} {kn wi : Int32} {ow co' fi' se' re' : Nat → Int32} {O C F G : Nat → Nat}
theorem ir_mk {k : Nat} (hg : gm_ok O C F G) (hx : xg_G o co fi se O C F G) (hy : yg_G ow co' fi' se' O C F G) (hk : kn = 0 ∨ wi = pg_reg O C F G) :
    i_Rel k (o, dp, co, fi, se, lv, sg, gv, wo, re) (kn, wi, ow, co', fi', se', re') := ⟨O, C, F, G, hg, hx, hy, hk⟩
theorem ir_el {P : SX → SY → Prop}
    (h : ∀ (o dp : Int32) (co fi se lv sg gv wo re : Nat → Int32) (kn wi : Int32) (ow co' fi' se' re' : Nat → Int32) (O C F G : Nat → Nat),
      gm_ok O C F G → xg_G o co fi se O C F G → yg_G ow co' fi' se' O C F G → (kn = 0 ∨ wi = pg_reg O C F G) →
      P (o, dp, co, fi, se, lv, sg, gv, wo, re) (kn, wi, ow, co', fi', se', re')) {k : Nat} {u : SX} {v : SY} (I : i_Rel k u v) : P u v := by
  obtain ⟨o, dp, co, fi, se, lv, sg, gv, wo, re⟩ := u
  obtain ⟨kn, wi, ow, co', fi', se', re'⟩ := v
  obtain ⟨O, C, F, G, hg, hx, hy, hk⟩ := I
  exact h o dp co fi se lv sg gv wo re kn wi ow co' fi' se' re' O C F G hg hx hy hk
/-! set -/
theorem xw_set_1 {post : Int32 → SX → Prop} {v1 v2 v3 v4 : Int32} (hb : v1 < 0 ∨ ∃ j, 8 ≤ j ∧ j < 2 ^ 31 ∧ v1 = nI j)
    (h : post (-1) (o, dp, co, fi, se, lv, sg, gv, wo, re)) : wpX_set post (o, dp, co, fi, se, lv, sg, gv, wo, re) v1 v2 v3 v4 := by
  unfold wpX_set
  refine xw_bad_no hb ?_
  exact br_f (by decide) h
theorem xw_set_3 {post : Int32 → SX → Prop} {p : Nat} (hp : p < 8) {v2 v3 v4 : Int32} (hb : v2 < 0 ∨ ∃ j, 2 ≤ j ∧ j < 2 ^ 31 ∧ v2 = nI j)
    (h : post (-3) (o, dp, co, fi, se, lv, sg, gv, wo, re)) : wpX_set post (o, dp, co, fi, se, lv, sg, gv, wo, re) (nI p) v2 v3 v4 := by
  unfold wpX_set
  refine xw_bad_ok hp ?_
  exact br_t rfl (rg_no (N := 1) hb h)
theorem xw_set_2 {post : Int32 → SX → Prop} {p i : Nat} (hp : p < 8) (hi : i < 2) {v3 v4 : Int32} (hb : v3 < 0 ∨ ∃ j, 6 ≤ j ∧ j < 2 ^ 31 ∧ v3 = nI j)
    (h : post (-2) (o, dp, co, fi, se, lv, sg, gv, wo, re)) : wpX_set post (o, dp, co, fi, se, lv, sg, gv, wo, re) (nI p) (nI i) v3 v4 := by
  unfold wpX_set
  refine xw_bad_ok hp ?_
  exact br_t rfl (rg_ok (N := 1) (by omega) (by decide) (rg_no (N := 5) hb h))
theorem xw_set_ok {post : Int32 → SX → Prop} {p i c f g : Nat} (hp : p < 8) (hi : i < 2) (hc : c ≤ 5) {v4 : Int32} (hf : v4 &&& 7 = nI f)
    (hs : (v4 >>> ((3 : Int32) &&& 31)) &&& 7 = nI g)
    (h : post 0 ((o &&& (((1 : Int32) <<< (nI p &&& 31)) ^^^ (-1))) ||| (nI i <<< (nI p &&& 31)), dp, upd co p (nI c), upd fi p (nI f), upd se p (nI g), lv, sg, gv, wo, re)) :
    wpX_set post (o, dp, co, fi, se, lv, sg, gv, wo, re) (nI p) (nI i) (nI c) v4 := by
  have hin : vp_in (nI p) 8 := vp_in_nI hp (by omega)
  have hcl : (nI p).toNatClampNeg = p := nI_clamp (by omega)
  unfold wpX_set
  refine xw_bad_ok hp ?_
  refine br_t rfl (rg_ok (N := 1) (by omega) (by decide) (rg_ok (N := 5) hc (by decide) (nm_e ?_)))
  exact And.intro hin (nm_r (e' := upd co p (nI c)) (by rw [hcl]) (And.intro hin (nm_r (e' := upd fi p (nI f)) (by rw [hcl, hf])
    (And.intro hin (nm_r (e' := upd se p (nI g)) (by rw [hcl, hs]) h)))))
theorem yw_set_1 {post : Int32 → SY → Prop} {v1 v2 v3 v4 : Int32} (hb : v1 < 0 ∨ ∃ j, 8 ≤ j ∧ j < 2 ^ 31 ∧ v1 = nI j)
    (h : post (-1) (kn, wi, ow, co, fi, se, re)) : wpY_set post (kn, wi, ow, co, fi, se, re) v1 v2 v3 v4 := by
  unfold wpY_set
  refine yw_bad_no hb ?_
  exact br_f (by decide) h
theorem yw_set_3 {post : Int32 → SY → Prop} {p : Nat} (hp : p < 8) {v2 v3 v4 : Int32} (hb : v2 < 0 ∨ ∃ j, 2 ≤ j ∧ j < 2 ^ 31 ∧ v2 = nI j)
    (h : post (-3) (kn, wi, ow, co, fi, se, re)) : wpY_set post (kn, wi, ow, co, fi, se, re) (nI p) v2 v3 v4 := by
  unfold wpY_set
  refine yw_bad_ok hp ?_
  exact br_t rfl (rg_no (N := 1) hb h)
theorem yw_set_2 {post : Int32 → SY → Prop} {p i : Nat} (hp : p < 8) (hi : i < 2) {v3 v4 : Int32} (hb : v3 < 0 ∨ ∃ j, 6 ≤ j ∧ j < 2 ^ 31 ∧ v3 = nI j)
    (h : post (-2) (kn, wi, ow, co, fi, se, re)) : wpY_set post (kn, wi, ow, co, fi, se, re) (nI p) (nI i) v3 v4 := by
  unfold wpY_set
  refine yw_bad_ok hp ?_
  refine br_t rfl (rg_ok (N := 1) (by omega) (by decide) ?_)
  refine yw_bc_no hb ?_
  exact br_f (by decide) h
theorem yw_set_ok {post : Int32 → SY → Prop} {p i c f g : Nat} (hp : p < 8) (hi : i < 2) (hc : c ≤ 5) {v4 : Int32} (hf : v4 &&& 7 = nI f)
    (hs : (v4 >>> ((3 : Int32) &&& 31)) &&& 7 = nI g)
    (h : post 0 (0, wi, upd ow p (nI i), upd co p (nI c), upd fi p (nI f), upd se p (nI g), re)) :
    wpY_set post (kn, wi, ow, co, fi, se, re) (nI p) (nI i) (nI c) v4 := by
  have hin : vp_in (nI p) 8 := vp_in_nI hp (by omega)
  have hcl : (nI p).toNatClampNeg = p := nI_clamp (by omega)
  unfold wpY_set
  refine yw_bad_ok hp ?_
  refine br_t rfl (rg_ok (N := 1) (by omega) (by decide) ?_)
  refine yw_bc_ok hc ?_
  refine br_t rfl ?_
  exact And.intro hin (nm_r (e' := upd ow p (nI i)) (by rw [hcl]) (And.intro hin (nm_r (e' := upd co p (nI c)) (by rw [hcl])
    (And.intro hin (nm_r (e' := upd fi p (nI f)) (by rw [hcl, hf]) (And.intro hin (nm_r (e' := upd se p (nI g)) (by rw [hcl, hs]) h)))))))
/-! paint -/
theorem xw_paint_1 {post : Int32 → SX → Prop} {v1 v2 : Int32} (hb : v1 < 0 ∨ ∃ j, 8 ≤ j ∧ j < 2 ^ 31 ∧ v1 = nI j)
    (h : post (-1) (o, dp, co, fi, se, lv, sg, gv, wo, re)) : wpX_paint post (o, dp, co, fi, se, lv, sg, gv, wo, re) v1 v2 := by
  unfold wpX_paint
  refine xw_bad_no hb ?_
  exact br_f (by decide) h
theorem xw_paint_2 {post : Int32 → SX → Prop} {p : Nat} (hp : p < 8) {v2 : Int32} (hb : v2 < 0 ∨ ∃ j, 6 ≤ j ∧ j < 2 ^ 31 ∧ v2 = nI j)
    (h : post (-2) (o, dp, co, fi, se, lv, sg, gv, wo, re)) : wpX_paint post (o, dp, co, fi, se, lv, sg, gv, wo, re) (nI p) v2 := by
  unfold wpX_paint
  refine xw_bad_ok hp ?_
  exact br_t rfl (rg_no (N := 5) hb h)
theorem xw_paint_ok {post : Int32 → SX → Prop} {p c : Nat} (hp : p < 8) (hc : c ≤ 5)
    (h : post (co p) (o, dp, upd co p (nI c), fi, se, lv, sg, gv, wo, re)) : wpX_paint post (o, dp, co, fi, se, lv, sg, gv, wo, re) (nI p) (nI c) := by
  have hin : vp_in (nI p) 8 := vp_in_nI hp (by omega)
  have hcl : (nI p).toNatClampNeg = p := nI_clamp (by omega)
  unfold wpX_paint
  refine xw_bad_ok hp ?_
  exact br_t rfl (rg_ok (N := 5) hc (by decide) (And.intro hin (nm_r (e' := co p) (by rw [hcl]) (And.intro hin (nm_r (e' := upd co p (nI c)) (by rw [hcl]) h)))))
theorem yw_paint_1 {post : Int32 → SY → Prop} {v1 v2 : Int32} (hb : v1 < 0 ∨ ∃ j, 8 ≤ j ∧ j < 2 ^ 31 ∧ v1 = nI j)
    (h : post (-1) (kn, wi, ow, co, fi, se, re)) : wpY_paint post (kn, wi, ow, co, fi, se, re) v1 v2 := by
  unfold wpY_paint
  refine yw_bad_no hb ?_
  exact br_f (by decide) h
theorem yw_paint_2 {post : Int32 → SY → Prop} {p : Nat} (hp : p < 8) {v2 : Int32} (hb : v2 < 0 ∨ ∃ j, 6 ≤ j ∧ j < 2 ^ 31 ∧ v2 = nI j)
    (h : post (-2) (kn, wi, ow, co, fi, se, re)) : wpY_paint post (kn, wi, ow, co, fi, se, re) (nI p) v2 := by
  unfold wpY_paint
  refine yw_bad_ok hp ?_
  refine br_t rfl ?_
  refine yw_bc_no hb ?_
  exact br_f (by decide) h
theorem yw_paint_ok {post : Int32 → SY → Prop} {p c : Nat} (hp : p < 8) (hc : c ≤ 5)
    (h : post (co p) (0, wi, ow, upd co p (nI c), fi, se, re)) : wpY_paint post (kn, wi, ow, co, fi, se, re) (nI p) (nI c) := by
  have hin : vp_in (nI p) 8 := vp_in_nI hp (by omega)
  have hcl : (nI p).toNatClampNeg = p := nI_clamp (by omega)
  unfold wpY_paint
  refine yw_bad_ok hp ?_
  refine br_t rfl ?_
  refine yw_bc_ok hc ?_
  exact br_t rfl (And.intro hin (nm_r (e' := co p) (by rw [hcl]) (And.intro hin (nm_r (e' := upd co p (nI c)) (by rw [hcl]) h))))
/-! hand -/
theorem xw_hand_1 {post : Int32 → SX → Prop} {v1 : Int32} (hb : v1 < 0 ∨ ∃ j, 8 ≤ j ∧ j < 2 ^ 31 ∧ v1 = nI j)
    (h : post (-1) (o, dp, co, fi, se, lv, sg, gv, wo, re)) : wpX_hand post (o, dp, co, fi, se, lv, sg, gv, wo, re) v1 := by
  unfold wpX_hand
  refine xw_bad_no hb ?_
  exact br_f (by decide) h
theorem xw_hand_ok (hg : gm_ok O C F G) (hx : xg_G o co fi se O C F G) {post : Int32 → SX → Prop} {p : Nat} (hp : p < 8)
    (h : post (nI (1 - O p)) (o ^^^ ((1 : Int32) <<< (nI p &&& 31)), dp, co, fi, se, lv, sg, gv, wo, re)) :
    wpX_hand post (o, dp, co, fi, se, lv, sg, gv, wo, re) (nI p) := by
  unfold wpX_hand
  refine xw_bad_ok hp ?_
  refine br_t rfl (nm_e ?_)
  refine xw_owner (xg_tg hg hx hp) hp ?_
  rw [pg_up_s]
  exact h
theorem yw_hand_1 {post : Int32 → SY → Prop} {v1 : Int32} (hb : v1 < 0 ∨ ∃ j, 8 ≤ j ∧ j < 2 ^ 31 ∧ v1 = nI j)
    (h : post (-1) (kn, wi, ow, co, fi, se, re)) : wpY_hand post (kn, wi, ow, co, fi, se, re) v1 := by
  unfold wpY_hand
  refine yw_bad_no hb ?_
  exact br_f (by decide) h
theorem yw_hand_ok (hg : gm_ok O C F G) (hy : yg_G ow co fi se O C F G) {post : Int32 → SY → Prop} {p : Nat} (hp : p < 8)
    (h : post (nI (1 - O p)) (0, wi, upd ow p (1 - ow p), co, fi, se, re)) : wpY_hand post (kn, wi, ow, co, fi, se, re) (nI p) := by
  have hin : vp_in (nI p) 8 := vp_in_nI hp (by omega)
  have hcl : (nI p).toNatClampNeg = p := nI_clamp (by omega)
  have e1 : upd ow p (1 - ow p) (nI p).toNatClampNeg = nI (1 - O p) := by
    rw [hcl, (yg_tg hg hy hp p hp).1, pg_up_s]
  unfold wpY_hand
  refine yw_bad_ok hp ?_
  refine br_t rfl (And.intro hin (And.intro hin (nm_r (e' := upd ow p (1 - ow p)) (by rw [hcl]) (And.intro hin ?_))))
  rw [e1]
  exact h
end
end
section
/-! what is owed, a method each -/
theorem i_vc0 : wpX_init (fun u => wpY_init (fun v => i_Rel 0 u v)) := by
  refine Exists.intro 9 ?_
  refine xw_in69 (fun fi se hf hs => ?_) 8 0 rfl _ _ (fun q hq => absurd hq (Nat.not_lt_zero _)) (fun q hq => absurd hq (Nat.not_lt_zero _))
  refine Exists.intro 9 ?_
  refine yw_in46 (fun fi' se' hf' hs' => ?_) 8 0 rfl _ _ (fun q hq => absurd hq (Nat.not_lt_zero _)) (fun q hq => absurd hq (Nat.not_lt_zero _))
  refine ir_mk (O := fun _ => 0) (C := fun _ => 0) (F := fun q => q) (G := fun q => q) (fun q hq => ⟨Nat.zero_lt_succ 1, Nat.zero_le 5, hq, hq⟩)
    (fun q hq => ⟨?_, nI_0.symm, hf q hq, hs q hq⟩) (fun q hq => ⟨nI_0.symm, nI_0.symm, hf' q hq, hs' q hq⟩) (Or.inl rfl)
  rw [mk_shr1 (by omega), b_0]
  exact nI_0.symm
theorem i_vc_set {k : Nat} {u : SX} {v : SY} (I : i_Rel k u v) (hk : k + 5 ≤ 2560) (v1 : Int32) (v2 : Int32) (v3 : Int32) (v4 : Int32) : wpX_set (fun r u' => wpY_set (fun r' v' => r' = r ∧ i_Rel (k + 5) u' v') v v1 v2 v3 v4) u v1 v2 v3 v4 := by
  refine ir_el (P := fun u v => wpX_set (fun r u' => wpY_set (fun r' v' => r' = r ∧ i_Rel (k + 5) u' v') v v1 v2 v3 v4) u v1 v2 v3 v4) ?_ I
  intro o dp co fi se lv sg gv wo re kn wi ow co' fi' se' re' O C F G hg hx hy hk
  rcases vb_c 8 v1 with ⟨p, hp, _, e1⟩ | hb1
  · subst e1
    rcases vb_c 2 v2 with ⟨i, hi, _, e2⟩ | hb2
    · subst e2
      rcases vb_c 6 v3 with ⟨c, hc, _, e3⟩ | hb3
      · subst e3
        obtain ⟨f, hf, ef⟩ := pk_andE v4 (m := 7) 3 (by decide)
        obtain ⟨g, hg2, eg⟩ := pk_andE (v4 >>> ((3 : Int32) &&& 31)) (m := 7) 3 (by decide)
        exact xw_set_ok hp hi (by omega) ef eg (yw_set_ok hp hi (by omega) ef eg
          ⟨rfl, ir_mk (gm_set hg hi (by omega) hf hg2) (xg_set hg hx hp hi c f g) (yg_set hy p i c f g) (Or.inl rfl)⟩)
      · exact xw_set_2 hp hi hb3 (yw_set_2 hp hi hb3 ⟨rfl, ir_mk hg hx hy hk⟩)
    · exact xw_set_3 hp hb2 (yw_set_3 hp hb2 ⟨rfl, ir_mk hg hx hy hk⟩)
  · exact xw_set_1 hb1 (yw_set_1 hb1 ⟨rfl, ir_mk hg hx hy hk⟩)
theorem i_vc_paint {k : Nat} {u : SX} {v : SY} (I : i_Rel k u v) (hk : k + 5 ≤ 2560) (v1 : Int32) (v2 : Int32) : wpX_paint (fun r u' => wpY_paint (fun r' v' => r' = r ∧ i_Rel (k + 5) u' v') v v1 v2) u v1 v2 := by
  refine ir_el (P := fun u v => wpX_paint (fun r u' => wpY_paint (fun r' v' => r' = r ∧ i_Rel (k + 5) u' v') v v1 v2) u v1 v2) ?_ I
  intro o dp co fi se lv sg gv wo re kn wi ow co' fi' se' re' O C F G hg hx hy hk
  rcases vb_c 8 v1 with ⟨p, hp, _, e1⟩ | hb1
  · subst e1
    rcases vb_c 6 v2 with ⟨c, hc, _, e2⟩ | hb2
    · subst e2
      have ee : co' p = co p := (hy p hp).2.1.trans (hx p hp).2.1.symm
      have hg2 : gm_ok O (pg_up C p c) F G := by
        intro q hq
        refine ⟨(hg q hq).1, ?_, (hg q hq).2.2⟩
        by_cases e : q = p
        · rw [e, pg_up_s]; omega
        · rw [pg_up_n e]; exact (hg q hq).2.1
      exact xw_paint_ok hp (by omega) (yw_paint_ok hp (by omega)
        ⟨ee, ir_mk hg2 (fun q hq => ⟨(hx q hq).1, up_nI (fun q hq => (hx q hq).2.1) p c q hq, (hx q hq).2.2⟩)
          (fun q hq => ⟨(hy q hq).1, up_nI (fun q hq => (hy q hq).2.1) p c q hq, (hy q hq).2.2⟩) (Or.inl rfl)⟩)
    · exact xw_paint_2 hp hb2 (yw_paint_2 hp hb2 ⟨rfl, ir_mk hg hx hy hk⟩)
  · exact xw_paint_1 hb1 (yw_paint_1 hb1 ⟨rfl, ir_mk hg hx hy hk⟩)
theorem i_vc_hand {k : Nat} {u : SX} {v : SY} (I : i_Rel k u v) (hk : k + 5 ≤ 2560) (v1 : Int32) : wpX_hand (fun r u' => wpY_hand (fun r' v' => r' = r ∧ i_Rel (k + 5) u' v') v v1) u v1 := by
  refine ir_el (P := fun u v => wpX_hand (fun r u' => wpY_hand (fun r' v' => r' = r ∧ i_Rel (k + 5) u' v') v v1) u v1) ?_ I
  intro o dp co fi se lv sg gv wo re kn wi ow co' fi' se' re' O C F G hg hx hy hk
  rcases vb_c 8 v1 with ⟨p, hp, _, e1⟩ | hb1
  · subst e1
    exact xw_hand_ok hg hx hp (yw_hand_ok hg hy hp ⟨rfl, ir_mk (gm_tg hg p) (xg_tg hg hx hp) (yg_tg hg hy hp) (Or.inl rfl)⟩)
  · exact xw_hand_1 hb1 (yw_hand_1 hb1 ⟨rfl, ir_mk hg hx hy hk⟩)
theorem i_vc_mirror {k : Nat} {u : SX} {v : SY} (I : i_Rel k u v) (hk : k + 5 ≤ 2560) : wpX_mirror (fun u' => wpY_mirror (fun v' => i_Rel (k + 5) u' v') v) u := by
  refine ir_el (P := fun u v => wpX_mirror (fun u' => wpY_mirror (fun v' => i_Rel (k + 5) u' v') v) u) ?_ I
  intro o dp co fi se lv sg gv wo re kn wi ow co' fi' se' re' O C F G hg hx hy hk
  exact xw_mirror hg hx (fun o2 co2 hx2 => yw_mirror hg hy (fun ow2 co3 hy2 => ir_mk (gm_mi hg) hx2 hy2 (Or.inl rfl)))
theorem i_vc_winner {k : Nat} {u : SX} {v : SY} (I : i_Rel k u v) (hk : k + 5 ≤ 2560) (v1 : Int32) : wpX_winner (fun r u' => wpY_winner (fun r' v' => r' = r ∧ i_Rel (k + 5) u' v') v v1) u v1 := by
  refine ir_el (P := fun u v => wpX_winner (fun r u' => wpY_winner (fun r' v' => r' = r ∧ i_Rel (k + 5) u' v') v v1) u v1) ?_ I
  intro o dp co fi se lv sg gv wo re kn wi ow co' fi' se' re' O C F G hg hx hy hk
  unfold wpX_winner wpY_winner
  rcases vb_c 8 v1 with ⟨p, hp, _, e1⟩ | hb1
  · subst e1
    refine xw_bad_ok hp ?_
    refine br_t rfl ?_
    refine xw_solve (dp := dp) hg hx (fun dp2 lv2 sg2 gv2 wo2 hs => ?_)
    obtain ⟨_, h1, _⟩ := so_top hg hs
    refine yw_bad_ok hp ?_
    refine br_t rfl ?_
    refine yw_region hg hy hk (fun kn2 a => ?_)
    have hr : (wo2 1 >>> (nI p &&& 31)) &&& 1 = if bt (pg_reg O C F G) p = true then 0 else 1 := by
      rw [mk_shr1 (by omega), h1, b_and, b_255, decide_eq_true hp, Bool.true_and, mk_not _ (by omega)]
      cases bt (pg_reg O C F G) p <;> rfl
    have I2 : i_Rel (k + 5) (o, dp2, co, fi, se, lv2, sg2, gv2, wo2, re) (kn2, pg_reg O C F G, ow, co', fi', se', a) := ir_mk hg hx hy (Or.inr rfl)
    by_cases hb : bt (pg_reg O C F G) p = true
    · rw [if_pos hb] at hr
      exact br_t ((mk_t1 (by omega) _).mpr hb) ⟨hr.symm, I2⟩
    · rw [if_neg hb] at hr
      exact br_f (fun z => hb ((mk_t1 (by omega) _).mp z)) ⟨hr.symm, I2⟩
  · refine xw_bad_no hb1 ?_
    refine br_f (by decide) ?_
    refine yw_bad_no hb1 ?_
    exact br_f (by decide) ⟨rfl, ir_mk hg hx hy hk⟩
theorem i_vc_region {k : Nat} {u : SX} {v : SY} (I : i_Rel k u v) (hk : k + 5 ≤ 2560) : wpX_region (fun r u' => wpY_region (fun r' v' => r' = r ∧ i_Rel (k + 5) u' v') v) u := by
  refine ir_el (P := fun u v => wpX_region (fun r u' => wpY_region (fun r' v' => r' = r ∧ i_Rel (k + 5) u' v') v) u) ?_ I
  intro o dp co fi se lv sg gv wo re kn wi ow co' fi' se' re' O C F G hg hx hy hk
  unfold wpX_region
  refine xw_solve (dp := dp) hg hx (fun dp2 lv2 sg2 gv2 wo2 hs => ?_)
  exact yw_region hg hy hk (fun kn2 a => ⟨(so_top hg hs).1.symm, ir_mk hg hx hy (Or.inr rfl)⟩)
theorem i_vc_good {k : Nat} {u : SX} {v : SY} (I : i_Rel k u v) (hk : k + 5 ≤ 2560) (v1 : Int32) (v2 : Int32) : wpX_good (fun r u' => wpY_good (fun r' v' => r' = r ∧ i_Rel (k + 5) u' v') v v1 v2) u v1 v2 := by
  refine ir_el (P := fun u v => wpX_good (fun r u' => wpY_good (fun r' v' => r' = r ∧ i_Rel (k + 5) u' v') v v1 v2) u v1 v2) ?_ I
  intro o dp co fi se lv sg gv wo re kn wi ow co' fi' se' re' O C F G hg hx hy hk
  rcases vb_c 2 v1 with ⟨i, hi, _, e1⟩ | hb1
  · subst e1
    exact xw_good hg hx hi (fun dp2 lv2 sg2 gv2 wo2 a => yw_good hg hy hi hk (fun kn2 a2 => ⟨rfl, ir_mk hg hx hy (Or.inr rfl)⟩))
  · exact rg_no (N := 1) hb1 (rg_no (N := 1) hb1 ⟨rfl, ir_mk hg hx hy hk⟩)
theorem i_vc_plans {k : Nat} {u : SX} {v : SY} (I : i_Rel k u v) (hk : k + 5 ≤ 2560) (v1 : Int32) : wpX_plans (fun r u' => wpY_plans (fun r' v' => r' = r ∧ i_Rel (k + 5) u' v') v v1) u v1 := by
  refine ir_el (P := fun u v => wpX_plans (fun r u' => wpY_plans (fun r' v' => r' = r ∧ i_Rel (k + 5) u' v') v v1) u v1) ?_ I
  intro o dp co fi se lv sg gv wo re kn wi ow co' fi' se' re' O C F G hg hx hy hk
  rcases vb_c 2 v1 with ⟨i, hi, _, e1⟩ | hb1
  · subst e1
    exact xw_plans hg hx hi (fun dp2 lv2 sg2 gv2 wo2 a => yw_plans hg hy hi hk (fun kn2 wi2 a2 hk2 => ⟨rfl, ir_mk hg hx hy hk2⟩))
  · exact rg_no (N := 1) hb1 (rg_no (N := 1) hb1 ⟨rfl, ir_mk hg hx hy hk⟩)
theorem i_vc_firstPlan {k : Nat} {u : SX} {v : SY} (I : i_Rel k u v) (hk : k + 5 ≤ 2560) (v1 : Int32) : wpX_firstPlan (fun r u' => wpY_firstPlan (fun r' v' => r' = r ∧ i_Rel (k + 5) u' v') v v1) u v1 := by
  refine ir_el (P := fun u v => wpX_firstPlan (fun r u' => wpY_firstPlan (fun r' v' => r' = r ∧ i_Rel (k + 5) u' v') v v1) u v1) ?_ I
  intro o dp co fi se lv sg gv wo re kn wi ow co' fi' se' re' O C F G hg hx hy hk
  rcases vb_c 2 v1 with ⟨i, hi, _, e1⟩ | hb1
  · subst e1
    exact xw_firstPlan hg hx hi (fun L hL dp2 lv2 sg2 gv2 wo2 a => yw_firstPlan hg hy hi hk hL (fun kn2 wi2 a2 hk2 => ⟨rfl, ir_mk hg hx hy hk2⟩))
  · exact rg_no (N := 1) hb1 (rg_no (N := 1) hb1 ⟨rfl, ir_mk hg hx hy hk⟩)
theorem i_vc_canForce {k : Nat} {u : SX} {v : SY} (I : i_Rel k u v) (hk : k + 5 ≤ 2560) (v1 : Int32) (v2 : Int32) : wpX_canForce (fun r => wpY_canForce (fun r' => r' = r ∧ i_Rel (k + 5) u v) v v1 v2) u v1 v2 := by
  refine ir_el (P := fun u v => wpX_canForce (fun r => wpY_canForce (fun r' => r' = r ∧ i_Rel (k + 5) u v) v v1 v2) u v1 v2) ?_ I
  intro o dp co fi se lv sg gv wo re kn wi ow co' fi' se' re' O C F G hg hx hy hk
  have I2 : i_Rel (k + 5) (o, dp, co, fi, se, lv, sg, gv, wo, re) (kn, wi, ow, co', fi', se', re') := ir_mk hg hx hy hk
  rcases vb_c 8 v1 with ⟨a, ha, _, e1⟩ | hb1
  · subst e1
    rcases vb_c 8 v2 with ⟨b, hb, _, e2⟩ | hb2
    · subst e2
      exact xw_canForce hg hx ha hb (yw_canForce hg hy ha hb ⟨rfl, I2⟩)
    · unfold wpX_canForce wpY_canForce
      refine xw_bad_ok ha ?_
      refine br_t rfl ?_
      refine xw_bad_no hb2 ?_
      refine br_f (by decide) ?_
      refine yw_bad_ok ha ?_
      refine br_t rfl ?_
      refine yw_bad_no hb2 ?_
      exact br_f (by decide) ⟨rfl, I2⟩
  · unfold wpX_canForce wpY_canForce
    refine xw_bad_no hb1 ?_
    refine br_f (by decide) ?_
    refine yw_bad_no hb1 ?_
    exact br_f (by decide) ⟨rfl, I2⟩
theorem i_vc_contested {k : Nat} {u : SX} {v : SY} (I : i_Rel k u v) (hk : k + 5 ≤ 2560) : wpX_contested (fun r u' => wpY_contested (fun r' v' => r' = r ∧ i_Rel (k + 5) u' v') v) u := by
  refine ir_el (P := fun u v => wpX_contested (fun r u' => wpY_contested (fun r' v' => r' = r ∧ i_Rel (k + 5) u' v') v) u) ?_ I
  intro o dp co fi se lv sg gv wo re kn wi ow co' fi' se' re' O C F G hg hx hy hk
  exact xw_contested hg hx (fun o2 dp2 lv2 sg2 gv2 wo2 hx2 => yw_contested hg hy hk (fun kn2 ow2 a hy2 => ⟨rfl, ir_mk hg hx2 hy2 (Or.inr rfl)⟩))
end
