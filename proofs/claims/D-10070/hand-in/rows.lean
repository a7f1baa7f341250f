section
/-- how many of 0..n-1 have p -/
noncomputable def cn_c (p : Nat → Prop) : Nat → Nat
  | 0 => 0
  | n + 1 => cn_c p n + @ite Nat (p n) (Classical.propDecidable _) 1 0
theorem cn_t {p : Nat → Prop} {n : Nat} (h : p n) : cn_c p (n + 1) = cn_c p n + 1 := by
  show cn_c p n + @ite Nat (p n) (Classical.propDecidable _) 1 0 = _
  rw [if_pos h]
theorem cn_f {p : Nat → Prop} {n : Nat} (h : ¬ p n) : cn_c p (n + 1) = cn_c p n := by
  show cn_c p n + @ite Nat (p n) (Classical.propDecidable _) 1 0 = _
  rw [if_neg h, Nat.add_zero]
theorem cn_cg {p q : Nat → Prop} : ∀ {n : Nat}, (∀ i, i < n → (p i ↔ q i)) → cn_c p n = cn_c q n
  | 0, _ => rfl
  | n + 1, h => by
    have ih := cn_cg (n := n) (fun i hi => h i (by omega))
    by_cases e : p n
    · rw [cn_t e, cn_t ((h n (by omega)).mp e), ih]
    · rw [cn_f e, cn_f (fun z => e ((h n (by omega)).mpr z)), ih]
theorem cn_le {p q : Nat → Prop} : ∀ {n : Nat}, (∀ i, i < n → p i → q i) → cn_c p n ≤ cn_c q n
  | 0, _ => Nat.le_refl _
  | n + 1, h => by
    have ih := cn_le (n := n) (fun i hi => h i (by omega))
    by_cases e : p n
    · rw [cn_t e, cn_t (h n (by omega) e)]; omega
    · by_cases e' : q n
      · rw [cn_f e, cn_t e']; omega
      · rw [cn_f e, cn_f e']; exact ih
theorem cn_bd (p : Nat → Prop) : ∀ n : Nat, cn_c p n ≤ n
  | 0 => Nat.le_refl _
  | n + 1 => by
    have ih := cn_bd p n
    by_cases e : p n
    · rw [cn_t e]; omega
    · rw [cn_f e]; omega
theorem cn_0 {p : Nat → Prop} : ∀ {n : Nat}, (∀ i, i < n → ¬ p i) → cn_c p n = 0
  | 0, _ => rfl
  | n + 1, h => by rw [cn_f (h n (by omega))]; exact cn_0 (fun i hi => h i (by omega))
theorem cn_all {p : Nat → Prop} : ∀ {n : Nat}, (∀ i, i < n → p i) → cn_c p n = n
  | 0, _ => rfl
  | n + 1, h => by rw [cn_t (h n (by omega)), cn_all (fun i hi => h i (by omega))]
theorem cn_ex {p : Nat → Prop} {n : Nat} (h : cn_c p n ≠ 0) : ∃ i, i < n ∧ p i := by
  apply Classical.byContradiction
  intro z
  exact h (cn_0 (fun i hi hp => z ⟨i, hi, hp⟩))
theorem cn_rm {p : Nat → Prop} {x : Nat} : ∀ {n : Nat}, x < n → p x → cn_c p n = cn_c (fun i => p i ∧ i ≠ x) n + 1
  | 0, h, _ => absurd h (by omega)
  | n + 1, h, hp => by
    by_cases e : x = n
    · subst e
      have h1 : cn_c (fun i => p i ∧ i ≠ x) (x + 1) = cn_c (fun i => p i ∧ i ≠ x) x := cn_f (fun z => z.2 rfl)
      rw [cn_t hp, h1]
      congr 1
      exact cn_cg (fun i hi => ⟨fun z => ⟨z, by omega⟩, fun z => z.1⟩)
    · have ih := cn_rm (n := n) (by omega) hp
      by_cases e' : p n
      · have h1 : cn_c (fun i => p i ∧ i ≠ x) (n + 1) = cn_c (fun i => p i ∧ i ≠ x) n + 1 := cn_t ⟨e', by omega⟩
        rw [cn_t e', h1, ih]
      · have h1 : cn_c (fun i => p i ∧ i ≠ x) (n + 1) = cn_c (fun i => p i ∧ i ≠ x) n := cn_f (fun z => e' z.1)
        rw [cn_f e', h1, ih]
theorem cn_lt {p : Nat → Prop} {x n : Nat} (hx : x < n) (hp : ¬ p x) : cn_c p n < n := by
  have h1 : cn_c (fun _ => True) n = n := cn_all (fun _ _ => trivial)
  have h2 := cn_rm (p := fun _ => True) hx trivial
  have h3 : cn_c p n ≤ cn_c (fun i => True ∧ i ≠ x) n := cn_le (fun i _ z => ⟨trivial, fun e => hp (e ▸ z)⟩)
  omega
theorem cn_add {p : Nat → Prop} {x n : Nat} (hx : x < n) (hp : ¬ p x) : cn_c (fun i => p i ∨ i = x) n = cn_c p n + 1 := by
  rw [cn_rm (p := fun i => p i ∨ i = x) hx (Or.inr rfl)]
  congr 1
  refine cn_cg (fun i _ => ⟨fun z => ?_, fun z => ⟨Or.inl z, fun e => hp (e ▸ z)⟩⟩)
  rcases z with ⟨a | a, b⟩
  · exact a
  · exact absurd a b
/-- an injective relation from p to q -/
theorem cn_inj {R : Nat → Nat → Prop} {m : Nat} {p : Nat → Prop} : ∀ {n : Nat} {q : Nat → Prop}, (∀ i, i < n → p i → ∃ j, j < m ∧ q j ∧ R i j) → (∀ i i' j, i < n → i' < n → p i → p i' → R i j → R i' j → i = i') → cn_c p n ≤ cn_c q m
  | 0, _, _, _ => Nat.zero_le _
  | n + 1, q, h, hi => by
    by_cases e : p n
    · obtain ⟨j, hj, hq, hr⟩ := h n (by omega) e
      have ih : cn_c p n ≤ cn_c (fun i => q i ∧ i ≠ j) m := by
        refine cn_inj (fun i hin hp => ?_) (fun i i' k a b => hi i i' k (by omega) (by omega))
        obtain ⟨j', hj', hq', hr'⟩ := h i (by omega) hp
        refine ⟨j', hj', ⟨hq', fun z => ?_⟩, hr'⟩
        subst z
        have := hi i n j' (by omega) (by omega) hp e hr' hr
        omega
      rw [cn_t e, cn_rm hj hq]
      omega
    · rw [cn_f e]
      exact cn_inj (fun i hin hp => h i (by omega) hp) (fun i i' k a b => hi i i' k (by omega) (by omega))
theorem cn_sp (p q : Nat → Prop) : ∀ n : Nat, cn_c p n = cn_c (fun i => p i ∧ q i) n + cn_c (fun i => p i ∧ ¬ q i) n
  | 0 => rfl
  | n + 1 => by
    have ih := cn_sp p q n
    by_cases e : p n
    · by_cases e' : q n
      · have h1 : cn_c (fun i => p i ∧ q i) (n + 1) = cn_c (fun i => p i ∧ q i) n + 1 := cn_t ⟨e, e'⟩
        have h2 : cn_c (fun i => p i ∧ ¬ q i) (n + 1) = cn_c (fun i => p i ∧ ¬ q i) n := cn_f (fun z => z.2 e')
        rw [cn_t e, h1, h2]; omega
      · have h1 : cn_c (fun i => p i ∧ q i) (n + 1) = cn_c (fun i => p i ∧ q i) n := cn_f (fun z => e' z.2)
        have h2 : cn_c (fun i => p i ∧ ¬ q i) (n + 1) = cn_c (fun i => p i ∧ ¬ q i) n + 1 := cn_t ⟨e, e'⟩
        rw [cn_t e, h1, h2]; omega
    · have h1 : cn_c (fun i => p i ∧ q i) (n + 1) = cn_c (fun i => p i ∧ q i) n := cn_f (fun z => e z.1)
      have h2 : cn_c (fun i => p i ∧ ¬ q i) (n + 1) = cn_c (fun i => p i ∧ ¬ q i) n := cn_f (fun z => e z.1)
      rw [cn_f e, h1, h2]; omega
/-- an involution without a fixed point: an even number -/
theorem cn_even {f : Nat → Nat} {n : Nat} : ∀ (k : Nat) (p : Nat → Prop), cn_c p n = k → (∀ x, x < n → p x → f x < n ∧ p (f x) ∧ f (f x) = x ∧ f x ≠ x) → k % 2 = 0 := by
  intro k
  induction k using Nat.strongRecOn with
  | ind k ih =>
    intro p hk h
    by_cases e : k = 0
    · omega
    · obtain ⟨x, hx, hp⟩ := cn_ex (p := p) (n := n) (by omega)
      obtain ⟨h1, h2, h3, h4⟩ := h x hx hp
      have c1 := cn_rm hx hp
      have c2 := cn_rm (p := fun i => p i ∧ i ≠ x) h1 ⟨h2, h4⟩
      have hk2 : cn_c (fun i => (p i ∧ i ≠ x) ∧ i ≠ f x) n = k - 2 := by omega
      have := ih (k - 2) (by omega) _ hk2 (fun y hy hq => by
        obtain ⟨g1, g2, g3, g4⟩ := h y hy hq.1.1
        refine ⟨g1, ⟨⟨g2, fun z => ?_⟩, fun z => ?_⟩, g3, g4⟩
        · exact hq.2 (by rw [← z, g3])
        · have : f (f y) = f (f x) := by rw [z]
          rw [g3, h3] at this
          exact hq.1.2 this)
      omega
/-- a list without doubles, by the count -/
theorem cn_len {n : Nat} : ∀ {l : List Nat}, l.Nodup → (∀ x, x ∈ l → x < n) → cn_c (fun i => i ∈ l) n = l.length
  | [], _, _ => cn_0 (fun i _ h => by cases h)
  | x :: t, hn, hl => by
    have hx : x ∉ t := (List.nodup_cons.mp hn).1
    have ih := cn_len (l := t) (List.nodup_cons.mp hn).2 (fun y hy => hl y (List.mem_cons_of_mem _ hy))
    have h1 := cn_add (p := fun i => i ∈ t) (hl x List.mem_cons_self) hx
    rw [List.length_cons, ← ih, ← h1]
    refine cn_cg (fun i _ => ?_)
    rw [List.mem_cons]
    exact ⟨fun z => z.symm, fun z => z.symm⟩
end
section
/-- a graph on 0..9 -/
def mt_G (G : Nat → Nat → Prop) : Prop := (∀ x y, G x y → G y x) ∧ (∀ x y, G x y → x < 10) ∧ (∀ x, ¬ G x x)
/-- a matching: m x is x's partner, 10 or more if it has none -/
def mt_M (G : Nat → Nat → Prop) (m : Nat → Nat) : Prop := ∀ x, m x < 10 → G x (m x) ∧ m (m x) = x
def mt_u (f : Nat → Nat) (k v : Nat) : Nat → Nat := fun x => if x = k then v else f x
theorem mt_us {f : Nat → Nat} {k v : Nat} : mt_u f k v k = v := if_pos rfl
theorem mt_un {f : Nat → Nat} {k v x : Nat} (h : x ≠ k) : mt_u f k v x = f x := if_neg h
theorem mt_lt2 {G : Nat → Nat → Prop} (hG : mt_G G) {x y : Nat} (h : G x y) : y < 10 := hG.2.1 _ _ (hG.1 _ _ h)
theorem mt_ne {G : Nat → Nat → Prop} (hG : mt_G G) {x y : Nat} (h : G x y) : x ≠ y := fun e => hG.2.2 x (e ▸ h)
/-- a has no partner, b has c: match a with b, let c go -/
theorem mt_sw {G : Nat → Nat → Prop} {m : Nat → Nat} {a b c : Nat} (hG : mt_G G) (hm : mt_M G m) (ha : 10 ≤ m a) (hb : m b = c) (hc : c < 10) (hab : G a b) :
    mt_M G (mt_u (mt_u (mt_u m a b) b a) c 10) ∧ ∀ x, 10 ≤ mt_u (mt_u (mt_u m a b) b a) c 10 x ↔ ((10 ≤ m x ∧ x ≠ a) ∨ x = c) := by
  have hb' := hm b (by omega)
  rw [hb] at hb'
  have a10 := hG.2.1 _ _ hab
  have b10 := mt_lt2 hG hab
  have nab := mt_ne hG hab
  have nbc := mt_ne hG hb'.1
  have nac : a ≠ c := fun e => by rw [e] at ha; omega
  constructor
  · intro x hx
    by_cases xc : x = c
    · rw [xc, mt_us] at hx; omega
    · rw [mt_un xc] at hx ⊢
      by_cases xb : x = b
      · subst xb
        rw [mt_us]
        exact ⟨hG.1 _ _ hab, by rw [mt_un nac, mt_un nab, mt_us]⟩
      · rw [mt_un xb] at hx ⊢
        by_cases xa : x = a
        · subst xa
          rw [mt_us]
          exact ⟨hab, by rw [mt_un nbc, mt_us]⟩
        · rw [mt_un xa] at hx ⊢
          obtain ⟨g1, g2⟩ := hm x hx
          have x10 := hG.2.1 _ _ g1
          have n1 : m x ≠ a := fun e => by rw [e] at g2; omega
          have n2 : m x ≠ b := fun e => by rw [e, hb] at g2; exact xc g2.symm
          have n3 : m x ≠ c := fun e => by rw [e, hb'.2] at g2; exact xb g2.symm
          exact ⟨g1, by rw [mt_un n3, mt_un n2, mt_un n1]; exact g2⟩
  · intro x
    by_cases xc : x = c
    · rw [xc, mt_us]
      exact ⟨fun _ => Or.inr rfl, fun _ => Nat.le_refl _⟩
    · rw [mt_un xc]
      by_cases xb : x = b
      · rw [xb, mt_us, hb]
        constructor
        · intro z; omega
        · intro z
          rcases z with z | z
          · omega
          · exact absurd z nbc
      · rw [mt_un xb]
        by_cases xa : x = a
        · rw [xa, mt_us]
          constructor
          · intro z; omega
          · intro z
            rcases z with z | z
            · exact absurd rfl z.2
            · exact absurd z nac
        · rw [mt_un xa]
          constructor
          · intro z; exact Or.inl ⟨z, xa⟩
          · intro z
            rcases z with z | z
            · exact z.1
            · exact absurd z xc
/-- neither a nor b has a partner: match them -/
theorem mt_ad {G : Nat → Nat → Prop} {m : Nat → Nat} {a b : Nat} (hG : mt_G G) (hm : mt_M G m) (ha : 10 ≤ m a) (hb : 10 ≤ m b) (hab : G a b) :
    mt_M G (mt_u (mt_u m a b) b a) ∧ ∀ x, 10 ≤ mt_u (mt_u m a b) b a x ↔ (10 ≤ m x ∧ x ≠ a ∧ x ≠ b) := by
  have a10 := hG.2.1 _ _ hab
  have b10 := mt_lt2 hG hab
  have nab := mt_ne hG hab
  constructor
  · intro x hx
    by_cases xb : x = b
    · subst xb
      rw [mt_us]
      exact ⟨hG.1 _ _ hab, by rw [mt_un nab, mt_us]⟩
    · rw [mt_un xb] at hx ⊢
      by_cases xa : x = a
      · subst xa
        rw [mt_us]
        exact ⟨hab, by rw [mt_us]⟩
      · rw [mt_un xa] at hx ⊢
        obtain ⟨g1, g2⟩ := hm x hx
        have x10 := hG.2.1 _ _ g1
        have n1 : m x ≠ a := fun e => by rw [e] at g2; omega
        have n2 : m x ≠ b := fun e => by rw [e] at g2; omega
        exact ⟨g1, by rw [mt_un n2, mt_un n1]; exact g2⟩
  · intro x
    by_cases xb : x = b
    · rw [xb, mt_us]
      exact ⟨fun z => by omega, fun z => absurd rfl z.2.2⟩
    · rw [mt_un xb]
      by_cases xa : x = a
      · rw [xa, mt_us]
        exact ⟨fun z => by omega, fun z => absurd rfl z.2.1⟩
      · rw [mt_un xa]
        exact ⟨fun z => ⟨z, xa, xb⟩, fun z => z.1⟩
/-- Berge's step: a is missed by M, met by N: either M can be made greater at a, or N can be turned so that it misses a -/
theorem mt_bg {G : Nat → Nat → Prop} (hG : mt_G G) {N : Nat → Nat} (hN : mt_M G N) : ∀ (k : Nat) (M : Nat → Nat) (a : Nat), cn_c (fun x => M x < 10 ∧ M x ≠ N x) 10 = k → mt_M G M → 10 ≤ M a → N a < 10 →
    (∃ M' b, mt_M G M' ∧ b ≠ a ∧ b < 10 ∧ 10 ≤ M b ∧ ∀ x, 10 ≤ M' x ↔ (10 ≤ M x ∧ x ≠ a ∧ x ≠ b)) ∨
    (∃ N' e, mt_M G N' ∧ M e < 10 ∧ 10 ≤ N e ∧ (∀ x, 10 ≤ N' x ↔ (x = a ∨ (10 ≤ N x ∧ x ≠ e))) ∧ ∀ x, M x < 10 → M x = N x → N' x = N x) := by
  intro k
  induction k using Nat.strongRecOn with
  | ind k ih =>
    intro M a hk hM ha hNa
    obtain ⟨b, hb⟩ : ∃ b, b = N a := ⟨_, rfl⟩
    obtain ⟨g1, g2⟩ := hN a hNa
    rw [← hb] at g1 g2 hNa
    have nab := mt_ne hG g1
    have a10 := hG.2.1 _ _ g1
    by_cases hMb : 10 ≤ M b
    · obtain ⟨h1, h2⟩ := mt_ad hG hM ha hMb g1
      exact Or.inl ⟨_, b, h1, fun e => nab e.symm, hNa, hMb, h2⟩
    · obtain ⟨c, hc⟩ : ∃ c, M b = c := ⟨_, rfl⟩
      have hc10 : c < 10 := by omega
      obtain ⟨q1, q2⟩ := hM b (by omega)
      rw [hc] at q1 q2
      have nbc := mt_ne hG q1
      have nac : a ≠ c := fun e => by rw [e] at ha; omega
      by_cases hNc : 10 ≤ N c
      · obtain ⟨h1, h2⟩ := mt_sw (a := c) (b := b) (c := a) hG hN hNc g2 a10 (hG.1 _ _ q1)
        refine Or.inr ⟨_, c, h1, by omega, hNc, fun x => ?_, fun x hx1 hx2 => ?_⟩
        · rw [h2 x]
          exact ⟨fun z => z.symm, fun z => z.symm⟩
        · have n1 : x ≠ a := fun e => by rw [e] at hx1; omega
          have n2 : x ≠ b := fun e => by rw [e, hc, g2] at hx2; exact nac hx2.symm
          have n3 : x ≠ c := fun e => by rw [e, q2] at hx2; omega
          rw [mt_un n1, mt_un n2, mt_un n3]
      · obtain ⟨h1, h2⟩ := mt_sw hG hM ha hc hc10 g1
        have NcB : N c ≠ b := fun e => by
          have := (hN c (by omega)).2
          rw [e, g2] at this
          exact nac this
        have dec : cn_c (fun x => mt_u (mt_u (mt_u M a b) b a) c 10 x < 10 ∧ mt_u (mt_u (mt_u M a b) b a) c 10 x ≠ N x) 10 < k := by
          have c1 := cn_rm (p := fun x => M x < 10 ∧ M x ≠ N x) hNa ⟨by omega, by rw [hc, g2]; exact fun e => nac e.symm⟩
          have c2 : cn_c (fun x => mt_u (mt_u (mt_u M a b) b a) c 10 x < 10 ∧ mt_u (mt_u (mt_u M a b) b a) c 10 x ≠ N x) 10 ≤ cn_c (fun i => (M i < 10 ∧ M i ≠ N i) ∧ i ≠ b) 10 := by
            refine cn_le (fun i _ z => ?_)
            have n1 : i ≠ c := fun e => by rw [e, mt_us] at z; omega
            rw [mt_un n1] at z
            have n2 : i ≠ b := fun e => by rw [e, mt_us] at z; exact z.2 g2.symm
            rw [mt_un n2] at z
            have n3 : i ≠ a := fun e => by rw [e, mt_us] at z; exact z.2 hb
            rw [mt_un n3] at z
            exact ⟨z, n2⟩
          omega
        rcases ih _ dec _ c rfl h1 (by rw [mt_us]; exact Nat.le_refl _) (by omega) with ⟨M', b', m1, m2, m3, m4, m5⟩ | ⟨N', e, m1, m2, m3, m4, m5⟩
        · have mb := (h2 b').mp m4
          have mb' : 10 ≤ M b' ∧ b' ≠ a := by
            rcases mb with z | z
            · exact z
            · exact absurd z m2
          refine Or.inl ⟨M', b', m1, mb'.2, m3, mb'.1, fun x => ?_⟩
          rw [m5 x, h2 x]
          constructor
          · intro z
            rcases z with ⟨z | z, z2, z3⟩
            · exact ⟨z.1, z.2, z3⟩
            · exact absurd z z2
          · intro z
            refine ⟨Or.inl ⟨z.1, z.2.1⟩, fun e => ?_, z.2.2⟩
            rw [e] at z
            omega
        · have ea : e ≠ a := fun z => by rw [z, ← hb] at m3; omega
          have eb : e ≠ b := fun z => by rw [z, g2] at m3; omega
          have ec : e ≠ c := fun z => by rw [z] at m3; omega
          rw [mt_un ec, mt_un eb, mt_un ea] at m2
          have Na : N' a = b := by
            rw [m5 a (by rw [mt_un nac, mt_un nab, mt_us]; exact hNa) (by rw [mt_un nac, mt_un nab, mt_us]; exact hb), hb]
          have Nb : N' b = a := by
            rw [m5 b (by rw [mt_un nbc, mt_us]; exact a10) (by rw [mt_un nbc, mt_us]; exact g2.symm), g2]
          have Nc : 10 ≤ N' c := (m4 c).mpr (Or.inl rfl)
          obtain ⟨s1, s2⟩ := mt_sw (a := c) (b := b) (c := a) hG m1 Nc Nb a10 (hG.1 _ _ q1)
          refine Or.inr ⟨_, e, s1, m2, m3, fun x => ?_, fun x hx1 hx2 => ?_⟩
          · rw [s2 x, m4 x]
            constructor
            · intro z
              rcases z with ⟨z | z, z2⟩ | z
              · exact absurd z z2
              · exact Or.inr z
              · exact Or.inl z
            · intro z
              rcases z with z | z
              · exact Or.inr z
              · refine Or.inl ⟨Or.inr z, fun e2 => ?_⟩
                rw [e2] at z
                omega
          · have n1 : x ≠ a := fun e => by rw [e] at hx1; omega
            have n2 : x ≠ b := fun e => by rw [e, hc, g2] at hx2; exact nac hx2.symm
            have n3 : x ≠ c := fun e => by rw [e, q2] at hx2; exact NcB hx2.symm
            rw [mt_un n1, mt_un n2, mt_un n3]
            exact m5 x (by rw [mt_un n3, mt_un n2, mt_un n1]; exact hx1) (by rw [mt_un n3, mt_un n2, mt_un n1]; exact hx2)
/-- M can't be made greater at any vertex that it misses: no matching misses fewer -/
theorem mt_max {G : Nat → Nat → Prop} (hG : mt_G G) {M : Nat → Nat} (hM : mt_M G M)
    (hx : ∀ a M' b, a < 10 → 10 ≤ M a → mt_M G M' → b ≠ a → b < 10 → 10 ≤ M b → (∀ x, 10 ≤ M' x ↔ (10 ≤ M x ∧ x ≠ a ∧ x ≠ b)) → False) :
    ∀ (k : Nat) (N : Nat → Nat), mt_M G N → cn_c (fun x => 10 ≤ M x ∧ N x < 10) 10 = k → cn_c (fun x => 10 ≤ M x) 10 ≤ cn_c (fun x => 10 ≤ N x) 10 := by
  intro k
  induction k using Nat.strongRecOn with
  | ind k ih =>
    intro N hN hk
    by_cases e : k = 0
    · refine cn_le (fun i hi z => ?_)
      rcases Nat.lt_or_ge (N i) 10 with h | h
      · have := cn_rm (p := fun x => 10 ≤ M x ∧ N x < 10) hi ⟨z, h⟩
        omega
      · exact h
    · obtain ⟨a, ha, h1, h2⟩ := cn_ex (p := fun x => 10 ≤ M x ∧ N x < 10) (n := 10) (by omega)
      rcases mt_bg hG hN _ M a rfl hM h1 h2 with ⟨M', b, m1, m2, m3, m4, m5⟩ | ⟨N', f, m1, m2, m3, m4, _⟩
      · exact absurd (hx a M' b ha h1 m1 m2 m3 m4 m5) (fun z => z)
      · have f10 : f < 10 := hG.2.1 _ _ (hM f m2).1
        have fa : f ≠ a := fun z => by rw [z] at m3; omega
        have c1 := cn_rm (p := fun x => 10 ≤ M x ∧ N x < 10) ha ⟨h1, h2⟩
        have c2 : cn_c (fun x => 10 ≤ M x ∧ N' x < 10) 10 ≤ cn_c (fun i => (10 ≤ M i ∧ N i < 10) ∧ i ≠ a) 10 := by
          refine cn_le (fun i _ z => ?_)
          have q := m4 i
          have n1 : i ≠ a := fun z2 => by
            have := q.mpr (Or.inl z2)
            omega
          refine ⟨⟨z.1, ?_⟩, n1⟩
          rcases Nat.lt_or_ge (N i) 10 with g | g
          · exact g
          · have : i ≠ f := fun z2 => by rw [z2] at z; omega
            have := q.mpr (Or.inr ⟨g, this⟩)
            omega
        have i1 := ih _ (by omega) N' m1 rfl
        have c3 := cn_rm (p := fun x => 10 ≤ N x) f10 m3
        have c4 := cn_add (p := fun i => 10 ≤ N i ∧ i ≠ f) ha (fun z => by omega)
        have c5 : cn_c (fun x => 10 ≤ N' x) 10 = cn_c (fun i => (10 ≤ N i ∧ i ≠ f) ∨ i = a) 10 := cn_cg (fun i _ => by
          rw [m4 i]
          exact ⟨fun z => z.symm, fun z => z.symm⟩)
        omega
end
section
/-- the way back from x to b along m and p: the list holds its vertices x, p (m x), .. ahead of b -/
def wy_w (G : Nat → Nat → Prop) (m p : Nat → Nat) (b : Nat) : List Nat → Nat → Prop
  | [], x => x = b
  | y :: t, x => y = x ∧ m x < 10 ∧ G (m x) (p (m x)) ∧ wy_w G m p b t (p (m x))
/-- no vertex twice, neither as itself nor as a partner -/
def wy_s (m : Nat → Nat) : List Nat → Prop
  | [] => True
  | x :: t => (∀ y, y ∈ t → x ≠ y ∧ m x ≠ y ∧ m y ≠ x) ∧ wy_s m t
theorem wy_lt {G : Nat → Nat → Prop} {m p : Nat → Nat} {b : Nat} : ∀ {l : List Nat} {x : Nat}, wy_w G m p b l x → ∀ y, y ∈ l → m y < 10
  | [], _, _, y, hy => by cases hy
  | z :: t, x, h, y, hy => by
    obtain ⟨h1, h2, h3, h4⟩ := h
    rcases List.mem_cons.mp hy with e | e
    · rw [e, h1]; exact h2
    · exact wy_lt h4 y e
theorem wy_hd {G : Nat → Nat → Prop} {m p : Nat → Nat} {b : Nat} : ∀ {l : List Nat} {x : Nat}, wy_w G m p b l x → x = b ∨ x ∈ l
  | [], _, h => Or.inl h
  | z :: t, x, h => Or.inr (by rw [← h.1]; exact List.mem_cons_self)
theorem wy_app {G : Nat → Nat → Prop} {m p : Nat → Nat} {b c : Nat} : ∀ {l : List Nat} {x : Nat} {l' : List Nat}, wy_w G m p b l x → wy_w G m p c l' b → wy_w G m p c (l ++ l') x
  | [], _, _, h, h' => by rw [show _ = b from h]; exact h'
  | z :: t, x, l', h, h' => ⟨h.1, h.2.1, h.2.2.1, wy_app h.2.2.2 h'⟩
theorem wy_suf {G : Nat → Nat → Prop} {m p : Nat → Nat} {b : Nat} : ∀ {l : List Nat} {x y : Nat}, wy_w G m p b l x → y ∈ l → ∃ l1 l2, l = l1 ++ l2 ∧ wy_w G m p b l2 y
  | [], _, _, _, hy => by cases hy
  | z :: t, x, y, h, hy => by
    by_cases e : y = z
    · exact ⟨[], z :: t, rfl, by rw [e, h.1]; rw [h.1] at h; exact h⟩
    · rcases List.mem_cons.mp hy with e' | e'
      · exact absurd e' e
      · obtain ⟨l1, l2, e1, e2⟩ := wy_suf h.2.2.2 e'
        exact ⟨z :: l1, l2, by rw [e1]; rfl, e2⟩
/-- the same way where the pointers that it reads are the same -/
theorem wy_cg {G : Nat → Nat → Prop} {m p p' : Nat → Nat} {b : Nat} : ∀ {l : List Nat} {x : Nat}, wy_w G m p b l x → (∀ y, y ∈ l → p' (m y) = p (m y)) → wy_w G m p' b l x
  | [], _, h, _ => h
  | z :: t, x, h, hp => by
    obtain ⟨h1, h2, h3, h4⟩ := h
    have e : p' (m x) = p (m x) := by rw [← h1]; exact hp z List.mem_cons_self
    refine ⟨h1, h2, ?_, ?_⟩
    · rw [e]; exact h3
    · rw [e]; exact wy_cg h4 (fun y hy => hp y (List.mem_cons_of_mem _ hy))
theorem wy_s_app {m : Nat → Nat} : ∀ {l l' : List Nat}, wy_s m l → wy_s m l' → (∀ x, x ∈ l → ∀ y, y ∈ l' → x ≠ y ∧ m x ≠ y ∧ m y ≠ x) → wy_s m (l ++ l')
  | [], _, _, h', _ => h'
  | z :: t, l', h, h', hx => by
    refine ⟨fun y hy => ?_, wy_s_app h.2 h' (fun x hx' y hy => hx x (List.mem_cons_of_mem _ hx') y hy)⟩
    rcases List.mem_append.mp hy with e | e
    · exact h.1 y e
    · exact hx z List.mem_cons_self y e
theorem wy_s_r {m : Nat → Nat} : ∀ {l l' : List Nat}, wy_s m (l ++ l') → wy_s m l'
  | [], _, h => h
  | _ :: _, _, h => wy_s_r h.2
theorem wy_s_nd {m : Nat → Nat} : ∀ {l : List Nat}, wy_s m l → l.Nodup
  | [], _ => List.nodup_nil
  | _ :: _, h => List.nodup_cons.mpr ⟨fun z => (h.1 _ z).1 rfl, wy_s_nd h.2⟩
theorem wy_s_len {m : Nat → Nat} {l : List Nat} (h : wy_s m l) (hl : ∀ x, x ∈ l → x < 10) : l.length ≤ 10 := by
  rw [← cn_len (wy_s_nd h) hl]
  exact cn_bd _ _
theorem wy_s_ne {G : Nat → Nat → Prop} {m : Nat → Nat} (hG : mt_G G) (hm : mt_M G m) : ∀ {l : List Nat}, wy_s m l → (∀ y, y ∈ l → m y < 10) → ∀ x, x ∈ l → ∀ y, y ∈ l → m x ≠ y
  | [], _, _, x, hx, _, _ => by cases hx
  | z :: t, h, hl, x, hx, y, hy => by
    rcases List.mem_cons.mp hx with e | e
    · rcases List.mem_cons.mp hy with e' | e'
      · rw [e, e']
        exact fun q => mt_ne hG (hm z (hl z List.mem_cons_self)).1 q.symm
      · rw [e]; exact (h.1 y e').2.1
    · rcases List.mem_cons.mp hy with e' | e'
      · rw [e']; exact (h.1 x e).2.2
      · exact wy_s_ne hG hm h.2 (fun y hy => hl y (List.mem_cons_of_mem _ hy)) x e y e'
/-- turn round along a way: x instead of the root is missed -/
theorem wy_flip {G : Nat → Nat → Prop} {m p : Nat → Nat} {r : Nat} (hG : mt_G G) (hm : mt_M G m) (hr : 10 ≤ m r) (hr10 : r < 10) : ∀ {l : List Nat} {x : Nat}, wy_w G m p r l x → wy_s m l →
    ∃ M, mt_M G M ∧ (∀ u, 10 ≤ M u ↔ ((10 ≤ m u ∧ u ≠ r) ∨ u = x)) ∧ ∀ u, u ≠ r → (∀ y, y ∈ l → u ≠ y ∧ u ≠ m y) → M u = m u
  | [], x, h, _ => by
    have h : x = r := h
    refine ⟨m, hm, fun u => ⟨fun z => ?_, fun z => ?_⟩, fun _ _ _ => rfl⟩
    · by_cases e : u = x
      · exact Or.inr e
      · exact Or.inl ⟨z, fun e' => e (by rw [h]; exact e')⟩
    · rcases z with z | z
      · exact z.1
      · rw [z, h]; exact hr
  | z :: t, x, h, hs => by
    obtain ⟨h1, h2, h3, h4⟩ := h
    subst h1
    obtain ⟨M, M1, M2, M3⟩ := wy_flip hG hm hr hr10 h4 hs.2
    obtain ⟨q1, q2⟩ := hm z h2
    have mzr : m z ≠ r := fun e => by rw [e] at q2; have := hG.2.1 _ _ q1; omega
    have zr : z ≠ r := fun e => by rw [e] at h2; omega
    have off : M (m z) = z := by
      rw [M3 (m z) mzr (fun y hy => ⟨(hs.1 y hy).2.1, fun e => ?_⟩), q2]
      have e2 := (hm y (wy_lt h4 y hy)).2
      rw [← e, q2] at e2
      exact (hs.1 y hy).1 e2
    have hd : p (m z) = r ∨ m (p (m z)) < 10 := by
      rcases wy_hd h4 with e | e
      · exact Or.inl e
      · exact Or.inr (wy_lt h4 _ e)
    obtain ⟨s1, s2⟩ := mt_sw hG M1 ((M2 (p (m z))).mpr (Or.inr rfl)) off (hG.2.1 _ _ q1) (hG.1 _ _ h3)
    refine ⟨_, s1, fun u => ?_, fun u hu hy => ?_⟩
    · rw [s2 u, M2 u]
      constructor
      · intro w
        rcases w with ⟨w | w, w2⟩ | w
        · exact Or.inl w
        · exact absurd w w2
        · exact Or.inr w
      · intro w
        rcases w with w | w
        · refine Or.inl ⟨Or.inl w, fun e => ?_⟩
          rw [e] at w
          rcases hd with g | g
          · exact w.2 g
          · omega
        · exact Or.inr w
    · have n1 := hy z List.mem_cons_self
      have n2 : u ≠ p (m z) := fun e => by
        rcases wy_hd h4 with g | g
        · exact hu (e.trans g)
        · exact (hy _ (List.mem_cons_of_mem _ g)).1 e
      rw [mt_un n1.1, mt_un n1.2, mt_un n2]
      exact M3 u hu (fun y hy' => hy y (List.mem_cons_of_mem _ hy'))
/-- what a search from v that finds nothing leaves: E, met at even distance, in blocks by b; O, at odd distance -/
def ct_C (G : Nat → Nat → Prop) (m : Nat → Nat) (v : Nat) (E O : Nat → Prop) (b : Nat → Nat) : Prop :=
  E v ∧ 10 ≤ m v ∧ (∀ x, E x → x < 10) ∧ (∀ x, E x → ¬ O x) ∧ (∀ x y, E x → G x y → E y ∨ O y) ∧ (∀ x y, E x → E y → G x y → b x = b y) ∧
  (∀ x, E x → E (b x) ∧ b (b x) = b x) ∧ (∀ x, E x → b x ≠ x → m x < 10 ∧ E (m x) ∧ b (m x) = b x) ∧ (∀ x, E x → b x = x → x ≠ v → m x < 10 ∧ O (m x)) ∧ (∀ y, O y → m y < 10 ∧ E (m y))
theorem ct_K {G : Nat → Nat → Prop} {m : Nat → Nat} {v : Nat} {E O : Nat → Prop} {b : Nat → Nat} (hG : mt_G G) (hm : mt_M G m) (hC : ct_C G m v E O b) {N : Nat → Nat} (hN : mt_M G N) (hx : ∀ x, E x → 10 ≤ N x → x = v) :
    10 ≤ N v ∧ ∀ y, O y → N y < 10 := by
  obtain ⟨c1, c2, c3, c4, c5, c6, c7, c8, c9, c10⟩ := hC
  have bv : b v = v := Classical.byContradiction (fun z => by have := (c8 v c1 z).1; omega)
  have O10 : ∀ y, O y → y < 10 := fun y hy => hG.2.1 _ _ (hm y (c10 y hy).1).1
  have cntB : cn_c O 10 + 1 ≤ cn_c (fun x => E x ∧ b x = x) 10 := by
    rw [cn_rm (p := fun x => E x ∧ b x = x) (c3 v c1) ⟨c1, bv⟩]
    have : cn_c O 10 ≤ cn_c (fun i => (E i ∧ b i = i) ∧ i ≠ v) 10 := by
      refine cn_inj (R := fun i j => j = m i) (fun i _ hi => ?_) (fun i i' j _ _ hi hi' e e' => ?_)
      · obtain ⟨d1, d2⟩ := c10 i hi
        refine ⟨m i, d1, ⟨⟨d2, ?_⟩, fun e => ?_⟩, rfl⟩
        · apply Classical.byContradiction
          intro z
          have := (c8 _ d2 z).2.1
          rw [(hm i d1).2] at this
          exact c4 i this hi
        · have := (hm i d1).2
          rw [e] at this
          have := O10 i hi
          omega
      · have a1 := (hm i (c10 i hi).1).2
        have a2 := (hm i' (c10 i' hi').1).2
        rw [← e] at a1
        rw [← e'] at a2
        rw [← a1, ← a2]
    omega
  have main : ∀ c, E c → b c = c → ∃ x, E x ∧ b x = c ∧ (10 ≤ N x ∨ (N x < 10 ∧ O (N x))) := by
    intro c hc hbc
    apply Classical.byContradiction
    intro z
    have z' : ∀ x, E x → b x = c → N x < 10 ∧ E (N x) ∧ b (N x) = c := by
      intro x h1 h2
      have l1 : N x < 10 := by
        rcases Nat.lt_or_ge (N x) 10 with g | g
        · exact g
        · exact absurd ⟨x, h1, h2, Or.inl g⟩ z
      have g := (hN x l1).1
      have e : E (N x) := by
        rcases c5 x _ h1 g with q | q
        · exact q
        · exact absurd ⟨x, h1, h2, Or.inr ⟨l1, q⟩⟩ z
      exact ⟨l1, e, by rw [← c6 x _ h1 e g]; exact h2⟩
    have ev1 := cn_even (f := N) (n := 10) _ (fun x => E x ∧ b x = c) rfl (fun x _ h => by
      obtain ⟨w1, w2, w3⟩ := z' x h.1 h.2
      exact ⟨w1, ⟨w2, w3⟩, (hN x w1).2, fun e => mt_ne hG (hN x w1).1 e.symm⟩)
    have ev2 := cn_even (f := m) (n := 10) _ (fun x => (E x ∧ b x = c) ∧ x ≠ c) rfl (fun x _ h => by
      obtain ⟨⟨h1, h2⟩, h3⟩ := h
      obtain ⟨w1, w2, w3⟩ := c8 x h1 (by rw [h2]; exact fun e => h3 e.symm)
      refine ⟨w1, ⟨⟨w2, by rw [w3, h2]⟩, fun e => ?_⟩, (hm x w1).2, fun e => mt_ne hG (hm x w1).1 e.symm⟩
      have mc : m c = x := by rw [← e]; exact (hm x w1).2
      by_cases cv : c = v
      · rw [cv] at mc
        have := c3 x h1
        omega
      · have := (c9 c hc hbc cv).2
        rw [mc] at this
        exact c4 x h1 this)
    have := cn_rm (p := fun x => E x ∧ b x = c) (c3 c hc) ⟨hc, hbc⟩
    omega
  have inj : ∀ Q : Nat → Prop, (∀ x, E x → 10 ≤ N x → Q x) → (∀ x, E x → N x < 10 → O (N x) → Q (N x)) → cn_c (fun x => E x ∧ b x = x) 10 ≤ cn_c Q 10 := by
    intro Q q1 q2
    refine cn_inj (R := fun c j => ∃ x, E x ∧ b x = c ∧ ((10 ≤ N x ∧ j = x) ∨ (N x < 10 ∧ O (N x) ∧ j = N x))) (fun c _ hc => ?_) (fun c c' j _ _ _ _ hr hr' => ?_)
    · obtain ⟨x, x1, x2, x3⟩ := main c hc.1 hc.2
      rcases x3 with g | g
      · exact ⟨x, c3 x x1, q1 x x1 g, x, x1, x2, Or.inl ⟨g, rfl⟩⟩
      · exact ⟨N x, g.1, q2 x x1 g.1 g.2, x, x1, x2, Or.inr ⟨g.1, g.2, rfl⟩⟩
    · obtain ⟨x, x1, x2, x3⟩ := hr
      obtain ⟨y, y1, y2, y3⟩ := hr'
      rcases x3 with ⟨g, e⟩ | ⟨g, o, e⟩
      · rcases y3 with ⟨g', e'⟩ | ⟨g', o', e'⟩
        · rw [← x2, ← y2, ← e, ← e']
        · rw [← e', e] at o'
          exact absurd o' (c4 x x1)
      · rcases y3 with ⟨g', e'⟩ | ⟨g', o', e'⟩
        · rw [← e, e'] at o
          exact absurd o (c4 y y1)
        · have a1 := (hN x g).2
          have a2 := (hN y g').2
          rw [← e] at a1
          rw [← e'] at a2
          rw [← x2, ← y2, ← a1, ← a2]
  constructor
  · apply Classical.byContradiction
    intro z
    have := inj O (fun x h1 h2 => by rw [hx x h1 h2] at h2; exact absurd h2 z) (fun x _ _ h => h)
    omega
  · intro y hy
    apply Classical.byContradiction
    intro z
    have i1 := inj (fun j => (O j ∨ j = v) ∧ j ≠ y) (fun x h1 h2 => ⟨Or.inr (hx x h1 h2), fun e => c4 x h1 (by rw [e]; exact hy)⟩) (fun x h1 h2 h3 => ⟨Or.inl h3, fun e => by
      have := (hN x h2).2
      rw [e] at this
      have := c3 x h1
      omega⟩)
    have i2 := cn_rm (p := fun j => O j ∨ j = v) (O10 y hy) (Or.inl hy)
    have i3 := cn_add (p := O) (c3 v c1) (c4 v c1)
    omega
end
section
/-- the search's invariant: root r0, met at even distance E, base b, pointers p, a rank of the bases -/
def iv_I (G : Nat → Nat → Prop) (m : Nat → Nat) (r0 : Nat) (E : Nat → Prop) (b p rk : Nat → Nat) : Prop :=
  (E r0 ∧ 10 ≤ m r0 ∧ r0 < 10) ∧ (∀ x, E x → x < 10) ∧ (∀ x, E x → x ≠ r0 → m x < 10 ∧ p (m x) < 10) ∧
  (∀ x, x < 10 → p x < 10 → m x < 10 ∧ E (m x)) ∧ (∀ x, x < 10 → ¬ E x → b x = x) ∧ (∀ x, E x → E (b x) ∧ b (b x) = b x) ∧
  (∀ x, E x → b x ≠ x → m x < 10 ∧ E (m x) ∧ b (m x) = b x) ∧
  (∀ x, E x → b x = x → x ≠ r0 → ¬ E (m x) ∧ G (m x) (p (m x)) ∧ E (p (m x)) ∧ rk (b (p (m x))) < rk x) ∧
  (∀ x, E x → ∃ l, wy_w G m p (b x) l x ∧ wy_s m l ∧ ∀ y, y ∈ l → E y ∧ b y = b x ∧ y ≠ b x)
theorem iv_0 {G : Nat → Nat → Prop} {m : Nat → Nat} {r0 : Nat} {E : Nat → Prop} {b p rk : Nat → Nat} (h0 : 10 ≤ m r0) (h1 : r0 < 10) (hE : ∀ x, E x ↔ x = r0) (hb : ∀ x, x < 10 → b x = x) (hp : ∀ x, x < 10 → 10 ≤ p x) : iv_I G m r0 E b p rk := by
  have E0 : E r0 := (hE r0).mpr rfl
  have b0 : b r0 = r0 := hb r0 h1
  refine ⟨⟨E0, h0, h1⟩, fun x h => ?_, fun x h n => absurd ((hE x).mp h) n, fun x h1 h2 => ?_, fun x h _ => hb x h, fun x h => ?_, fun x h n => ?_, fun x h _ n => absurd ((hE x).mp h) n, fun x h => ⟨[], ?_, trivial, fun y hy => by cases hy⟩⟩
  · rw [(hE x).mp h]; exact h1
  · have := hp x h1; omega
  · rw [(hE x).mp h, b0]; exact ⟨E0, b0⟩
  · rw [(hE x).mp h] at n; exact absurd b0 n
  · show x = b x
    rw [(hE x).mp h, b0]
theorem iv_both {G : Nat → Nat → Prop} {m : Nat → Nat} {r0 : Nat} {E : Nat → Prop} {b p rk : Nat → Nat} (h : iv_I G m r0 E b p rk) {x : Nat} (hx : E x) (hy : E (m x)) : b (m x) = b x := by
  obtain ⟨i1, i2, i3, i4, i5, i6, i7, i8, i9⟩ := h
  by_cases e : b x = x
  · by_cases e0 : x = r0
    · have := i2 _ hy
      rw [e0] at this
      omega
    · exact absurd hy (i8 x hx e e0).1
  · exact (i7 x hx e).2.2
theorem iv_x {G : Nat → Nat → Prop} {m : Nat → Nat} {r0 : Nat} {E : Nat → Prop} {b p rk : Nat → Nat} (h : iv_I G m r0 E b p rk) {x y : Nat} (hx : E x) (hy : E y) (n : b x ≠ b y) : x ≠ y ∧ m x ≠ y ∧ m y ≠ x := by
  refine ⟨fun e => n (by rw [e]), fun e => ?_, fun e => ?_⟩
  · have := iv_both h hx (by rw [e]; exact hy)
    rw [e] at this
    exact n this.symm
  · have := iv_both h hy (by rw [e]; exact hx)
    rw [e] at this
    exact n this
theorem iv_b0 {G : Nat → Nat → Prop} {m : Nat → Nat} {r0 : Nat} {E : Nat → Prop} {b p rk : Nat → Nat} (h : iv_I G m r0 E b p rk) : b r0 = r0 := by
  obtain ⟨i1, i2, i3, i4, i5, i6, i7, i8, i9⟩ := h
  apply Classical.byContradiction
  intro z
  have := (i7 r0 i1.1 z).1
  omega
/-- a new vertex w at odd distance, its partner at even distance -/
theorem iv_gr {G : Nat → Nat → Prop} {m : Nat → Nat} {r0 : Nat} {E E' : Nat → Prop} {b p p' rk : Nat → Nat} (hG : mt_G G) (hm : mt_M G m) (h : iv_I G m r0 E b p rk) {v w : Nat} (hv : E v) (hg : G v w) (hw : ¬ E w) (hpw : 10 ≤ p w) (hmw : m w < 10)
    (hE : ∀ x, E' x ↔ (E x ∨ x = m w)) (hp : ∀ x, x < 10 → p' x = mt_u p w v x) : ∃ rk', iv_I G m r0 E' b p' rk' ∧ ¬ E (m w) := by
  obtain ⟨i1, i2, i3, i4, i5, i6, i7, i8, i9⟩ := h
  have w10 := mt_lt2 hG hg
  obtain ⟨g1, g2⟩ := hm w hmw
  have nE : ¬ E (m w) := fun z => by
    have n0 : m w ≠ r0 := fun e => by rw [e] at g2; omega
    have := (i3 _ z n0).2
    rw [g2] at this
    omega
  have nw : w ≠ m w := mt_ne hG g1
  have bw : b (m w) = m w := i5 _ hmw nE
  have ne : ∀ x, E x → x ≠ m w := fun x hx e => nE (e ▸ hx)
  have mne : ∀ x, E x → m x < 10 → m x ≠ w := fun x hx h10 e => by
    have := (hm x h10).2
    rw [e] at this
    exact ne x hx this.symm
  have pe : ∀ x, E x → m x < 10 → p' (m x) = p (m x) := fun x hx h10 => by rw [hp _ h10, mt_un (mne x hx h10)]
  have pw : p' w = v := by rw [hp w w10, mt_us]
  refine ⟨mt_u rk (m w) (rk (b v) + 1), ⟨⟨(hE _).mpr (Or.inl i1.1), i1.2⟩, fun x hx => ?_, fun x hx n => ?_, fun x h10 hx => ?_, fun x h10 hx => i5 x h10 (fun z => hx ((hE x).mpr (Or.inl z))), fun x hx => ?_, fun x hx n => ?_, fun x hx hbx n => ?_, fun x hx => ?_⟩, nE⟩
  · rcases (hE x).mp hx with z | z
    · exact i2 x z
    · rw [z]; exact hmw
  · rcases (hE x).mp hx with z | z
    · have := i3 x z n
      refine ⟨this.1, ?_⟩
      rw [pe x z this.1]; exact this.2
    · rw [z, g2]
      exact ⟨w10, by rw [pw]; exact i2 v hv⟩
  · by_cases e : x = w
    · rw [e]; exact ⟨hmw, (hE _).mpr (Or.inr rfl)⟩
    · rw [hp x h10, mt_un e] at hx
      have := i4 x h10 hx
      exact ⟨this.1, (hE _).mpr (Or.inl this.2)⟩
  · rcases (hE x).mp hx with z | z
    · have := i6 x z
      exact ⟨(hE _).mpr (Or.inl this.1), this.2⟩
    · rw [z, bw]
      exact ⟨(hE _).mpr (Or.inr rfl), bw⟩
  · rcases (hE x).mp hx with z | z
    · have := i7 x z n
      exact ⟨this.1, (hE _).mpr (Or.inl this.2.1), this.2.2⟩
    · rw [z] at n; exact absurd bw n
  · rcases (hE x).mp hx with z | z
    · obtain ⟨a1, a2, a3, a4⟩ := i8 x z hbx n
      have h10 := (i3 x z n).1
      rw [pe x z h10, mt_un (ne _ (i6 _ a3).1), mt_un (ne _ z)]
      refine ⟨fun q => ?_, a2, (hE _).mpr (Or.inl a3), a4⟩
      rcases (hE _).mp q with q | q
      · exact a1 q
      · have e1 := (hm x h10).2
        rw [q, g2] at e1
        rw [← e1] at z
        exact hw z
    · rw [z, g2, pw, mt_us, mt_un (ne _ (i6 _ hv).1)]
      refine ⟨fun q => ?_, hG.1 _ _ hg, (hE _).mpr (Or.inl hv), Nat.lt_succ_self _⟩
      rcases (hE _).mp q with q | q
      · exact hw q
      · exact nw q
  · rcases (hE x).mp hx with z | z
    · obtain ⟨l, l1, l2, l3⟩ := i9 x z
      refine ⟨l, wy_cg l1 (fun y hy => pe y (l3 y hy).1 (wy_lt l1 y hy)), l2, fun y hy => ?_⟩
      obtain ⟨q1, q2, q3⟩ := l3 y hy
      exact ⟨(hE _).mpr (Or.inl q1), q2, q3⟩
    · exact ⟨[], by rw [z]; exact bw.symm, trivial, fun y hy => by cases hy⟩
/-- the chain of bases from c up to r -/
def iv_ch (m b p : Nat → Nat) (r0 r : Nat) : List Nat → Nat → Prop
  | [], c => c = r
  | d :: t, c => d = c ∧ c ≠ r ∧ c ≠ r0 ∧ iv_ch m b p r0 r t (b (p (m c)))
/-- the way from v up to the block of r, by its list lv, ending at u in that block -/
def iv_sd (G : Nat → Nat → Prop) (m : Nat → Nat) (E : Nat → Prop) (b p rk : Nat → Nat) (r v : Nat) (lv : List Nat) (u : Nat) : Prop :=
  wy_w G m p u lv v ∧ wy_s m lv ∧ E u ∧ b u = r ∧ ∀ x, x ∈ lv → E x ∧ b x ≠ r ∧ b x ∈ lv ∧ rk r < rk (b x)
theorem iv_side {G : Nat → Nat → Prop} {m : Nat → Nat} {r0 : Nat} {E : Nat → Prop} {b p rk : Nat → Nat} (hm : mt_M G m) (h : iv_I G m r0 E b p rk) {r : Nat} : ∀ {cs : List Nat} {c x : Nat}, iv_ch m b p r0 r cs c → E x → b x = c →
    ∃ lv u, iv_sd G m E b p rk r x lv u ∧ (∀ y, y ∈ lv → b y ∈ cs ∧ rk (b y) ≤ rk c) ∧ rk r ≤ rk c
  | [], c, x, hc, hx, hb => by
    have hc : c = r := hc
    exact ⟨[], x, ⟨rfl, trivial, hx, hb.trans hc, fun y hy => by cases hy⟩, (fun y hy => by cases hy), by rw [hc]; exact Nat.le_refl _⟩
  | d :: t, c, x, hc, hx, hb => by
    obtain ⟨k1, k2, k3, k4⟩ := hc
    have h' := h
    obtain ⟨i1, i2, i3, i4, i5, i6, i7, i8, i9⟩ := h'
    have ec : E c := by rw [← hb]; exact (i6 x hx).1
    have bc : b c = c := by rw [← hb]; exact (i6 x hx).2
    obtain ⟨a1, a2, a3, a4⟩ := i8 c ec bc k3
    obtain ⟨l0, w1, w2, w3⟩ := i9 x hx
    rw [hb] at w1 w3
    obtain ⟨lv, u, ⟨s1, s2, s3, s4, s5⟩, s6, s7⟩ := iv_side hm h k4 a3 rfl
    have hlt : ∀ z, z ∈ lv → b c ≠ b z := fun z hz e => by
      have := (s6 z hz).2
      rw [← e, bc] at this
      omega
    have mem : ∀ y, y ∈ l0 ++ c :: lv → (E y ∧ b y = c) ∨ y ∈ lv := fun y hy => by
      rcases List.mem_append.mp hy with e | e
      · exact Or.inl ⟨(w3 y e).1, (w3 y e).2.1⟩
      · rcases List.mem_cons.mp e with e | e
        · rw [e]; exact Or.inl ⟨ec, bc⟩
        · exact Or.inr e
    refine ⟨l0 ++ c :: lv, u, ⟨wy_app w1 ⟨rfl, (i3 c ec k3).1, a2, s1⟩, wy_s_app w2 ⟨fun z hz => iv_x h ec (s5 z hz).1 (hlt z hz), s2⟩ (fun a ha y hy => ?_), s3, s4, fun y hy => ?_⟩, fun y hy => ?_, by omega⟩
    · obtain ⟨q1, q2, q3⟩ := w3 a ha
      rcases List.mem_cons.mp hy with e | e
      · rw [e]
        have nmc : m c ≠ a := fun e => a1 (by rw [e]; exact q1)
        exact ⟨q3, fun e => nmc (by rw [← e]; exact (hm a (wy_lt w1 a ha)).2), nmc⟩
      · exact iv_x h q1 (s5 y e).1 (by rw [q2, ← bc]; exact hlt y e)
    · rcases mem y hy with ⟨e1, e2⟩ | e
      · rw [e2]
        exact ⟨e1, k2, List.mem_append.mpr (Or.inr List.mem_cons_self), by omega⟩
      · obtain ⟨z1, z2, z3, z4⟩ := s5 y e
        exact ⟨z1, z2, List.mem_append.mpr (Or.inr (List.mem_cons_of_mem _ z3)), z4⟩
    · rcases mem y hy with ⟨e1, e2⟩ | e
      · rw [e2, k1]
        exact ⟨List.mem_cons_self, Nat.le_refl _⟩
      · have := s6 y e
        exact ⟨List.mem_cons_of_mem _ this.1, by omega⟩
theorem iv_chx {G : Nat → Nat → Prop} {m : Nat → Nat} {r0 : Nat} {E : Nat → Prop} {b p rk : Nat → Nat} (h : iv_I G m r0 E b p rk) : ∀ (k c : Nat), rk c = k → E c → b c = c → ∃ cs, iv_ch m b p r0 r0 cs c := by
  intro k
  induction k using Nat.strongRecOn with
  | ind k ih =>
    intro c hk hc hb
    by_cases e : c = r0
    · exact ⟨[], e⟩
    · have h' := h
      obtain ⟨i1, i2, i3, i4, i5, i6, i7, i8, i9⟩ := h'
      obtain ⟨a1, a2, a3, a4⟩ := i8 c hc hb e
      obtain ⟨cs, hcs⟩ := ih _ (by omega) (b (p (m c))) rfl (i6 _ a3).1 (i6 _ a3).2
      exact ⟨c :: cs, rfl, e, e, hcs⟩
theorem iv_chl {G : Nat → Nat → Prop} {m : Nat → Nat} {r0 : Nat} {E : Nat → Prop} {b p rk : Nat → Nat} (h : iv_I G m r0 E b p rk) {r : Nat} : ∀ {cs : List Nat} {c : Nat}, iv_ch m b p r0 r cs c → E c → b c = c → cs.length ≤ cn_c (fun x => (E x ∧ b x = x ∧ rk x ≤ rk c) ∧ x ≠ r0) 10
  | [], _, _, _, _ => Nat.zero_le _
  | d :: t, c, hc, ec, bc => by
    obtain ⟨k1, k2, k3, k4⟩ := hc
    have h' := h
    obtain ⟨i1, i2, i3, i4, i5, i6, i7, i8, i9⟩ := h'
    obtain ⟨a1, a2, a3, a4⟩ := i8 c ec bc k3
    have ih := iv_chl h k4 (i6 _ a3).1 (i6 _ a3).2
    rw [cn_rm (p := fun x => (E x ∧ b x = x ∧ rk x ≤ rk c) ∧ x ≠ r0) (i2 c ec) ⟨⟨ec, bc, Nat.le_refl _⟩, k3⟩, List.length_cons]
    have := cn_le (n := 10) (p := fun x => (E x ∧ b x = x ∧ rk x ≤ rk (b (p (m c)))) ∧ x ≠ r0) (q := fun i => ((E i ∧ b i = i ∧ rk i ≤ rk c) ∧ i ≠ r0) ∧ i ≠ c) (fun i _ z => by
      refine ⟨⟨⟨z.1.1, z.1.2.1, by omega⟩, z.2⟩, fun e => ?_⟩
      rw [e] at z
      omega)
    omega
theorem iv_chl9 {G : Nat → Nat → Prop} {m : Nat → Nat} {r0 : Nat} {E : Nat → Prop} {b p rk : Nat → Nat} (h : iv_I G m r0 E b p rk) {r : Nat} {cs : List Nat} {c : Nat} (hc : iv_ch m b p r0 r cs c) (ec : E c) (bc : b c = c) : cs.length ≤ 9 := by
  have h1 := iv_chl h hc ec bc
  have h2 := cn_lt (p := fun x => (E x ∧ b x = x ∧ rk x ≤ rk c) ∧ x ≠ r0) h.1.2.2 (fun z => z.2 rfl)
  omega
/-- the whole way back to the root -/
theorem iv_path {G : Nat → Nat → Prop} {m : Nat → Nat} {r0 : Nat} {E : Nat → Prop} {b p rk : Nat → Nat} (hm : mt_M G m) (h : iv_I G m r0 E b p rk) {x : Nat} (hx : E x) : ∃ l, wy_w G m p r0 l x ∧ wy_s m l ∧ ∀ y, y ∈ l → E y := by
  have h' := h
  obtain ⟨i1, i2, i3, i4, i5, i6, i7, i8, i9⟩ := h'
  obtain ⟨cs, hcs⟩ := iv_chx h _ (b x) rfl (i6 x hx).1 (i6 x hx).2
  obtain ⟨lv, u, ⟨s1, s2, s3, s4, s5⟩, s6, s7⟩ := iv_side hm h hcs hx rfl
  obtain ⟨l0, w1, w2, w3⟩ := i9 u s3
  rw [s4] at w1 w3
  refine ⟨lv ++ l0, wy_app s1 w1, wy_s_app s2 w2 (fun a ha y hy => iv_x h (s5 a ha).1 (w3 y hy).1 (by rw [(w3 y hy).2.1]; exact (s5 a ha).2.1)), fun y hy => ?_⟩
  rcases List.mem_append.mp hy with e | e
  · exact (s5 y e).1
  · exact (w3 y e).1
end
section
/-- the pointers that markSide writes along the list: first f, then the partner of the one before -/
def wy_f (m p' : Nat → Nat) : List Nat → Nat → Prop
  | [], _ => True
  | x :: t, f => p' x = f ∧ wy_f m p' t (m x)
theorem wy_f_lt {m p' : Nat → Nat} : ∀ {l : List Nat} {f : Nat}, wy_f m p' l f → f < 10 → (∀ y, y ∈ l → m y < 10) → ∀ y, y ∈ l → p' y < 10
  | [], _, _, _, _, y, hy => by cases hy
  | x :: t, f, h, hf, hl, y, hy => by
    rcases List.mem_cons.mp hy with e | e
    · rw [e, h.1]; exact hf
    · exact wy_f_lt h.2 (hl x List.mem_cons_self) (fun z hz => hl z (List.mem_cons_of_mem _ hz)) y e
/-- from the partner of a vertex of the list: back along the list, then over f -/
theorem wy_back {G : Nat → Nat → Prop} {m p p' : Nat → Nat} {u r : Nat} (hG : mt_G G) (hm : mt_M G m) : ∀ {l : List Nat} {x f : Nat} {lf : List Nat}, wy_w G m p u l x → wy_f m p' l f → G x f → wy_s m l → wy_w G m p' r lf f → wy_s m lf →
    (∀ z, z ∈ lf → ∀ y, y ∈ l → z ≠ y ∧ z ≠ m y ∧ m z ≠ y) → (∀ z, z ∈ lf → m z < 10) → ∀ y, y ∈ l → ∃ l', wy_w G m p' r l' (m y) ∧ wy_s m l' ∧ ∀ a, a ∈ l' → a ∈ lf ∨ ∃ y', y' ∈ l ∧ a = m y'
  | [], _, _, _, _, _, _, _, _, _, _, _, y, hy => by cases hy
  | x0 :: t, x, f, lf, hw, hf, hg, hs, hwf, hsf, hd, hl, y, hy => by
    obtain ⟨h1, h2, h3, h4⟩ := hw
    subst h1
    obtain ⟨g1, g2⟩ := hm x0 h2
    have x10 := hG.2.1 _ _ g1
    have W : wy_w G m p' r (m x0 :: lf) (m x0) := by
      refine ⟨rfl, ?_, ?_, ?_⟩
      · rw [g2]; exact x10
      · rw [g2, hf.1]; exact hg
      · rw [g2, hf.1]; exact hwf
    have S : wy_s m (m x0 :: lf) := by
      refine ⟨fun z hz => ?_, hsf⟩
      obtain ⟨d1, d2, d3⟩ := hd z hz x0 List.mem_cons_self
      refine ⟨fun e => d2 e.symm, fun e => ?_, fun e => ?_⟩
      · rw [g2] at e; exact d1 e.symm
      · have := (hm z (hl z hz)).2
        rw [e, g2] at this
        exact d1 this.symm
    rcases List.mem_cons.mp hy with e | e
    · subst e
      exact ⟨_, W, S, fun a ha => by
        rcases List.mem_cons.mp ha with q | q
        · exact Or.inr ⟨y, List.mem_cons_self, q⟩
        · exact Or.inl q⟩
    · obtain ⟨l', w1, w2, w3⟩ := wy_back hG hm (p := p) (p' := p') (r := r) (lf := m x0 :: lf) h4 hf.2 (hG.1 _ _ h3) hs.2 W S (fun z hz y' hy' => by
        rcases List.mem_cons.mp hz with q | q
        · obtain ⟨a1, a2, a3⟩ := hs.1 y' hy'
          rw [q, g2]
          refine ⟨a2, fun e2 => ?_, a1⟩
          have e3 := (hm y' (wy_lt h4 y' hy')).2
          rw [← e2, g2] at e3
          exact a1 e3
        · exact hd z q y' (List.mem_cons_of_mem _ hy')) (fun z hz => by
        rcases List.mem_cons.mp hz with q | q
        · rw [q, g2]; exact x10
        · exact hl z q) y e
      refine ⟨l', w1, w2, fun a ha => ?_⟩
      rcases w3 a ha with q | ⟨y', q1, q2⟩
      · rcases List.mem_cons.mp q with q | q
        · exact Or.inr ⟨x0, List.mem_cons_self, q⟩
        · exact Or.inl q
      · exact Or.inr ⟨y', List.mem_cons_of_mem _ q1, q2⟩
/-- what is known when an odd circle over the edge v w is shrunk to r -/
def iv_H (G : Nat → Nat → Prop) (m : Nat → Nat) (r0 : Nat) (E : Nat → Prop) (b p rk : Nat → Nat) (r v w : Nat) (lv lw : List Nat) (u u' : Nat) (p' : Nat → Nat) : Prop :=
  iv_I G m r0 E b p rk ∧ (E v ∧ E w ∧ G v w) ∧ iv_sd G m E b p rk r v lv u ∧ iv_sd G m E b p rk r w lw u' ∧ (∀ x, x ∈ lv → ∀ y, y ∈ lw → b x ≠ b y) ∧ (E r ∧ b r = r) ∧ wy_f m p' lv w ∧ wy_f m p' lw v ∧ ∀ x, x < 10 → x ∉ lv → x ∉ lw → p' x = p x
theorem iv_Hs {G : Nat → Nat → Prop} {m : Nat → Nat} {r0 : Nat} {E : Nat → Prop} {b p rk : Nat → Nat} {r v w : Nat} {lv lw : List Nat} {u u' : Nat} {p' : Nat → Nat} (hG : mt_G G) (h : iv_H G m r0 E b p rk r v w lv lw u u' p') : iv_H G m r0 E b p rk r w v lw lv u' u p' := by
  obtain ⟨h1, ⟨h2, h3, h4⟩, h5, h6, h7, h8, h9, h10, h11⟩ := h
  exact ⟨h1, ⟨h3, h2, hG.1 _ _ h4⟩, h6, h5, fun x hx y hy e => h7 y hy x hx e.symm, h8, h10, h9, fun x h a b => h11 x h b a⟩
/-- the vertices of the block of r keep their ways; so does the list itself -/
theorem iv_keep {G : Nat → Nat → Prop} {m : Nat → Nat} {r0 : Nat} {E : Nat → Prop} {b p rk : Nat → Nat} {r v w : Nat} {lv lw : List Nat} {u u' : Nat} {p' : Nat → Nat} (hG : mt_G G) (hm : mt_M G m) (h : iv_H G m r0 E b p rk r v w lv lw u u' p') :
    ∀ y, y ∈ lv → ∃ l, wy_w G m p' r l y ∧ wy_s m l ∧ ∀ a, a ∈ l → a ∈ lv ∨ (E a ∧ a ≠ r ∧ b a = r) := by
  obtain ⟨hI, ⟨hv, hw, hg⟩, ⟨s1, s2, s3, s4, s5⟩, ⟨t1, t2, t3, t4, t5⟩, hd, ⟨er, br⟩, f1, f2, hp⟩ := h
  have h' := hI
  obtain ⟨i1, i2, i3, i4, i5, i6, i7, i8, i9⟩ := h'
  intro y hy
  obtain ⟨l1, l2, e1, e2⟩ := wy_suf s1 hy
  obtain ⟨l0, w1, w2, w3⟩ := i9 u s3
  rw [s4] at w1 w3
  have sub : ∀ a, a ∈ l2 → a ∈ lv := fun a ha => by rw [e1]; exact List.mem_append.mpr (Or.inr ha)
  have s2' : wy_s m l2 := by rw [e1] at s2; exact wy_s_r s2
  refine ⟨l2 ++ l0, wy_app (wy_cg e2 (fun a ha => ?_)) (wy_cg w1 (fun a ha => ?_)), wy_s_app s2' w2 (fun a ha z hz => iv_x hI (s5 a (sub a ha)).1 (w3 z hz).1 (by rw [(w3 z hz).2.1]; exact (s5 a (sub a ha)).2.1)), fun a ha => ?_⟩
  · have a10 := wy_lt e2 a ha
    refine hp _ a10 (fun z => wy_s_ne hG hm s2 (wy_lt s1) a (sub a ha) _ z rfl) (fun z => ?_)
    have := iv_both hI (s5 a (sub a ha)).1 (t5 _ z).1
    exact hd a (sub a ha) _ z this.symm
  · have a10 := wy_lt w1 a ha
    refine hp _ a10 (fun z => ?_) (fun z => ?_)
    · have := iv_both hI (w3 a ha).1 (s5 _ z).1
      rw [(w3 a ha).2.1] at this
      exact (s5 _ z).2.1 this
    · have := iv_both hI (w3 a ha).1 (t5 _ z).1
      rw [(w3 a ha).2.1] at this
      exact (t5 _ z).2.1 this
  · rcases List.mem_append.mp ha with e | e
    · exact Or.inl (sub a e)
    · obtain ⟨q1, q2, q3⟩ := w3 a e
      exact Or.inr ⟨q1, q3, q2⟩
/-- the way from the vertex v itself, or from the block of r -/
theorem iv_keepv {G : Nat → Nat → Prop} {m : Nat → Nat} {r0 : Nat} {E : Nat → Prop} {b p rk : Nat → Nat} {r v w : Nat} {lv lw : List Nat} {u u' : Nat} {p' : Nat → Nat} (hG : mt_G G) (hm : mt_M G m) (h : iv_H G m r0 E b p rk r v w lv lw u u' p') :
    ∃ l, wy_w G m p' r l v ∧ wy_s m l ∧ ∀ a, a ∈ l → a ∈ lv ∨ (E a ∧ a ≠ r ∧ b a = r) := by
  have hh := h
  obtain ⟨hI, ⟨hv, hw, hg⟩, ⟨s1, s2, s3, s4, s5⟩, ⟨t1, t2, t3, t4, t5⟩, hd, ⟨er, br⟩, f1, f2, hp⟩ := h
  rcases wy_hd s1 with e | e
  · have h' := hI
    obtain ⟨i1, i2, i3, i4, i5, i6, i7, i8, i9⟩ := h'
    obtain ⟨l0, w1, w2, w3⟩ := i9 u s3
    rw [s4] at w1 w3
    rw [← e] at w1
    refine ⟨l0, wy_cg w1 (fun a ha => ?_), w2, fun a ha => Or.inr ⟨(w3 a ha).1, (w3 a ha).2.2, (w3 a ha).2.1⟩⟩
    have a10 := wy_lt w1 a ha
    refine hp _ a10 (fun z => ?_) (fun z => ?_)
    · have := iv_both hI (w3 a ha).1 (s5 _ z).1
      rw [(w3 a ha).2.1] at this
      exact (s5 _ z).2.1 this
    · have := iv_both hI (w3 a ha).1 (t5 _ z).1
      rw [(w3 a ha).2.1] at this
      exact (t5 _ z).2.1 this
  · exact iv_keep hG hm hh v e
/-- the partners of the list's vertices -/
theorem iv_turn {G : Nat → Nat → Prop} {m : Nat → Nat} {r0 : Nat} {E : Nat → Prop} {b p rk : Nat → Nat} {r v w : Nat} {lv lw : List Nat} {u u' : Nat} {p' : Nat → Nat} (hG : mt_G G) (hm : mt_M G m) (h : iv_H G m r0 E b p rk r v w lv lw u u' p') :
    ∀ y, y ∈ lv → ∃ l, wy_w G m p' r l (m y) ∧ wy_s m l ∧ ∀ a, a ∈ l → (∃ x, x ∈ lv ∧ a = m x) ∨ (E a ∧ a ≠ r ∧ (b a = r ∨ ∃ z, z ∈ lw ∧ b a = b z)) := by
  obtain ⟨lf, w1, w2, w3⟩ := iv_keepv hG hm (iv_Hs hG h)
  obtain ⟨hI, ⟨hv, hw, hg⟩, ⟨s1, s2, s3, s4, s5⟩, ⟨t1, t2, t3, t4, t5⟩, hd, ⟨er, br⟩, f1, f2, hp⟩ := h
  have lfE : ∀ z, z ∈ lf → E z ∧ ∀ y, y ∈ lv → b z ≠ b y := fun z hz => by
    rcases w3 z hz with e | ⟨e1, e2, e3⟩
    · exact ⟨(t5 z e).1, fun y hy q => hd y hy z e q.symm⟩
    · exact ⟨e1, fun y hy q => (s5 y hy).2.1 (by rw [← q, e3])⟩
  intro y hy
  obtain ⟨l, g1, g2, g3⟩ := wy_back hG hm (p := p) s1 f1 hg s2 w1 w2 (fun z hz y' hy' => by
    obtain ⟨n1, n2, n3⟩ := iv_x hI (lfE z hz).1 (s5 y' hy').1 ((lfE z hz).2 y' hy')
    exact ⟨n1, fun e => n3 e.symm, n2⟩) (wy_lt w1) y hy
  refine ⟨l, g1, g2, fun a ha => ?_⟩
  rcases g3 a ha with e | e
  · rcases w3 a e with q | ⟨q1, q2, q3⟩
    · refine Or.inr ⟨(t5 a q).1, fun e' => ?_, Or.inr ⟨a, q, rfl⟩⟩
      have := (t5 a q).2.1
      rw [e', br] at this
      exact this rfl
    · exact Or.inr ⟨q1, q2, Or.inl q3⟩
  · exact Or.inl e
/-- the vertices of the blocks that the list goes through -/
theorem iv_blk {G : Nat → Nat → Prop} {m : Nat → Nat} {r0 : Nat} {E : Nat → Prop} {b p rk : Nat → Nat} {r v w : Nat} {lv lw : List Nat} {u u' : Nat} {p' : Nat → Nat} (hG : mt_G G) (hm : mt_M G m) (h : iv_H G m r0 E b p rk r v w lv lw u u' p') {x : Nat} (hx : x ∈ lv) :
    ∀ (l : List Nat) (y : Nat), wy_w G m p (b x) l y → wy_s m l → (∀ a, a ∈ l → E a ∧ b a = b x) → ∃ l', wy_w G m p' r l' y ∧ wy_s m l' ∧ ∀ a, a ∈ l' → a ∈ l ∨ a ∈ lv ∨ (∃ z, z ∈ lv ∧ a = m z) ∨ (E a ∧ a ≠ r ∧ (b a = r ∨ ∃ z, z ∈ lw ∧ b a = b z)) := by
  have kp := iv_keep hG hm h
  have tn := iv_turn hG hm h
  obtain ⟨hI, ⟨hv, hw, hg⟩, ⟨s1, s2, s3, s4, s5⟩, ⟨t1, t2, t3, t4, t5⟩, hd, ⟨er, br⟩, f1, f2, hp⟩ := h
  intro l
  induction l with
  | nil =>
    intro y hy _ _
    have hy : y = b x := hy
    obtain ⟨l', g1, g2, g3⟩ := kp (b x) (s5 x hx).2.2.1
    rw [hy]
    refine ⟨l', g1, g2, fun a ha => ?_⟩
    rcases g3 a ha with e | ⟨e1, e2, e3⟩
    · exact Or.inr (Or.inl e)
    · exact Or.inr (Or.inr (Or.inr ⟨e1, e2, Or.inl e3⟩))
  | cons y0 t ih =>
    intro y hy hs hl
    by_cases q1 : y ∈ lv
    · obtain ⟨l', g1, g2, g3⟩ := kp y q1
      refine ⟨l', g1, g2, fun a ha => ?_⟩
      rcases g3 a ha with e | ⟨e1, e2, e3⟩
      · exact Or.inr (Or.inl e)
      · exact Or.inr (Or.inr (Or.inr ⟨e1, e2, Or.inl e3⟩))
    · obtain ⟨h1, h2, h3, h4⟩ := hy
      subst h1
      obtain ⟨m1, m2⟩ := hm y0 h2
      by_cases q2 : m y0 ∈ lv
      · obtain ⟨l', g1, g2, g3⟩ := tn (m y0) q2
        rw [m2] at g1
        refine ⟨l', g1, g2, fun a ha => ?_⟩
        rcases g3 a ha with e | e
        · exact Or.inr (Or.inr (Or.inl e))
        · exact Or.inr (Or.inr (Or.inr e))
      · obtain ⟨ey, by0⟩ := hl y0 List.mem_cons_self
        obtain ⟨l', g1, g2, g3⟩ := ih (p (m y0)) h4 hs.2 (fun a ha => hl a (List.mem_cons_of_mem _ ha))
        have pe : p' (m y0) = p (m y0) := hp _ h2 q2 (fun z => by
          have := iv_both hI ey (t5 _ z).1
          rw [by0] at this
          exact hd x hx _ z this.symm)
        refine ⟨y0 :: l', ⟨rfl, h2, by rw [pe]; exact h3, by rw [pe]; exact g1⟩, ⟨fun a ha => ?_, g2⟩, fun a ha => ?_⟩
        · rcases g3 a ha with e | e | ⟨z, e1, e2⟩ | ⟨e1, e2, e3⟩
          · exact hs.1 a e
          · refine ⟨fun q => q1 (q ▸ e), fun q => q2 (q ▸ e), fun q => ?_⟩
            have := (hm a (wy_lt s1 a e)).2
            rw [q] at this
            rw [← this] at e
            exact q2 e
          · have z2 := (hm z (wy_lt s1 z e1)).2
            rw [e2, z2]
            refine ⟨fun q => ?_, fun q => ?_, fun q => q1 (q ▸ e1)⟩
            · rw [q, z2] at q2; exact q2 e1
            · have : m (m y0) = m (m z) := by rw [q]
              rw [m2, z2] at this
              rw [this] at q1
              exact q1 e1
          · refine iv_x hI ey e1 ?_
            rw [by0]
            rcases e3 with e3 | ⟨z, z1, z2⟩
            · rw [e3]; exact (s5 x hx).2.1
            · rw [z2]; exact hd x hx z z1
        · rcases List.mem_cons.mp ha with e | e
          · exact Or.inl (by rw [e]; exact List.mem_cons_self)
          · rcases g3 a e with e | e
            · exact Or.inl (List.mem_cons_of_mem _ e)
            · exact Or.inr e
end
section
def iv_Sh (m b : Nat → Nat) (lv lw : List Nat) (y : Nat) : Prop := ∃ x, (x ∈ lv ∨ x ∈ lw) ∧ (y = b x ∨ y = b (m x))
theorem iv_Sh1 {G : Nat → Nat → Prop} {m : Nat → Nat} {r0 : Nat} {E : Nat → Prop} {b p rk : Nat → Nat} {lv lw : List Nat} (hI : iv_I G m r0 E b p rk) (hl : ∀ x, (x ∈ lv ∨ x ∈ lw) → E x ∧ m x < 10) {x : Nat} (hx : E x) (h : iv_Sh m b lv lw (b x)) : ∃ y, (y ∈ lv ∨ y ∈ lw) ∧ b x = b y := by
  obtain ⟨y, y1, y2⟩ := h
  have h' := hI
  obtain ⟨i1, i2, i3, i4, i5, i6, i7, i8, i9⟩ := h'
  rcases y2 with e | e
  · exact ⟨y, y1, e⟩
  · by_cases q : E (m y)
    · exact ⟨y, y1, by rw [e]; exact iv_both hI (hl y y1).1 q⟩
    · have := (i6 x hx).1
      rw [e, i5 _ (hl y y1).2 q] at this
      exact absurd this q
theorem iv_Sh2 {G : Nat → Nat → Prop} {m : Nat → Nat} {r0 : Nat} {E : Nat → Prop} {b p rk : Nat → Nat} {lv lw : List Nat} (hI : iv_I G m r0 E b p rk) (hl : ∀ x, (x ∈ lv ∨ x ∈ lw) → E x ∧ m x < 10) {x : Nat} (hx : ¬ E x) (h10 : x < 10) (h : iv_Sh m b lv lw (b x)) : ∃ y, (y ∈ lv ∨ y ∈ lw) ∧ x = m y := by
  obtain ⟨y, y1, y2⟩ := h
  have h' := hI
  obtain ⟨i1, i2, i3, i4, i5, i6, i7, i8, i9⟩ := h'
  rw [i5 x h10 hx] at y2
  rcases y2 with e | e
  · rw [e] at hx
    exact absurd (i6 y (hl y y1).1).1 hx
  · by_cases q : E (m y)
    · rw [e] at hx
      exact absurd (i6 _ q).1 hx
    · exact ⟨y, y1, by rw [e]; exact i5 _ (hl y y1).2 q⟩
theorem iv_shr {G : Nat → Nat → Prop} {m : Nat → Nat} {r0 : Nat} {E : Nat → Prop} {b p rk : Nat → Nat} {r v w : Nat} {lv lw : List Nat} {u u' : Nat} {p' : Nat → Nat} (hG : mt_G G) (hm : mt_M G m) (h : iv_H G m r0 E b p rk r v w lv lw u u' p')
    {E' : Nat → Prop} {b' : Nat → Nat} (hE : ∀ x, E' x ↔ (E x ∨ (x < 10 ∧ iv_Sh m b lv lw (b x)))) (hb : ∀ x, x < 10 → (iv_Sh m b lv lw (b x) → b' x = r) ∧ (¬ iv_Sh m b lv lw (b x) → b' x = b x)) :
    iv_I G m r0 E' b' p' rk ∧ b' v = b' w ∧ b' v = r := by
  have bl := fun {x} (hx : x ∈ lv) => iv_blk hG hm h hx
  have bl' := fun {x} (hx : x ∈ lw) => iv_blk hG hm (iv_Hs hG h) hx
  have tn := iv_turn hG hm h
  have tn' := iv_turn hG hm (iv_Hs hG h)
  obtain ⟨hI, ⟨hv, hw, hg⟩, ⟨s1, s2, s3, s4, s5⟩, ⟨t1, t2, t3, t4, t5⟩, hd, ⟨er, br⟩, f1, f2, hp⟩ := h
  have h' := hI
  obtain ⟨i1, i2, i3, i4, i5, i6, i7, i8, i9⟩ := h'
  have hl : ∀ x, (x ∈ lv ∨ x ∈ lw) → E x ∧ m x < 10 := fun x hx => by
    rcases hx with e | e
    · exact ⟨(s5 x e).1, wy_lt s1 x e⟩
    · exact ⟨(t5 x e).1, wy_lt t1 x e⟩
  have hl2 : ∀ x, (x ∈ lv ∨ x ∈ lw) → b x ≠ r ∧ rk r < rk (b x) ∧ (b x ∈ lv ∨ b x ∈ lw) := fun x hx => by
    rcases hx with e | e
    · exact ⟨(s5 x e).2.1, (s5 x e).2.2.2, Or.inl (s5 x e).2.2.1⟩
    · exact ⟨(t5 x e).2.1, (t5 x e).2.2.2, Or.inr (t5 x e).2.2.1⟩
  have S1 : ∀ x, (x ∈ lv ∨ x ∈ lw) → iv_Sh m b lv lw (b x) := fun x hx => ⟨x, hx, Or.inl rfl⟩
  have S2 : ∀ x, (x ∈ lv ∨ x ∈ lw) → iv_Sh m b lv lw (b (m x)) := fun x hx => ⟨x, hx, Or.inr rfl⟩
  have nSr : ¬ iv_Sh m b lv lw r := fun z => by
    rw [← br] at z
    obtain ⟨y, y1, y2⟩ := iv_Sh1 hI hl er z
    rw [br] at y2
    exact (hl2 y y1).1 y2.symm
  have r10 := i2 r er
  have br' : b' r = r := by
    rw [(hb r r10).2 (by rw [br]; exact nSr), br]
  have pl : ∀ y, (y ∈ lv ∨ y ∈ lw) → p' y < 10 := fun y hy => by
    rcases hy with e | e
    · exact wy_f_lt f1 (i2 w hw) (wy_lt s1) y e
    · exact wy_f_lt f2 (i2 v hv) (wy_lt t1) y e
  have mE : ∀ y, (y ∈ lv ∨ y ∈ lw) → E' (m y) ∧ b' (m y) = r ∧ m y ≠ r := fun y hy => by
    refine ⟨(hE _).mpr (Or.inr ⟨(hl y hy).2, S2 y hy⟩), (hb _ (hl y hy).2).1 (S2 y hy), fun e => ?_⟩
    have := S2 y hy
    rw [e, br] at this
    exact nSr this
  have xE : ∀ y, E y → iv_Sh m b lv lw (b y) → E' y ∧ b' y = r ∧ y ≠ r := fun y hy hs => by
    refine ⟨(hE _).mpr (Or.inl hy), (hb _ (i2 y hy)).1 hs, fun e => ?_⟩
    rw [e, br] at hs
    exact nSr hs
  have rE : ∀ y, E y → y ≠ r → b y = r → E' y ∧ b' y = r ∧ y ≠ r := fun y hy hn e => by
    refine ⟨(hE _).mpr (Or.inl hy), ?_, hn⟩
    rw [(hb _ (i2 y hy)).2 (by rw [e]; exact nSr), e]
  have bd : ∀ x, (x = v ∧ (x ∈ lv ∨ x = u)) ∨ (x = w ∧ (x ∈ lw ∨ x = u')) → b' x = r := fun x hx => by
    have : (x ∈ lv ∨ x ∈ lw) ∨ (E x ∧ b x = r) := by
      rcases hx with ⟨_, e | e⟩ | ⟨_, e | e⟩
      · exact Or.inl (Or.inl e)
      · rw [e]; exact Or.inr ⟨s3, s4⟩
      · exact Or.inl (Or.inr e)
      · rw [e]; exact Or.inr ⟨t3, t4⟩
    rcases this with e | ⟨e1, e2⟩
    · exact (hb x (i2 x (hl x e).1)).1 (S1 x e)
    · rw [(hb x (i2 x e1)).2 (by rw [e2]; exact nSr), e2]
  have bv := bd v (Or.inl ⟨rfl, (wy_hd s1).symm⟩)
  have bw := bd w (Or.inr ⟨rfl, (wy_hd t1).symm⟩)
  refine ⟨⟨⟨(hE _).mpr (Or.inl i1.1), i1.2⟩, fun x hx => ?_, fun x hx n => ?_, fun x h10 hx => ?_, fun x h10 hx => ?_, fun x hx => ?_, fun x hx n => ?_, fun x hx hbx n => ?_, fun x hx => ?_⟩, by rw [bv, bw], bv⟩
  · rcases (hE x).mp hx with z | z
    · exact i2 x z
    · exact z.1
  · by_cases ex : E x
    · have := i3 x ex n
      refine ⟨this.1, ?_⟩
      by_cases q : m x ∈ lv ∨ m x ∈ lw
      · exact pl _ q
      · rw [hp _ this.1 (fun z => q (Or.inl z)) (fun z => q (Or.inr z))]
        exact this.2
    · rcases (hE x).mp hx with z | z
      · exact absurd z ex
      · obtain ⟨y, y1, y2⟩ := iv_Sh2 hI hl ex z.1 z.2
        rw [y2, (hm y (hl y y1).2).2]
        exact ⟨i2 y (hl y y1).1, pl y y1⟩
  · by_cases q : x ∈ lv ∨ x ∈ lw
    · exact ⟨(hl x q).2, (mE x q).1⟩
    · rw [hp x h10 (fun z => q (Or.inl z)) (fun z => q (Or.inr z))] at hx
      have := i4 x h10 hx
      exact ⟨this.1, (hE _).mpr (Or.inl this.2)⟩
  · have nS : ¬ iv_Sh m b lv lw (b x) := fun z => hx ((hE x).mpr (Or.inr ⟨h10, z⟩))
    rw [(hb x h10).2 nS]
    exact i5 x h10 (fun z => hx ((hE x).mpr (Or.inl z)))
  · have x10 : x < 10 := by
      rcases (hE x).mp hx with z | z
      · exact i2 x z
      · exact z.1
    by_cases q : iv_Sh m b lv lw (b x)
    · rw [(hb x x10).1 q, br']
      exact ⟨(hE r).mpr (Or.inl er), rfl⟩
    · have ex : E x := by
        rcases (hE x).mp hx with z | z
        · exact z
        · exact absurd z.2 q
      have i6x := i6 x ex
      rw [(hb x x10).2 q]
      refine ⟨(hE _).mpr (Or.inl i6x.1), ?_⟩
      rw [(hb _ (i2 _ i6x.1)).2 (by rw [i6x.2]; exact q), i6x.2]
  · have x10 : x < 10 := by
      rcases (hE x).mp hx with z | z
      · exact i2 x z
      · exact z.1
    by_cases q : iv_Sh m b lv lw (b x)
    · rw [(hb x x10).1 q]
      by_cases ex : E x
      · obtain ⟨y, y1, y2⟩ := iv_Sh1 hI hl ex q
        by_cases bx : b x = x
        · have xl : x ∈ lv ∨ x ∈ lw := by
            have := (hl2 y y1).2.2
            rw [← y2, bx] at this
            exact this
          exact ⟨(hl x xl).2, (mE x xl).1, (mE x xl).2.1⟩
        · obtain ⟨a1, a2, a3⟩ := i7 x ex bx
          have := xE _ a2 (by rw [a3]; exact q)
          exact ⟨a1, this.1, this.2.1⟩
      · obtain ⟨y, y1, y2⟩ := iv_Sh2 hI hl ex x10 q
        rw [y2, (hm y (hl y y1).2).2]
        have := xE y (hl y y1).1 (S1 y y1)
        exact ⟨i2 y (hl y y1).1, this.1, this.2.1⟩
    · have ex : E x := by
        rcases (hE x).mp hx with z | z
        · exact z
        · exact absurd z.2 q
      rw [(hb x x10).2 q] at n ⊢
      obtain ⟨a1, a2, a3⟩ := i7 x ex n
      refine ⟨a1, (hE _).mpr (Or.inl a2), ?_⟩
      rw [(hb _ a1).2 (by rw [a3]; exact q), a3]
  · have x10 : x < 10 := by
      rcases (hE x).mp hx with z | z
      · exact i2 x z
      · exact z.1
    have q : ¬ iv_Sh m b lv lw (b x) := fun q => by
      rw [(hb x x10).1 q] at hbx
      rw [← hbx, br] at q
      exact nSr q
    have ex : E x := by
      rcases (hE x).mp hx with z | z
      · exact z
      · exact absurd z.2 q
    rw [(hb x x10).2 q] at hbx
    obtain ⟨a1, a2, a3, a4⟩ := i8 x ex hbx n
    have m10 := (i3 x ex n).1
    have pe : p' (m x) = p (m x) := hp _ m10 (fun z => a1 (s5 _ z).1) (fun z => a1 (t5 _ z).1)
    rw [pe]
    refine ⟨fun z => ?_, a2, (hE _).mpr (Or.inl a3), ?_⟩
    · rcases (hE _).mp z with z | z
      · exact a1 z
      · obtain ⟨y, y1, y2⟩ := iv_Sh2 hI hl a1 z.1 z.2
        have e : m (m x) = m (m y) := by rw [y2]
        rw [(hm x m10).2, (hm y (hl y y1).2).2] at e
        rw [e] at q
        exact q (S1 y y1)
    · by_cases q2 : iv_Sh m b lv lw (b (p (m x)))
      · rw [(hb _ (i2 _ a3)).1 q2]
        obtain ⟨y, y1, y2⟩ := iv_Sh1 hI hl a3 q2
        have := (hl2 y y1).2.1
        rw [← y2] at this
        omega
      · rw [(hb _ (i2 _ a3)).2 q2]
        exact a4
  · have x10 : x < 10 := by
      rcases (hE x).mp hx with z | z
      · exact i2 x z
      · exact z.1
    by_cases q : iv_Sh m b lv lw (b x)
    · rw [(hb x x10).1 q]
      have fin : ∀ (l : List Nat) (c : Nat), iv_Sh m b lv lw c → (∀ a, a ∈ l → E a ∧ b a = c) → ∀ a, a ∈ l → E' a ∧ b' a = r ∧ a ≠ r := fun l c hc hl3 a ha => xE a (hl3 a ha).1 (by rw [(hl3 a ha).2]; exact hc)
      have fin4 : ∀ a, (E a ∧ a ≠ r ∧ (b a = r ∨ ∃ z, (z ∈ lv ∨ z ∈ lw) ∧ b a = b z)) → E' a ∧ b' a = r ∧ a ≠ r := fun a ha => by
        rcases ha.2.2 with e | ⟨z, z1, z2⟩
        · exact rE a ha.1 ha.2.1 e
        · exact xE a ha.1 (by rw [z2]; exact S1 z z1)
      by_cases ex : E x
      · obtain ⟨y, y1, y2⟩ := iv_Sh1 hI hl ex q
        obtain ⟨l, l1, l2, l3⟩ := i9 x ex
        rw [y2] at l1 l3 q
        have l3' : ∀ a, a ∈ l → E a ∧ b a = b y := fun a ha => ⟨(l3 a ha).1, (l3 a ha).2.1⟩
        rcases y1 with y1 | y1
        · obtain ⟨l', g1, g2, g3⟩ := bl y1 l x l1 l2 l3'
          refine ⟨l', g1, g2, fun a ha => ?_⟩
          rcases g3 a ha with e | e | ⟨z, z1, z2⟩ | ⟨z1, z2, z3⟩
          · exact fin l _ q l3' a e
          · exact xE a (s5 a e).1 (S1 a (Or.inl e))
          · rw [z2]; exact mE z (Or.inl z1)
          · refine fin4 a ⟨z1, z2, ?_⟩
            rcases z3 with z3 | ⟨z, z3, z4⟩
            · exact Or.inl z3
            · exact Or.inr ⟨z, Or.inr z3, z4⟩
        · obtain ⟨l', g1, g2, g3⟩ := bl' y1 l x l1 l2 l3'
          refine ⟨l', g1, g2, fun a ha => ?_⟩
          rcases g3 a ha with e | e | ⟨z, z1, z2⟩ | ⟨z1, z2, z3⟩
          · exact fin l _ q l3' a e
          · exact xE a (t5 a e).1 (S1 a (Or.inr e))
          · rw [z2]; exact mE z (Or.inr z1)
          · refine fin4 a ⟨z1, z2, ?_⟩
            rcases z3 with z3 | ⟨z, z3, z4⟩
            · exact Or.inl z3
            · exact Or.inr ⟨z, Or.inl z3, z4⟩
      · obtain ⟨y, y1, y2⟩ := iv_Sh2 hI hl ex x10 q
        rw [y2]
        rcases y1 with y1 | y1
        · obtain ⟨l', g1, g2, g3⟩ := tn y y1
          refine ⟨l', g1, g2, fun a ha => ?_⟩
          rcases g3 a ha with ⟨z, z1, z2⟩ | ⟨z1, z2, z3⟩
          · rw [z2]; exact mE z (Or.inl z1)
          · refine fin4 a ⟨z1, z2, ?_⟩
            rcases z3 with z3 | ⟨z, z3, z4⟩
            · exact Or.inl z3
            · exact Or.inr ⟨z, Or.inr z3, z4⟩
        · obtain ⟨l', g1, g2, g3⟩ := tn' y y1
          refine ⟨l', g1, g2, fun a ha => ?_⟩
          rcases g3 a ha with ⟨z, z1, z2⟩ | ⟨z1, z2, z3⟩
          · rw [z2]; exact mE z (Or.inr z1)
          · refine fin4 a ⟨z1, z2, ?_⟩
            rcases z3 with z3 | ⟨z, z3, z4⟩
            · exact Or.inl z3
            · exact Or.inr ⟨z, Or.inl z3, z4⟩
    · have ex : E x := by
        rcases (hE x).mp hx with z | z
        · exact z
        · exact absurd z.2 q
      rw [(hb x x10).2 q]
      obtain ⟨l, l1, l2, l3⟩ := i9 x ex
      refine ⟨l, wy_cg l1 (fun a ha => ?_), l2, fun a ha => ?_⟩
      · have nq : ¬ (m a ∈ lv ∨ m a ∈ lw) := fun z => by
          have e1 := iv_both hI (l3 a ha).1 (hl _ z).1
          have e2 := S1 _ z
          rw [e1, (l3 a ha).2.1] at e2
          exact q e2
        exact hp _ (wy_lt l1 a ha) (fun z => nq (Or.inl z)) (fun z => nq (Or.inr z))
      · obtain ⟨a1, a2, a3⟩ := l3 a ha
        refine ⟨(hE a).mpr (Or.inl a1), ?_, a3⟩
        rw [(hb a (i2 a a1)).2 (by rw [a2]; exact q), a2]
end
section
/-- what a search from r0 that finds nothing leaves -/
def sr_F (G : Nat → Nat → Prop) (m : Nat → Nat) (r0 : Nat) (E : Nat → Prop) : Prop := ∃ (O : Nat → Prop) (b : Nat → Nat), ct_C G m r0 E O b ∧
  (∀ e, E e → ∃ M, mt_M G M ∧ ∀ u, 10 ≤ M u ↔ ((10 ≤ m u ∧ u ≠ r0) ∨ u = e)) ∧
  (∀ P : Nat → Prop, (∀ a c, P a → G a c → E c → P c) → ∀ x, E x → (P x ↔ P (b x)))
theorem iv_fail {G : Nat → Nat → Prop} {m : Nat → Nat} {r0 : Nat} {E : Nat → Prop} {b p rk : Nat → Nat} (hG : mt_G G) (hm : mt_M G m) (h : iv_I G m r0 E b p rk) (hs : ∀ x y, E x → G x y → (E y ∨ p y < 10) ∧ (E y → b x = b y)) : sr_F G m r0 E := by
  have h' := h
  obtain ⟨i1, i2, i3, i4, i5, i6, i7, i8, i9⟩ := h'
  refine ⟨fun y => y < 10 ∧ p y < 10 ∧ ¬ E y, b, ⟨i1.1, i1.2.1, i2, fun x hx z => z.2.2 hx, fun x y hx hg => ?_, fun x y hx hy hg => (hs x y hx hg).2 hy, i6, i7, fun x hx hb n => ?_, fun y hy => i4 y hy.1 hy.2.1⟩, fun e he => ?_, fun P hP x hx => ?_⟩
  · by_cases e : E y
    · exact Or.inl e
    · rcases (hs x y hx hg).1 with z | z
      · exact absurd z e
      · exact Or.inr ⟨mt_lt2 hG hg, z, e⟩
  · have := i3 x hx n
    exact ⟨this.1, this.1, this.2, (i8 x hx hb n).1⟩
  · obtain ⟨l, l1, l2, l3⟩ := iv_path hm h he
    obtain ⟨M, M1, M2, _⟩ := wy_flip hG hm i1.2.1 i1.2.2 l1 l2
    exact ⟨M, M1, M2⟩
  · obtain ⟨l, l1, l2, l3⟩ := i9 x hx
    have gen : ∀ (l : List Nat) (y : Nat), E y → wy_w G m p (b x) l y → (∀ a, a ∈ l → E a ∧ b a = b x ∧ a ≠ b x) → (P y ↔ P (b x)) := by
      intro l
      induction l with
      | nil =>
        intro y _ hw _
        have : y = b x := hw
        rw [this]
      | cons y0 t ih =>
        intro y hy hw hl
        obtain ⟨h1, h2, h3, h4⟩ := hw
        subst h1
        obtain ⟨q1, q2, q3⟩ := hl y0 List.mem_cons_self
        have em := (i7 y0 q1 (by rw [q2]; exact fun e => q3 e.symm)).2.1
        have en : E (p (m y0)) := by
          rcases wy_hd h4 with e | e
          · rw [e]; exact (i6 x hx).1
          · exact (hl _ (List.mem_cons_of_mem _ e)).1
        have g := (hm y0 h2).1
        rw [← ih _ en h4 (fun a ha => hl a (List.mem_cons_of_mem _ ha))]
        exact ⟨fun z => hP _ _ (hP _ _ z g em) h3 en, fun z => hP _ _ (hP _ _ z (hG.1 _ _ h3) em) (hG.1 _ _ g) hy⟩
    exact gen l x hx l1 l3
/-- turning round along the way from the end en back to r0: w is the vertex to be matched next -/
def tr_J (G : Nat → Nat → Prop) (m mm p : Nat → Nat) (r0 en w : Nat) (rem : List Nat) : Prop :=
  mt_M G (mt_u mm w 10) ∧ (∀ x, 10 ≤ mt_u mm w 10 x ↔ ((10 ≤ m x ∧ x ≠ en) ∨ x = w)) ∧ (G w (p w) ∧ wy_w G m p r0 rem (p w)) ∧ wy_s m rem ∧
  (∀ y, (y ∈ rem ∨ y = r0) → mm y = m y) ∧ (w ∉ rem ∧ w ≠ r0) ∧ (w = en ∨ m w < 10) ∧ 10 ≤ m r0
theorem tr_0 {G : Nat → Nat → Prop} {m p : Nat → Nat} {r0 en : Nat} {l : List Nat} (hG : mt_G G) (hm : mt_M G m) (he : 10 ≤ m en) (hg : G en (p en)) (hw : wy_w G m p r0 l (p en)) (hs : wy_s m l) (hn : en ≠ r0) (h0 : 10 ≤ m r0) : tr_J G m m p r0 en en l := by
  have nl : en ∉ l := fun z => by have := wy_lt hw en z; omega
  refine ⟨fun x hx => ?_, fun x => ?_, ⟨hg, hw⟩, hs, fun _ _ => rfl, ⟨nl, hn⟩, Or.inl rfl, h0⟩
  · by_cases e : x = en
    · rw [e, mt_us] at hx; omega
    · rw [mt_un e] at hx ⊢
      have := hm x hx
      refine ⟨this.1, ?_⟩
      have n2 : m x ≠ en := fun e2 => by
        have h2 := this.2
        rw [e2] at h2
        have := hG.2.1 _ _ this.1
        omega
      rw [mt_un n2]; exact this.2
  · by_cases e : x = en
    · rw [e, mt_us]; exact ⟨fun _ => Or.inr rfl, fun _ => Nat.le_refl _⟩
    · rw [mt_un e]
      exact ⟨fun z => Or.inl ⟨z, e⟩, fun z => by
        rcases z with z | z
        · exact z.1
        · exact absurd z e⟩
theorem tr_s {G : Nat → Nat → Prop} {m mm p : Nat → Nat} {r0 en w v : Nat} {t : List Nat} (hG : mt_G G) (hm : mt_M G m) (h : tr_J G m mm p r0 en w (v :: t)) : p w = v ∧ mm v = m v ∧ m v < 10 ∧ v < 10 ∧ w < 10 ∧ tr_J G m (mt_u (mt_u mm v w) w v) p r0 en (m v) t := by
  obtain ⟨h1, h2, ⟨h3, h4⟩, h5, h6, h7, h8, h9⟩ := h
  obtain ⟨w1, w2, w3, w4⟩ := h4
  rw [← w1] at h3 w2 w3 w4
  have pv : p w = v := w1.symm
  have mv := h6 v (Or.inl List.mem_cons_self)
  obtain ⟨g1, g2⟩ := hm v w2
  have v10 := hG.2.1 _ _ g1
  have nwv : w ≠ v := fun e => h7.1 (e ▸ List.mem_cons_self)
  have nvr : v ≠ r0 := fun e => by rw [e] at w2; omega
  have nmw : m v ≠ w := fun e => by
    have hh := h2 v
    rw [mt_un (fun e => nwv e.symm), mv] at hh
    have hb := (h1 v (by rw [mt_un (fun e => nwv e.symm), mv]; exact w2)).2
    rw [mt_un (fun e => nwv e.symm), mv, e, mt_us] at hb
    omega
  refine ⟨pv, mv, w2, v10, hG.2.1 _ _ h3, ?_⟩
  have sw := mt_sw (a := w) (b := v) (c := m v) hG h1 (by rw [mt_us]; exact Nat.le_refl _) (by rw [mt_un (fun e => nwv e.symm), mv]) w2 h3
  have ext : mt_u (mt_u (mt_u (mt_u mm w 10) w v) v w) (m v) 10 = mt_u (mt_u (mt_u mm v w) w v) (m v) 10 := by
    funext x
    unfold mt_u
    by_cases e1 : x = m v
    · rw [if_pos e1, if_pos e1]
    · rw [if_neg e1, if_neg e1]
      by_cases e2 : x = v
      · rw [if_pos e2, if_neg (fun e => nwv (e.symm.trans e2)), if_pos e2]
      · rw [if_neg e2, if_neg e2]
        by_cases e3 : x = w
        · rw [if_pos e3, if_pos e3]
        · rw [if_neg e3, if_neg e3, if_neg e3]
  rw [ext] at sw
  refine ⟨sw.1, fun x => ?_, ⟨w3, w4⟩, h5.2, fun y hy => ?_, ⟨fun z => (h5.1 _ z).2.1 rfl, fun e => ?_⟩, Or.inr (by rw [g2]; exact v10), h9⟩
  · rw [sw.2 x, h2 x]
    constructor
    · intro z
      rcases z with ⟨z | z, z2⟩ | z
      · exact Or.inl z
      · exact absurd z z2
      · exact Or.inr z
    · intro z
      rcases z with z | z
      · refine Or.inl ⟨Or.inl z, fun e => ?_⟩
        rw [e] at z
        rcases h8 with q | q
        · exact z.2 q
        · omega
      · exact Or.inr z
  · have n1 : y ≠ w := fun e => by
      rcases hy with z | z
      · exact h7.1 (e ▸ List.mem_cons_of_mem _ z)
      · exact h7.2 (e ▸ z)
    have n2 : y ≠ v := fun e => by
      rcases hy with z | z
      · exact (h5.1 _ z).1 e.symm
      · exact nvr (e ▸ z)
    rw [mt_un n1, mt_un n2]
    refine h6 y ?_
    rcases hy with z | z
    · exact Or.inl (List.mem_cons_of_mem _ z)
    · exact Or.inr z
  · rw [e] at g2
    omega
theorem tr_e {G : Nat → Nat → Prop} {m mm p : Nat → Nat} {r0 en w : Nat} (hG : mt_G G) (h : tr_J G m mm p r0 en w []) : p w = r0 ∧ mm r0 = m r0 ∧ r0 < 10 ∧ w < 10 ∧ mt_M G (mt_u (mt_u mm r0 w) w r0) ∧ ∀ x, 10 ≤ mt_u (mt_u mm r0 w) w r0 x ↔ (10 ≤ m x ∧ x ≠ en ∧ x ≠ r0) := by
  obtain ⟨h1, h2, ⟨h3, h4⟩, h5, h6, h7, h8, h9⟩ := h
  have h4 : p w = r0 := h4
  rw [h4] at h3
  have mv := h6 r0 (Or.inr rfl)
  have nw : r0 ≠ w := fun e => h7.2 e.symm
  have ad := mt_ad hG h1 (by rw [mt_us]; exact Nat.le_refl _) (by rw [mt_un nw, mv]; exact h9) h3
  have ext : mt_u (mt_u (mt_u mm w 10) w r0) r0 w = mt_u (mt_u mm r0 w) w r0 := by
    funext x
    unfold mt_u
    by_cases e2 : x = r0
    · rw [if_pos e2, if_neg (fun e => nw (e2.symm.trans e)), if_pos e2]
    · rw [if_neg e2, if_neg e2]
      by_cases e3 : x = w
      · rw [if_pos e3, if_pos e3]
      · rw [if_neg e3, if_neg e3, if_neg e3]
  rw [ext] at ad
  refine ⟨h4, mv, mt_lt2 hG h3, hG.2.1 _ _ h3, ad.1, fun x => ?_⟩
  rw [ad.2 x, h2 x]
  constructor
  · intro z
    rcases z with ⟨z | z, z2, z3⟩
    · exact ⟨z.1, z.2, z3⟩
    · exact absurd z z2
  · intro z
    refine ⟨Or.inl ⟨z.1, z.2.1⟩, fun e => ?_, z.2.2⟩
    rw [e] at z
    rcases h8 with q | q
    · exact z.2.1 q
    · omega
end
section
/-- a matching that misses as few as any -/
def gd_mx (G : Nat → Nat → Prop) (M : Nat → Nat) : Prop := mt_M G M ∧ ∀ N, mt_M G N → cn_c (fun x => 10 ≤ M x) 10 ≤ cn_c (fun x => 10 ≤ N x) 10
/-- the vertices that some greatest matching misses -/
def gd_DD (G : Nat → Nat → Prop) (on : Nat → Prop) (x : Nat) : Prop := x < 10 ∧ on x ∧ ∃ N, gd_mx G N ∧ 10 ≤ N x
def gd_A (G : Nat → Nat → Prop) (D : Nat → Prop) (x : Nat) : Prop := ¬ D x ∧ ∃ y, D y ∧ G y x
def gd_F (G : Nat → Nat → Prop) (on : Nat → Prop) (m : Nat → Nat) (Ef : Nat → Nat → Prop) : Prop := ∀ v, v < 10 → on v → 10 ≤ m v → sr_F G m v (Ef v)
def gd_D (on : Nat → Prop) (m : Nat → Nat) (Ef : Nat → Nat → Prop) (x : Nat) : Prop := ∃ v, v < 10 ∧ on v ∧ 10 ≤ m v ∧ Ef v x
/-- in E only v is missed -/
theorem ct_one {G : Nat → Nat → Prop} {m : Nat → Nat} {v : Nat} {E O : Nat → Prop} {b : Nat → Nat} (hC : ct_C G m v E O b) {x : Nat} (hx : E x) (h : 10 ≤ m x) : x = v := by
  obtain ⟨c1, c2, c3, c4, c5, c6, c7, c8, c9, c10⟩ := hC
  apply Classical.byContradiction
  intro z
  by_cases e : b x = x
  · have := (c9 x hx e z).1; omega
  · have := (c8 x hx e).1; omega
theorem gd_dis {G : Nat → Nat → Prop} {on : Nat → Prop} {m : Nat → Nat} {Ef : Nat → Nat → Prop} (hG : mt_G G) (hm : mt_M G m) (hF : gd_F G on m Ef) {v : Nat} {O : Nat → Prop} {b : Nat → Nat} (hC : ct_C G m v (Ef v) O b) {x : Nat} (hx : O x) : ¬ gd_D on m Ef x := by
  intro ⟨w, w1, w2, w3, w4⟩
  by_cases e : w = v
  · rw [e] at w4
    exact hC.2.2.2.1 x w4 hx
  · obtain ⟨O', b', d1, d2, d3⟩ := hF w w1 w2 w3
    obtain ⟨N, N1, N2⟩ := d2 x w4
    have := (ct_K hG hm hC N1 (fun y hy h10 => by
      rcases (N2 y).mp h10 with q | q
      · exact ct_one hC hy q.1
      · rw [q] at hy; exact absurd hx (hC.2.2.2.1 x hy))).2 x hx
    have := (N2 x).mpr (Or.inr rfl)
    omega
theorem gd_Dx {G : Nat → Nat → Prop} {on : Nat → Prop} {m : Nat → Nat} {Ef : Nat → Nat → Prop} (hG : mt_G G) (hon : ∀ x y, G x y → on x) (hm : gd_mx G m) (hF : gd_F G on m Ef) (x : Nat) : gd_D on m Ef x ↔ gd_DD G on x := by
  constructor
  · intro ⟨v, v1, v2, v3, v4⟩
    obtain ⟨O, b, d1, d2, d3⟩ := hF v v1 v2 v3
    obtain ⟨N, N1, N2⟩ := d2 x v4
    have x10 := d1.2.2.1 x v4
    have nx : ¬ (10 ≤ m x ∧ x ≠ v) := fun z => z.2 (ct_one d1 v4 z.1)
    have ox : on x := by
      by_cases e : x = v
      · rw [e]; exact v2
      · exact hon _ _ (hm.1 x (by
          rcases Nat.lt_or_ge (m x) 10 with g | g
          · exact g
          · exact absurd ⟨g, e⟩ nx)).1
    refine ⟨x10, ox, N, ⟨N1, fun N' hN' => ?_⟩, (N2 x).mpr (Or.inr rfl)⟩
    have c1 := cn_rm (p := fun u => 10 ≤ m u) v1 v3
    have c2 := cn_add (p := fun u => 10 ≤ m u ∧ u ≠ v) x10 nx
    have c3 : cn_c (fun u => 10 ≤ N u) 10 = cn_c (fun i => (10 ≤ m i ∧ i ≠ v) ∨ i = x) 10 := cn_cg (fun i _ => N2 i)
    have := hm.2 N' hN'
    omega
  · intro ⟨x10, ox, N, hN, hx⟩
    rcases Nat.lt_or_ge (m x) 10 with g | g
    · rcases mt_bg hG hm.1 _ N x rfl hN.1 hx g with ⟨M', b, m1, m2, m3, m4, m5⟩ | ⟨M', e, m1, m2, m3, m4, _⟩
      · have c1 := cn_rm (p := fun u => 10 ≤ N u) x10 hx
        have c2 := hN.2 M' m1
        have c3 : cn_c (fun u => 10 ≤ M' u) 10 ≤ cn_c (fun i => 10 ≤ N i ∧ i ≠ x) 10 := cn_le (fun i _ z => ⟨((m5 i).mp z).1, ((m5 i).mp z).2.1⟩)
        omega
      · have ge := (hN.1 e m2).1
        have e10 := hG.2.1 _ _ ge
        obtain ⟨O, b, d1, d2, d3⟩ := hF e e10 (hon _ _ ge) m3
        apply Classical.byContradiction
        intro z
        have := (ct_K hG hm.1 d1 m1 (fun y hy h10 => by
          rcases (m4 y).mp h10 with q | q
          · rw [q] at hy
            exact absurd ⟨e, e10, hon _ _ ge, m3, hy⟩ z
          · exact ct_one d1 hy q.1)).1
        rcases (m4 e).mp this with q | q
        · rw [q] at m3; omega
        · exact q.2 rfl
    · obtain ⟨O, b, d1, d2, d3⟩ := hF x x10 ox g
      exact ⟨x, x10, ox, g, d1.1⟩
/-- the roots: k of them, and one for each border vertex; each group has just one -/
def gd_T (G : Nat → Nat → Prop) (on : Nat → Prop) (k : Nat) : Prop := ∃ R : Nat → Prop, cn_c R 10 = k + cn_c (gd_A G (gd_DD G on)) 10 ∧ (∀ c, R c → gd_DD G on c) ∧
  ∀ (x : Nat) (g : Nat → Prop), gd_DD G on x → g x → (∀ a c, g a → G a c → gd_DD G on c → g c) → (∀ P : Nat → Prop, P x → (∀ a c, P a → G a c → gd_DD G on c → P c) → ∀ y, g y → P y) → ∃ c, R c ∧ g c ∧ ∀ c', R c' → g c' → c' = c
theorem gd_Tx {G : Nat → Nat → Prop} {on : Nat → Prop} {m : Nat → Nat} {Ef : Nat → Nat → Prop} (hG : mt_G G) (hon : ∀ x y, G x y → on x) (hm : gd_mx G m) (hF : gd_F G on m Ef) : gd_T G on (cn_c (fun x => on x ∧ 10 ≤ m x) 10) := by
  have DD : gd_DD G on = gd_D on m Ef := by
    funext x
    exact propext (gd_Dx hG hon hm hF x).symm
  unfold gd_T
  rw [DD]
  have dis := fun {v O b} (hC : ct_C G m v (Ef v) O b) {x} (hx : O x) => gd_dis hG hm.1 hF hC hx
  have OA : ∀ v O b, v < 10 → on v → 10 ≤ m v → ct_C G m v (Ef v) O b → ∀ x, O x → gd_A G (gd_D on m Ef) x := by
    intro v O b v1 v2 v3 hC x hx
    obtain ⟨a1, a2⟩ := hC.2.2.2.2.2.2.2.2.2 x hx
    exact ⟨dis hC hx, m x, ⟨v, v1, v2, v3, a2⟩, hG.1 _ _ (hm.1 x a1).1⟩
  have AO : ∀ x, gd_A G (gd_D on m Ef) x → m x < 10 ∧ gd_D on m Ef (m x) ∧ x < 10 := by
    intro x ⟨h1, y, ⟨v, v1, v2, v3, v4⟩, h3⟩
    obtain ⟨O, b, d1, d2, d3⟩ := hF v v1 v2 v3
    rcases d1.2.2.2.2.1 y x v4 h3 with q | q
    · exact absurd ⟨v, v1, v2, v3, q⟩ h1
    · obtain ⟨a1, a2⟩ := d1.2.2.2.2.2.2.2.2.2 x q
      exact ⟨a1, ⟨v, v1, v2, v3, a2⟩, mt_lt2 hG h3⟩
  refine ⟨fun x => gd_D on m Ef x ∧ (10 ≤ m x ∨ (m x < 10 ∧ gd_A G (gd_D on m Ef) (m x))), ?_, fun c hc => ?_, fun x g hx g1 g2 g3 => ?_⟩
  · rw [cn_sp _ (fun x => 10 ≤ m x)]
    have e1 : cn_c (fun i => (gd_D on m Ef i ∧ (10 ≤ m i ∨ (m i < 10 ∧ gd_A G (gd_D on m Ef) (m i)))) ∧ 10 ≤ m i) 10 = cn_c (fun x => on x ∧ 10 ≤ m x) 10 := by
      refine cn_cg (fun i hi => ⟨fun z => ⟨?_, z.2⟩, fun z => ⟨⟨?_, Or.inl z.2⟩, z.2⟩⟩)
      · exact ((gd_Dx hG hon hm hF i).mp z.1.1).2.1
      · obtain ⟨O, b, d1, d2, d3⟩ := hF i hi z.1 z.2
        exact ⟨i, hi, z.1, z.2, d1.1⟩
    have e2 : cn_c (fun i => (gd_D on m Ef i ∧ (10 ≤ m i ∨ (m i < 10 ∧ gd_A G (gd_D on m Ef) (m i)))) ∧ ¬ 10 ≤ m i) 10 = cn_c (gd_A G (gd_D on m Ef)) 10 := by
      apply Nat.le_antisymm
      · refine cn_inj (R := fun i j => j = m i) (fun i hi z => ?_) (fun i i' j _ _ z z' e e' => ?_)
        · rcases z.1.2 with q | q
          · exact absurd q z.2
          · exact ⟨m i, q.1, q.2, rfl⟩
        · have a1 := (hm.1 i (by have := z.2; omega)).2
          have a2 := (hm.1 i' (by have := z'.2; omega)).2
          rw [← e] at a1
          rw [← e'] at a2
          rw [← a1, ← a2]
      · refine cn_inj (R := fun i j => j = m i) (fun i hi z => ?_) (fun i i' j _ _ z z' e e' => ?_)
        · obtain ⟨a1, a2, a3⟩ := AO i z
          have a4 := (hm.1 i a1).2
          refine ⟨m i, a1, ⟨⟨a2, Or.inr ⟨by rw [a4]; exact hi, by rw [a4]; exact z⟩⟩, by rw [a4]; omega⟩, rfl⟩
        · have a1 := (hm.1 i (AO i z).1).2
          have a2 := (hm.1 i' (AO i' z').1).2
          rw [← e] at a1
          rw [← e'] at a2
          rw [← a1, ← a2]
    rw [e1, e2]
  · exact hc.1
  · obtain ⟨v, v1, v2, v3, v4⟩ := hx
    obtain ⟨O, b, d1, d2, d3⟩ := hF v v1 v2 v3
    have d1' := d1
    obtain ⟨c1, c2, c3, c4, c5, c6, c7, c8, c9, c10⟩ := d1'
    have sub : ∀ y, g y → Ef v y ∧ b y = b x := g3 (fun y => Ef v y ∧ b y = b x) ⟨v4, rfl⟩ (fun a c ha hac hc => by
      rcases c5 a c ha.1 hac with q | q
      · exact ⟨q, by rw [← c6 a c ha.1 q hac]; exact ha.2⟩
      · exact absurd hc (dis d1 q))
    have gb : g (b x) := (d3 g (fun a c ha hac hc => g2 a c ha hac ⟨v, v1, v2, v3, hc⟩) x v4).mp g1
    refine ⟨b x, ⟨⟨v, v1, v2, v3, (c7 x v4).1⟩, ?_⟩, gb, fun c' hc' gc' => ?_⟩
    · by_cases e : b x = v
      · rw [e]; exact Or.inl c2
      · have := c9 (b x) (c7 x v4).1 (c7 x v4).2 e
        exact Or.inr ⟨this.1, OA v O b v1 v2 v3 d1 _ this.2⟩
    · obtain ⟨s1, s2⟩ := sub c' gc'
      by_cases e : b c' = c'
      · rw [← e]; exact s2
      · have := c8 c' s1 e
        rcases hc'.2 with q | q
        · omega
        · exact absurd ⟨v, v1, v2, v3, this.2.1⟩ q.2.1
end
section
/-- n: how many edges a greatest matching has -/
def nu_is (G : Nat → Nat → Prop) (n : Nat) : Prop := ∃ m, gd_mx G m ∧ cn_c (fun x => m x < 10) 10 = 2 * n
theorem nu_sz (m : Nat → Nat) : cn_c (fun x => m x < 10) 10 + cn_c (fun x => 10 ≤ m x) 10 = 10 := by
  have h1 := cn_sp (fun _ => True) (fun x => m x < 10) 10
  have h2 : cn_c (fun _ => True) 10 = 10 := cn_all (fun _ _ => trivial)
  have h3 : cn_c (fun i => True ∧ m i < 10) 10 = cn_c (fun x => m x < 10) 10 := cn_cg (fun i _ => ⟨fun z => z.2, fun z => ⟨trivial, z⟩⟩)
  have h4 : cn_c (fun i => True ∧ ¬ m i < 10) 10 = cn_c (fun x => 10 ≤ m x) 10 := cn_cg (fun i _ => ⟨fun z => by have := z.2; omega, fun z => ⟨trivial, by omega⟩⟩)
  omega
theorem nu_ub {G : Nat → Nat → Prop} {n : Nat} (h : nu_is G n) {N : Nat → Nat} (hN : mt_M G N) : cn_c (fun x => N x < 10) 10 ≤ 2 * n := by
  obtain ⟨m, h1, h2⟩ := h
  have a := nu_sz m
  have b := nu_sz N
  have c := h1.2 N hN
  omega
theorem nu_le5 {G : Nat → Nat → Prop} {n : Nat} (h : nu_is G n) : n ≤ 5 := by
  obtain ⟨m, h1, h2⟩ := h
  have := cn_bd (fun x => m x < 10) 10
  omega
theorem nu_un {G : Nat → Nat → Prop} {n n' : Nat} (h : nu_is G n) (h' : nu_is G n') : n = n' := by
  have a := h
  have b := h'
  obtain ⟨m, h1, h2⟩ := h
  obtain ⟨m', h1', h2'⟩ := h'
  have := nu_ub a h1'.1
  have := nu_ub b h1.1
  omega
theorem nu_mono {G G2 : Nat → Nat → Prop} {n n2 : Nat} (hs : ∀ x y, G2 x y → G x y) (h : nu_is G n) (h2 : nu_is G2 n2) : n2 ≤ n := by
  obtain ⟨m, h3, h4⟩ := h2
  have := nu_ub h (N := m) (fun x hx => ⟨hs _ _ (h3.1 x hx).1, (h3.1 x hx).2⟩)
  omega
theorem nu_add {G G2 : Nat → Nat → Prop} {n n2 a b : Nat} (hG : mt_G G) (hab : G a b) (hs : ∀ x y, G2 x y → G x y ∧ x ≠ a ∧ x ≠ b) (h : nu_is G n) (h2 : nu_is G2 n2) : n2 + 1 ≤ n := by
  obtain ⟨m, h3, h4⟩ := h2
  have hm : mt_M G m := fun x hx => ⟨(hs _ _ (h3.1 x hx).1).1, (h3.1 x hx).2⟩
  have ha : 10 ≤ m a := by
    rcases Nat.lt_or_ge (m a) 10 with g | g
    · exact absurd rfl (hs _ _ (h3.1 a g).1).2.1
    · exact g
  have hb : 10 ≤ m b := by
    rcases Nat.lt_or_ge (m b) 10 with g | g
    · exact absurd rfl (hs _ _ (h3.1 b g).1).2.2
    · exact g
  obtain ⟨s1, s2⟩ := mt_ad hG hm ha hb hab
  have u := nu_ub h s1
  have z1 := nu_sz m
  have z2 := nu_sz (mt_u (mt_u m a b) b a)
  have c1 := cn_rm (p := fun x => 10 ≤ m x) (hG.2.1 _ _ hab) ha
  have c2 := cn_rm (p := fun i => 10 ≤ m i ∧ i ≠ a) (mt_lt2 hG hab) ⟨hb, fun e => mt_ne hG hab e.symm⟩
  have c3 : cn_c (fun x => 10 ≤ mt_u (mt_u m a b) b a x) 10 = cn_c (fun i => (10 ≤ m i ∧ i ≠ a) ∧ i ≠ b) 10 := cn_cg (fun i _ => by
    rw [s2 i]
    exact ⟨fun z => ⟨⟨z.1, z.2.1⟩, z.2.2⟩, fun z => ⟨z.1.1, z.1.2, z.2⟩⟩)
  omega
theorem nu_del {G G1 G2 : Nat → Nat → Prop} {n n1 n2 a b : Nat} (hG : mt_G G) (ha : a < 10) (hb : b < 10) (hs1 : ∀ x y, G x y → ¬ (x = a ∧ y = b) → ¬ (x = b ∧ y = a) → G1 x y) (hs2 : ∀ x y, G x y → x ≠ a → x ≠ b → y ≠ a → y ≠ b → G2 x y)
    (h : nu_is G n) (h1 : nu_is G1 n1) (h2 : nu_is G2 n2) (hl : n1 < n) : n ≤ n2 + 1 := by
  obtain ⟨m, h3, h4⟩ := h
  by_cases e : m a = b
  · have eb : m b = a := by rw [← e]; exact (h3.1 a (by omega)).2
    have nab : b ≠ a := fun z => by
      have := (h3.1 a (by omega)).1
      rw [e, z] at this
      exact hG.2.2 _ this
    have hM : mt_M G2 (mt_u (mt_u m a 10) b 10) := by
      intro x hx
      have n1 : x ≠ b := fun z => by rw [z, mt_us] at hx; omega
      rw [mt_un n1] at hx ⊢
      have n2 : x ≠ a := fun z => by rw [z, mt_us] at hx; omega
      rw [mt_un n2] at hx ⊢
      obtain ⟨g1, g2⟩ := h3.1 x hx
      have n3 : m x ≠ b := fun z => by rw [z, eb] at g2; exact n2 g2.symm
      have n4 : m x ≠ a := fun z => by rw [z, e] at g2; exact n1 g2.symm
      exact ⟨hs2 _ _ g1 n2 n1 n4 n3, by rw [mt_un n3, mt_un n4]; exact g2⟩
    have u := nu_ub h2 hM
    have c1 := cn_rm (p := fun x => m x < 10) ha (by omega)
    have c2 := cn_rm (p := fun i => m i < 10 ∧ i ≠ a) hb ⟨by omega, nab⟩
    have c3 : cn_c (fun i => (m i < 10 ∧ i ≠ a) ∧ i ≠ b) 10 ≤ cn_c (fun x => mt_u (mt_u m a 10) b 10 x < 10) 10 := cn_le (fun i _ z => by
      rw [mt_un z.2, mt_un z.1.2]; exact z.1.1)
    omega
  · have hM : mt_M G1 m := by
      intro x hx
      obtain ⟨g1, g2⟩ := h3.1 x hx
      refine ⟨hs1 _ _ g1 (fun z => ?_) (fun z => ?_), g2⟩
      · rw [z.1] at z; exact e z.2
      · rw [z.2] at g2
        rw [z.1] at g2
        exact e g2
    have u := nu_ub h1 hM
    omega
end
section
/-! Int32 by its bits (rows b_ext .. b_sshr of kit/laws/BITS.to-paste, renamed) -/
def bi_t (x : Int32) (i : Nat) : Bool := x.toBitVec.getLsbD i
theorem bi_ext {x y : Int32} (h : ∀ i, i < 32 → bi_t x i = bi_t y i) : x = y := Int32.toBitVec_inj.mp (BitVec.eq_of_getLsbD_eq (fun i hi => h i hi))
theorem bi_or (x y : Int32) (i : Nat) : bi_t (x ||| y) i = (bi_t x i || bi_t y i) := by unfold bi_t; rw [Int32.toBitVec_or, BitVec.getLsbD_or]
theorem bi_and (x y : Int32) (i : Nat) : bi_t (x &&& y) i = (bi_t x i && bi_t y i) := by unfold bi_t; rw [Int32.toBitVec_and, BitVec.getLsbD_and]
theorem bi_xor (x y : Int32) (i : Nat) : bi_t (x ^^^ y) i = (bi_t x i ^^ bi_t y i) := by unfold bi_t; rw [Int32.toBitVec_xor, BitVec.getLsbD_xor]
theorem bi_m1 : ∀ i, i < 32 → bi_t (-1) i = true := by decide +kernel
theorem bi_z (i : Nat) : bi_t 0 i = false := BitVec.getLsbD_zero
theorem bi_sl : ∀ n, n < 32 → ((nI n &&& 31).toBitVec.smod 32).toNat = n := by decide +kernel
theorem bi_sshr (n : Nat) (hn : n < 32) (x : Int32) {i : Nat} (hi : i < 32) : bi_t (x >>> (nI n &&& 31)) i = if n + i < 32 then bi_t x (n + i) else bi_t x 31 := by
  unfold bi_t
  rw [Int32.toBitVec_shiftRight]
  show (x.toBitVec.sshiftRight ((nI n &&& 31).toBitVec.smod 32).toNat).getLsbD i = _
  rw [bi_sl n hn, BitVec.getLsbD_sshiftRight, BitVec.msb_eq_getLsbD_last]
  simp [hi]
theorem bi_1 : ∀ i, i < 32 → bi_t 1 i = decide (i = 0) := by decide +kernel
theorem bi_one : ∀ v, v < 10 → ∀ i, i < 32 → bi_t ((1 : Int32) <<< (nI v &&& 31)) i = decide (i = v) := by decide +kernel
/-- one bit, as a number -/
theorem bi_val (s : Int32) {v : Nat} (hv : v < 32) : ((s >>> (nI v &&& 31)) &&& 1) = if bi_t s v = true then 1 else 0 := by
  apply bi_ext
  intro i hi
  rw [bi_and, bi_1 i hi]
  by_cases e : i = 0
  · subst e
    rw [bi_sshr v hv s (by omega), if_pos (by omega), Nat.add_zero]
    cases bi_t s v
    · simp [bi_z]
    · simp [bi_1 0 (by omega)]
  · rw [decide_eq_false e, Bool.and_false]
    cases bi_t s v
    · simp [bi_z]
    · simp [bi_1 i hi, e]
theorem bi_in (s : Int32) {v : Nat} (hv : v < 32) : ((s >>> (nI v &&& 31)) &&& 1) = 1 ↔ bi_t s v = true := by
  rw [bi_val s hv]
  cases bi_t s v
  · exact ⟨fun z => absurd z (by decide), fun z => absurd z (by decide)⟩
  · exact ⟨fun _ => rfl, fun _ => rfl⟩
/-- the mask s holds the set P -/
def bi_m (s : Int32) (P : Nat → Prop) : Prop := ∀ i, i < 32 → (bi_t s i = true ↔ P i)
theorem bi_m_cg {s : Int32} {P Q : Nat → Prop} (h : bi_m s P) (hq : ∀ i, i < 32 → (P i ↔ Q i)) : bi_m s Q := fun i hi => (h i hi).trans (hq i hi)
theorem bi_m_ext {s t : Int32} {P : Nat → Prop} (h : bi_m s P) (h' : bi_m t P) : s = t := bi_ext (fun i hi => by
  have := (h i hi).trans (h' i hi).symm
  cases e : bi_t s i <;> cases e' : bi_t t i
  · rfl
  · rw [e, e'] at this; exact absurd (this.mpr rfl) (by decide)
  · rw [e, e'] at this; exact absurd (this.mp rfl) (by decide)
  · rfl)
theorem bi_m_0 : bi_m 0 (fun _ => False) := fun i _ => by rw [bi_z]; exact ⟨fun z => absurd z (by decide), fun z => absurd z (fun z => z)⟩
theorem bi_m_all : bi_m 1023 (fun i => i < 10) := (by decide +kernel : ∀ i, i < 32 → (bi_t 1023 i = true ↔ i < 10))
theorem bi_m_or {s t : Int32} {P Q : Nat → Prop} (h : bi_m s P) (h' : bi_m t Q) : bi_m (s ||| t) (fun i => P i ∨ Q i) := fun i hi => by
  rw [bi_or, Bool.or_eq_true, h i hi, h' i hi]
theorem bi_m_and {s t : Int32} {P Q : Nat → Prop} (h : bi_m s P) (h' : bi_m t Q) : bi_m (s &&& t) (fun i => P i ∧ Q i) := fun i hi => by
  rw [bi_and, Bool.and_eq_true, h i hi, h' i hi]
theorem bi_m_not {s : Int32} {P : Nat → Prop} (h : bi_m s P) : bi_m (s ^^^ (-1)) (fun i => ¬ P i) := fun i hi => by
  have e := h i hi
  show _ ↔ ¬ P i
  rw [bi_xor, bi_m1 i hi, Bool.xor_true, Bool.not_eq_true', ← e]
  cases bi_t s i <;> simp
theorem bi_m_one {v : Nat} (hv : v < 10) : bi_m ((1 : Int32) <<< (nI v &&& 31)) (fun i => i = v) := fun i hi => by
  rw [bi_one v hv i hi, decide_eq_true_iff]
theorem bi_m_self (s : Int32) : bi_m s (fun i => bi_t s i = true) := fun _ _ => Iff.rfl
theorem bi_m_clr {s : Int32} {P : Nat → Prop} {v : Nat} (h : bi_m s P) (hv : v < 10) : bi_m (s &&& (((1 : Int32) <<< (nI v &&& 31)) ^^^ (-1))) (fun i => P i ∧ i ≠ v) := bi_m_and h (bi_m_not (bi_m_one hv))
theorem bi_m_set {s : Int32} {P : Nat → Prop} {v : Nat} (h : bi_m s P) (hv : v < 10) : bi_m (s ||| ((1 : Int32) <<< (nI v &&& 31))) (fun i => P i ∨ i = v) := bi_m_or h (bi_m_one hv)
end
section
/-- a vertex or none, as the arrays hold it -/
def hk_en (n : Nat) : Int32 := if n < 10 then nI n else -1
def hk_ar (a : Nat → Int32) (f : Nat → Nat) : Prop := ∀ x, x < 10 → a x = hk_en (f x)
theorem hk_t {n : Nat} (h : n < 10) : hk_en n = nI n := if_pos h
theorem hk_f {n : Nat} (h : 10 ≤ n) : hk_en n = -1 := if_neg (by omega)
theorem hk_neg {n : Nat} : hk_en n < 0 ↔ 10 ≤ n := by
  constructor
  · intro h
    rcases Nat.lt_or_ge n 10 with g | g
    · rw [hk_t g] at h; exact absurd h (nI_pos (by omega))
    · exact g
  · intro h
    rw [hk_f h]; decide
theorem hk_nn {n : Nat} : 0 ≤ hk_en n ↔ n < 10 := by
  constructor
  · intro h
    rcases Nat.lt_or_ge n 10 with g | g
    · exact g
    · rw [hk_f g] at h; exact absurd h (by decide)
  · intro h
    rw [hk_t h]; exact nI_pos' (by omega)
theorem hk_up {a : Nat → Int32} {f : Nat → Nat} {k v : Nat} (h : hk_ar a f) (hv : v < 10) : hk_ar (upd a k (nI v)) (mt_u f k v) := by
  intro x hx
  by_cases e : x = k
  · rw [e, pk_us, mt_us, hk_t hv]
  · rw [pk_un e, mt_un e]; exact h x hx
theorem hk_cg {a : Nat → Int32} {f g : Nat → Nat} (h : hk_ar a f) (hf : ∀ x, x < 10 → f x = g x) : hk_ar a g := fun x hx => by rw [h x hx, hf x hx]
theorem hk_cl {n : Nat} (h : n < 10) : (nI n).toNatClampNeg = n := nI_clamp (by omega)
theorem hk_vp {n : Nat} (h : n < 10) : vp_in (nI n) 10 := vp_in_nI h (by decide)
theorem hk_in {post : Int32 → Prop} {s : Int32} {P : Nat → Prop} {v : Nat} (h : bi_m s P) (hv : v < 32) (f : P v → post 1) (g : ¬ P v → post 0) : wpX_in post () s (nI v) :=
  ⟨fun e => f ((h v hv).mp ((bi_in s hv).mp e)), fun e => g (fun z => e ((bi_in s hv).mpr ((h v hv).mpr z)))⟩
theorem hk_inb {A B : Prop} {s : Int32} {P : Nat → Prop} {v : Nat} (h : bi_m s P) (hv : v < 32) (f : P v → B) (g : ¬ P v → A) : wpX_in (fun r => ((r = 0 → A) ∧ (¬ r = 0 → B))) () s (nI v) :=
  hk_in h hv (fun z => ⟨fun e => absurd e (by decide), fun _ => f z⟩) (fun z => ⟨fun _ => g z, fun e => absurd rfl e⟩)
/-- the waiting vertices -/
def hk_qu (wt : Int32) (a5 : Nat → Int32) (E : Nat → Prop) : Prop := wt = nI (cn_c E 10) ∧ (∀ j, j < cn_c E 10 → ∃ x, a5 j = nI x ∧ E x) ∧ ∀ x, E x → ∃ j, j < cn_c E 10 ∧ a5 j = nI x
theorem hk_meet {post : St1 → Prop} {on am bA bB ev wt mk sh : Int32} {a1 a2 a3 a4 a5 a6 : Nat → Int32} {E : Nat → Prop} {v : Nat} (hev : bi_m ev E) (hq : hk_qu wt a5 E) (hv : v < 10)
    (H : ∀ ev' wt' a5', bi_m ev' (fun x => E x ∨ x = v) → hk_qu wt' a5' (fun x => E x ∨ x = v) → (∀ j, j < cn_c E 10 → a5' j = a5 j) → post (on, am, bA, bB, ev', wt', mk, sh, a1, a2, a3, a4, a5', a6)) :
    wpX_meetEven post (on, am, bA, bB, ev, wt, mk, sh, a1, a2, a3, a4, a5, a6) (nI v) := by
  obtain ⟨q1, q2, q3⟩ := hq
  refine hk_inb hev (by omega) (fun z => ?_) (fun z => ?_)
  · have e : ∀ i, i < 10 → (E i ↔ (E i ∨ i = v)) := fun i _ => ⟨Or.inl, fun y => by
      rcases y with y | y
      · exact y
      · rw [y]; exact z⟩
    have ec : cn_c E 10 = cn_c (fun x => E x ∨ x = v) 10 := cn_cg e
    refine H ev wt a5 (bi_m_cg hev (fun i _ => ⟨Or.inl, fun y => by
      rcases y with y | y
      · exact y
      · rw [y]; exact z⟩)) ⟨by rw [← ec]; exact q1, fun j hj => ?_, fun x hx => ?_⟩ (fun j _ => rfl)
    · obtain ⟨x, x1, x2⟩ := q2 j (by omega)
      exact ⟨x, x1, Or.inl x2⟩
    · obtain ⟨j, j1, j2⟩ := q3 x (by
        rcases hx with y | y
        · exact y
        · rw [y]; exact z)
      exact ⟨j, by omega, j2⟩
  · have lt := cn_lt (p := E) hv z
    have ec := cn_add (p := E) hv z
    rw [q1]
    refine nm_e ⟨vp_in_nI lt (by decide), nm_e (nm_r (nI_1 _) ?_)⟩
    rw [nI_clamp (by omega)]
    refine H _ _ _ (bi_m_set hev hv) ⟨by rw [ec], fun j hj => ?_, fun x hx => ?_⟩ (fun j hj => pk_un (by omega))
    · by_cases e : j = cn_c E 10
      · exact ⟨v, by rw [e, pk_us], Or.inr rfl⟩
      · obtain ⟨x, x1, x2⟩ := q2 j (by omega)
        exact ⟨x, by rw [pk_un e]; exact x1, Or.inl x2⟩
    · rcases hx with y | y
      · obtain ⟨j, j1, j2⟩ := q3 x y
        exact ⟨j, by omega, by rw [pk_un (by omega)]; exact j2⟩
      · exact ⟨cn_c E 10, by omega, by rw [pk_us, y]⟩
/-- the graph of the search at hand -/
def gb_G (a1 : Nat → Int32) (s A B : Int32) (x y : Nat) : Prop := (x < 10 ∧ y < 10) ∧ bi_t (a1 x) y = true ∧ (bi_t s x = true ∧ bi_t s y = true) ∧ ¬ (nI x = A ∧ nI y = B) ∧ ¬ (nI x = B ∧ nI y = A)
/-- the edges are those of a graph on 0..9 -/
def gb_ok (a1 : Nat → Int32) : Prop := ∀ x, x < 10 → (∀ y, y < 32 → bi_t (a1 x) y = true → y < 10 ∧ y ≠ x ∧ bi_t (a1 y) x = true)
theorem gb_mt {a1 : Nat → Int32} {s A B : Int32} (h : gb_ok a1) : mt_G (gb_G a1 s A B) := by
  refine ⟨fun x y g => ?_, fun x y g => g.1.1, fun x g => ?_⟩
  · obtain ⟨g1, g2, g3, g4, g5⟩ := g
    exact ⟨⟨g1.2, g1.1⟩, (h x g1.1 y (by omega) g2).2.2, ⟨g3.2, g3.1⟩, fun z => g5 ⟨z.2, z.1⟩, fun z => g4 ⟨z.2, z.1⟩⟩
  · obtain ⟨g1, g2, g3, g4, g5⟩ := g
    exact (h x g1.1 x (by omega) g2).2.1 rfl
theorem hk_us {post : Int32 → Prop} {on am bA bB ev wt mk sh : Int32} {a1 a2 a3 a4 a5 a6 : Nat → Int32} {v w : Nat} (hv : v < 10) (hw : w < 10) (hs : bi_t am v = true) (H1 : gb_G a1 am bA bB v w → post 1) (H0 : ¬ gb_G a1 am bA bB v w → post 0) :
    wpX_usable post (on, am, bA, bB, ev, wt, mk, sh, a1, a2, a3, a4, a5, a6) (nI v) (nI w) := by
  have h34 : ¬ (nI v = bA ∧ nI w = bB) → ¬ (nI v = bB ∧ nI w = bA) → wX_usable_34 post (nI v) (nI w) on am bA bB ev wt mk sh a1 a2 a3 a4 a5 a6 := by
    intro n1 n2
    unfold wX_usable_34
    rw [hk_cl hv]
    refine ⟨hk_vp hv, hk_inb (bi_m_self _) (by omega) (fun z => ?_) (fun z => H0 (fun g => z g.2.1))⟩
    exact hk_inb (bi_m_self _) (by omega) (fun z2 => H1 ⟨⟨hv, hw⟩, z, ⟨hs, z2⟩, n1, n2⟩) (fun z2 => H0 (fun g => z2 g.2.2.1.2))
  have h16 : ¬ (nI v = bA ∧ nI w = bB) → wX_usable_16 post (nI v) (nI w) on am bA bB ev wt mk sh a1 a2 a3 a4 a5 a6 := fun n1 =>
    br_c (fun e1 => br_c (fun e2 => H0 (fun g => g.2.2.2.2 ⟨e1, e2⟩)) (fun e2 => h34 n1 (fun z => e2 z.2))) (fun e1 => h34 n1 (fun z => e1 z.1))
  exact br_c (fun e1 => br_c (fun e2 => H0 (fun g => g.2.2.2.1 ⟨e1, e2⟩)) (fun e2 => h16 (fun z => e2 z.2))) (fun e1 => h16 (fun z => e1 z.1))
end
section
def hk_ba (a3 : Nat → Int32) (b : Nat → Nat) : Prop := ∀ x, x < 10 → a3 x = nI (b x) ∧ b x < 10
theorem iv_chp {m b p : Nat → Nat} {r0 r : Nat} : ∀ {cs : List Nat} {c : Nat}, iv_ch m b p r0 r0 cs c → (r ∈ cs ∨ r = r0) → ∃ cs', iv_ch m b p r0 r cs' c ∧ ∀ d, d ∈ cs' → d ∈ cs
  | [], c, h, hr => by
    rcases hr with e | e
    · cases e
    · exact ⟨[], by rw [e]; exact h, fun d hd => hd⟩
  | d :: t, c, h, hr => by
    obtain ⟨h1, h2, h3, h4⟩ := h
    by_cases e : c = r
    · exact ⟨[], e, fun d hd => by cases hd⟩
    · obtain ⟨cs', k1, k2⟩ := iv_chp h4 (by
        rcases hr with q | q
        · rcases List.mem_cons.mp q with q | q
          · exact absurd (q.trans h1).symm e
          · exact Or.inl q
        · exact Or.inr q)
      refine ⟨c :: cs', ⟨rfl, e, h3, k1⟩, fun d' hd => ?_⟩
      rcases List.mem_cons.mp hd with q | q
      · rw [q, ← h1]; exact List.mem_cons_self
      · exact List.mem_cons_of_mem _ (k2 d' q)
theorem hk_cb2 {post : Int32 → Prop} {on am bA bB ev wt mk sh : Int32} {a1 a2 a3 a4 a5 a6 : Nat → Int32} {G : Nat → Nat → Prop} {m : Nat → Nat} {r0 : Nat} {E : Nat → Prop} {b p rk : Nat → Nat} {seen : Int32} {S : Nat → Prop}
    (hI : iv_I G m r0 E b p rk) (h2 : hk_ar a2 m) (h3 : hk_ba a3 b) (h4 : hk_ar a4 p) (hS : bi_m seen S) (h0 : S r0) : ∀ (fw : List Nat) (y i : Nat), iv_ch m b p r0 r0 fw y → E y → b y = y → i + fw.length ≤ 9 →
    (∀ r cw, iv_ch m b p r0 r cw y → (∀ d, d ∈ cw → ¬ S d) → S r → E r → b r = r → post (nI r)) →
    wX_commonBase_81 post seen on am bA bB ev wt mk sh a1 a2 a3 a4 a5 a6 (fw.length + 1) (nI y) (nI i) := by
  have h' := hI
  obtain ⟨i1, i2, i3, i4, i5, i6, i7, i8, i9⟩ := h'
  intro fw
  induction fw with
  | nil =>
    intro y i hc hy hb hi H
    have e : y = r0 := hc
    refine pk_le 10 i (fun z => ?_) (fun z => ?_)
    · simp only [List.length_nil] at hi; omega
    · exact hk_inb hS (by have := i2 y hy; omega) (fun q => H y [] rfl (fun d hd => by cases hd) q hy hb) (fun q => absurd (by rw [e]; exact h0) q)
  | cons d t ih =>
    intro y i hc hy hb hi H
    simp only [List.length_cons] at hi
    have y10 := i2 y hy
    obtain ⟨k1, k2, k3, k4⟩ := hc
    obtain ⟨a1', a2', a3', a4'⟩ := i8 y hy hb k3
    obtain ⟨q1, q2⟩ := i3 y hy k3
    refine pk_le 10 i (fun z => ?_) (fun z => ?_)
    · omega
    · refine hk_inb hS (by omega) (fun q => H y [] rfl (fun d hd => by cases hd) q hy hb) (fun q => ?_)
      rw [hk_cl y10, h2 y y10, hk_t q1, hk_cl q1, h4 _ q1, hk_t q2, hk_cl q2, (h3 _ q2).1]
      refine ⟨hk_vp y10, hk_vp q1, hk_vp q2, nm_e (nm_r (nI_1 i) ?_)⟩
      refine ih _ (i + 1) k4 (i6 _ a3').1 (i6 _ a3').2 (by omega) (fun r cw c1 c2 c3 c4 c5 => ?_)
      refine H r (y :: cw) ⟨rfl, fun e => q (by rw [e]; exact c3), k3, c1⟩ (fun d' hd => ?_) c3 c4 c5
      rcases List.mem_cons.mp hd with e | e
      · rw [e]; exact q
      · exact c2 d' e
theorem hk_cb1 {post : Int32 → Prop} {on am bA bB ev wt mk sh : Int32} {a1 a2 a3 a4 a5 a6 : Nat → Int32} {G : Nat → Nat → Prop} {m : Nat → Nat} {r0 : Nat} {E : Nat → Prop} {b p rk : Nat → Nat} {w : Nat}
    (hI : iv_I G m r0 E b p rk) (h2 : hk_ar a2 m) (h3 : hk_ba a3 b) (h4 : hk_ar a4 p) (hw : w < 10) : ∀ (cs : List Nat) (x i : Nat) (seen : Int32) (S : Nat → Prop), iv_ch m b p r0 r0 cs (b x) → E x → bi_m seen S → i + cs.length ≤ 9 →
    (∀ seen', bi_m seen' (fun j => S j ∨ j ∈ cs ∨ j = r0) → ∃ fu, wX_commonBase_81 post seen' on am bA bB ev wt mk sh a1 a2 a3 a4 a5 a6 fu (nI (b w)) 0) →
    wX_commonBase_8 post (nI w) on am bA bB ev wt mk sh a1 a2 a3 a4 a5 a6 (cs.length + 2) seen (nI x) (nI i) := by
  have h' := hI
  obtain ⟨i1, i2, i3, i4, i5, i6, i7, i8, i9⟩ := h'
  have tail : ∀ seen', (∃ fu, wX_commonBase_81 post seen' on am bA bB ev wt mk sh a1 a2 a3 a4 a5 a6 fu (nI (b w)) 0) → (vp_in (nI w) 10 ∧ (∀ x5_3 : Int32, x5_3 = a3 (nI w).toNatClampNeg → (∃ fu81 : Nat, wX_commonBase_81 post seen' on am bA bB ev wt mk sh a1 a2 a3 a4 a5 a6 fu81 x5_3 0))) := fun seen' h => by
    refine ⟨hk_vp hw, nm_r ?_ h⟩
    rw [hk_cl hw, (h3 w hw).1]
  intro cs
  induction cs with
  | nil =>
    intro x i seen S hc hx hS hi H
    have e : b x = r0 := hc
    simp only [List.length_nil] at hi
    have x10 := i2 x hx
    have H' := H _ (bi_m_cg (bi_m_set hS i1.2.2) (fun j _ => ⟨fun z => by
      rcases z with z | z
      · exact Or.inl z
      · exact Or.inr (Or.inr z), fun z => by
      rcases z with z | z | z
      · exact Or.inl z
      · cases z
      · exact Or.inr z⟩))
    refine pk_le 10 i (fun z => ?_) (fun z => ?_)
    · omega
    · refine br_f (nI_pos (by omega)) ⟨hk_vp x10, ?_⟩
      rw [hk_cl x10, (h3 x x10).1, e]
      refine nm_e (nm_e ⟨hk_vp i1.2.2, ?_⟩)
      rw [hk_cl i1.2.2, h2 r0 i1.2.2, hk_f i1.2.1]
      refine br_f (by decide) (nm_r (nI_1 i) ?_)
      exact br_c (fun _ => tail _ H') (fun _ => br_t (by decide) (tail _ H'))
  | cons d t ih =>
    intro x i seen S hc hx hS hi H
    simp only [List.length_cons] at hi
    have x10 := i2 x hx
    obtain ⟨k1, k2, k3, k4⟩ := hc
    obtain ⟨ec, bc⟩ := i6 x hx
    have c10 := i2 _ ec
    obtain ⟨a1', a2', a3', a4'⟩ := i8 _ ec bc k3
    obtain ⟨q1, q2⟩ := i3 _ ec k3
    refine pk_le 10 i (fun z => ?_) (fun z => ?_)
    · omega
    · refine br_f (nI_pos (by omega)) ⟨hk_vp x10, ?_⟩
      rw [hk_cl x10, (h3 x x10).1]
      refine nm_e (nm_e ⟨hk_vp c10, ?_⟩)
      rw [hk_cl c10, h2 _ c10, hk_t q1, hk_cl q1, h4 _ q1, hk_t q2]
      refine br_t (nI_pos' (by omega)) ⟨hk_vp c10, hk_vp q1, nm_e (nm_r (nI_1 i) ?_)⟩
      refine ih _ (i + 1) _ _ k4 a3' (bi_m_set hS c10) (by omega) (fun seen' hs => H seen' (bi_m_cg hs (fun j _ => ?_)))
      rw [k1, List.mem_cons]
      constructor
      · intro z
        rcases z with (z | z) | z | z
        · exact Or.inl z
        · exact Or.inr (Or.inl (Or.inl z))
        · exact Or.inr (Or.inl (Or.inr z))
        · exact Or.inr (Or.inr z)
      · intro z
        rcases z with z | (z | z) | z
        · exact Or.inl (Or.inl z)
        · exact Or.inl (Or.inr z)
        · exact Or.inr (Or.inl z)
        · exact Or.inr (Or.inr z)
theorem hk_common {post : Int32 → Prop} {on am bA bB ev wt mk sh : Int32} {a1 a2 a3 a4 a5 a6 : Nat → Int32} {G : Nat → Nat → Prop} {m : Nat → Nat} {r0 : Nat} {E : Nat → Prop} {b p rk : Nat → Nat} {v w : Nat}
    (hI : iv_I G m r0 E b p rk) (h2 : hk_ar a2 m) (h3 : hk_ba a3 b) (h4 : hk_ar a4 p) (hv : E v) (hw : E w)
    (H : ∀ r cv cw, iv_ch m b p r0 r cv (b v) → iv_ch m b p r0 r cw (b w) → (∀ d, d ∈ cv → d ∉ cw) → E r → b r = r → post (nI r)) :
    wpX_commonBase post (on, am, bA, bB, ev, wt, mk, sh, a1, a2, a3, a4, a5, a6) (nI v) (nI w) := by
  have h' := hI
  obtain ⟨i1, i2, i3, i4, i5, i6, i7, i8, i9⟩ := h'
  obtain ⟨cv, hcv⟩ := iv_chx hI _ (b v) rfl (i6 v hv).1 (i6 v hv).2
  obtain ⟨cw, hcw⟩ := iv_chx hI _ (b w) rfl (i6 w hw).1 (i6 w hw).2
  have lv := iv_chl9 hI hcv (i6 v hv).1 (i6 v hv).2
  have lw := iv_chl9 hI hcw (i6 w hw).1 (i6 w hw).2
  refine ⟨cv.length + 2, hk_cb1 hI h2 h3 h4 (i2 w hw) cv v 0 0 _ hcv hv bi_m_0 (by omega) (fun seen hs => ⟨cw.length + 1, ?_⟩)⟩
  refine hk_cb2 hI h2 h3 h4 hs (Or.inr (Or.inr rfl)) cw (b w) 0 hcw (i6 w hw).1 (i6 w hw).2 (by omega) (fun r c c1 c2 c3 c4 c5 => ?_)
  obtain ⟨cv', k1, k2⟩ := iv_chp (r := r) hcv (by
    rcases c3 with z | z
    · exact absurd z (fun z => z)
    · exact z)
  exact H r cv' c k1 c1 (fun d hd hd' => c2 d hd' (Or.inr (Or.inl (k2 d hd)))) c4 c5
end
section
theorem hk_ms {post : St1 → Prop} {on am bA bB ev wt mk : Int32} {a1 a2 a3 a5 a6 : Nat → Int32} {G : Nat → Nat → Prop} {m b : Nat → Nat} {r u : Nat} (hG : mt_G G) (hm : mt_M G m) (h2 : hk_ar a2 m) (h3 : hk_ba a3 b) (hr : r < 10) (hu : u < 10 ∧ b u = r) :
    ∀ (l : List Nat) (x f i : Nat) (sh : Int32) (P : Nat → Prop) (pc : Nat → Nat) (a4 : Nat → Int32), wy_w G m pc u l x → wy_s m l → (∀ y, y ∈ l → b y ≠ r) → hk_ar a4 pc → f < 10 → bi_m sh P → i + l.length ≤ 10 →
    (∀ sh' a4' p', hk_ar a4' p' → wy_f m p' l f → (∀ y, y ∉ l → p' y = pc y) → bi_m sh' (fun j => P j ∨ ∃ y, y ∈ l ∧ (j = b y ∨ j = b (m y))) → post (on, am, bA, bB, ev, wt, mk, sh', a1, a2, a3, a4', a5, a6)) →
    wX_markSide_9 post (nI r) on am bA bB ev wt mk (l.length + 1) (nI x) (nI f) (nI i) sh a1 a2 a3 a4 a5 a6 := by
  intro l
  induction l with
  | nil =>
    intro x f i sh P pc a4 hw hs hb h4 hf hS hi H
    have e : x = u := hw
    have x10 : x < 10 := by rw [e]; exact hu.1
    have H' := H sh a4 pc h4 trivial (fun _ _ => rfl) (bi_m_cg hS (fun j _ => ⟨Or.inl, fun z => by
      rcases z with z | ⟨y, z, _⟩
      · exact z
      · cases z⟩))
    refine br_c (fun _ => H') (fun _ => ⟨hk_vp x10, br_t ?_ H'⟩)
    rw [hk_cl x10, (h3 x x10).1, e, hu.2]
  | cons y0 t ih =>
    intro x f i sh P pc a4 hw hs hb h4 hf hS hi H
    simp only [List.length_cons] at hi
    obtain ⟨w1, w2, w3, w4⟩ := hw
    subst w1
    obtain ⟨g1, g2⟩ := hm y0 w2
    have x10 := hG.2.1 _ _ g1
    have q10 := mt_lt2 hG w3
    have bx := hb y0 List.mem_cons_self
    have nxm : m y0 ≠ y0 := fun e => mt_ne hG g1 e.symm
    refine pk_le 10 i (fun z => ?_) (fun z => ⟨hk_vp x10, ?_⟩)
    · omega
    · rw [hk_cl x10, (h3 y0 x10).1, h2 y0 x10, hk_t w2, hk_cl w2, (h3 _ w2).1]
      refine br_f (fun e => bx ((nI_eq (by have := (h3 y0 x10).2; omega) (by omega)).mp e)) ⟨hk_vp x10, hk_vp x10, hk_vp w2, nm_e ⟨hk_vp x10, nm_e ⟨hk_vp x10, nm_e ⟨hk_vp x10, hk_vp w2, nm_r (e' := nI (pc (m y0))) ?_ (nm_r (nI_1 i) ?_)⟩⟩⟩⟩
      · rw [pk_un nxm, h4 _ w2, hk_t q10]
      · refine ih _ _ (i + 1) _ _ (mt_u pc y0 f) _ (wy_cg w4 (fun y hy => mt_un (hs.1 y hy).2.2)) hs.2 (fun y hy => hb y (List.mem_cons_of_mem _ hy)) (hk_up h4 hf) w2 (bi_m_or hS (bi_m_or (bi_m_one (h3 y0 x10).2) (bi_m_one (h3 _ w2).2))) (by omega) (fun sh' a4' p' k1 k2 k3 k4 => ?_)
        have nt : y0 ∉ t := fun z => (hs.1 _ z).1 rfl
        refine H sh' a4' p' k1 ⟨by rw [k3 y0 nt, mt_us], k2⟩ (fun y hy => ?_) (bi_m_cg k4 (fun j _ => ?_))
        · rw [k3 y (fun z => hy (List.mem_cons_of_mem _ z)), mt_un (fun e => hy (by rw [e]; exact List.mem_cons_self))]
        · constructor
          · intro q
            rcases q with (q | q) | ⟨y, y1, y2⟩
            · exact Or.inl q
            · exact Or.inr ⟨y0, List.mem_cons_self, q⟩
            · exact Or.inr ⟨y, List.mem_cons_of_mem _ y1, y2⟩
          · intro q
            rcases q with q | ⟨y, y1, y2⟩
            · exact Or.inl (Or.inl q)
            · rcases List.mem_cons.mp y1 with e | e
              · rw [e] at y2; exact Or.inl (Or.inr y2)
              · exact Or.inr ⟨y, e, y2⟩
theorem hk_mark {post : St1 → Prop} {on am bA bB ev wt mk sh : Int32} {a1 a2 a3 a4 a5 a6 : Nat → Int32} {G : Nat → Nat → Prop} {m b pc : Nat → Nat} {r u v w : Nat} {l : List Nat} {P : Nat → Prop} (hG : mt_G G) (hm : mt_M G m) (h2 : hk_ar a2 m) (h3 : hk_ba a3 b) (hr : r < 10) (hu : u < 10 ∧ b u = r)
    (hw : wy_w G m pc u l v) (hs : wy_s m l) (hb : ∀ y, y ∈ l → y < 10 ∧ b y ≠ r) (h4 : hk_ar a4 pc) (hf : w < 10) (hS : bi_m sh P)
    (H : ∀ sh' a4' p', hk_ar a4' p' → wy_f m p' l w → (∀ y, y ∉ l → p' y = pc y) → bi_m sh' (fun j => P j ∨ ∃ y, y ∈ l ∧ (j = b y ∨ j = b (m y))) → post (on, am, bA, bB, ev, wt, mk, sh', a1, a2, a3, a4', a5, a6)) :
    wpX_markSide post (on, am, bA, bB, ev, wt, mk, sh, a1, a2, a3, a4, a5, a6) (nI v) (nI r) (nI w) :=
  ⟨l.length + 1, hk_ms hG hm h2 h3 hr hu l v w 0 sh P pc a4 hw hs (fun y hy => (hb y hy).2) h4 hf hS (by have := wy_s_len hs (fun y hy => (hb y hy).1); omega) H⟩
theorem hk_shl {post : St1 → Prop} {on am bA bB ev wt mk sh : Int32} {a1 a2 a3 a4 a5 a6 : Nat → Int32} {E Sh : Nat → Prop} {b : Nat → Nat} {r : Nat} (hS : bi_m sh Sh) (h3 : hk_ba a3 b) (hr : r < 10) (hev : bi_m ev E) (hq : hk_qu wt a5 E) (ham : ∀ x, x < 10 → Sh (b x) → bi_t am x = true)
    (H : ∀ ev' wt' a3' a5' b', hk_ba a3' b' → (∀ x, x < 10 → (Sh (b x) → b' x = r) ∧ (¬ Sh (b x) → b' x = b x)) → bi_m ev' (fun x => E x ∨ (x < 10 ∧ Sh (b x))) → hk_qu wt' a5' (fun x => E x ∨ (x < 10 ∧ Sh (b x))) → (∀ j, j < cn_c E 10 → a5' j = a5 j) → post (on, am, bA, bB, ev', wt', mk, sh, a1, a2, a3', a4, a5', a6)) :
    ∃ n, wX_shrink_29 post (nI r) n 0 on am bA bB ev wt mk sh a1 a2 a3 a4 a5 a6 := by
  refine pk_loop (σ := Int32 × Int32 × (Nat → Int32) × (Nat → Int32)) (fun n i s => wX_shrink_29 post (nI r) n (nI i) on am bA bB s.1 s.2.1 mk sh a1 a2 s.2.2.1 a4 s.2.2.2 a6)
    (fun i s => (∀ x, x < 10 → ((x < i ∧ Sh (b x)) → s.2.2.1 x = nI r) ∧ (¬ (x < i ∧ Sh (b x)) → s.2.2.1 x = nI (b x))) ∧ bi_m s.1 (fun x => E x ∨ (x < i ∧ Sh (b x))) ∧ hk_qu s.2.1 s.2.2.2 (fun x => E x ∨ (x < i ∧ Sh (b x))) ∧ ∀ j, j < cn_c E 10 → s.2.2.2 j = a5 j)
    10 0 (ev, wt, a3, a5) (by omega) ?_ ?_ ?_
  · have e : (fun x => E x ∨ (x < 0 ∧ Sh (b x))) = E := by
      funext x
      refine propext ⟨fun z => ?_, Or.inl⟩
      rcases z with z | z
      · exact z
      · have := z.1; omega
    refine ⟨fun x hx => ⟨fun z => by have := z.1; omega, fun _ => (h3 x hx).1⟩, ?_, ?_, fun _ _ => rfl⟩
    · rw [e]; exact hev
    · rw [e]; exact hq
  · intro n s ⟨s1, s2, s3, s4⟩
    refine pk_le 10 10 (fun _ => ?_) (fun z => absurd z (by omega))
    refine H _ _ _ _ (fun x => (s.2.2.1 x).toNatClampNeg) (fun x hx => ?_) (fun x hx => ⟨fun z => ?_, fun z => ?_⟩) s2 s3 s4
    · show s.2.2.1 x = nI (s.2.2.1 x).toNatClampNeg ∧ (s.2.2.1 x).toNatClampNeg < 10
      by_cases z : x < 10 ∧ Sh (b x)
      · rw [(s1 x hx).1 z, hk_cl hr]; exact ⟨rfl, hr⟩
      · rw [(s1 x hx).2 z, hk_cl (h3 x hx).2]; exact ⟨rfl, (h3 x hx).2⟩
    · show (s.2.2.1 x).toNatClampNeg = r
      rw [(s1 x hx).1 ⟨hx, z⟩, hk_cl hr]
    · show (s.2.2.1 x).toNatClampNeg = b x
      rw [(s1 x hx).2 (fun q => z q.2), hk_cl (h3 x hx).2]
  · intro n i s hi ⟨s1, s2, s3, s4⟩ hw
    have nS : ¬ Sh (b i) → (fun x => E x ∨ (x < i + 1 ∧ Sh (b x))) = (fun x => E x ∨ (x < i ∧ Sh (b x))) := fun z => by
      funext x
      refine propext ⟨fun q => ?_, fun q => ?_⟩
      · rcases q with q | q
        · exact Or.inl q
        · by_cases e : x = i
          · rw [e] at q; exact absurd q.2 z
          · exact Or.inr ⟨by omega, q.2⟩
      · rcases q with q | q
        · exact Or.inl q
        · exact Or.inr ⟨by omega, q.2⟩
    have skip : ¬ Sh (b i) → wX_shrink_29 post (nI r) n (nI (i + 1)) on am bA bB s.1 s.2.1 mk sh a1 a2 s.2.2.1 a4 s.2.2.2 a6 := fun z => by
      refine hw s ⟨fun x hx => ⟨fun q => ?_, fun q => ?_⟩, ?_, ?_, s4⟩
      · by_cases e : x = i
        · rw [e] at q; exact absurd q.2 z
        · exact (s1 x hx).1 ⟨by omega, q.2⟩
      · exact (s1 x hx).2 (fun q' => q ⟨by omega, q'.2⟩)
      · rw [nS z]; exact s2
      · rw [nS z]; exact s3
    refine pk_le 10 i (fun z => absurd z (by omega)) (fun _ => ?_)
    refine hk_inb (bi_m_self am) (by omega) (fun z => ⟨hk_vp hi, ?_⟩) (fun z => nm_r (nI_1 i) (skip (fun q => z (ham i hi q))))
    have ei : s.2.2.1 (nI i).toNatClampNeg = nI (b i) := by
      rw [hk_cl hi]; exact (s1 i hi).2 (fun q => by have := q.1; omega)
    rw [ei]
    refine hk_inb hS (by have := (h3 i hi).2; omega) (fun z2 => ⟨hk_vp hi, nm_e ?_⟩) (fun z2 => nm_r (nI_1 i) (skip z2))
    rw [hk_cl hi]
    refine hk_meet s2 s3 hi (fun ev' wt' a5' k1 k2 k3 => nm_r (nI_1 i) ?_)
    have eS : (fun x => (E x ∨ (x < i ∧ Sh (b x))) ∨ x = i) = (fun x => E x ∨ (x < i + 1 ∧ Sh (b x))) := by
      funext x
      refine propext ⟨fun q => ?_, fun q => ?_⟩
      · rcases q with (q | q) | q
        · exact Or.inl q
        · exact Or.inr ⟨by omega, q.2⟩
        · exact Or.inr ⟨by omega, by rw [q]; exact z2⟩
      · rcases q with q | q
        · exact Or.inl (Or.inl q)
        · by_cases e : x = i
          · exact Or.inr e
          · exact Or.inl (Or.inr ⟨by omega, q.2⟩)
    rw [eS] at k1 k2
    have hle : cn_c E 10 ≤ cn_c (fun x => E x ∨ (x < i ∧ Sh (b x))) 10 := cn_le (fun x _ q => Or.inl q)
    refine hw (ev', wt', upd s.2.2.1 i (nI r), a5') ⟨fun x hx => ?_, k1, k2, fun j hj => ?_⟩
    · show ((x < i + 1 ∧ Sh (b x)) → upd s.2.2.1 i (nI r) x = nI r) ∧ (¬ (x < i + 1 ∧ Sh (b x)) → upd s.2.2.1 i (nI r) x = nI (b x))
      by_cases e : x = i
      · rw [e, pk_us]
        exact ⟨fun _ => rfl, fun q => absurd ⟨by omega, z2⟩ q⟩
      · rw [pk_un e]
        exact ⟨fun q => (s1 x hx).1 ⟨by omega, q.2⟩, fun q => (s1 x hx).2 (fun q' => q ⟨by omega, q'.2⟩)⟩
    · show a5' j = a5 j
      rw [k3 j (by omega)]; exact s4 j hj
end
section
/-- the search's state against the picture -/
def se_R (G : Nat → Nat → Prop) (m : Nat → Nat) (r0 : Nat) (ev wt : Int32) (a3 a4 a5 : Nat → Int32) (E : Nat → Prop) (b p : Nat → Nat) : Prop := (∃ rk, iv_I G m r0 E b p rk) ∧ hk_ba a3 b ∧ hk_ar a4 p ∧ bi_m ev E ∧ hk_qu wt a5 E
/-- what a step keeps -/
def se_L (E : Nat → Prop) (b p : Nat → Nat) (a5 : Nat → Int32) (E' : Nat → Prop) (b' p' : Nat → Nat) (a5' : Nat → Int32) : Prop := (∀ x, E x → E' x) ∧ (∀ x, x < 10 → p x < 10 → p' x < 10) ∧ (∀ x y, x < 10 → y < 10 → b x = b y → b' x = b' y) ∧ ∀ j, j < cn_c E 10 → a5' j = a5 j
theorem se_Lr {E : Nat → Prop} {b p : Nat → Nat} {a5 : Nat → Int32} : se_L E b p a5 E b p a5 := ⟨fun _ h => h, fun _ _ h => h, fun _ _ _ _ h => h, fun _ _ => rfl⟩
theorem hk_shrink {post : St1 → Prop} {on am bA bB ev wt mk sh : Int32} {a1 a2 a3 a4 a5 a6 : Nat → Int32} {G : Nat → Nat → Prop} {m : Nat → Nat} {r0 : Nat} {E : Nat → Prop} {b p : Nat → Nat} {v w : Nat} (hG : mt_G G) (hm : mt_M G m) (hon : ∀ x y, G x y → bi_t am x = true) (hr0 : bi_t am r0 = true) (h2 : hk_ar a2 m)
    (hR : se_R G m r0 ev wt a3 a4 a5 E b p) (hv : E v) (hw : E w) (hg : G v w)
    (H : ∀ ev' wt' sh' a3' a4' a5' E' b' p', se_R G m r0 ev' wt' a3' a4' a5' E' b' p' → se_L E b p a5 E' b' p' a5' → b' v = b' w → post (on, am, bA, bB, ev', wt', mk, sh', a1, a2, a3', a4', a5', a6)) :
    wpX_shrink post (on, am, bA, bB, ev, wt, mk, sh, a1, a2, a3, a4, a5, a6) (nI v) (nI w) := by
  obtain ⟨⟨rk, hI⟩, h3, h4, hev, hq⟩ := hR
  have h' := hI
  obtain ⟨i1, i2, i3, i4, i5, i6, i7, i8, i9⟩ := h'
  refine hk_common hI h2 h3 h4 hv hw (fun r cv cw c1 c2 c3 er br => ?_)
  obtain ⟨lv, u, sv, sv2, _⟩ := iv_side hm hI c1 hv rfl
  obtain ⟨lw, u', sw, sw2, _⟩ := iv_side hm hI c2 hw rfl
  have dis : ∀ x, x ∈ lv → ∀ y, y ∈ lw → b x ≠ b y := fun x hx y hy e => c3 _ (sv2 x hx).1 (by rw [e]; exact (sw2 y hy).1)
  obtain ⟨s1, s2, s3, s4, s5⟩ := sv
  obtain ⟨t1, t2, t3, t4, t5⟩ := sw
  have nvw : ∀ x, x ∈ lv → x ∉ lw := fun x hx hx' => dis x hx x hx' rfl
  refine hk_mark hG hm h2 h3 (i2 r er) ⟨i2 u s3, s4⟩ s1 s2 (fun y hy => ⟨i2 y (s5 y hy).1, (s5 y hy).2.1⟩) h4 (i2 w hw) bi_m_0 (fun sh1 a41 p1 k1 k2 k3 k4 => ?_)
  have t1' : wy_w G m p1 u' lw w := wy_cg t1 (fun y hy => k3 _ (fun z => by
    have e := iv_both hI (t5 y hy).1 (s5 _ z).1
    exact dis _ z y hy e))
  refine hk_mark hG hm h2 h3 (i2 r er) ⟨i2 u' t3, t4⟩ t1' t2 (fun y hy => ⟨i2 y (t5 y hy).1, (t5 y hy).2.1⟩) k1 (i2 v hv) k4 (fun sh2 a42 p2 j1 j2 j3 j4 => ?_)
  have F : ∀ l f, wy_f m p1 l f → (∀ y, y ∈ l → y ∉ lw) → wy_f m p2 l f := by
    intro l
    induction l with
    | nil => intro f _ _; trivial
    | cons x t ih => intro f hf hl; exact ⟨by rw [j3 x (hl x List.mem_cons_self)]; exact hf.1, ih _ hf.2 (fun y hy => hl y (List.mem_cons_of_mem _ hy))⟩
  have HH : iv_H G m r0 E b p rk r v w lv lw u u' p2 := ⟨hI, ⟨hv, hw, hg⟩, ⟨s1, s2, s3, s4, s5⟩, ⟨t1, t2, t3, t4, t5⟩, dis, ⟨er, br⟩, F lv w k2 nvw, j2, fun x _ n1 n2 => by rw [j3 x n2, k3 x n1]⟩
  have hS : bi_m sh2 (iv_Sh m b lv lw) := bi_m_cg j4 (fun j _ => by
    constructor
    · intro z
      rcases z with (z | ⟨y, y1, y2⟩) | ⟨y, y1, y2⟩
      · exact absurd z (fun z => z)
      · exact ⟨y, Or.inl y1, y2⟩
      · exact ⟨y, Or.inr y1, y2⟩
    · intro z
      obtain ⟨y, y1 | y1, y2⟩ := z
      · exact Or.inl (Or.inr ⟨y, y1, y2⟩)
      · exact Or.inr ⟨y, y1, y2⟩)
  have hl : ∀ x, (x ∈ lv ∨ x ∈ lw) → E x ∧ m x < 10 := fun x hx => by
    rcases hx with e | e
    · exact ⟨(s5 x e).1, wy_lt s1 x e⟩
    · exact ⟨(t5 x e).1, wy_lt t1 x e⟩
  refine hk_shl hS h3 (i2 r er) hev hq (fun x hx hsx => ?_) (fun ev' wt' a3' a5' b' q1 q2 q3 q4 q5 => ?_)
  · by_cases ex : E x
    · by_cases e0 : x = r0
      · rw [e0]; exact hr0
      · exact hon _ _ (hm x (i3 x ex e0).1).1
    · obtain ⟨y, y1, y2⟩ := iv_Sh2 hI hl ex hx hsx
      rw [y2]
      exact hon _ _ (hG.1 _ _ (hm y (hl y y1).2).1)
  · obtain ⟨z1, z2, z3⟩ := iv_shr hG hm HH (E' := fun x => E x ∨ (x < 10 ∧ iv_Sh m b lv lw (b x))) (b' := b') (fun x => Iff.rfl) q2
    refine H ev' wt' sh2 a3' a42 a5' _ b' p2 ⟨⟨rk, z1⟩, q1, j1, q3, q4⟩ ⟨fun x hx => Or.inl hx, fun x hx hp => ?_, fun x y hx hy e => ?_, q5⟩ z2
    · by_cases e : x ∈ lw
      · exact wy_f_lt j2 (i2 v hv) (wy_lt t1) x e
      · rw [j3 x e]
        by_cases e' : x ∈ lv
        · exact wy_f_lt k2 (i2 w hw) (wy_lt s1) x e'
        · rw [k3 x e']; exact hp
    · by_cases q : iv_Sh m b lv lw (b x)
      · rw [(q2 x hx).1 q, (q2 y hy).1 (by rw [← e]; exact q)]
      · rw [(q2 x hx).2 q, (q2 y hy).2 (by rw [← e]; exact q), e]
/-- one edge: an end is found, or all is kept and the edge is seen -/
theorem hk_look {post : Int32 → St1 → Prop} {on am bA bB ev wt mk sh : Int32} {a1 a2 a3 a4 a5 a6 : Nat → Int32} {G : Nat → Nat → Prop} {m : Nat → Nat} {r0 : Nat} {E : Nat → Prop} {b p : Nat → Nat} {v w : Nat} (hG : mt_G G) (hm : mt_M G m) (hon : ∀ x y, G x y → bi_t am x = true) (hr0 : bi_t am r0 = true) (h2 : hk_ar a2 m)
    (hR : se_R G m r0 ev wt a3 a4 a5 E b p) (hv : E v) (hg : G v w)
    (H : ∀ ev' wt' sh' a3' a4' a5' E' b' p', se_R G m r0 ev' wt' a3' a4' a5' E' b' p' → se_L E b p a5 E' b' p' a5' → (E' w ∨ p' w < 10) → (E w → b' v = b' w) → post (-1) (on, am, bA, bB, ev', wt', mk, sh', a1, a2, a3', a4', a5', a6))
    (H1 : ∀ a4' p' l, hk_ar a4' p' → tr_J G m m p' r0 w w l → (∀ y, y ∈ l → y < 10 ∧ y ≠ r0) → post (nI w) (on, am, bA, bB, ev, wt, mk, sh, a1, a2, a3, a4', a5, a6)) :
    wpX_look post (on, am, bA, bB, ev, wt, mk, sh, a1, a2, a3, a4, a5, a6) (nI v) (nI w) (nI r0) := by
  have hR' := hR
  obtain ⟨⟨rk, hI⟩, h3, h4, hev, hq⟩ := hR'
  have h' := hI
  obtain ⟨i1, i2, i3, i4, i5, i6, i7, i8, i9⟩ := h'
  have v10 := i2 v hv
  have w10 := mt_lt2 hG hg
  have r10 := i1.2.2
  have h55 : E w → wX_look_55 post (nI v) (nI w) on am bA bB ev wt mk sh a1 a2 a3 a4 a5 a6 := fun ew =>
    br_f (by decide) (hk_shrink hG hm hon hr0 h2 hR hv ew hg (fun ev' wt' sh' a3' a4' a5' E' b' p' k1 k2 k3 => H ev' wt' sh' a3' a4' a5' E' b' p' k1 k2 (Or.inl (k2.1 w ew)) (fun _ => k3)))
  have h59 : ¬ E w → wX_look_59 post (nI v) (nI w) on am bA bB ev wt mk sh a1 a2 a3 a4 a5 a6 := fun nw => by
    refine br_t rfl ⟨hk_vp w10, ?_⟩
    rw [hk_cl w10, h4 w w10, h2 w w10]
    by_cases pw : p w < 10
    · exact br_f (fun z => by have := hk_neg.mp z; omega) (H ev wt sh a3 a4 a5 E b p hR se_Lr (Or.inr pw) (fun z => absurd z nw))
    · refine br_t (hk_neg.mpr (by omega)) ⟨hk_vp w10, nm_e ⟨hk_vp w10, ?_⟩⟩
      by_cases mw : m w < 10
      · refine br_t (hk_nn.mpr mw) ⟨hk_vp w10, ?_⟩
        rw [hk_t mw]
        refine hk_meet hev hq mw (fun ev' wt' a5' k1 k2 k3 => ?_)
        obtain ⟨rk', z1, z2⟩ := iv_gr hG hm hI (E' := fun x => E x ∨ x = m w) (p' := mt_u p w v) hv hg nw (by omega) mw (fun x => Iff.rfl) (fun x _ => rfl)
        refine H ev' wt' sh a3 _ a5' _ b (mt_u p w v) ⟨⟨rk', z1⟩, h3, hk_up h4 v10, k1, k2⟩ ⟨fun x hx => Or.inl hx, fun x hx hp => ?_, fun _ _ _ _ e => e, k3⟩ (Or.inr (by rw [mt_us]; exact v10)) (fun z => absurd z nw)
        by_cases e : x = w
        · rw [e, mt_us]; exact v10
        · rw [mt_un e]; exact hp
      · refine br_f (fun z => mw (hk_nn.mp z)) ?_
        obtain ⟨l, l1, l2, l3⟩ := iv_path hm hI hv
        have nwl : ∀ y, y ∈ l → m y ≠ w := fun y hy e => by
          have := (hm y (wy_lt l1 y hy)).2
          rw [e] at this
          have := i2 y (l3 y hy)
          omega
        refine H1 _ (mt_u p w v) l (hk_up h4 v10) (tr_0 hG hm (by omega) (by rw [mt_us]; exact hG.1 _ _ hg) ?_ l2 (fun e => nw (by rw [e]; exact i1.1)) i1.2.1) (fun y hy => ⟨i2 y (l3 y hy), fun e => ?_⟩)
        · rw [mt_us]
          exact wy_cg l1 (fun y hy => mt_un (nwl y hy))
        · have := wy_lt l1 y hy
          rw [e] at this
          omega
  have nEb : ¬ b v = b w → m v ≠ w → E w ∨ ¬ E w := fun _ _ => Classical.em _
  unfold wpX_look
  dsimp only
  rw [hk_cl v10, hk_cl w10, (h3 v v10).1, (h3 w w10).1, h2 v v10, h2 w w10]
  refine ⟨hk_vp v10, hk_vp w10, pk_eq (b v) (b w) (fun e => ?_) (fun e => ⟨hk_vp v10, ?_⟩) rfl rfl (by have := (h3 v v10).2; omega) (by have := (h3 w w10).2; omega)⟩
  · by_cases ew : E w
    · exact H ev wt sh a3 a4 a5 E b p hR se_Lr (Or.inl ew) (fun _ => e)
    · have := i5 w w10 ew
      rw [this] at e
      rw [← e] at ew
      exact absurd (i6 v hv).1 ew
  · refine br_c (fun e2 => ?_) (fun e2 => ?_)
    · have mv : m v = w := by
        rcases Nat.lt_or_ge (m v) 10 with g | g
        · rw [hk_t g] at e2; exact (nI_eq (by omega) (by omega)).mp e2
        · rw [hk_f g] at e2
          exact absurd e2 (fun z => by
            have : (0 : Int32) ≤ -1 := by rw [z]; exact nI_pos' (by omega)
            exact absurd this (by decide))
      have mv10 : m v < 10 := by omega
      refine H ev wt sh a3 a4 a5 E b p hR se_Lr ?_ (fun ew => ?_)
      · have nv0 : v ≠ r0 := fun e => by rw [e] at mv10; omega
        have := (i3 v hv nv0).2
        rw [mv] at this
        exact Or.inr this
      · rw [← mv] at ew ⊢
        exact (iv_both hI hv ew).symm
    · refine pk_eq w r0 (fun e3 => h55 (by rw [e3]; exact i1.1)) (fun e3 => ⟨hk_vp w10, ?_⟩) rfl rfl (by omega) (by omega)
      by_cases mw : m w < 10
      · refine br_f (fun z => by have := hk_neg.mp z; omega) ⟨hk_vp w10, ?_⟩
        rw [hk_t mw, hk_cl mw, h4 _ mw]
        refine ⟨hk_vp mw, br_c (fun e4 => h59 (fun ew => ?_)) (fun e4 => h55 ?_)⟩
        · have := (i3 w ew e3).2
          have := hk_neg.mp e4
          omega
        · have pm : p (m w) < 10 := by
            rcases Nat.lt_or_ge (p (m w)) 10 with g | g
            · exact g
            · exact absurd (hk_neg.mpr g) e4
          have := (i4 _ mw pm).2
          rw [(hm w mw).2] at this
          exact this
      · refine br_t (hk_neg.mpr (by omega)) (h59 (fun ew => ?_))
        have := (i3 w ew e3).1
        omega
end
section
/-- x is one of the first i waiting vertices -/
def se_S (a5 : Nat → Int32) (i x : Nat) : Prop := x < 10 ∧ ∃ j, j < i ∧ a5 j = nI x
theorem se_Sc {a5 a5' : Nat → Int32} {i x : Nat} (h : ∀ j, j < i → a5' j = a5 j) : se_S a5' i x ↔ se_S a5 i x :=
  ⟨fun ⟨h1, j, h2, h3⟩ => ⟨h1, j, h2, by rw [← h j h2]; exact h3⟩, fun ⟨h1, j, h2, h3⟩ => ⟨h1, j, h2, by rw [h j h2]; exact h3⟩⟩
/-- the edges looked along so far: those of the first i waiting vertices, of v the first w -/
def se_T (G : Nat → Nat → Prop) (E : Nat → Prop) (b p : Nat → Nat) (S : Nat → Nat → Prop) : Prop := ∀ x y, S x y → G x y → (E y ∨ p y < 10) ∧ (S y x → b x = b y)
def se_P (a5 : Nat → Int32) (i v w : Nat) (x y : Nat) : Prop := se_S a5 i x ∨ (x = v ∧ y < w)
theorem se_E {wt : Int32} {a5 : Nat → Int32} {E : Nat → Prop} {i x : Nat} (hE : ∀ x, E x → x < 10) (hq : hk_qu wt a5 E) (hi : i ≤ cn_c E 10) (h : se_S a5 i x) : E x := by
  obtain ⟨h1, j, h2, h3⟩ := h
  obtain ⟨y, y1, y2⟩ := hq.2.1 j (by omega)
  rw [h3] at y1
  rw [(nI_eq (by omega) (by have := hE y y2; omega)).mp y1]
  exact y2
theorem hk_inner {post : Int32 → St1 → Prop} {J : Int32 → Int32 → Int32 → Int32 → Int32 → Int32 → Int32 → Int32 → Int32 → (Nat → Int32) → (Nat → Int32) → (Nat → Int32) → (Nat → Int32) → (Nat → Int32) → (Nat → Int32) → Prop} {on am bA bB ev wt mk sh : Int32} {a1 a2 a3 a4 a5 a6 : Nat → Int32} {m : Nat → Nat} {r0 : Nat} {E : Nat → Prop} {b p : Nat → Nat} {i v : Nat} (hok : gb_ok a1) (hm : mt_M (gb_G a1 am bA bB) m) (hr0 : bi_t am r0 = true) (h2 : hk_ar a2 m)
    (hR : se_R (gb_G a1 am bA bB) m r0 ev wt a3 a4 a5 E b p) (hi : i < cn_c E 10) (hvi : a5 i = nI v) (hv : E v) (hT : se_T (gb_G a1 am bA bB) E b p (fun x _ => se_S a5 i x))
    (HJ : ∀ ev' wt' sh' a3' a4' a5' E' b' p', se_R (gb_G a1 am bA bB) m r0 ev' wt' a3' a4' a5' E' b' p' → i + 1 ≤ cn_c E' 10 → se_T (gb_G a1 am bA bB) E' b' p' (fun x _ => se_S a5' (i + 1) x) → J (nI (i + 1)) on am bA bB ev' wt' mk sh' a1 a2 a3' a4' a5' a6)
    (H1 : ∀ ev' wt' sh' a3' a4' a5' w p' l, hk_ar a4' p' → tr_J (gb_G a1 am bA bB) m m p' r0 w w l → (∀ y, y ∈ l → y < 10 ∧ y ≠ r0) → w < 10 → post (nI w) (on, am, bA, bB, ev', wt', mk, sh', a1, a2, a3', a4', a5', a6)) :
    ∃ n, wX_search_63 post J (nI r0) (nI i) (nI v) n 0 on am bA bB ev wt mk sh a1 a2 a3 a4 a5 a6 := by
  have hG : mt_G (gb_G a1 am bA bB) := gb_mt hok
  have hon : ∀ x y, gb_G a1 am bA bB x y → bi_t am x = true := fun x y g => g.2.2.1.1
  refine pk_loop (σ := Int32 × Int32 × Int32 × (Nat → Int32) × (Nat → Int32) × (Nat → Int32)) (fun n w s => wX_search_63 post J (nI r0) (nI i) (nI v) n (nI w) on am bA bB s.1 s.2.1 mk s.2.2.1 a1 a2 s.2.2.2.1 s.2.2.2.2.1 s.2.2.2.2.2 a6)
    (fun w s => ∃ E b p, se_R (gb_G a1 am bA bB) m r0 s.1 s.2.1 s.2.2.2.1 s.2.2.2.2.1 s.2.2.2.2.2 E b p ∧ i < cn_c E 10 ∧ s.2.2.2.2.2 i = nI v ∧ E v ∧ se_T (gb_G a1 am bA bB) E b p (se_P s.2.2.2.2.2 i v w))
    10 0 (ev, wt, sh, a3, a4, a5) (by omega) ?_ ?_ ?_
  · refine ⟨E, b, p, hR, hi, hvi, hv, fun x y hs hg => ?_⟩
    have nz : ∀ x y, se_P a5 i v 0 x y → se_S a5 i x := fun x y h => by
      rcases h with h | h
      · exact h
      · have := h.2; omega
    have := hT x y (nz x y hs) hg
    exact ⟨this.1, fun z => this.2 (nz y x z)⟩
  · intro n s ⟨E, b, p, hR, hi, hvi, hv, hT⟩
    refine pk_le 10 10 (fun _ => nm_r (nI_1 i) ?_) (fun z => absurd z (by omega))
    have h' := hR.1
    obtain ⟨rk, hI⟩ := h'
    have v10 := hI.2.1 v hv
    have up : ∀ x y, y < 10 → se_S s.2.2.2.2.2 (i + 1) x → se_P s.2.2.2.2.2 i v 10 x y := fun x y hy ⟨x10, j, h2, h3⟩ => by
      by_cases e : j = i
      · rw [e, hvi] at h3
        exact Or.inr ⟨((nI_eq (by omega) (by omega)).mp h3).symm, hy⟩
      · exact Or.inl ⟨x10, j, by omega, h3⟩
    refine HJ _ _ _ _ _ _ E b p hR (by omega) (fun x y hs hg => ?_)
    have := hT x y (up x y (mt_lt2 hG hg) hs) hg
    exact ⟨this.1, fun z => this.2 (up y x (hG.2.1 _ _ hg) z)⟩
  · intro n w s hw10 ⟨E, b, p, hR, hi, hvi, hv, hT⟩ hw
    have h' := hR
    obtain ⟨⟨rk, hI⟩, h3, h4, hev, hq⟩ := h'
    have h' := hI
    obtain ⟨i1, i2, i3, i4, i5, i6, i7, i8, i9⟩ := h'
    have v10 := i2 v hv
    have amv : bi_t am v = true := by
      by_cases e : v = r0
      · rw [e]; exact hr0
      · exact hon _ _ (hm v (i3 v hv e).1).1
    have sp : ∀ (a5' : Nat → Int32) x y, se_P a5' i v (w + 1) x y → se_P a5' i v w x y ∨ (x = v ∧ y = w) := fun a5' x y h => by
      rcases h with h | ⟨h1, h2⟩
      · exact Or.inl (Or.inl h)
      · by_cases e : y = w
        · exact Or.inr ⟨h1, e⟩
        · exact Or.inl (Or.inr ⟨h1, by omega⟩)
    refine pk_le 10 w (fun z => absurd z (by omega)) (fun _ => ?_)
    refine hk_us v10 hw10 amv (fun g => ⟨fun z => absurd z (by decide), fun _ => ?_⟩) (fun g => ⟨fun _ => ?_, fun z => absurd rfl z⟩)
    · refine hk_look hG hm hon hr0 h2 hR hv g (fun ev' wt' sh' a3' a4' a5' E' b' p' k1 k2 k3 k4 => ?_) (fun a4' p' l k1 k2 k3 => ?_)
      · refine br_t (by decide) (nm_r (nI_1 w) (hw (ev', wt', sh', a3', a4', a5') ⟨E', b', p', k1, ?_, ?_, k2.1 v hv, fun x y hs hg => ?_⟩))
        · have := cn_le (n := 10) (fun i _ (z : E i) => k2.1 i z)
          omega
        · show a5' i = nI v
          rw [k2.2.2.2 i hi]; exact hvi
        · have eS : ∀ x y, se_P a5' i v w x y → se_P s.2.2.2.2.2 i v w x y := fun x y h => by
            rcases h with h | h
            · exact Or.inl ((se_Sc (fun j hj => k2.2.2.2 j (by omega))).mp h)
            · exact Or.inr h
          have pE : ∀ x y, se_P s.2.2.2.2.2 i v w x y → E x := fun x y h => by
            rcases h with h | h
            · exact se_E i2 hq (by omega) h
            · rw [h.1]; exact hv
          have x10 := hG.2.1 _ _ hg
          have y10 := mt_lt2 hG hg
          rcases sp a5' x y hs with q | ⟨q1, q2⟩
          · obtain ⟨t1, t2⟩ := hT x y (eS x y q) hg
            refine ⟨?_, fun z => ?_⟩
            · rcases t1 with t1 | t1
              · exact Or.inl (k2.1 y t1)
              · exact Or.inr (k2.2.1 y y10 t1)
            · rcases sp a5' y x z with z | ⟨z1, z2⟩
              · exact k2.2.2.1 x y x10 y10 (t2 (eS y x z))
              · have := pE x y (eS x y q)
                rw [z1, z2]
                rw [z2] at this
                exact (k4 this).symm
          · rw [q1, q2]
            refine ⟨k3, fun z => ?_⟩
            rcases sp a5' w v z with z | ⟨z1, z2⟩
            · exact k4 (pE w v (eS w v z))
            · rw [z1]
      · exact br_f (nI_pos (by omega)) (H1 _ _ _ _ _ _ w p' l k1 k2 k3 hw10)
    · refine br_t (by decide) (nm_r (nI_1 w) (hw s ⟨E, b, p, hR, hi, hvi, hv, fun x y hs hg => ?_⟩))
      rcases sp _ x y hs with q | ⟨q1, q2⟩
      · obtain ⟨t1, t2⟩ := hT x y q hg
        refine ⟨t1, fun z => ?_⟩
        rcases sp _ y x z with z | ⟨z1, z2⟩
        · exact t2 z
        · rw [z1, z2] at hg
          exact absurd (hG.1 _ _ hg) g
      · rw [q1, q2] at hg
        exact absurd hg g
theorem hk_outer {post : Int32 → St1 → Prop} {on am bA bB mk : Int32} {a1 a2 a6 : Nat → Int32} {m : Nat → Nat} {r0 : Nat} (hok : gb_ok a1) (hm : mt_M (gb_G a1 am bA bB) m) (hr0 : bi_t am r0 = true) (h2 : hk_ar a2 m)
    (H0 : ∀ ev' wt' sh' a3' a4' a5' E, bi_m ev' E → sr_F (gb_G a1 am bA bB) m r0 E → post (-1) (on, am, bA, bB, ev', wt', mk, sh', a1, a2, a3', a4', a5', a6))
    (H1 : ∀ ev' wt' sh' a3' a4' a5' w p' l, hk_ar a4' p' → tr_J (gb_G a1 am bA bB) m m p' r0 w w l → (∀ y, y ∈ l → y < 10 ∧ y ≠ r0) → w < 10 → post (nI w) (on, am, bA, bB, ev', wt', mk, sh', a1, a2, a3', a4', a5', a6))
    (ev wt sh : Int32) (a3 a4 a5 : Nat → Int32) (E : Nat → Prop) (b p : Nat → Nat) (hR : se_R (gb_G a1 am bA bB) m r0 ev wt a3 a4 a5 E b p) : ∃ n, wX_search_45 post (nI r0) n 0 on am bA bB ev wt mk sh a1 a2 a3 a4 a5 a6 := by
  have hG : mt_G (gb_G a1 am bA bB) := gb_mt hok
  refine loop_m (σ := Nat × Int32 × Int32 × Int32 × (Nat → Int32) × (Nat → Int32) × (Nat → Int32)) (fun n s => wX_search_45 post (nI r0) n (nI s.1) on am bA bB s.2.1 s.2.2.1 mk s.2.2.2.1 a1 a2 s.2.2.2.2.1 s.2.2.2.2.2.1 s.2.2.2.2.2.2 a6)
    (fun s => ∃ E b p, se_R (gb_G a1 am bA bB) m r0 s.2.1 s.2.2.1 s.2.2.2.2.1 s.2.2.2.2.2.1 s.2.2.2.2.2.2 E b p ∧ s.1 ≤ cn_c E 10 ∧ se_T (gb_G a1 am bA bB) E b p (fun x _ => se_S s.2.2.2.2.2.2 s.1 x)) (fun s => 11 - s.1) ?_ (0, ev, wt, sh, a3, a4, a5) ⟨E, b, p, hR, Nat.zero_le _, fun x y hs => by obtain ⟨_, j, h, _⟩ := hs; omega⟩
  intro n s ⟨E, b, p, hR, hi, hT⟩ hw
  have h' := hR
  obtain ⟨⟨rk, hI⟩, h3, h4, hev, hq⟩ := h'
  have c10 := cn_bd E 10
  refine pk_le (cn_c E 10) s.1 (fun z => ?_) (fun z => ?_) hq.1 rfl (by omega) (by omega)
  · refine H0 _ _ _ _ _ _ E hev (iv_fail hG hm hI (fun x y hx hg => ?_))
    have sE : ∀ x, E x → se_S s.2.2.2.2.2.2 s.1 x := fun x hx => by
      obtain ⟨j, j1, j2⟩ := hq.2.2 x hx
      exact ⟨hI.2.1 x hx, j, by omega, j2⟩
    have := hT x y (sE x hx) hg
    exact ⟨this.1, fun hy => this.2 (sE y hy)⟩
  · obtain ⟨v, v1, v2⟩ := hq.2.1 s.1 z
    refine ⟨vp_in_nI (by omega) (by decide), nm_r (e' := nI v) (by rw [nI_clamp (by omega)]; exact v1) ?_⟩
    refine hk_inner hok hm hr0 h2 hR z v1 v2 hT (fun ev' wt' sh' a3' a4' a5' E' b' p' k1 k2 k3 => ?_) (fun ev' wt' sh' a3' a4' a5' w p' l k1 k2 k3 k4 => H1 ev' wt' sh' a3' a4' a5' w p' l k1 k2 k3 k4)
    exact hw (s.1 + 1, ev', wt', sh', a3', a4', a5') ⟨E', b', p', k1, k2, k3⟩ (by show 11 - (s.1 + 1) < 11 - s.1; omega)
/-- search from r0 -/
theorem hk_search {post : Int32 → St1 → Prop} {on am bA bB ev wt mk sh : Int32} {a1 a2 a3 a4 a5 a6 : Nat → Int32} {m : Nat → Nat} {r0 : Nat} (hok : gb_ok a1) (hm : mt_M (gb_G a1 am bA bB) m) (h10 : r0 < 10) (hr0 : bi_t am r0 = true) (h0 : 10 ≤ m r0) (h2 : hk_ar a2 m)
    (H0 : ∀ ev' wt' sh' a3' a4' a5' E, bi_m ev' E → sr_F (gb_G a1 am bA bB) m r0 E → post (-1) (on, am, bA, bB, ev', wt', mk, sh', a1, a2, a3', a4', a5', a6))
    (H1 : ∀ ev' wt' sh' a3' a4' a5' w p' l, hk_ar a4' p' → tr_J (gb_G a1 am bA bB) m m p' r0 w w l → (∀ y, y ∈ l → y < 10 ∧ y ≠ r0) → w < 10 → post (nI w) (on, am, bA, bB, ev', wt', mk, sh', a1, a2, a3', a4', a5', a6)) :
    wpX_search post (on, am, bA, bB, ev, wt, mk, sh, a1, a2, a3, a4, a5, a6) (nI r0) := by
  refine pk_loop (σ := (Nat → Int32) × (Nat → Int32)) (fun n i s => wX_search_2 post (nI r0) on am bA bB ev wt mk sh n (nI i) a1 a2 s.1 s.2 a5 a6) (fun i s => (∀ x, x < i → s.1 x = nI x) ∧ ∀ x, x < i → s.2 x = -1) 10 0 (a3, a4) (by omega) ⟨fun x h => absurd h (by omega), fun x h => absurd h (by omega)⟩ ?_ ?_
  · intro n s ⟨s1, s2⟩
    refine pk_le 10 10 (fun _ => ?_) (fun z => absurd z (by omega))
    have z0 : cn_c (fun _ => False) 10 = 0 := cn_0 (fun _ _ h => h)
    refine hk_meet bi_m_0 ⟨by rw [z0]; rfl, fun j hj => by omega, fun x hx => absurd hx (fun z => z)⟩ h10 (fun ev' wt' a5' k1 k2 k3 => ?_)
    refine hk_outer hok hm hr0 h2 H0 H1 ev' wt' sh s.1 s.2 a5' _ (fun x => x) (fun _ => 10) ⟨⟨fun _ => 0, iv_0 h0 h10 (fun x => ⟨fun z => ?_, Or.inr⟩) (fun x _ => rfl) (fun x _ => Nat.le_refl _)⟩, fun x hx => ⟨s1 x hx, hx⟩, fun x hx => ?_, k1, k2⟩
    · rcases z with z | z
      · exact absurd z (fun z => z)
      · exact z
    · rw [s2 x hx]; exact (hk_f (Nat.le_refl _)).symm
  · intro n i s hi ⟨s1, s2⟩ hw
    refine pk_le 10 i (fun z => absurd z (by omega)) (fun _ => ⟨hk_vp hi, nm_e ⟨hk_vp hi, nm_e (nm_r (nI_1 i) ?_)⟩⟩)
    rw [hk_cl hi]
    refine hw (upd s.1 i (nI i), upd s.2 i (-1)) ⟨fun x hx => ?_, fun x hx => ?_⟩
    · show upd s.1 i (nI i) x = nI x
      by_cases e : x = i
      · rw [e, pk_us]
      · rw [pk_un e]; exact s1 x (by omega)
    · show upd s.2 i (-1) x = -1
      by_cases e : x = i
      · rw [e, pk_us]
      · rw [pk_un e]; exact s2 x (by omega)
end
section
theorem hk_tr {post : St1 → Prop} {on am bA bB ev wt mk sh : Int32} {a1 a3 a4 a5 a6 : Nat → Int32} {G : Nat → Nat → Prop} {m p : Nat → Nat} {r0 en : Nat} (hG : mt_G G) (hm : mt_M G m) (h4 : hk_ar a4 p)
    (H : ∀ a2' mm', hk_ar a2' mm' → mt_M G mm' → (∀ x, 10 ≤ mm' x ↔ (10 ≤ m x ∧ x ≠ en ∧ x ≠ r0)) → post (on, am, bA, bB, ev, wt, mk, sh, a1, a2', a3, a4, a5, a6)) :
    ∀ (l : List Nat) (w i : Nat) (mm : Nat → Nat) (a2 : Nat → Int32), tr_J G m mm p r0 en w l → hk_ar a2 mm → i + l.length ≤ 9 → wX_turnRound_4 post on am bA bB ev wt mk sh (l.length + 2) (nI w) (nI i) a1 a2 a3 a4 a5 a6 := by
  intro l
  induction l with
  | nil =>
    intro w i mm a2 hJ h2 hi
    have h9 := hJ.2.2.2.2.2.2.2
    obtain ⟨e1, e2, e3, e4, e5, e6⟩ := tr_e hG hJ
    have H' := H _ _ (hk_up (hk_up h2 e4 (k := r0)) e3 (k := w)) e5 e6
    simp only [List.length_nil] at hi
    refine pk_le 10 i (fun z => absurd z (by omega)) (fun _ => br_f (nI_pos (by omega)) ⟨hk_vp e4, ?_⟩)
    rw [hk_cl e4]
    refine nm_r (e' := nI r0) (by rw [h4 w e4, e1, hk_t e3]) ⟨hk_vp e3, ?_⟩
    rw [hk_cl e3]
    refine nm_r (e' := -1) (by rw [h2 r0 e3, e2, hk_f h9]) ⟨hk_vp e3, nm_e ⟨hk_vp e4, nm_e (nm_r (nI_1 i) ?_)⟩⟩
    exact br_c (fun _ => H') (fun _ => br_t (by decide) H')
  | cons v t ih =>
    intro w i mm a2 hJ h2 hi
    obtain ⟨e1, e2, e3, e4, e5, e6⟩ := tr_s hG hm hJ
    simp only [List.length_cons] at hi
    refine pk_le 10 i (fun z => absurd z (by omega)) (fun _ => br_f (nI_pos (by omega)) ⟨hk_vp e5, ?_⟩)
    rw [hk_cl e5]
    refine nm_r (e' := nI v) (by rw [h4 w e5, e1, hk_t e4]) ⟨hk_vp e4, ?_⟩
    rw [hk_cl e4]
    refine nm_r (e' := nI (m v)) (by rw [h2 v e4, e2, hk_t e3]) ⟨hk_vp e4, nm_e ⟨hk_vp e5, nm_e (nm_r (nI_1 i) ?_)⟩⟩
    exact ih (m v) (i + 1) _ _ e6 (hk_up (hk_up h2 e5) e4) (by omega)
theorem tr_en {G : Nat → Nat → Prop} {m p : Nat → Nat} {r0 w : Nat} {l : List Nat} (hm : mt_M G m) (hG : mt_G G) (h : tr_J G m m p r0 w w l) : 10 ≤ m w := by
  rcases Nat.lt_or_ge (m w) 10 with g | g
  · obtain ⟨g1, g2⟩ := hm w g
    have n := mt_ne hG g1
    have w10 := hG.2.1 _ _ g1
    have := (h.1 (m w) (by rw [mt_un (fun e => n e.symm), g2]; exact w10)).2
    rw [mt_un (fun e => n e.symm), g2, mt_us] at this
    omega
  · exact g
theorem hk_turn {post : St1 → Prop} {on am bA bB ev wt mk sh : Int32} {a1 a2 a3 a4 a5 a6 : Nat → Int32} {G : Nat → Nat → Prop} {m p : Nat → Nat} {r0 w : Nat} {l : List Nat} (hG : mt_G G) (hm : mt_M G m) (h2 : hk_ar a2 m) (h4 : hk_ar a4 p) (hJ : tr_J G m m p r0 w w l) (hl : ∀ y, y ∈ l → y < 10 ∧ y ≠ r0) (h10 : r0 < 10)
    (H : ∀ a2' mm', hk_ar a2' mm' → mt_M G mm' → (∀ x, 10 ≤ mm' x ↔ (10 ≤ m x ∧ x ≠ w ∧ x ≠ r0)) → post (on, am, bA, bB, ev, wt, mk, sh, a1, a2', a3, a4, a5, a6)) :
    wpX_turnRound post (on, am, bA, bB, ev, wt, mk, sh, a1, a2, a3, a4, a5, a6) (nI w) := by
  refine ⟨l.length + 2, hk_tr hG hm h4 H l w 0 m a2 hJ h2 ?_⟩
  have c1 := cn_len (n := 10) (wy_s_nd hJ.2.2.2.1) (fun y hy => (hl y hy).1)
  have c2 := cn_lt (p := fun i => i ∈ l) h10 (fun z => (hl r0 z).2 rfl)
  omega
/-- u is missed for good -/
def ma_C (G : Nat → Nat → Prop) (m : Nat → Nat) (u : Nat) : Prop := ∃ E : Nat → Prop, (∀ x, E x → 10 ≤ m x → x = u) ∧ ∀ N, mt_M G N → (∀ x, E x → 10 ≤ N x → x = u) → 10 ≤ N u
def ma_I (G : Nat → Nat → Prop) (s : Int32) (v : Nat) (r : Int32) (a2 : Nat → Int32) : Prop := ∃ m n, r = nI n ∧ hk_ar a2 m ∧ mt_M G m ∧ cn_c (fun x => m x < 10) 10 = 2 * n ∧ ∀ u, u < v → bi_t s u = true → 10 ≤ m u → ma_C G m u
theorem ma_max {G : Nat → Nat → Prop} {s : Int32} {m : Nat → Nat} (hG : mt_G G) (hon : ∀ x y, G x y → bi_t s x = true) (hm : mt_M G m) (h : ∀ u, u < 10 → bi_t s u = true → 10 ≤ m u → ma_C G m u) : gd_mx G m := by
  refine ⟨hm, fun N hN => mt_max hG hm (fun a M' b a1 a2 a3 a4 a5 a6 a7 => ?_) _ N hN rfl⟩
  have na : ¬ 10 ≤ M' a := fun z => ((a7 a).mp z).2.1 rfl
  by_cases e : bi_t s a = true
  · obtain ⟨E, e1, e2⟩ := h a a1 e a2
    exact na (e2 M' a3 (fun x hx h10 => e1 x hx ((a7 x).mp h10).1))
  · exact e (hon _ _ (a3 a (by omega)).1)
theorem hk_match {post : Int32 → St1 → Prop} {on am bA bB ev wt mk sh s : Int32} {a1 a2 a3 a4 a5 a6 : Nat → Int32} (hok : gb_ok a1)
    (H : ∀ n m ev' wt' sh' a2' a3' a4' a5', gd_mx (gb_G a1 s bA bB) m → cn_c (fun x => m x < 10) 10 = 2 * n → hk_ar a2' m → post (nI n) (on, s, bA, bB, ev', wt', mk, sh', a1, a2', a3', a4', a5', a6)) :
    wpX_matchAmong post (on, am, bA, bB, ev, wt, mk, sh, a1, a2, a3, a4, a5, a6) s := by
  have hG : mt_G (gb_G a1 s bA bB) := gb_mt hok
  have hon : ∀ x y, gb_G a1 s bA bB x y → bi_t s x = true := fun x y g => g.2.2.1.1
  refine pk_loop (σ := Nat → Int32) (fun n i a2 => wX_matchAmong_7 post s on s bA bB ev wt mk sh n (nI i) a1 a2 a3 a4 a5 a6) (fun i a2 => ∀ x, x < i → a2 x = -1) 10 0 a2 (by omega) (fun x h => absurd h (by omega)) ?_ ?_
  · intro n a2 h2
    refine pk_le 10 10 (fun _ => ?_) (fun z => absurd z (by omega))
    refine pk_loop (σ := Int32 × Int32 × Int32 × Int32 × (Nat → Int32) × (Nat → Int32) × (Nat → Int32) × (Nat → Int32)) (fun n v q => wX_matchAmong_30 post s n q.1 (nI v) on s bA bB q.2.1 q.2.2.1 mk q.2.2.2.1 a1 q.2.2.2.2.1 q.2.2.2.2.2.1 q.2.2.2.2.2.2.1 q.2.2.2.2.2.2.2 a6)
      (fun v q => ma_I (gb_G a1 s bA bB) s v q.1 q.2.2.2.2.1) 10 0 (0, ev, wt, sh, a2, a3, a4, a5) (by omega) ?_ ?_ ?_
    · refine ⟨fun _ => 10, 0, rfl, fun x hx => ?_, fun x hx => absurd hx (by show ¬ 10 < 10; omega), cn_0 (fun i _ => by show ¬ 10 < 10; omega), fun u hu => absurd hu (by omega)⟩
      show a2 x = hk_en 10
      rw [h2 x hx, hk_f (Nat.le_refl _)]
    · intro n q ⟨m, k, q1, q2, q3, q4, q5⟩
      refine pk_le 10 10 (fun _ => ?_) (fun z => absurd z (by omega))
      rw [q1]
      exact H k m _ _ _ _ _ _ _ (ma_max hG hon q3 q5) q4 q2
    · intro n v q hv ⟨m, k, q1, q2, q3, q4, q5⟩ hw
      refine pk_le 10 v (fun z => absurd z (by omega)) (fun _ => ?_)
      refine hk_inb (bi_m_self s) (by omega) (fun z => ⟨hk_vp hv, ?_⟩) (fun z => nm_r (nI_1 v) (hw q ⟨m, k, q1, q2, q3, q4, fun u hu hs h10 => ?_⟩))
      · rw [hk_cl hv, q2 v hv]
        refine br_c (fun z2 => nm_r (nI_1 v) (hw q ⟨m, k, q1, q2, q3, q4, fun u hu hs h10 => ?_⟩)) (fun z2 => ?_)
        · by_cases e : u = v
          · rw [e] at h10
            have := hk_nn.mp z2
            omega
          · exact q5 u (by omega) hs h10
        · have mv : 10 ≤ m v := by
            rcases Nat.lt_or_ge (m v) 10 with g | g
            · exact absurd (hk_nn.mpr g) z2
            · exact g
          refine hk_search hok q3 hv z mv q2 (fun ev' wt' sh' a3' a4' a5' E k1 k2 => ?_) (fun ev' wt' sh' a3' a4' a5' w p' l k1 k2 k3 k4 => ?_)
          · refine br_t (by decide) (nm_r (nI_1 v) (hw (q.1, ev', wt', sh', q.2.2.2.2.1, a3', a4', a5') ⟨m, k, q1, q2, q3, q4, fun u hu hs h10 => ?_⟩))
            by_cases e : u = v
            · obtain ⟨O, b, d1, _, _⟩ := k2
              rw [e]
              exact ⟨E, fun x hx hx10 => ct_one d1 hx hx10, fun N hN hx => (ct_K hG q3 d1 hN hx).1⟩
            · exact q5 u (by omega) hs h10
          · refine br_f (nI_pos (by omega)) (hk_turn hG q3 q2 k1 k2 k3 hv (fun a2' mm' j1 j2 j3 => nm_e (nm_r (nI_1 v) ?_)))
            have mw := tr_en q3 hG k2
            have nwv : w ≠ v := k2.2.2.2.2.2.1.2
            refine hw (q.1 + 1, ev', wt', sh', a2', a3', a4', a5') ⟨mm', k + 1, ?_, j1, j2, ?_, fun u hu hs h10 => ?_⟩
            · show q.1 + 1 = nI (k + 1)
              rw [q1, nI_1]
            · have c1 := cn_rm (p := fun x => 10 ≤ m x) k4 mw
              have c2 := cn_rm (p := fun i => 10 ≤ m i ∧ i ≠ w) hv ⟨mv, fun e => nwv e.symm⟩
              have c3 : cn_c (fun x => 10 ≤ mm' x) 10 = cn_c (fun i => (10 ≤ m i ∧ i ≠ w) ∧ i ≠ v) 10 := cn_cg (fun i _ => by
                rw [j3 i]
                exact ⟨fun z => ⟨⟨z.1, z.2.1⟩, z.2.2⟩, fun z => ⟨z.1.1, z.1.2, z.2⟩⟩)
              have c4 := nu_sz m
              have c5 := nu_sz mm'
              omega
            · have hu2 := (j3 u).mp h10
              have hu3 : u ≠ v := hu2.2.2
              obtain ⟨E, e1, e2⟩ := q5 u (by omega) hs hu2.1
              exact ⟨E, fun x hx hx10 => e1 x hx ((j3 x).mp hx10).1, e2⟩
      · by_cases e : u = v
        · rw [e] at hs; exact absurd hs z
        · exact q5 u (by omega) hs h10
  · intro n i a2 hi h2 hw
    refine pk_le 10 i (fun z => absurd z (by omega)) (fun _ => ⟨hk_vp hi, nm_e (nm_r (nI_1 i) ?_)⟩)
    rw [hk_cl hi]
    refine hw (upd a2 i (-1)) (fun x hx => ?_)
    by_cases e : x = i
    · rw [e, pk_us]
    · rw [pk_un e]; exact h2 x (by omega)
theorem hk_size {post : Int32 → St1 → Prop} {on am bA bB ev wt mk sh s : Int32} {a1 a2 a3 a4 a5 a6 : Nat → Int32} (hok : gb_ok a1)
    (H : ∀ n m ev' wt' sh' a2' a3' a4' a5', gd_mx (gb_G a1 s (-1) (-1)) m → cn_c (fun x => m x < 10) 10 = 2 * n → hk_ar a2' m → post (nI n) (on, s, -1, -1, ev', wt', mk, sh', a1, a2', a3', a4', a5', a6)) :
    wpX_sizeAmong post (on, am, bA, bB, ev, wt, mk, sh, a1, a2, a3, a4, a5, a6) s := hk_match (am := am) hok H
end
section
theorem tr_x {G : Nat → Nat → Prop} {m p : Nat → Nat} {r0 en : Nat} (hG : mt_G G) (hm : mt_M G m) : ∀ (l : List Nat) (w : Nat) (mm : Nat → Nat), tr_J G m mm p r0 en w l → ∃ M, mt_M G M ∧ ∀ x, 10 ≤ M x ↔ (10 ≤ m x ∧ x ≠ en ∧ x ≠ r0)
  | [], w, mm, h => ⟨_, (tr_e hG h).2.2.2.2.1, (tr_e hG h).2.2.2.2.2⟩
  | v :: t, w, mm, h => tr_x hG hm t _ _ (tr_s hG hm h).2.2.2.2.2
/-- a greatest matching: a search finds nothing -/
theorem tr_no {G : Nat → Nat → Prop} {m p : Nat → Nat} {r0 w : Nat} {l : List Nat} (hG : mt_G G) (hm : gd_mx G m) (h10 : r0 < 10) (h0 : 10 ≤ m r0) (h : tr_J G m m p r0 w w l) : False := by
  obtain ⟨M, M1, M2⟩ := tr_x hG hm.1 l w m h
  have c1 := hm.2 M M1
  have c2 := cn_rm (p := fun x => 10 ≤ m x) h10 h0
  have c3 : cn_c (fun x => 10 ≤ M x) 10 ≤ cn_c (fun i => 10 ≤ m i ∧ i ≠ r0) 10 := cn_le (fun i _ z => ⟨((M2 i).mp z).1, ((M2 i).mp z).2.2⟩)
  omega
theorem hk_ne1 {x : Nat} (h : x < 10) : nI x ≠ -1 := fun e => by
  have : (0 : Int32) ≤ -1 := by rw [← e]; exact nI_pos' (by omega)
  exact absurd this (by decide)
/-- the graph on a set, no edge barred -/
def gb_0 (a1 : Nat → Int32) (s : Int32) : Nat → Nat → Prop := gb_G a1 s (-1) (-1)
def gb_on (s : Int32) (x : Nat) : Prop := bi_t s x = true
theorem gb_0i {a1 : Nat → Int32} {s : Int32} {x y : Nat} : gb_0 a1 s x y ↔ (x < 10 ∧ y < 10) ∧ bi_t (a1 x) y = true ∧ gb_on s x ∧ gb_on s y :=
  ⟨fun g => ⟨g.1, g.2.1, g.2.2.1⟩, fun g => ⟨g.1, g.2.1, g.2.2, fun z => hk_ne1 g.1.1 z.1, fun z => hk_ne1 g.1.1 z.1⟩⟩
/-- the missed vertices of the graph: those that some greatest matching misses -/
def gb_D (a1 : Nat → Int32) (s : Int32) : Nat → Prop := gd_DD (gb_0 a1 s) (gb_on s)
theorem gb_D1 {a1 : Nat → Int32} {s : Int32} {x : Nat} (h : gb_D a1 s x) : x < 10 ∧ gb_on s x := ⟨h.1, h.2.1⟩
theorem gb_k {a1 : Nat → Int32} {s : Int32} {m : Nat → Nat} {n : Nat} (hm : gd_mx (gb_0 a1 s) m) (hn : cn_c (fun x => m x < 10) 10 = 2 * n) : cn_c (fun x => gb_on s x ∧ 10 ≤ m x) 10 + 2 * n = cn_c (gb_on s) 10 := by
  rw [cn_sp (gb_on s) (fun x => m x < 10) 10]
  have e1 : cn_c (fun i => gb_on s i ∧ m i < 10) 10 = cn_c (fun x => m x < 10) 10 := cn_cg (fun i _ => ⟨fun z => z.2, fun z => ⟨(hm.1 i z).1.2.2.1.1, z⟩⟩)
  have e2 : cn_c (fun i => gb_on s i ∧ ¬ m i < 10) 10 = cn_c (fun x => gb_on s x ∧ 10 ≤ m x) 10 := cn_cg (fun i _ => ⟨fun z => ⟨z.1, by have := z.2; omega⟩, fun z => ⟨z.1, by have := z.2; omega⟩⟩)
  omega
theorem hk_free {post : Int32 → St1 → Prop} {on am bA bB ev wt mk sh : Int32} {a1 a2 a3 a4 a5 a6 : Nat → Int32} (hok : gb_ok a1)
    (H : ∀ fr k n am' bA' bB' ev' wt' sh' a2' a3' a4' a5', bi_m fr (gb_D a1 on) → gd_T (gb_0 a1 on) (gb_on on) k → nu_is (gb_0 a1 on) n → k + 2 * n = cn_c (gb_on on) 10 → post fr (on, am', bA', bB', ev', wt', mk, sh', a1, a2', a3', a4', a5', a6)) :
    wpX_freeVertices post (on, am, bA, bB, ev, wt, mk, sh, a1, a2, a3, a4, a5, a6) := by
  have hG : mt_G (gb_0 a1 on) := gb_mt hok
  have hon : ∀ x y, gb_0 a1 on x y → gb_on on x := fun x y g => g.2.2.1.1
  unfold wpX_freeVertices
  refine hk_size hok (fun n m ev wt sh a2 a3 a4 a5 hm hn h2 => ?_)
  refine pk_loop (σ := Int32 × Int32 × Int32 × Int32 × (Nat → Int32) × (Nat → Int32) × (Nat → Int32)) (fun n v q => wX_freeVertices_13 post n q.1 (nI v) on on (-1) (-1) q.2.1 q.2.2.1 mk q.2.2.2.1 a1 a2 q.2.2.2.2.1 q.2.2.2.2.2.1 q.2.2.2.2.2.2 a6)
    (fun v q => ∃ Ef : Nat → Nat → Prop, (∀ u, u < v → gb_on on u → 10 ≤ m u → sr_F (gb_0 a1 on) m u (Ef u)) ∧ bi_m q.1 (fun x => ∃ u, u < v ∧ gb_on on u ∧ 10 ≤ m u ∧ Ef u x)) 10 0 (0, ev, wt, sh, a3, a4, a5) (by omega) ?_ ?_ ?_
  · refine ⟨fun _ _ => False, fun u hu => absurd hu (by omega), bi_m_cg bi_m_0 (fun i _ => ⟨fun z => absurd z (fun z => z), fun ⟨u, hu, _⟩ => by omega⟩)⟩
  · intro _ q ⟨Ef, q1, q2⟩
    refine pk_le 10 10 (fun _ => ?_) (fun z => absurd z (by omega))
    refine H q.1 _ n _ _ _ _ _ _ _ _ _ _ (bi_m_cg q2 (fun i _ => gd_Dx hG hon hm q1 i)) (gd_Tx hG hon hm q1) ⟨m, hm, hn⟩ (gb_k hm hn)
  · intro _ v q hv ⟨Ef, q1, q2⟩ hw
    have skip : ¬ (gb_on on v ∧ 10 ≤ m v) → wX_freeVertices_13 post _ q.1 (nI (v + 1)) on on (-1) (-1) q.2.1 q.2.2.1 mk q.2.2.2.1 a1 a2 q.2.2.2.2.1 q.2.2.2.2.2.1 q.2.2.2.2.2.2 a6 := fun z => by
      refine hw q ⟨Ef, fun u hu h1 h3 => ?_, bi_m_cg q2 (fun i _ => ⟨fun ⟨u, u1, u2⟩ => ⟨u, by omega, u2⟩, fun ⟨u, u1, u2⟩ => ⟨u, ?_, u2⟩⟩)⟩
      · by_cases e : u = v
        · rw [e] at h1 h3; exact absurd ⟨h1, h3⟩ z
        · exact q1 u (by omega) h1 h3
      · by_cases e : u = v
        · rw [e] at u2; exact absurd ⟨u2.1, u2.2.1⟩ z
        · omega
    refine pk_le 10 v (fun z => absurd z (by omega)) (fun _ => ?_)
    refine hk_inb (bi_m_self on) (by omega) (fun z => ⟨hk_vp hv, ?_⟩) (fun z => nm_r (nI_1 v) (skip (fun y => z y.1)))
    rw [hk_cl hv, h2 v hv]
    refine br_c (fun z2 => nm_r (nI_1 v) (skip (fun y => by have := hk_nn.mp z2; omega))) (fun z2 => ?_)
    have mv : 10 ≤ m v := by
      rcases Nat.lt_or_ge (m v) 10 with g | g
      · exact absurd (hk_nn.mpr g) z2
      · exact g
    refine hk_search hok hm.1 hv z mv h2 (fun ev' wt' sh' a3' a4' a5' E k1 k2 => ?_) (fun ev' wt' sh' a3' a4' a5' w p' l k1 k2 k3 k4 => absurd (tr_no hG hm hv mv k2) (fun z => z))
    refine nm_e (nm_r (nI_1 v) (hw (q.1 ||| ev', ev', wt', sh', a3', a4', a5') ⟨fun u x => (u = v ∧ E x) ∨ (u ≠ v ∧ Ef u x), fun u hu h1 h3 => ?_, bi_m_cg (bi_m_or q2 k1) (fun i _ => ?_)⟩))
    · show sr_F (gb_0 a1 on) m u (fun x => (u = v ∧ E x) ∨ (u ≠ v ∧ Ef u x))
      by_cases e : u = v
      · have : (fun x => (u = v ∧ E x) ∨ (u ≠ v ∧ Ef u x)) = E := by
          funext x
          exact propext ⟨fun y => by
            rcases y with y | y
            · exact y.2
            · exact absurd e y.1, fun y => Or.inl ⟨e, y⟩⟩
        rw [this, e]; exact k2
      · have : (fun x => (u = v ∧ E x) ∨ (u ≠ v ∧ Ef u x)) = Ef u := by
          funext x
          exact propext ⟨fun y => by
            rcases y with y | y
            · exact absurd y.1 e
            · exact y.2, fun y => Or.inr ⟨e, y⟩⟩
        rw [this]; exact q1 u (by omega) h1 h3
    · constructor
      · intro y
        rcases y with ⟨u, u1, u2, u3, u4⟩ | y
        · exact ⟨u, by omega, u2, u3, Or.inr ⟨by omega, u4⟩⟩
        · exact ⟨v, by omega, z, mv, Or.inl ⟨rfl, y⟩⟩
      · intro ⟨u, u1, u2, u3, u4⟩
        rcases u4 with u4 | u4
        · exact Or.inr u4.2
        · exact Or.inl ⟨u, by have := u4.1; omega, u2, u3, u4.2⟩
theorem hk_border {post : Int32 → Prop} {on am bA bB ev wt mk sh fr : Int32} {a1 a2 a3 a4 a5 a6 : Nat → Int32} (hok : gb_ok a1) (hf : bi_m fr (gb_D a1 on))
    (H : ∀ bd, bi_m bd (gd_A (gb_0 a1 on) (gb_D a1 on)) → post bd) :
    wpX_borderVertices post (on, am, bA, bB, ev, wt, mk, sh, a1, a2, a3, a4, a5, a6) fr := by
  refine pk_loop (fun n v q => wX_borderVertices_4 post fr on am bA bB ev wt mk sh a1 a2 a3 a4 a5 a6 n q (nI v)) (fun v q => bi_m q (fun x => ∃ u, u < v ∧ gb_D a1 on u ∧ bi_t (a1 u) x = true)) 10 0 0 (by omega) ?_ ?_ ?_
  · exact bi_m_cg bi_m_0 (fun i _ => ⟨fun z => absurd z (fun z => z), fun ⟨u, hu, _⟩ => by omega⟩)
  · intro n q hq
    refine pk_le 10 10 (fun _ => H _ (bi_m_cg (bi_m_and (bi_m_and hq (bi_m_self on)) (bi_m_not hf)) (fun i hi => ?_))) (fun z => absurd z (by omega))
    constructor
    · intro ⟨⟨⟨u, u1, u2, u3⟩, h2⟩, h3⟩
      exact ⟨h3, u, u2, gb_0i.mpr ⟨⟨u1, (hok u u1 i hi u3).1⟩, u3, (gb_D1 u2).2, h2⟩⟩
    · intro ⟨h1, u, u1, u2⟩
      obtain ⟨g1, g2, g3, g4⟩ := gb_0i.mp u2
      exact ⟨⟨⟨u, g1.1, u1, g2⟩, g4⟩, h1⟩
  · intro n v q hv hq hw
    refine pk_le 10 v (fun z => absurd z (by omega)) (fun _ => ?_)
    refine hk_inb hf (by omega) (fun z => ⟨hk_vp hv, nm_e (nm_r (nI_1 v) ?_)⟩) (fun z => nm_r (nI_1 v) (hw q (bi_m_cg hq (fun i _ => ⟨fun ⟨u, u1, u2⟩ => ⟨u, by omega, u2⟩, fun ⟨u, u1, u2⟩ => ⟨u, ?_, u2⟩⟩))))
    · rw [hk_cl hv]
      refine hw _ (bi_m_cg (bi_m_or hq (bi_m_self (a1 v))) (fun i _ => ⟨fun y => ?_, fun y => ?_⟩))
      · rcases y with ⟨u, u1, u2⟩ | y
        · exact ⟨u, by omega, u2⟩
        · exact ⟨v, by omega, z, y⟩
      · obtain ⟨u, u1, u2, u3⟩ := y
        by_cases e : u = v
        · rw [e] at u3; exact Or.inr u3
        · exact Or.inl ⟨u, by omega, u2, u3⟩
    · by_cases e : u = v
      · rw [e] at u2; exact absurd u2.1 z
      · omega
theorem hk_bitstep {s : Int32} {P : Nat → Prop} (h : bi_m s P) {i : Nat} (hi : i < 10) : nI (cn_c P i) + ((s >>> (nI i &&& 31)) &&& 1) = nI (cn_c P (i + 1)) := by
  rw [bi_val s (by omega)]
  by_cases e : P i
  · rw [if_pos ((h i (by omega)).mpr e), cn_t e, nI_1]
  · rw [if_neg (fun z => e ((h i (by omega)).mp z)), cn_f e]
    show nI (cn_c P i) + nI 0 = _
    rw [nI_add, Nat.add_zero]
theorem hk_bits {post : Int32 → Prop} {s : Int32} {P : Nat → Prop} (h : bi_m s P) (H : post (nI (cn_c P 10))) : wpX_bits post () s :=
  pk_loop (σ := Unit) (fun n i _ => wX_bits_4 post s n (nI (cn_c P i)) (nI i)) (fun _ _ => True) 10 0 () (by omega) trivial
    (fun n _ _ => pk_le 10 10 (fun _ => H) (fun z => absurd z (by omega)))
    (fun n i _ hi _ hw => pk_le 10 i (fun z => absurd z (by omega)) (fun _ => nm_r (hk_bitstep h hi) (nm_r (nI_1 i) (hw () trivial))))
theorem hk_bitsL {post : Int32 → Prop} {s : Int32} {P : Nat → Prop} (h : bi_m s P) (H : post (nI (cn_c P 10))) : wpL_bits post () s :=
  pk_loop (σ := Unit) (fun n i _ => wL_bits_4 post s n (nI (cn_c P i)) (nI i)) (fun _ _ => True) 10 0 () (by omega) trivial
    (fun n _ _ => pk_le 10 10 (fun _ => H) (fun z => absurd z (by omega)))
    (fun n i _ hi _ hw => pk_le 10 i (fun z => absurd z (by omega)) (fun _ => nm_r (hk_bitstep h hi) (nm_r (nI_1 i) (hw () trivial))))
end
section
theorem hk_groupOf {post : Int32 → Prop} {on am bA bB ev wt mk sh fr : Int32} {a1 a2 a3 a4 a5 a6 : Nat → Int32} {v : Nat} (hok : gb_ok a1) (hf : bi_m fr (gb_D a1 on)) (hv : gb_D a1 on v)
    (H : ∀ g S, bi_m g S → S v → (∀ a c, S a → gb_0 a1 on a c → gb_D a1 on c → S c) → (∀ P : Nat → Prop, P v → (∀ a c, P a → gb_0 a1 on a c → gb_D a1 on c → P c) → ∀ y, S y → P y) → post g) :
    wpX_groupOf post (on, am, bA, bB, ev, wt, mk, sh, a1, a2, a3, a4, a5, a6) (nI v) fr := by
  have v10 := hv.1
  refine nm_e ?_
  refine pk_loop (σ := Int32 × Int32) (fun n i s => wX_groupOf_10 post fr on am bA bB ev wt mk sh a1 a2 a3 a4 a5 a6 n s.1 s.2 (nI i))
    (fun i s => ∃ S B : Nat → Prop, bi_m s.1 S ∧ bi_m s.2 B ∧ S v ∧ (∀ x, S x → gb_D a1 on x) ∧ (∀ x, B x → S x) ∧ (∀ a c, B a → gb_0 a1 on a c → gb_D a1 on c → S c) ∧ (∀ P : Nat → Prop, P v → (∀ a c, P a → gb_0 a1 on a c → gb_D a1 on c → P c) → ∀ y, S y → P y) ∧ i ≤ cn_c B 10)
    10 0 ((1 : Int32) <<< (nI v &&& 31), 0) (by omega) ?_ ?_ ?_
  · refine ⟨fun x => x = v, fun _ => False, bi_m_one v10, bi_m_0, rfl, fun x hx => by rw [hx]; exact hv, fun x hx => absurd hx (fun z => z), fun a c ha => absurd ha (fun z => z), fun P hP _ y hy => by rw [hy]; exact hP, Nat.zero_le _⟩
  · intro n s ⟨S, B, s1, s2, s3, s4, s5, s6, s7, s8⟩
    refine pk_le 10 10 (fun _ => H s.1 S s1 s3 (fun a c ha hg hc => ?_) s7) (fun z => absurd z (by omega))
    apply Classical.byContradiction
    intro z
    have := cn_lt (p := B) hc.1 (fun q => z (s5 c q))
    omega
  · intro n i s hi ⟨S, B, s1, s2, s3, s4, s5, s6, s7, s8⟩ hw
    refine pk_le 10 i (fun z => absurd z (by omega)) (fun _ => br_c (fun e => H s.1 S s1 s3 (fun a c ha hg hc => s6 a c ?_ hg hc) s7) (fun e => ?_))
    · have a10 := (s4 a ha).1
      rw [e] at s1
      exact (s2 a (by omega)).mp ((s1 a (by omega)).mpr ha)
    · have ex : ∃ x, S x ∧ ¬ B x := by
        apply Classical.byContradiction
        intro z
        refine e (bi_m_ext s1 (bi_m_cg s2 (fun i _ => ⟨s5 i, fun q => ?_⟩)))
        exact Classical.byContradiction (fun y => z ⟨i, q, y⟩)
      obtain ⟨x, x1, x2⟩ := ex
      have cS : i + 1 ≤ cn_c S 10 := by
        rw [cn_rm (s4 x x1).1 x1]
        have := cn_le (n := 10) (p := B) (q := fun i => S i ∧ i ≠ x) (fun j _ hj => ⟨s5 j hj, fun q => x2 (q ▸ hj)⟩)
        omega
      refine pk_loop (σ := Int32) (fun n u q => wX_groupOf_29 post _ fr s.1 (nI i) on am bA bB ev wt mk sh a1 a2 a3 a4 a5 a6 n q (nI u)) (fun u q => bi_m q (fun c => S c ∨ ∃ a, a < u ∧ S a ∧ bi_t (a1 a) c = true ∧ gb_D a1 on c)) 10 0 s.1 (by omega) ?_ ?_ ?_
      · exact bi_m_cg s1 (fun j _ => ⟨Or.inl, fun z => by
          rcases z with z | ⟨a, a1, _⟩
          · exact z
          · omega⟩)
      · intro n' q hq
        refine pk_le 10 10 (fun _ => nm_r (nI_1 i) (hw (q, s.1) ⟨_, S, hq, s1, Or.inl s3, fun x hx => ?_, fun x hx => Or.inl hx, fun a c ha hg hc => ?_, fun P hP hcl y hy => ?_, cS⟩)) (fun z => absurd z (by omega))
        · rcases hx with z | ⟨a, _, _, _, z⟩
          · exact s4 x z
          · exact z
        · obtain ⟨g1, g2, g3, g4⟩ := gb_0i.mp hg
          exact Or.inr ⟨a, g1.1, ha, g2, hc⟩
        · rcases hy with z | ⟨a, z1, z2, z3, z4⟩
          · exact s7 P hP hcl y z
          · exact hcl a y (s7 P hP hcl a z2) (gb_0i.mpr ⟨⟨z1, z4.1⟩, z3, (gb_D1 (s4 a z2)).2, (gb_D1 z4).2⟩) z4
      · intro n' u q hu hq hw2
        refine pk_le 10 u (fun z => absurd z (by omega)) (fun _ => ?_)
        refine hk_inb s1 (by omega) (fun z => ⟨hk_vp hu, nm_e (nm_r (nI_1 u) (hw2 _ ?_))⟩) (fun z => nm_r (nI_1 u) (hw2 q (bi_m_cg hq (fun j _ => ⟨fun y => ?_, fun y => ?_⟩))))
        · rw [hk_cl hu]
          refine bi_m_cg (bi_m_or hq (bi_m_and (bi_m_self (a1 u)) hf)) (fun j _ => ⟨fun y => ?_, fun y => ?_⟩)
          · rcases y with (y | ⟨a, y1, y2⟩) | ⟨y1, y2⟩
            · exact Or.inl y
            · exact Or.inr ⟨a, by omega, y2⟩
            · exact Or.inr ⟨u, by omega, z, y1, y2⟩
          · rcases y with y | ⟨a, y1, y2, y3, y4⟩
            · exact Or.inl (Or.inl y)
            · by_cases e : a = u
              · rw [e] at y3; exact Or.inr ⟨y3, y4⟩
              · exact Or.inl (Or.inr ⟨a, by omega, y2, y3, y4⟩)
        · rcases y with y | ⟨a, y1, y2⟩
          · exact Or.inl y
          · exact Or.inr ⟨a, by omega, y2⟩
        · rcases y with y | ⟨a, y1, y2⟩
          · exact Or.inl y
          · by_cases e : a = u
            · rw [e] at y2; exact absurd y2.1 z
            · exact Or.inr ⟨a, by omega, y2⟩
theorem hk_groups {post : Int32 → St1 → Prop} {on am bA bB ev wt mk sh : Int32} {a1 a2 a3 a4 a5 a6 : Nat → Int32} (hok : gb_ok a1)
    (H : ∀ k n am' bA' bB' ev' wt' mk' sh' a2' a3' a4' a5' a6', nu_is (gb_0 a1 on) n → k + 2 * n = cn_c (gb_on on) 10 → post (nI (k + cn_c (gd_A (gb_0 a1 on) (gb_D a1 on)) 10)) (on, am', bA', bB', ev', wt', mk', sh', a1, a2', a3', a4', a5', a6')) :
    wpX_groups post (on, am, bA, bB, ev, wt, mk, sh, a1, a2, a3, a4, a5, a6) := by
  unfold wpX_groups
  refine hk_free hok (fun fr k n am' bA' bB' ev' wt' sh' a2' a3' a4' a5' hf hT hn hk => ?_)
  have hG : mt_G (gb_0 a1 on) := gb_mt hok
  obtain ⟨R, r1, r2, r3⟩ := hT
  refine pk_loop (σ := Int32 × Int32) (fun n i s => wX_groups_12 post fr on am' bA' bB' ev' wt' mk sh' a1 a2' a3' a4' a5' a6 n s.1 s.2 (nI i))
    (fun i s => ∃ Lf : Nat → Prop, bi_m s.1 Lf ∧ (∀ x, Lf x → gb_D a1 on x) ∧ (∀ a c, Lf a → gb_0 a1 on a c → gb_D a1 on c → Lf c) ∧ (∀ u, u < i → ¬ Lf u) ∧ s.2 = nI (cn_c (fun c => R c ∧ ¬ Lf c) 10))
    10 0 (fr, 0) (by omega) ?_ ?_ ?_
  · refine ⟨_, hf, fun x hx => hx, fun a c _ _ hc => hc, fun u hu => absurd hu (by omega), ?_⟩
    rw [cn_0 (p := fun c => R c ∧ ¬ gb_D a1 on c) (fun i _ z => z.2 (r2 i z.1))]
    rfl
  · intro _ s ⟨Lf, s1, s2, s3, s4, s5⟩
    refine pk_le 10 10 (fun _ => ?_) (fun z => absurd z (by omega))
    rw [s5, cn_cg (p := fun c => R c ∧ ¬ Lf c) (q := R) (fun i hi => ⟨fun z => z.1, fun z => ⟨z, s4 i hi⟩⟩), r1]
    exact H k n _ _ _ _ _ _ _ _ _ _ _ _ hn hk
  · intro _ i s hi ⟨Lf, s1, s2, s3, s4, s5⟩ hw
    refine pk_le 10 i (fun z => absurd z (by omega)) (fun _ => ?_)
    refine hk_inb s1 (by omega) (fun z => ?_) (fun z => nm_r (nI_1 i) (hw s ⟨Lf, s1, s2, s3, fun u hu => ?_, s5⟩))
    · refine hk_groupOf hok hf (s2 i z) (fun g S g1 g2 g3 g4 => nm_e (nm_e (nm_r (nI_1 i) ?_)))
      obtain ⟨c, c1, c2, c3⟩ := r3 i S (s2 i z) g2 g3 g4
      have sub : ∀ y, S y → Lf y := g4 Lf z s3
      refine hw (s.1 &&& (g ^^^ (-1)), s.2 + 1) ⟨fun x => Lf x ∧ ¬ S x, bi_m_and s1 (bi_m_not g1), fun x hx => s2 x hx.1, fun a d ha hg hd => ⟨s3 a d ha.1 hg hd, fun q => ha.2 (g3 d a q (hG.1 _ _ hg) (s2 a ha.1))⟩, fun u hu => ?_, ?_⟩
      · intro q
        by_cases e : u = i
        · rw [e] at q; exact q.2 g2
        · exact s4 u (by omega) q.1
      · show s.2 + 1 = _
        rw [s5, nI_1]
        congr 1
        have e1 := cn_add (p := fun c => R c ∧ ¬ Lf c) (r2 c c1).1 (fun q => q.2 (sub c c2))
        rw [← e1]
        refine cn_cg (fun j _ => ⟨fun q => ?_, fun q => ?_⟩)
        · rcases q with q | q
          · exact ⟨q.1, fun y => q.2 y.1⟩
          · rw [q]; exact ⟨c1, fun y => y.2 c2⟩
        · by_cases e : Lf j
          · have : S j := Classical.byContradiction (fun y => q.2 ⟨e, y⟩)
            exact Or.inr (c3 j q.1 this)
          · exact Or.inl ⟨q.1, e⟩
    · by_cases e : u = i
      · rw [e]; exact z
      · exact s4 u (by omega)
theorem hk_mem {post : Int32 → St1 → Prop} {on am bA bB ev wt mk sh q : Int32} {a1 a2 a3 a4 a5 a6 : Nat → Int32} (hok : gb_ok a1) (h1 : ¬ q < 1) (h3 : q ≤ 3)
    (H : ∀ fr bd r am' bA' bB' ev' wt' mk' sh' a2' a3' a4' a5' a6', bi_m fr (gb_D a1 on) → bi_m bd (gd_A (gb_0 a1 on) (gb_D a1 on)) → (q = 1 → r = fr) → (q = 2 → r = bd) → (¬ q = 1 → ¬ q = 2 → r = (on &&& (fr ^^^ (-1))) &&& (bd ^^^ (-1))) → post r (on, am', bA', bB', ev', wt', mk', sh', a1, a2', a3', a4', a5', a6')) :
    wpX_members post (on, am, bA, bB, ev, wt, mk, sh, a1, a2, a3, a4, a5, a6) q := by
  refine br_f h1 (br_t h3 ?_)
  refine hk_free hok (fun fr k n am' bA' bB' ev' wt' sh' a2' a3' a4' a5' hf hT hn hk => ?_)
  refine hk_border hok hf (fun bd hb => ?_)
  refine br_c (fun e => ?_) (fun e => br_c (fun e2 => ?_) (fun e2 => ?_))
  · exact H fr bd fr _ _ _ _ _ _ _ _ _ _ _ _ hf hb (fun _ => rfl) (fun e2 => absurd (e.symm.trans e2) (by decide)) (fun e2 => absurd e e2)
  · exact H fr bd bd _ _ _ _ _ _ _ _ _ _ _ _ hf hb (fun e3 => absurd e3 e) (fun _ => rfl) (fun _ e3 => absurd e2 e3)
  · exact H fr bd _ _ _ _ _ _ _ _ _ _ _ _ _ hf hb (fun e3 => absurd e3 e) (fun e3 => absurd e3 e2) (fun _ _ => rfl)
theorem hk_missed {post : Int32 → St1 → Prop} {on am bA bB ev wt mk sh : Int32} {a1 a2 a3 a4 a5 a6 : Nat → Int32} (hok : gb_ok a1)
    (H : ∀ n am' bA' bB' ev' wt' mk' sh' a2' a3' a4' a5' a6', nu_is (gb_0 a1 on) n → post (nI (cn_c (gb_on on) 10) - 2 * nI n) (on, am', bA', bB', ev', wt', mk', sh', a1, a2', a3', a4', a5', a6')) :
    wpX_missed post (on, am, bA, bB, ev, wt, mk, sh, a1, a2, a3, a4, a5, a6) := by
  unfold wpX_missed
  refine hk_size hok (fun n m ev wt sh a2 a3 a4 a5 hm hn h2 => ?_)
  exact hk_bits (bi_m_self on) (H n _ _ _ _ _ _ _ _ _ _ _ _ ⟨m, hm, hn⟩)
theorem hk_sz {post : Int32 → St1 → Prop} {on am bA bB ev wt mk sh : Int32} {a1 a2 a3 a4 a5 a6 : Nat → Int32} (hok : gb_ok a1)
    (H : ∀ n am' bA' bB' ev' wt' mk' sh' a2' a3' a4' a5' a6', nu_is (gb_0 a1 on) n → post (nI n) (on, am', bA', bB', ev', wt', mk', sh', a1, a2', a3', a4', a5', a6')) :
    wpX_size post (on, am, bA, bB, ev, wt, mk, sh, a1, a2, a3, a4, a5, a6) := by
  unfold wpX_size
  exact hk_size hok (fun n m ev wt sh a2 a3 a4 a5 hm hn h2 => H n _ _ _ _ _ _ _ _ _ _ _ _ ⟨m, hm, hn⟩)
end
section
/-- the greatest number, as a function of edges and set -/
noncomputable def ff_nu (a1 : Nat → Int32) (s : Int32) : Nat := Classical.epsilon (nu_is (gb_0 a1 s))
theorem ff_nu_eq {a1 : Nat → Int32} {s : Int32} {n : Nat} (h : nu_is (gb_0 a1 s) n) : n = ff_nu a1 s := nu_un h (Classical.epsilon_spec ⟨n, h⟩)
def ff_C (a1 : Nat → Int32) (v : Nat) (left need : Int32) (w : Nat) : Prop := bi_t left w = true ∧ bi_t (a1 v) w = true ∧ nI (ff_nu a1 ((left &&& (((1 : Int32) <<< (nI v &&& 31)) ^^^ (-1))) &&& (((1 : Int32) <<< (nI w &&& 31)) ^^^ (-1)))) = need - 1
def ff_W (a1 : Nat → Int32) (v : Nat) (left need r : Int32) : Prop := (∃ w, v < w ∧ w < 10 ∧ r = nI w ∧ ff_C a1 v left need w ∧ ∀ w', v < w' → w' < w → ¬ ff_C a1 v left need w') ∨ (r = -1 ∧ ∀ w', v < w' → w' < 10 → ¬ ff_C a1 v left need w')
theorem ff_ex (a1 : Nat → Int32) (v : Nat) (left need : Int32) : ∃ r, ff_W a1 v left need r := by
  by_cases h : ∃ k, (v < k ∧ k < 10) ∧ ff_C a1 v left need k
  · obtain ⟨k, k1, k2⟩ := pk_least (fun k => (v < k ∧ k < 10) ∧ ff_C a1 v left need k) h
    exact ⟨nI k, Or.inl ⟨k, k1.1.1, k1.1.2, rfl, k1.2, fun w' h1 h2 h3 => k2 w' h2 ⟨⟨h1, by have := k1.1.2; omega⟩, h3⟩⟩⟩
  · exact ⟨-1, Or.inr ⟨rfl, fun w' h1 h2 h3 => h ⟨w', ⟨h1, h2⟩, h3⟩⟩⟩
noncomputable def ff_p (a1 : Nat → Int32) (v : Nat) (left need : Int32) : Int32 := Classical.epsilon (ff_W a1 v left need)
theorem ff_p_W (a1 : Nat → Int32) (v : Nat) (left need : Int32) : ff_W a1 v left need (ff_p a1 v left need) := Classical.epsilon_spec (ff_ex a1 v left need)
theorem ff_W_un {a1 : Nat → Int32} {v : Nat} {left need r r' : Int32} (h : ff_W a1 v left need r) (h' : ff_W a1 v left need r') : r = r' := by
  rcases h with ⟨w, h1, h2, h3, h4, h5⟩ | ⟨h1, h2⟩
  · rcases h' with ⟨w', g1, g2, g3, g4, g5⟩ | ⟨g1, g2⟩
    · rcases Nat.lt_trichotomy w w' with e | e | e
      · exact absurd h4 (g5 w h1 e)
      · rw [h3, g3, e]
      · exact absurd g4 (h5 w' g1 e)
    · exact absurd h4 (g2 w h1 h2)
  · rcases h' with ⟨w', g1, g2, g3, g4, g5⟩ | ⟨g1, g2⟩
    · exact absurd g4 (h2 w' g1 g2)
    · rw [h1, g1]
theorem ff_p_eq {a1 : Nat → Int32} {v : Nat} {left need r : Int32} (h : ff_W a1 v left need r) : r = ff_p a1 v left need := ff_W_un h (ff_p_W a1 v left need)
noncomputable def ff_st (a1 : Nat → Int32) (v : Nat) (t : Int32 × Int32 × (Nat → Int32)) : Int32 × Int32 × (Nat → Int32) :=
  if bi_t t.1 v = true then
    (if ff_p a1 v t.1 t.2.1 < 0 then (t.1 &&& (((1 : Int32) <<< (nI v &&& 31)) ^^^ (-1)), t.2.1, t.2.2)
     else ((t.1 &&& (((1 : Int32) <<< (nI v &&& 31)) ^^^ (-1))) &&& (((1 : Int32) <<< (ff_p a1 v t.1 t.2.1 &&& 31)) ^^^ (-1)), t.2.1 + (-1), upd (upd t.2.2 v (ff_p a1 v t.1 t.2.1)) (ff_p a1 v t.1 t.2.1).toNatClampNeg (nI v)))
  else t
noncomputable def ff_s (a1 : Nat → Int32) (on : Int32) : Nat → Int32 × Int32 × (Nat → Int32)
  | 0 => (on, nI (ff_nu a1 on), fun _ => -2)
  | i + 1 => ff_st a1 i (ff_s a1 on i)
noncomputable def ff_f (a1 : Nat → Int32) (on : Int32) (v : Nat) : Int32 := (ff_s a1 on 10).2.2 v
theorem ff_n2 {x : Nat} (h : x < 10) : nI x ≠ -2 := fun e => by
  have : (0 : Int32) ≤ -2 := by rw [← e]; exact nI_pos' (by omega)
  exact absurd this (by decide)
/-- partners are partners of each other -/
theorem ff_inv (a1 : Nat → Int32) (on : Int32) : ∀ i, i ≤ 10 → (∀ x, x < 10 → (ff_s a1 on i).2.2 x = -2 ∨ ∃ y, y < 10 ∧ (ff_s a1 on i).2.2 x = nI y ∧ (ff_s a1 on i).2.2 y = nI x) ∧ ∀ x, x < 10 → bi_t (ff_s a1 on i).1 x = true → (ff_s a1 on i).2.2 x = -2
  | 0, _ => ⟨fun x _ => Or.inl rfl, fun x _ _ => rfl⟩
  | i + 1, hi => by
    obtain ⟨h1, h2⟩ := ff_inv a1 on i (by omega)
    show (∀ x, x < 10 → (ff_st a1 i (ff_s a1 on i)).2.2 x = -2 ∨ ∃ y, y < 10 ∧ (ff_st a1 i (ff_s a1 on i)).2.2 x = nI y ∧ (ff_st a1 i (ff_s a1 on i)).2.2 y = nI x) ∧ ∀ x, x < 10 → bi_t (ff_st a1 i (ff_s a1 on i)).1 x = true → (ff_st a1 i (ff_s a1 on i)).2.2 x = -2
    generalize ff_s a1 on i = t at h1 h2 ⊢
    unfold ff_st
    by_cases e : bi_t t.1 i = true
    · rw [if_pos e]
      rcases ff_p_W a1 i t.1 t.2.1 with ⟨w, g1, g2, g3, g4, g5⟩ | ⟨g1, g2⟩
      · rw [g3, if_neg (nI_pos (by omega)), hk_cl g2]
        dsimp only
        have fi := h2 i (by omega) e
        have fw := h2 w g2 g4.1
        refine ⟨fun x hx => ?_, fun x hx hb => ?_⟩
        · by_cases xw : x = w
          · rw [xw, pk_us]
            exact Or.inr ⟨i, by omega, rfl, by rw [pk_un (by omega), pk_us]⟩
          · rw [pk_un xw]
            by_cases xi : x = i
            · rw [xi, pk_us]
              exact Or.inr ⟨w, g2, rfl, by rw [pk_us]⟩
            · rw [pk_un xi]
              rcases h1 x hx with z | ⟨y, y1, y2, y3⟩
              · exact Or.inl z
              · refine Or.inr ⟨y, y1, y2, ?_⟩
                have n1 : y ≠ w := fun q => by rw [q, fw] at y3; exact ff_n2 hx y3.symm
                have n2 : y ≠ i := fun q => by rw [q, fi] at y3; exact ff_n2 hx y3.symm
                rw [pk_un n1, pk_un n2]; exact y3
        · have := (bi_m_clr (bi_m_clr (bi_m_self t.1) (show i < 10 by omega)) g2 x (by omega)).mp hb
          rw [pk_un this.2, pk_un this.1.2]
          exact h2 x hx this.1.1
      · rw [g1, if_pos (by decide)]
        dsimp only
        refine ⟨h1, fun x hx hb => h2 x hx ?_⟩
        exact ((bi_m_clr (bi_m_self t.1) (show i < 10 by omega) x (by omega)).mp hb).1
    · rw [if_neg e]
      exact ⟨h1, h2⟩
theorem hk_fp {post : Int32 → St1 → Prop} {on am bA bB ev wt mk sh left need : Int32} {a1 a2 a3 a4 a5 a6 : Nat → Int32} {v : Nat} (hok : gb_ok a1) (hv : v < 10)
    (H : ∀ am' bA' bB' ev' wt' sh' a2' a3' a4' a5', post (ff_p a1 v left need) (on, am', bA', bB', ev', wt', mk, sh', a1, a2', a3', a4', a5', a6)) :
    wpX_firstPartner post (on, am, bA, bB, ev, wt, mk, sh, a1, a2, a3, a4, a5, a6) (nI v) left need := by
  refine nm_r (nI_1 v) ?_
  refine pk_loop (σ := Int32 × Int32 × Int32 × Int32 × Int32 × Int32 × (Nat → Int32) × (Nat → Int32) × (Nat → Int32) × (Nat → Int32)) (fun n w q => wX_firstPartner_5 post (nI v) left need n (nI w) on q.1 q.2.1 q.2.2.1 q.2.2.2.1 q.2.2.2.2.1 mk q.2.2.2.2.2.1 a1 q.2.2.2.2.2.2.1 q.2.2.2.2.2.2.2.1 q.2.2.2.2.2.2.2.2.1 q.2.2.2.2.2.2.2.2.2 a6)
    (fun w _ => v < w ∧ ∀ w', v < w' → w' < w → ¬ ff_C a1 v left need w') 10 (v + 1) (am, bA, bB, ev, wt, sh, a2, a3, a4, a5) (by omega) ⟨by omega, fun w' h1 h2 => by omega⟩ ?_ ?_
  · intro n q ⟨_, hq⟩
    refine pk_le 10 10 (fun _ => ?_) (fun z => absurd z (by omega))
    have := ff_p_eq (a1 := a1) (v := v) (left := left) (need := need) (Or.inr ⟨rfl, hq⟩)
    rw [this]
    exact H _ _ _ _ _ _ _ _ _ _
  · intro n w q hw10 ⟨vw, hq⟩ hw
    have nxt : ¬ ff_C a1 v left need w → v < w + 1 ∧ ∀ w', v < w' → w' < w + 1 → ¬ ff_C a1 v left need w' := fun z => ⟨by omega, fun w' h1 h2 => by
      by_cases e : w' = w
      · rw [e]; exact z
      · exact hq w' h1 (by omega)⟩
    refine pk_le 10 w (fun z => absurd z (by omega)) (fun _ => ?_)
    refine hk_inb (bi_m_self left) (by omega) (fun z => ⟨hk_vp hv, ?_⟩) (fun z => nm_r (nI_1 w) (hw q (nxt (fun y => z y.1))))
    rw [hk_cl hv]
    refine hk_inb (bi_m_self (a1 v)) (by omega) (fun z2 => ?_) (fun z2 => nm_r (nI_1 w) (hw q (nxt (fun y => z2 y.2.1))))
    refine hk_size hok (fun k m ev' wt' sh' a2' a3' a4' a5' hm hn h2 => ?_)
    have ek : k = ff_nu a1 ((left &&& (((1 : Int32) <<< (nI v &&& 31)) ^^^ (-1))) &&& (((1 : Int32) <<< (nI w &&& 31)) ^^^ (-1))) := ff_nu_eq ⟨m, hm, hn⟩
    refine br_c (fun z3 => ?_) (fun z3 => nm_r (nI_1 w) (hw (_, _, _, _, _, _, _, _, _, _) (nxt (fun y => z3 (by rw [ek]; exact y.2.2)))))
    have := ff_p_eq (a1 := a1) (v := v) (left := left) (need := need) (Or.inl ⟨w, vw, hw10, rfl, ⟨z, z2, by rw [← ek]; exact z3⟩, hq⟩)
    rw [this]
    exact H _ _ _ _ _ _ _ _ _ _
theorem hk_first {post : St1 → Prop} {on am bA bB ev wt mk sh : Int32} {a1 a2 a3 a4 a5 a6 : Nat → Int32} (hok : gb_ok a1)
    (H : ∀ am' bA' bB' ev' wt' sh' a2' a3' a4' a5' a6', (∀ x, x < 10 → a6' x = ff_f a1 on x) → post (on, am', bA', bB', ev', wt', mk, sh', a1, a2', a3', a4', a5', a6')) :
    wpX_findFirst post (on, am, bA, bB, ev, wt, mk, sh, a1, a2, a3, a4, a5, a6) := by
  unfold wpX_findFirst
  refine hk_size hok (fun k m ev wt sh a2 a3 a4 a5 hm hn h2 => ?_)
  have ek : k = ff_nu a1 on := ff_nu_eq ⟨m, hm, hn⟩
  rw [ek]
  refine pk_loop (σ := Nat → Int32) (fun n i a6 => wX_findFirst_16 post on (nI (ff_nu a1 on)) on on (-1) (-1) ev wt mk sh n (nI i) a1 a2 a3 a4 a5 a6) (fun i a6 => ∀ x, x < i → a6 x = -2) 10 0 a6 (by omega) (fun x h => absurd h (by omega)) ?_ ?_
  · intro n a6 h6
    refine pk_le 10 10 (fun _ => ?_) (fun z => absurd z (by omega))
    refine pk_loop (σ := Int32 × Int32 × Int32 × Int32 × Int32 × Int32 × Int32 × Int32 × (Nat → Int32) × (Nat → Int32) × (Nat → Int32) × (Nat → Int32) × (Nat → Int32)) (fun n i q => wX_findFirst_38 post n q.1 q.2.1 (nI i) on q.2.2.1 q.2.2.2.1 q.2.2.2.2.1 q.2.2.2.2.2.1 q.2.2.2.2.2.2.1 mk q.2.2.2.2.2.2.2.1 a1 q.2.2.2.2.2.2.2.2.1 q.2.2.2.2.2.2.2.2.2.1 q.2.2.2.2.2.2.2.2.2.2.1 q.2.2.2.2.2.2.2.2.2.2.2.1 q.2.2.2.2.2.2.2.2.2.2.2.2)
      (fun i q => q.1 = (ff_s a1 on i).1 ∧ q.2.1 = (ff_s a1 on i).2.1 ∧ ∀ x, x < 10 → q.2.2.2.2.2.2.2.2.2.2.2.2 x = (ff_s a1 on i).2.2 x) 10 0 (on, nI (ff_nu a1 on), on, -1, -1, ev, wt, sh, a2, a3, a4, a5, a6) (by omega) ⟨rfl, rfl, h6⟩ ?_ ?_
    · intro n q ⟨_, _, q3⟩
      exact pk_le 10 10 (fun _ => H _ _ _ _ _ _ _ _ _ _ _ q3) (fun z => absurd z (by omega))
    · intro n i q hi ⟨q1, q2, q3⟩ hw
      refine pk_le 10 i (fun z => absurd z (by omega)) (fun _ => ?_)
      have st : ff_s a1 on (i + 1) = ff_st a1 i (ff_s a1 on i) := rfl
      refine hk_inb (bi_m_self q.1) (by omega) (fun z => ?_) (fun z => nm_r (nI_1 i) (hw q ?_))
      · refine hk_fp hok hi (fun am' bA' bB' ev' wt' sh' a2' a3' a4' a5' => nm_e ?_)
        rw [q1] at z
        rw [q1, q2]
        have st1 := st
        unfold ff_st at st1
        rw [if_pos z] at st1
        refine br_c (fun z2 => ?_) (fun z2 => ?_)
        · rw [if_pos z2] at st1
          refine nm_r (nI_1 i) (hw (_, _, am', bA', bB', ev', wt', sh', a2', a3', a4', a5', _) ⟨?_, ?_, ?_⟩)
          · rw [st1]
          · rw [st1]
          · rw [st1]; exact q3
        · rw [if_neg z2] at st1
          have pw : ∃ w, w < 10 ∧ ff_p a1 i (ff_s a1 on i).1 (ff_s a1 on i).2.1 = nI w := by
            rcases ff_p_W a1 i (ff_s a1 on i).1 (ff_s a1 on i).2.1 with ⟨w, g1, g2, g3, g4, g5⟩ | ⟨g1, g2⟩
            · exact ⟨w, g2, g3⟩
            · rw [g1] at z2; exact absurd (by decide) z2
          obtain ⟨w, w1, w2⟩ := pw
          rw [w2] at st1 ⊢
          rw [hk_cl w1] at st1
          rw [hk_cl hi, hk_cl w1]
          refine ⟨hk_vp hi, nm_e ⟨hk_vp w1, nm_e (nm_e (nm_e (nm_r (nI_1 i) (hw (_, _, am', bA', bB', ev', wt', sh', a2', a3', a4', a5', upd (upd q.2.2.2.2.2.2.2.2.2.2.2.2 i (nI w)) w (nI i)) ⟨?_, ?_, ?_⟩))))⟩⟩
          · rw [st1]
          · rw [st1]
          · rw [st1]
            intro x hx
            dsimp only
            by_cases e : x = w
            · rw [e, pk_us, pk_us]
            · rw [pk_un e, pk_un e]
              by_cases e' : x = i
              · rw [e', pk_us, pk_us]
              · rw [pk_un e', pk_un e']; exact q3 x hx
      · rw [q1] at z
        unfold ff_st at st
        rw [if_neg z] at st
        rw [st]
        exact ⟨q1, q2, q3⟩
  · intro n i a6 hi h6 hw
    refine pk_le 10 i (fun z => absurd z (by omega)) (fun _ => ⟨hk_vp hi, nm_e (nm_r (nI_1 i) ?_)⟩)
    rw [hk_cl hi]
    refine hw (upd a6 i (-2)) (fun x hx => ?_)
    by_cases e : x = i
    · rw [e, pk_us]
    · rw [pk_un e]; exact h6 x (by omega)
theorem hk_bad {A B : Prop} {v : Nat} (hv : v < 10) (h : A) : wpX_bad (fun r => ((r = 0 → A) ∧ (¬ r = 0 → B))) () (nI v) :=
  br_f (nI_pos (by omega)) (br_t (nI_lt (b := 10) hv (by decide)) ⟨fun _ => h, fun z => absurd rfl z⟩)
theorem hk_partner {post : Int32 → St1 → Prop} {on am bA bB ev wt mk sh : Int32} {a1 a2 a3 a4 a5 a6 : Nat → Int32} {v : Nat} (hok : gb_ok a1) (hv : v < 10)
    (H : ∀ am' bA' bB' ev' wt' mk' sh' a2' a3' a4' a5' a6', post (ff_f a1 on v) (on, am', bA', bB', ev', wt', mk', sh', a1, a2', a3', a4', a5', a6')) :
    wpX_partner post (on, am, bA, bB, ev, wt, mk, sh, a1, a2, a3, a4, a5, a6) (nI v) := by
  refine hk_bad hv ?_
  refine hk_first hok (fun am' bA' bB' ev' wt' sh' a2' a3' a4' a5' a6' h6 => ⟨hk_vp hv, ?_⟩)
  rw [hk_cl hv, h6 v hv]
  exact H _ _ _ _ _ _ _ _ _ _ _ _
end
section
/-- the set without a and b -/
def gb_wo (s : Int32) (a b : Nat) : Int32 := (s &&& (((1 : Int32) <<< (nI a &&& 31)) ^^^ (-1))) &&& (((1 : Int32) <<< (nI b &&& 31)) ^^^ (-1))
theorem gb_wo_on {s : Int32} {a b x : Nat} (ha : a < 10) (hb : b < 10) (hx : x < 10) : gb_on (gb_wo s a b) x ↔ gb_on s x ∧ x ≠ a ∧ x ≠ b := by
  have := bi_m_clr (bi_m_clr (bi_m_self s) ha) hb x (by omega)
  exact this.trans ⟨fun z => ⟨z.1.1, z.1.2, z.2⟩, fun z => ⟨⟨z.1, z.2.1⟩, z.2.2⟩⟩
theorem gb_wo_G {a1 : Nat → Int32} {s : Int32} {a b x y : Nat} (ha : a < 10) (hb : b < 10) : gb_0 a1 (gb_wo s a b) x y ↔ gb_0 a1 s x y ∧ (x ≠ a ∧ x ≠ b) ∧ (y ≠ a ∧ y ≠ b) := by
  rw [gb_0i, gb_0i]
  constructor
  · intro ⟨h1, h2, h3, h4⟩
    have g3 := (gb_wo_on ha hb h1.1).mp h3
    have g4 := (gb_wo_on ha hb h1.2).mp h4
    exact ⟨⟨h1, h2, g3.1, g4.1⟩, g3.2, g4.2⟩
  · intro ⟨⟨h1, h2, h3, h4⟩, h5, h6⟩
    exact ⟨h1, h2, (gb_wo_on ha hb h1.1).mpr ⟨h3, h5⟩, (gb_wo_on ha hb h1.2).mpr ⟨h4, h6⟩⟩
theorem hk_badPair {post : Int32 → Prop} {a b : Nat} (ha : a < 10) (hb : b < 10) (h1 : a = b → post 1) (h0 : a ≠ b → post 0) : wpX_badPair post () (nI a) (nI b) :=
  hk_bad ha (hk_bad hb (pk_eq a b h1 h0 rfl rfl (by omega) (by omega)))
theorem hk_noEdge {post : Int32 → Prop} {on am bA bB ev wt mk sh : Int32} {a1 a2 a3 a4 a5 a6 : Nat → Int32} {a b : Nat} (hok : gb_ok a1) (ha : a < 10) (hb : b < 10) (h0 : gb_0 a1 on a b → post 0) (h1 : ¬ gb_0 a1 on a b → post 1) :
    wpX_noEdge post (on, am, bA, bB, ev, wt, mk, sh, a1, a2, a3, a4, a5, a6) (nI a) (nI b) := by
  unfold wpX_noEdge
  refine hk_badPair ha hb (fun e => ⟨fun z => absurd z (by decide), fun _ => h1 (fun g => mt_ne (gb_mt hok) g e)⟩) (fun e => ⟨fun _ => ⟨hk_vp ha, ?_⟩, fun z => absurd rfl z⟩)
  rw [hk_cl ha]
  refine hk_inb (bi_m_self _) (by omega) (fun z => ?_) (fun z => h1 (fun g => z (gb_0i.mp g).2.1))
  refine hk_inb (bi_m_self _) (by omega) (fun z2 => ?_) (fun z2 => h1 (fun g => z2 (gb_0i.mp g).2.2.1))
  exact hk_inb (bi_m_self _) (by omega) (fun z3 => h0 (gb_0i.mpr ⟨⟨ha, hb⟩, z, z2, z3⟩)) (fun z3 => h1 (fun g => z3 (gb_0i.mp g).2.2.2))
theorem hk_inAll {post : Int32 → St1 → Prop} {on am bA bB ev wt mk sh : Int32} {a1 a2 a3 a4 a5 a6 : Nat → Int32} {a b : Nat} (hok : gb_ok a1) (ha : a < 10) (hb : b < 10)
    (H : ∀ r am' bA' bB' ev' wt' mk' sh' a2' a3' a4' a5' a6', (¬ r = 0 → gb_0 a1 on a b ∧ ∃ n n1, nu_is (gb_0 a1 on) n ∧ nu_is (gb_G a1 on (nI a) (nI b)) n1 ∧ n1 < n) → post r (on, am', bA', bB', ev', wt', mk', sh', a1, a2', a3', a4', a5', a6')) :
    wpX_inAll post (on, am, bA, bB, ev, wt, mk, sh, a1, a2, a3, a4, a5, a6) (nI a) (nI b) := by
  unfold wpX_inAll
  refine hk_noEdge hok ha hb (fun g => ⟨fun _ => ?_, fun z => absurd rfl z⟩) (fun g => ⟨fun z => absurd z (by decide), fun _ => H _ _ _ _ _ _ _ _ _ _ _ _ _ (fun z => absurd rfl z)⟩)
  refine hk_size hok (fun n m ev wt sh a2 a3 a4 a5 hm hn h2 => ?_)
  refine hk_match (am := on) hok (fun n1 m1 ev wt sh a2 a3 a4 a5 hm1 hn1 h21 => ?_)
  have l5 := nu_le5 (G := gb_0 a1 on) ⟨m, hm, hn⟩
  have l5' := nu_le5 (G := gb_G a1 on (nI a) (nI b)) ⟨m1, hm1, hn1⟩
  exact pk_le n n1 (fun z => H _ _ _ _ _ _ _ _ _ _ _ _ _ (fun z => absurd rfl z)) (fun z => H _ _ _ _ _ _ _ _ _ _ _ _ _ (fun _ => ⟨g, n, n1, ⟨m, hm, hn⟩, ⟨m1, hm1, hn1⟩, z⟩)) rfl rfl (by omega) (by omega)
theorem hk_inSome {post : Int32 → St1 → Prop} {on am bA bB ev wt mk sh : Int32} {a1 a2 a3 a4 a5 a6 : Nat → Int32} {a b : Nat} (hok : gb_ok a1) (ha : a < 10) (hb : b < 10)
    (H : ∀ r am' bA' bB' ev' wt' mk' sh' a2' a3' a4' a5' a6', (gb_0 a1 on a b → r = 0 → ∃ n n2, nu_is (gb_0 a1 on) n ∧ nu_is (gb_0 a1 (gb_wo on a b)) n2 ∧ n2 + 1 ≠ n) → post r (on, am', bA', bB', ev', wt', mk', sh', a1, a2', a3', a4', a5', a6')) :
    wpX_inSome post (on, am, bA, bB, ev, wt, mk, sh, a1, a2, a3, a4, a5, a6) (nI a) (nI b) := by
  unfold wpX_inSome
  refine hk_noEdge hok ha hb (fun g => ⟨fun _ => ?_, fun z => absurd rfl z⟩) (fun g => ⟨fun z => absurd z (by decide), fun _ => H _ _ _ _ _ _ _ _ _ _ _ _ _ (fun z => absurd z g)⟩)
  refine hk_size hok (fun n m ev wt sh a2 a3 a4 a5 hm hn h2 => ?_)
  refine hk_size hok (fun n2 m2 ev wt sh a2 a3 a4 a5 hm2 hn2 h22 => ?_)
  have l5 := nu_le5 (G := gb_0 a1 on) ⟨m, hm, hn⟩
  have l5' := nu_le5 (G := gb_0 a1 (gb_wo on a b)) ⟨m2, hm2, hn2⟩
  exact pk_eq (n2 + 1) n (fun z => H _ _ _ _ _ _ _ _ _ _ _ _ _ (fun _ z => absurd z (by decide))) (fun z => H _ _ _ _ _ _ _ _ _ _ _ _ _ (fun _ _ => ⟨n, n2, ⟨m, hm, hn⟩, ⟨m2, hm2, hn2⟩, z⟩)) (nI_1 n2) rfl (by omega) (by omega)
/-- in all greatest matchings: in some -/
theorem gb_some {a1 : Nat → Int32} {on : Int32} {a b n n1 n2 : Nat} (hok : gb_ok a1) (ha : a < 10) (hb : b < 10) (hg : gb_0 a1 on a b) (h : nu_is (gb_0 a1 on) n) (h1 : nu_is (gb_G a1 on (nI a) (nI b)) n1) (h2 : nu_is (gb_0 a1 (gb_wo on a b)) n2) (hl : n1 < n) : n2 + 1 = n := by
  have hG : mt_G (gb_0 a1 on) := gb_mt hok
  have u := nu_add hG hg (G2 := gb_0 a1 (gb_wo on a b)) (fun x y g => ⟨((gb_wo_G ha hb).mp g).1, ((gb_wo_G ha hb).mp g).2.1⟩) h h2
  have d := nu_del hG ha hb (G1 := gb_G a1 on (nI a) (nI b)) (G2 := gb_0 a1 (gb_wo on a b)) (fun x y g n1 n2 => ?_) (fun x y g n1 n2 n3 n4 => (gb_wo_G ha hb).mpr ⟨g, ⟨n1, n2⟩, n3, n4⟩) h h1 h2 hl
  · omega
  · obtain ⟨g1, g2, g3, g4⟩ := gb_0i.mp g
    have i : ∀ {p q : Nat}, p < 10 → q < 10 → nI p = nI q → p = q := fun hp hq e => (nI_eq (by omega) (by omega)).mp e
    exact ⟨g1, g2, ⟨g3, g4⟩, fun z => n1 ⟨i g1.1 ha z.1, i g1.2 hb z.2⟩, fun z => n2 ⟨i g1.1 hb z.1, i g1.2 ha z.2⟩⟩
def gb_hp (a1 : Nat → Int32) (on : Int32) (a b : Nat) : Prop := a ≠ b ∧ ¬ bi_t (a1 a) b = true ∧ gb_on on a ∧ gb_on on b ∧ ff_nu a1 (gb_wo on a b) = ff_nu a1 on
theorem hk_helps {post : Int32 → St1 → Prop} {on am bA bB ev wt mk sh : Int32} {a1 a2 a3 a4 a5 a6 : Nat → Int32} {a b : Nat} (hok : gb_ok a1) (ha : a < 10) (hb : b < 10)
    (H : ∀ r am' bA' bB' ev' wt' mk' sh' a2' a3' a4' a5' a6', ((r = 1 ∧ gb_hp a1 on a b ∧ nu_is (gb_0 a1 (gb_wo on a b)) (ff_nu a1 on)) ∨ (r = 0 ∧ (a ≠ b → gb_on on a → gb_on on b → ¬ bi_t (a1 a) b = true → ∃ n2, nu_is (gb_0 a1 (gb_wo on a b)) n2 ∧ n2 ≠ ff_nu a1 on))) → post r (on, am', bA', bB', ev', wt', mk', sh', a1, a2', a3', a4', a5', a6')) :
    wpX_helps post (on, am, bA, bB, ev, wt, mk, sh, a1, a2, a3, a4, a5, a6) (nI a) (nI b) := by
  unfold wpX_helps
  refine hk_badPair ha hb (fun e => ⟨fun z => absurd z (by decide), fun _ => H _ _ _ _ _ _ _ _ _ _ _ _ _ (Or.inr ⟨rfl, fun z => absurd e z⟩)⟩) (fun e => ⟨fun _ => ⟨hk_vp ha, ?_⟩, fun z => absurd rfl z⟩)
  rw [hk_cl ha]
  refine hk_inb (bi_m_self _) (by omega) (fun z => H _ _ _ _ _ _ _ _ _ _ _ _ _ (Or.inr ⟨rfl, fun _ _ _ y => absurd z y⟩)) (fun z => ?_)
  refine hk_inb (bi_m_self _) (by omega) (fun z2 => ?_) (fun z2 => H _ _ _ _ _ _ _ _ _ _ _ _ _ (Or.inr ⟨rfl, fun _ y => absurd y z2⟩))
  refine hk_inb (bi_m_self _) (by omega) (fun z3 => ?_) (fun z3 => H _ _ _ _ _ _ _ _ _ _ _ _ _ (Or.inr ⟨rfl, fun _ _ y => absurd y z3⟩))
  refine hk_size hok (fun n m ev wt sh a2 a3 a4 a5 hm hn h2 => ?_)
  refine hk_size hok (fun n2 m2 ev wt sh a2 a3 a4 a5 hm2 hn2 h22 => ?_)
  have e1 : n = ff_nu a1 on := ff_nu_eq ⟨m, hm, hn⟩
  have N2 : nu_is (gb_0 a1 (gb_wo on a b)) n2 := ⟨m2, hm2, hn2⟩
  have e2 : n2 = ff_nu a1 (gb_wo on a b) := ff_nu_eq N2
  have l5 := nu_le5 (G := gb_0 a1 on) ⟨m, hm, hn⟩
  have l5' := nu_le5 N2
  refine pk_eq n2 n (fun y => H _ _ _ _ _ _ _ _ _ _ _ _ _ (Or.inl ⟨rfl, ⟨e, z, z2, z3, by rw [← e1, ← e2, y]⟩, by rw [← e1, ← y]; exact N2⟩)) (fun y => H _ _ _ _ _ _ _ _ _ _ _ _ _ (Or.inr ⟨rfl, fun _ _ _ _ => ⟨n2, N2, by rw [← e1]; exact y⟩⟩)) rfl rfl (by omega) (by omega)
/-- the edge a b, set or taken away -/
def gb_E (a1 a1' : Nat → Int32) (a b : Nat) (t : Prop) : Prop := ∀ x, x < 10 → bi_m (a1' x) (fun y => (((x = a ∧ y = b) ∨ (x = b ∧ y = a)) ∧ t) ∨ (¬ ((x = a ∧ y = b) ∨ (x = b ∧ y = a)) ∧ bi_t (a1 x) y = true))
theorem gb_E_ok {a1 a1' : Nat → Int32} {a b : Nat} {t : Prop} (ha : a < 10) (hb : b < 10) (n : a ≠ b) (hok : gb_ok a1) (h : gb_E a1 a1' a b t) : gb_ok a1' := by
  intro x hx y hy g
  have y10 : y < 10 := by
    rcases (h x hx y hy).mp g with ⟨z | z, _⟩ | z
    · rw [z.2]; exact hb
    · rw [z.2]; exact ha
    · exact (hok x hx y hy z.2).1
  refine ⟨y10, ?_, (h y y10 x (by omega)).mpr ?_⟩
  · rcases (h x hx y hy).mp g with ⟨z | z, _⟩ | z
    · rw [z.1, z.2]; exact fun e => n e.symm
    · rw [z.1, z.2]; exact n
    · exact (hok x hx y hy z.2).2.1
  · rcases (h x hx y hy).mp g with ⟨z, q⟩ | ⟨z, q⟩
    · refine Or.inl ⟨?_, q⟩
      rcases z with z | z
      · exact Or.inr ⟨z.2, z.1⟩
      · exact Or.inl ⟨z.2, z.1⟩
    · refine Or.inr ⟨fun y => z ?_, (hok x hx y hy q).2.2⟩
      rcases y with y | y
      · exact Or.inr ⟨y.2, y.1⟩
      · exact Or.inl ⟨y.2, y.1⟩
theorem hk_setEdge {post : Int32 → St1 → Prop} {on am bA bB ev wt mk sh t : Int32} {a1 a2 a3 a4 a5 a6 : Nat → Int32} {a b : Nat} (ha : a < 10) (hb : b < 10) (n : a ≠ b)
    (H : ∀ a1', gb_E a1 a1' a b (¬ t = 0) → post (if bi_t (a1 a) b = true then 1 else 0) (on, am, bA, bB, ev, wt, mk, sh, a1', a2, a3, a4, a5, a6)) :
    wpX_setEdge post (on, am, bA, bB, ev, wt, mk, sh, a1, a2, a3, a4, a5, a6) (nI a) (nI b) t := by
  unfold wpX_setEdge
  dsimp only
  rw [hk_cl ha, hk_cl hb]
  refine ⟨hk_vp ha, nm_r (bi_val _ (by omega)) ⟨hk_vp ha, hk_vp ha, nm_e ⟨hk_vp hb, hk_vp hb, nm_e ?_⟩⟩⟩
  rw [pk_un (fun e => n e.symm)]
  have n' : ¬ b = a := fun e => n e.symm
  refine br_c (fun z => H _ (fun x hx => ?_)) (fun z => ⟨hk_vp ha, hk_vp ha, nm_e ⟨hk_vp hb, hk_vp hb, nm_e (H _ (fun x hx => ?_))⟩⟩)
  · by_cases e : x = b
    · rw [e, pk_us]
      refine bi_m_cg (bi_m_clr (bi_m_self _) ha) (fun y _ => ⟨fun q => Or.inr ⟨fun w => ?_, q.1⟩, fun q => ?_⟩)
      · rcases w with w | w
        · exact n' w.1
        · exact q.2 w.2
      · rcases q with q | q
        · exact absurd z q.2
        · exact ⟨q.2, fun w => q.1 (Or.inr ⟨rfl, w⟩)⟩
    · rw [pk_un e]
      by_cases e' : x = a
      · rw [e', pk_us]
        refine bi_m_cg (bi_m_clr (bi_m_self _) hb) (fun y _ => ⟨fun q => Or.inr ⟨fun w => ?_, q.1⟩, fun q => ?_⟩)
        · rcases w with w | w
          · exact q.2 w.2
          · exact n w.1
        · rcases q with q | q
          · exact absurd z q.2
          · exact ⟨q.2, fun w => q.1 (Or.inl ⟨rfl, w⟩)⟩
      · rw [pk_un e']
        refine bi_m_cg (bi_m_self _) (fun y _ => ⟨fun q => Or.inr ⟨fun w => ?_, q⟩, fun q => ?_⟩)
        · rcases w with w | w
          · exact e' w.1
          · exact e w.1
        · rcases q with q | q
          · exact absurd z q.2
          · exact q.2
  · by_cases e : x = b
    · rw [e, pk_us, pk_un n', pk_us]
      refine bi_m_cg (bi_m_set (bi_m_clr (bi_m_self _) ha) ha) (fun y _ => ⟨fun q => ?_, fun q => ?_⟩)
      · by_cases w : y = a
        · exact Or.inl ⟨Or.inr ⟨rfl, w⟩, z⟩
        · refine Or.inr ⟨fun w2 => ?_, ?_⟩
          · rcases w2 with w2 | w2
            · exact n' w2.1
            · exact w w2.2
          · rcases q with q | q
            · exact q.1
            · exact absurd q w
      · rcases q with ⟨q | q, _⟩ | q
        · exact absurd q.1 n'
        · exact Or.inr q.2
        · exact Or.inl ⟨q.2, fun w => q.1 (Or.inr ⟨rfl, w⟩)⟩
    · rw [pk_un e]
      by_cases e' : x = a
      · rw [e', pk_us, pk_un n, pk_us]
        refine bi_m_cg (bi_m_set (bi_m_clr (bi_m_self _) hb) hb) (fun y _ => ⟨fun q => ?_, fun q => ?_⟩)
        · by_cases w : y = b
          · exact Or.inl ⟨Or.inl ⟨rfl, w⟩, z⟩
          · refine Or.inr ⟨fun w2 => ?_, ?_⟩
            · rcases w2 with w2 | w2
              · exact w w2.2
              · exact n w2.1
            · rcases q with q | q
              · exact q.1
              · exact absurd q w
        · rcases q with ⟨q | q, _⟩ | q
          · exact Or.inr q.2
          · exact absurd q.1 n
          · exact Or.inl ⟨q.2, fun w => q.1 (Or.inl ⟨rfl, w⟩)⟩
      · rw [pk_un e', pk_un e, pk_un e']
        refine bi_m_cg (bi_m_self _) (fun y _ => ⟨fun q => Or.inr ⟨fun w => ?_, q⟩, fun q => ?_⟩)
        · rcases w with w | w
          · exact e' w.1
          · exact e w.1
        · rcases q with ⟨q | q, _⟩ | q
          · exact absurd q.1 e'
          · exact absurd q.1 e
          · exact q.2
theorem hk_edge {post : Int32 → St1 → Prop} {on am bA bB ev wt mk sh t : Int32} {a1 a2 a3 a4 a5 a6 : Nat → Int32} {a b : Nat} (ha : a < 10) (hb : b < 10)
    (H0 : a = b → post (-1) (on, am, bA, bB, ev, wt, mk, sh, a1, a2, a3, a4, a5, a6))
    (H : a ≠ b → ∀ a1', gb_E a1 a1' a b (¬ t = 0) → post (if bi_t (a1 a) b = true then 1 else 0) (on, am, bA, bB, ev, wt, mk, sh, a1', a2, a3, a4, a5, a6)) :
    wpX_edge post (on, am, bA, bB, ev, wt, mk, sh, a1, a2, a3, a4, a5, a6) (nI a) (nI b) t := by
  unfold wpX_edge
  exact hk_badPair ha hb (fun e => ⟨fun z => absurd z (by decide), fun _ => H0 e⟩) (fun e => ⟨fun _ => hk_setEdge ha hb e (H e), fun z => absurd rfl z⟩)
end
section
theorem hk_turnOn {post : Int32 → St1 → Prop} {on am bA bB ev wt mk sh t : Int32} {a1 a2 a3 a4 a5 a6 : Nat → Int32} {v : Nat} (hv : v < 10)
    (H : ∀ r on', (t = 0 → on' = on &&& (((1 : Int32) <<< (nI v &&& 31)) ^^^ (-1))) → (¬ t = 0 → on' = on ||| ((1 : Int32) <<< (nI v &&& 31))) → post r (on', am, bA, bB, ev, wt, mk, sh, a1, a2, a3, a4, a5, a6)) :
    wpX_turn post (on, am, bA, bB, ev, wt, mk, sh, a1, a2, a3, a4, a5, a6) (nI v) t := by
  refine hk_bad hv (nm_e (nm_e (br_c (fun z => H _ _ (fun _ => rfl) (fun y => absurd z y)) (fun z => nm_e (H _ _ (fun y => absurd y z) (fun _ => ?_))))))
  refine bi_m_ext (bi_m_set (bi_m_clr (bi_m_self on) hv) hv) (bi_m_cg (bi_m_set (bi_m_self on) hv) (fun i _ => ⟨fun y => ?_, fun y => ?_⟩))
  · by_cases e : i = v
    · exact Or.inr e
    · rcases y with y | y
      · exact Or.inl ⟨y, e⟩
      · exact absurd y e
  · rcases y with y | y
    · exact Or.inl y.1
    · exact Or.inr y
theorem hk_circle {post : Int32 → St1 → Prop} {on am bA bB ev wt mk sh : Int32} {a1 a2 a3 a4 a5 a6 : Nat → Int32} {a b : Nat} (ha : a < 10) (hb : b < 10) (hok : gb_ok a1)
    (H : ∀ r a1', gb_ok a1' → post r (on, am, bA, bB, ev, wt, mk, sh, a1', a2, a3, a4, a5, a6)) :
    wpX_circle post (on, am, bA, bB, ev, wt, mk, sh, a1, a2, a3, a4, a5, a6) (nI a) (nI b) := by
  refine hk_bad ha (hk_bad hb (br_c (fun z => ?_) (fun z => H _ _ hok)))
  have hl : a + 2 ≤ b := by
    have h1 := Int32.le_iff_toInt_le.mp z
    rw [pk_sub_toInt (by omega) (by omega)] at h1
    have h2 : (2 : Int32).toInt = 2 := by decide
    omega
  refine hk_setEdge hb ha (by omega) (fun a1' h1 => nm_e ?_)
  have ok1 := gb_E_ok hb ha (by omega) hok h1
  refine pk_loop (σ := Int32 × (Nat → Int32)) (fun n i s => wX_circle_36 post (nI b) n s.1 (nI i) on am bA bB ev wt mk sh s.2 a2 a3 a4 a5 a6) (fun _ s => gb_ok s.2) b a (_, a1') (by omega) ok1 ?_ ?_
  · intro n s hs
    exact pk_le b b (fun _ => H _ _ hs) (fun z => absurd z (by omega)) rfl rfl (by omega) (by omega)
  · intro n i s hi hs hw
    refine pk_le b i (fun z => absurd z (by omega)) (fun _ => ?_) rfl rfl (by omega) (by omega)
    rw [nI_1]
    exact hk_setEdge (by omega) (by omega) (by omega) (fun a1'' h2 => nm_e (nm_e (hw (_, a1'') (gb_E_ok (by omega) (by omega) (by omega) hs h2))))
theorem hk_mod (y : Int32) : ∃ j, j < 10 ∧ (y &&& 255) - (y &&& 255) / 10 * 10 = nI j := by
  obtain ⟨j, j1, j2⟩ := pk_andE y (m := 255) 8 (by decide)
  refine ⟨j % 10, by omega, ?_⟩
  rw [j2]
  exact pk_rem (d := 10) (by omega) (by decide) (by decide)
theorem hk_succ {a : Nat} (ha : a < 10) : nI a + 1 - (nI a + 1) / 10 * 10 = nI ((a + 1) % 10) := by
  rw [nI_1]
  exact pk_rem (d := 10) (by omega) (by decide) (by decide)
theorem hk_build {post : Int32 → St1 → Prop} {on am bA bB ev wt mk sh x : Int32} {a1 a2 a3 a4 a5 a6 : Nat → Int32} {a : Nat} (ha : a < 10) (ea : ((x >>> ((4 : Int32) &&& 31)) &&& 255) - ((x >>> ((4 : Int32) &&& 31)) &&& 255) / 10 * 10 = nI a) (hok : gb_ok a1)
    (H : ∀ r on' a1', gb_ok a1' → ((x &&& 15) = 11 ∨ (x &&& 15) = 12 → ((((x >>> ((20 : Int32) &&& 31)) &&& 3) = 0 → on' = on &&& (((1 : Int32) <<< (nI a &&& 31)) ^^^ (-1))) ∧ (¬ ((x >>> ((20 : Int32) &&& 31)) &&& 3) = 0 → on' = on ||| ((1 : Int32) <<< (nI a &&& 31))))) → (¬ (x &&& 15) = 11 → ¬ (x &&& 15) = 12 → on' = on) → post r (on', am, bA, bB, ev, wt, mk, sh, a1', a2, a3, a4, a5, a6)) :
    wpL_build post (on, am, bA, bB, ev, wt, mk, sh, a1, a2, a3, a4, a5, a6) x := by
  obtain ⟨b, hb, eb⟩ := hk_mod (x >>> ((12 : Int32) &&& 31))
  obtain ⟨k, k1, k2⟩ := pk_andE x (m := 15) 4 (by decide)
  have k16 : k < 16 := k1
  have n11 : (11 : Int32) = nI 11 := rfl
  have n12 : (12 : Int32) = nI 12 := rfl
  have K : ∀ c, c < 16 → (nI k = nI c ↔ k = c) := fun c hc => nI_eq (by omega) (by omega)
  rw [k2, n11, n12, K 11 (by omega), K 12 (by omega)] at H
  have edge : ∀ (c : Nat) (t : Int32), c < 10 → ¬ (k = 11 ∨ k = 12) → wpX_edge post (on, am, bA, bB, ev, wt, mk, sh, a1, a2, a3, a4, a5, a6) (nI a) (nI c) t := fun c t hc nk =>
    hk_edge ha hc (fun _ => H _ on a1 hok (fun y => absurd y nk) (fun _ _ => rfl)) (fun ne a1' h1 => H _ on a1' (gb_E_ok ha hc ne hok h1) (fun y => absurd y nk) (fun _ _ => rfl))
  refine nm_r k2 ⟨by decide, nm_r ea ⟨by decide, nm_r eb ?_⟩⟩
  refine pk_le 11 k (fun z => pk_le 13 k (fun z2 => pk_eq k 13 (fun z3 => ?_) (fun z3 => ⟨by decide, ?_⟩) rfl rfl (by omega) (by omega)) (fun z2 => ?_) rfl rfl (by omega) (by omega)) (fun z => ?_) rfl rfl (by omega) (by omega)
  · exact hk_circle ha hb hok (fun r a1' h1 => H r on a1' h1 (fun y => by omega) (fun _ _ => rfl))
  · rw [hk_succ ha]
    exact edge _ 1 (by omega) (by omega)
  · refine br_c (fun y => ?_) (fun y => ?_)
    · exact hk_turnOn ha (fun r on' h0 h1 => H r on' a1 hok (fun _ => ⟨fun _ => h0 rfl, fun q => absurd y q⟩) (fun q1 q2 => by omega))
    · exact hk_turnOn ha (fun r on' h0 h1 => H r on' a1 hok (fun _ => ⟨fun q => absurd q y, fun _ => h1 (by decide)⟩) (fun q1 q2 => by omega))
  · refine br_c (fun y => ?_) (fun y => ?_)
    · exact edge b 0 hb (by omega)
    · exact edge b 1 hb (by omega)
end
section
theorem hk_hin {post : Int32 → St1 → Prop} {J : Int32 → Int32 → Int32 → Int32 → Int32 → Int32 → Int32 → Int32 → Int32 → (Nat → Int32) → (Nat → Int32) → (Nat → Int32) → (Nat → Int32) → (Nat → Int32) → (Nat → Int32) → Prop} {on : Int32} {a1 : Nat → Int32} {a : Nat} (hok : gb_ok a1) (ha : a < 10)
    (HJ : ∀ q : Int32 × Int32 × Int32 × Int32 × Int32 × Int32 × Int32 × (Nat → Int32) × (Nat → Int32) × (Nat → Int32) × (Nat → Int32) × (Nat → Int32), J (nI (a + 1)) on q.1 q.2.1 q.2.2.1 q.2.2.2.1 q.2.2.2.2.1 q.2.2.2.2.2.1 q.2.2.2.2.2.2.1 a1 q.2.2.2.2.2.2.2.1 q.2.2.2.2.2.2.2.2.1 q.2.2.2.2.2.2.2.2.2.1 q.2.2.2.2.2.2.2.2.2.2.1 q.2.2.2.2.2.2.2.2.2.2.2) (q0 : Int32 × Int32 × Int32 × Int32 × Int32 × Int32 × Int32 × (Nat → Int32) × (Nat → Int32) × (Nat → Int32) × (Nat → Int32) × (Nat → Int32)) :
    ∃ n, wL_holds_136 post J (nI a) n 0 on q0.1 q0.2.1 q0.2.2.1 q0.2.2.2.1 q0.2.2.2.2.1 q0.2.2.2.2.2.1 q0.2.2.2.2.2.2.1 a1 q0.2.2.2.2.2.2.2.1 q0.2.2.2.2.2.2.2.2.1 q0.2.2.2.2.2.2.2.2.2.1 q0.2.2.2.2.2.2.2.2.2.2.1 q0.2.2.2.2.2.2.2.2.2.2.2 := by
  refine pk_loop (σ := Int32 × Int32 × Int32 × Int32 × Int32 × Int32 × Int32 × (Nat → Int32) × (Nat → Int32) × (Nat → Int32) × (Nat → Int32) × (Nat → Int32)) (fun n b q => wL_holds_136 post J (nI a) n (nI b) on q.1 q.2.1 q.2.2.1 q.2.2.2.1 q.2.2.2.2.1 q.2.2.2.2.2.1 q.2.2.2.2.2.2.1 a1 q.2.2.2.2.2.2.2.1 q.2.2.2.2.2.2.2.2.1 q.2.2.2.2.2.2.2.2.2.1 q.2.2.2.2.2.2.2.2.2.2.1 q.2.2.2.2.2.2.2.2.2.2.2) (fun _ _ => True) 10 0 q0 (by omega) trivial ?_ ?_
  · intro n q _
    exact pk_le 10 10 (fun _ => nm_r (nI_1 a) (HJ q)) (fun z => absurd z (by omega))
  · intro n b q hb _ hw
    refine pk_le 10 b (fun z => absurd z (by omega)) (fun _ => ?_)
    refine hk_inAll hok ha hb (fun r am' bA' bB' ev' wt' mk' sh' a2' a3' a4' a5' a6' h => ?_)
    refine br_c (fun z => nm_r (nI_1 b) (hw (am', bA', bB', ev', wt', mk', sh', a2', a3', a4', a5', a6') trivial)) (fun z => ?_)
    obtain ⟨g, n, n1, h1, h2, h3⟩ := h z
    refine hk_inSome hok ha hb (fun r am' bA' bB' ev' wt' mk' sh' a2' a3' a4' a5' a6' h => ?_)
    refine br_c (fun z => ?_) (fun z => nm_r (nI_1 b) (hw (am', bA', bB', ev', wt', mk', sh', a2', a3', a4', a5', a6') trivial))
    obtain ⟨n', n2, h4, h5, h6⟩ := h g z
    have e := nu_un h1 h4
    exact absurd (gb_some hok ha hb g h4 h2 h5 (by omega)) h6
theorem hk_hout {post : Int32 → St1 → Prop} {on : Int32} {a1 : Nat → Int32} (hok : gb_ok a1)
    (H : ∀ am' bA' bB' ev' wt' mk' sh' a2' a3' a4' a5' a6', post 1 (on, am', bA', bB', ev', wt', mk', sh', a1, a2', a3', a4', a5', a6')) (q0 : Int32 × Int32 × Int32 × Int32 × Int32 × Int32 × Int32 × (Nat → Int32) × (Nat → Int32) × (Nat → Int32) × (Nat → Int32) × (Nat → Int32)) :
    ∃ n, wL_holds_100 post n 0 on q0.1 q0.2.1 q0.2.2.1 q0.2.2.2.1 q0.2.2.2.2.1 q0.2.2.2.2.2.1 q0.2.2.2.2.2.2.1 a1 q0.2.2.2.2.2.2.2.1 q0.2.2.2.2.2.2.2.2.1 q0.2.2.2.2.2.2.2.2.2.1 q0.2.2.2.2.2.2.2.2.2.2.1 q0.2.2.2.2.2.2.2.2.2.2.2 := by
  refine pk_loop (σ := Int32 × Int32 × Int32 × Int32 × Int32 × Int32 × Int32 × (Nat → Int32) × (Nat → Int32) × (Nat → Int32) × (Nat → Int32) × (Nat → Int32)) (fun n a q => wL_holds_100 post n (nI a) on q.1 q.2.1 q.2.2.1 q.2.2.2.1 q.2.2.2.2.1 q.2.2.2.2.2.1 q.2.2.2.2.2.2.1 a1 q.2.2.2.2.2.2.2.1 q.2.2.2.2.2.2.2.2.1 q.2.2.2.2.2.2.2.2.2.1 q.2.2.2.2.2.2.2.2.2.2.1 q.2.2.2.2.2.2.2.2.2.2.2) (fun _ _ => True) 10 0 q0 (by omega) trivial ?_ ?_
  · intro n q _
    exact pk_le 10 10 (fun _ => H _ _ _ _ _ _ _ _ _ _ _ _) (fun z => absurd z (by omega))
  · intro n a q ha _ hw
    refine pk_le 10 a (fun z => absurd z (by omega)) (fun _ => ?_)
    refine hk_partner hok ha (fun am' bA' bB' ev' wt' mk' sh' a2' a3' a4' a5' a6' => ?_)
    refine br_c (fun z => hk_hin hok ha (fun q => hw q trivial) (am', bA', bB', ev', wt', mk', sh', a2', a3', a4', a5', a6')) (fun z => ?_)
    rcases (ff_inv a1 on 10 (by omega)).1 a ha with e | ⟨y, y1, y2, y3⟩
    · have e : ff_f a1 on a = -2 := e
      rw [e] at z
      exact absurd (by decide) z
    · have y2 : ff_f a1 on a = nI y := y2
      have y3 : ff_f a1 on y = nI a := y3
      rw [y2]
      refine hk_partner hok y1 (fun am' bA' bB' ev' wt' mk' sh' a2' a3' a4' a5' a6' => ?_)
      rw [y3]
      exact br_t rfl (hk_hin hok ha (fun q => hw q trivial) (am', bA', bB', ev', wt', mk', sh', a2', a3', a4', a5', a6'))
/-- the set's bits lie below 10 -/
def gb_w (on : Int32) : Prop := ∀ i, i < 32 → bi_t on i = true → i < 10
theorem hk_holds {post : Int32 → St1 → Prop} {on am bA bB ev wt mk sh : Int32} {a1 a2 a3 a4 a5 a6 : Nat → Int32} (hok : gb_ok a1)
    (H : ∀ am' bA' bB' ev' wt' mk' sh' a2' a3' a4' a5' a6', post 1 (on, am', bA', bB', ev', wt', mk', sh', a1, a2', a3', a4', a5', a6')) :
    wpL_holds post (on, am, bA, bB, ev, wt, mk, sh, a1, a2, a3, a4, a5, a6) on := by
  unfold wpL_holds
  refine hk_mem hok (by decide) (by decide) (fun fr bd r am' bA' bB' ev' wt' mk' sh' a2' a3' a4' a5' a6' f1 b1 e1 _ _ => ?_)
  rw [e1 rfl]
  refine hk_mem hok (by decide) (by decide) (fun fr2 bd2 r2 am' bA' bB' ev' wt' mk' sh' a2' a3' a4' a5' a6' f2 b2 _ e2 _ => ?_)
  rw [e2 rfl, bi_m_ext b2 b1]
  refine hk_mem hok (by decide) (by decide) (fun fr3 bd3 r3 am' bA' bB' ev' wt' mk' sh' a2' a3' a4' a5' a6' f3 b3 _ _ e3 => ?_)
  rw [e3 (by decide) (by decide), bi_m_ext f3 f1, bi_m_ext b3 b1]
  refine hk_missed hok (fun n am' bA' bB' ev' wt' mk' sh' a2' a3' a4' a5' a6' hn => ?_)
  refine hk_bitsL (bi_m_self on) (hk_bitsL b1 ?_)
  have core := bi_m_and (bi_m_and (bi_m_self on) (bi_m_not f1)) (bi_m_not b1)
  have z0 : ∀ {s t : Int32} {P Q : Nat → Prop}, bi_m s P → bi_m t Q → (∀ i, ¬ (P i ∧ Q i)) → s &&& t = 0 := fun h1 h2 h => bi_m_ext (bi_m_and h1 h2) (bi_m_cg bi_m_0 (fun i _ => ⟨fun z => absurd z (fun z => z), fun z => absurd z (h i)⟩))
  refine br_t (z0 f1 b1 (fun i z => z.2.1 z.1)) (br_t (z0 f1 core (fun i z => z.2.1.2 z.1)) (br_t (z0 b1 core (fun i z => z.2.2 z.1)) (br_t ?_ ?_)))
  · refine bi_m_ext (bi_m_or (bi_m_or f1 b1) core) (bi_m_cg (bi_m_self on) (fun i _ => ⟨fun z => ?_, fun z => ?_⟩))
    · by_cases q1 : gb_D a1 on i
      · exact Or.inl (Or.inl q1)
      · by_cases q2 : gd_A (gb_0 a1 on) (gb_D a1 on) i
        · exact Or.inl (Or.inr q2)
        · exact Or.inr ⟨⟨z, q1⟩, q2⟩
    · rcases z with (z | z) | z
      · exact (gb_D1 z).2
      · obtain ⟨_, y, _, g⟩ := z
        exact (gb_0i.mp g).2.2.2
      · exact z.1.1
  · refine hk_sz hok (fun n' am' bA' bB' ev' wt' mk' sh' a2' a3' a4' a5' a6' hn' => ?_)
    rw [nu_un hn' hn]
    refine br_t rfl ?_
    refine hk_groups hok (fun k n2 am' bA' bB' ev' wt' mk' sh' a2' a3' a4' a5' a6' hn2 hk => ?_)
    have e := nu_un hn2 hn
    refine br_t ?_ (hk_hout hok H (am', bA', bB', ev', wt', mk', sh', a2', a3', a4', a5', a6'))
    rw [pk_sub (by omega), show (2 : Int32) = nI 2 from rfl, pk_mul, pk_sub (by have : cn_c (fun i => bi_t on i = true) 10 = cn_c (gb_on on) 10 := rfl; omega)]
    congr 1
    have : cn_c (fun i => bi_t on i = true) 10 = cn_c (gb_on on) 10 := rfl
    omega
end
section
theorem gb_back {a1 a1' a1'' : Nat → Int32} {on : Int32} {a b : Nat} {t t' : Prop} (hok : gb_ok a1) (ha : a < 10) (hb : b < 10) (h1 : gb_E a1 a1' a b t) (h2 : gb_E a1' a1'' a b t') (ht : t' ↔ bi_t (a1 a) b = true) : gb_0 a1'' on = gb_0 a1 on := by
  have key : ∀ x y, x < 10 → y < 10 → (bi_t (a1'' x) y = true ↔ bi_t (a1 x) y = true) := by
    intro x y hx hy
    rw [h2 x hx y (by omega)]
    by_cases e : (x = a ∧ y = b) ∨ (x = b ∧ y = a)
    · constructor
      · intro z
        rcases z with z | z
        · have q := ht.mp z.2
          rcases e with e | e
          · rw [e.1, e.2]; exact q
          · rw [e.1, e.2]; exact (hok a ha b (by omega) q).2.2
        · exact absurd e z.1
      · intro z
        refine Or.inl ⟨e, ht.mpr ?_⟩
        rcases e with e | e
        · rw [e.1, e.2] at z; exact z
        · rw [e.1, e.2] at z; exact (hok b hb a (by omega) z).2.2
    · have q1 := h1 x hx y (by omega)
      constructor
      · intro z
        rcases z with z | ⟨_, z⟩
        · exact absurd z.1 e
        · rcases q1.mp z with w | w
          · exact absurd w.1 e
          · exact w.2
      · intro z
        exact Or.inr ⟨e, q1.mpr (Or.inr ⟨e, z⟩)⟩
  funext x y
  apply propext
  rw [gb_0i, gb_0i]
  constructor
  · intro ⟨g1, g2, g3⟩
    exact ⟨g1, (key x y g1.1 g1.2).mp g2, g3⟩
  · intro ⟨g1, g2, g3⟩
    exact ⟨g1, (key x y g1.1 g1.2).mpr g2, g3⟩
/-- the new edge is in the new graph -/
theorem gb_new {a1 a1' : Nat → Int32} {on : Int32} {a b n n' n2 : Nat} (hok : gb_ok a1) (ha : a < 10) (hb : b < 10) (ne : a ≠ b) (oa : gb_on on a) (ob : gb_on on b) (h1 : gb_E a1 a1' a b (¬ (1 : Int32) = 0)) (hn : nu_is (gb_0 a1 on) n) (hn' : nu_is (gb_0 a1' on) n') (hn2 : nu_is (gb_0 a1 (gb_wo on a b)) n2) : n < n' ↔ n2 = n := by
  have ok1 : gb_ok a1' := gb_E_ok ha hb ne hok h1
  have hG : mt_G (gb_0 a1' on) := gb_mt ok1
  have gab : gb_0 a1' on a b := gb_0i.mpr ⟨⟨ha, hb⟩, (h1 a ha b (by omega)).mpr (Or.inl ⟨Or.inl ⟨rfl, rfl⟩, by decide⟩), oa, ob⟩
  have u := nu_add hG gab (G2 := gb_0 a1 (gb_wo on a b)) (fun x y g => by
    obtain ⟨q1, q2, q3⟩ := (gb_wo_G ha hb).mp g
    obtain ⟨g1, g2, g3, g4⟩ := gb_0i.mp q1
    refine ⟨gb_0i.mpr ⟨g1, (h1 x g1.1 y (by omega)).mpr (Or.inr ⟨fun z => ?_, g2⟩), g3, g4⟩, q2⟩
    rcases z with z | z
    · exact q2.1 z.1
    · exact q2.2 z.1) hn' hn2
  have mo := nu_mono (G := gb_0 a1 on) (G2 := gb_0 a1 (gb_wo on a b)) (fun x y g => ((gb_wo_G ha hb).mp g).1) hn hn2
  constructor
  · intro hl
    have d := nu_del hG ha hb (G1 := gb_0 a1 on) (G2 := gb_0 a1 (gb_wo on a b)) (fun x y g n1 n2 => by
      obtain ⟨g1, g2, g3, g4⟩ := gb_0i.mp g
      rcases (h1 x g1.1 y (by omega)).mp g2 with ⟨z | z, _⟩ | z
      · exact absurd z n1
      · exact absurd z n2
      · exact gb_0i.mpr ⟨g1, z.2, g3, g4⟩) (fun x y g n1 n2 n3 n4 => by
      obtain ⟨g1, g2, g3, g4⟩ := gb_0i.mp g
      refine (gb_wo_G ha hb).mpr ⟨?_, ⟨n1, n2⟩, n3, n4⟩
      rcases (h1 x g1.1 y (by omega)).mp g2 with ⟨z | z, _⟩ | z
      · exact absurd z.1 n1
      · exact absurd z.1 n2
      · exact gb_0i.mpr ⟨g1, z.2, g3, g4⟩) hn' hn hn2 hl
    omega
  · intro e
    omega
theorem hk_285 {post : Int32 → Prop} {L : Nat} {xs : Nat → Int32} {J : Int32 → Int32 → Int32 → Int32 → Int32 → Int32 → Int32 → Int32 → Int32 → (Nat → Int32) → (Nat → Int32) → (Nat → Int32) → (Nat → Int32) → (Nat → Int32) → (Nat → Int32) → Prop} {x2 x3 x7 x8 x9 x10 on am bA bB ev wt mk sh : Int32} {a1 a2 a3 a4 a5 a6 : Nat → Int32} {kc ks i : Nat}
    (h1 : ¬ x8 = 0 → x9 = 0 → ¬ x10 = 0 → x7 = 1) (h0 : ¬ (¬ x8 = 0 ∧ x9 = 0 ∧ ¬ x10 = 0) → x7 = 0) (HJ : J (nI (i + 1)) on am bA bB ev wt mk sh a1 a2 a3 a4 a5 a6) :
    wL_law_285 post L xs J x2 x3 (nI i) x7 x8 x9 x10 kc ks on am bA bB ev wt mk sh a1 a2 a3 a4 a5 a6 := by
  have f0 : ¬ (¬ x8 = 0 ∧ x9 = 0 ∧ ¬ x10 = 0) → wL_law_306 post L xs J x2 x3 (nI i) x7 kc ks on am bA bB ev wt mk sh a1 a2 a3 a4 a5 a6 := fun z => br_t (h0 z) (nm_r (nI_1 i) HJ)
  exact br_c (fun e8 => f0 (fun z => z.1 e8)) (fun e8 => br_c (fun e9 => br_c (fun e10 => f0 (fun z => z.2.2 e10)) (fun e10 => br_t (h1 e8 e9 e10) (nm_r (nI_1 i) HJ))) (fun e9 => f0 (fun z => e9 z.2.1)))
theorem hk_232 {post : Int32 → Prop} {L : Nat} {xs : Nat → Int32} {J : Int32 → Int32 → Int32 → Int32 → Int32 → Int32 → Int32 → Int32 → Int32 → (Nat → Int32) → (Nat → Int32) → (Nat → Int32) → (Nat → Int32) → (Nat → Int32) → (Nat → Int32) → Prop} {on r z0 am bA bB ev wt mk sh : Int32} {a1 a2 a3 a4 a5 a6 : Nat → Int32} {kc ks i a b n : Nat} (hok : gb_ok a1) (ha : a < 10) (hb : b < 10) (ne : a ≠ b) (hn : nu_is (gb_0 a1 on) n) (hz : ¬ z0 = 0 ↔ (gb_on on a ∧ gb_on on b))
    (hr : (r = 1 ∧ gb_hp a1 on a b ∧ nu_is (gb_0 a1 (gb_wo on a b)) (ff_nu a1 on)) ∨ (r = 0 ∧ (a ≠ b → gb_on on a → gb_on on b → ¬ bi_t (a1 a) b = true → ∃ n2, nu_is (gb_0 a1 (gb_wo on a b)) n2 ∧ n2 ≠ ff_nu a1 on)))
    (HJ : ∀ (a1'' : Nat → Int32) (q : Int32 × Int32 × Int32 × Int32 × Int32 × Int32 × Int32 × (Nat → Int32) × (Nat → Int32) × (Nat → Int32) × (Nat → Int32) × (Nat → Int32)), gb_ok a1'' → nu_is (gb_0 a1'' on) n → J (nI (i + 1)) on q.1 q.2.1 q.2.2.1 q.2.2.2.1 q.2.2.2.2.1 q.2.2.2.2.2.1 q.2.2.2.2.2.2.1 a1'' q.2.2.2.2.2.2.2.1 q.2.2.2.2.2.2.2.2.1 q.2.2.2.2.2.2.2.2.2.1 q.2.2.2.2.2.2.2.2.2.2.1 q.2.2.2.2.2.2.2.2.2.2.2) :
    wL_law_232 post L xs J on (nI n) (nI i) (nI a) (nI b) r z0 kc ks on am bA bB ev wt mk sh a1 a2 a3 a4 a5 a6 := by
  have en : n = ff_nu a1 on := ff_nu_eq hn
  unfold wL_law_232
  refine hk_edge ha hb (fun e => absurd e ne) (fun _ a1' h1 => ?_)
  have ok1 : gb_ok a1' := gb_E_ok ha hb ne hok h1
  refine hk_sz ok1 (fun n' am' bA' bB' ev' wt' mk' sh' a2' a3' a4' a5' a6' hn' => ?_)
  have old : ∀ {x : Int32}, x = (if bi_t (a1 a) b = true then (1 : Int32) else 0) → (x = 0 ↔ ¬ bi_t (a1 a) b = true) ∧ ¬ x < 0 ∧ (x = 1 ↔ bi_t (a1 a) b = true) := fun {x} hx => by
    rw [hx]
    by_cases e : bi_t (a1 a) b = true
    · rw [if_pos e]
      exact ⟨⟨fun z => absurd z (by decide), fun z => absurd e z⟩, by decide, ⟨fun _ => e, fun _ => rfl⟩⟩
    · rw [if_neg e]
      exact ⟨⟨fun _ => e, fun _ => rfl⟩, by decide, ⟨fun z => absurd z (by decide), fun z => absurd z e⟩⟩
  have l5 := nu_le5 hn
  have l5' := nu_le5 hn'
  have fin : ∀ rs : Int32, (¬ rs = 0 ↔ n < n') → wL_law_258 post L xs J on (nI n) (nI i) (nI a) (nI b) r z0 (if bi_t (a1 a) b = true then 1 else 0) rs kc ks on am' bA' bB' ev' wt' mk' sh' a1' a2' a3' a4' a5' a6' := fun rs hrs => by
    have F1 : ¬ z0 = 0 → (if bi_t (a1 a) b = true then (1 : Int32) else 0) = 0 → ¬ rs = 0 → r = 1 := fun q1 q2 q3 => by
      obtain ⟨oa, ob⟩ := hz.mp q1
      rcases hr with hr | ⟨hr, hr2⟩
      · exact hr.1
      · obtain ⟨n2, z1, z2⟩ := hr2 ne oa ob ((old rfl).1.mp q2)
        have := (gb_new hok ha hb ne oa ob h1 hn hn' z1).mp (hrs.mp q3)
        exact absurd (by rw [this, en]) z2
    have F0 : ¬ (¬ z0 = 0 ∧ (if bi_t (a1 a) b = true then (1 : Int32) else 0) = 0 ∧ ¬ rs = 0) → r = 0 := fun q => by
      rcases hr with ⟨hr, hp, hr2⟩ | hr
      · refine absurd ⟨hz.mpr ⟨hp.2.2.1, hp.2.2.2.1⟩, (old rfl).1.mpr hp.2.1, hrs.mpr ((gb_new hok ha hb ne hp.2.2.1 hp.2.2.2.1 h1 hn hn' hr2).mpr en.symm)⟩ q
      · exact hr.1
    have B : ∀ t : Int32, (¬ t = 0 ↔ bi_t (a1 a) b = true) → wL_law_281 post L xs J on (nI n) (nI i) r z0 (if bi_t (a1 a) b = true then 1 else 0) rs t (nI b) (nI a) kc ks on am' bA' bB' ev' wt' mk' sh' a1' a2' a3' a4' a5' a6' := fun t ht => by
      unfold wL_law_281
      refine hk_edge ha hb (fun e => absurd e ne) (fun _ a1'' h2 => ?_)
      refine hk_285 F1 F0 (HJ a1'' (am', bA', bB', ev', wt', mk', sh', a2', a3', a4', a5', a6') (gb_E_ok ha hb ne ok1 h2) ?_)
      rw [gb_back hok ha hb h1 h2 ht]
      exact hn
    refine br_f (old rfl).2.1 (br_c (fun e => B 1 ⟨fun _ => (old rfl).2.2.mp e, fun _ => by decide⟩) (fun e => B 0 ⟨fun z => absurd rfl z, fun z => absurd ((old rfl).2.2.mpr z) e⟩))
  exact pk_le n' n (fun z => fin 0 ⟨fun y => absurd rfl y, fun y => by omega⟩) (fun z => fin 1 ⟨fun _ => z, fun _ => by decide⟩) rfl rfl (by omega) (by omega)
theorem hk_cell {post : Int32 → Prop} {L : Nat} {xs : Nat → Int32} (hL : L ≤ 260) (H : ∀ c, post c) : wpL_cell post L xs () 0 :=
  pk_le L 0 (fun _ => H _) (fun z => ⟨vp_in_nI (n := 0) z (by omega), H _⟩) rfl rfl (by omega) (by omega)
theorem hk_142 {L : Nat} {xs : Nat → Int32} {on : Int32} {kc ks n : Nat} (hL : L ≤ 260) (a1 : Nat → Int32) (q0 : Int32 × Int32 × Int32 × Int32 × Int32 × Int32 × Int32 × (Nat → Int32) × (Nat → Int32) × (Nat → Int32) × (Nat → Int32) × (Nat → Int32)) (hok : gb_ok a1) (hn : nu_is (gb_0 a1 on) n) :
    ∃ fu, wL_law_142 (fun r => r = 1) L xs on (nI n) kc ks fu 0 on q0.1 q0.2.1 q0.2.2.1 q0.2.2.2.1 q0.2.2.2.2.1 q0.2.2.2.2.2.1 q0.2.2.2.2.2.2.1 a1 q0.2.2.2.2.2.2.2.1 q0.2.2.2.2.2.2.2.2.1 q0.2.2.2.2.2.2.2.2.2.1 q0.2.2.2.2.2.2.2.2.2.2.1 q0.2.2.2.2.2.2.2.2.2.2.2 := by
  refine pk_loop (σ := (Nat → Int32) × Int32 × Int32 × Int32 × Int32 × Int32 × Int32 × Int32 × (Nat → Int32) × (Nat → Int32) × (Nat → Int32) × (Nat → Int32) × (Nat → Int32)) (fun fu i s => wL_law_142 (fun r => r = 1) L xs on (nI n) kc ks fu (nI i) on s.2.1 s.2.2.1 s.2.2.2.1 s.2.2.2.2.1 s.2.2.2.2.2.1 s.2.2.2.2.2.2.1 s.2.2.2.2.2.2.2.1 s.1 s.2.2.2.2.2.2.2.2.1 s.2.2.2.2.2.2.2.2.2.1 s.2.2.2.2.2.2.2.2.2.2.1 s.2.2.2.2.2.2.2.2.2.2.2.1 s.2.2.2.2.2.2.2.2.2.2.2.2) (fun _ s => gb_ok s.1 ∧ nu_is (gb_0 s.1 on) n) 12 0 (a1, q0) (by omega) ⟨hok, hn⟩ ?_ ?_
  · intro fu s ⟨hok, hn⟩
    refine pk_le 12 12 (fun _ => ?_) (fun z => absurd z (by omega))
    refine hk_sz hok (fun n' am' bA' bB' ev' wt' mk' sh' a2' a3' a4' a5' a6' hn' => ?_)
    rw [nu_un hn' hn]
    exact br_t rfl rfl
  · intro fu i s hi ⟨hok, hn⟩ hw
    refine pk_le 12 i (fun z => absurd z (by omega)) (fun _ => ?_)
    refine hk_cell hL (fun c => ⟨by decide, ?_⟩)
    obtain ⟨j, j1, j2⟩ := pk_andE c (m := 255) 8 (by decide)
    refine nm_r (e' := nI ((j + i) % 10)) (by rw [j2, nI_add]; exact pk_rem (d := 10) (by omega) (by decide) (by decide)) ?_
    refine hk_cell hL (fun c' => ⟨by decide, ?_⟩)
    obtain ⟨d, d1, d2⟩ := pk_andE ((c' >>> ((8 : Int32) &&& 31)) + nI i) (m := 7) 3 (by decide)
    refine nm_r (e' := nI (((j + i) % 10 + 1 + d) % 10)) (by rw [d2, nI_1, nI_add]; exact pk_rem (d := 10) (by omega) (by decide) (by decide)) ?_
    have d8 : d < 8 := d1
    have ne : (j + i) % 10 ≠ ((j + i) % 10 + 1 + d) % 10 := by omega
    have ha : (j + i) % 10 < 10 := by omega
    have hb : ((j + i) % 10 + 1 + d) % 10 < 10 := by omega
    generalize (j + i) % 10 = a at ne ha hb ⊢
    generalize (a + 1 + d) % 10 = b at ne hb ⊢
    refine hk_helps hok ha hb (fun r am' bA' bB' ev' wt' mk' sh' a2' a3' a4' a5' a6' hr => ?_)
    have fin : ∀ z0 : Int32, (¬ z0 = 0 ↔ (gb_on on a ∧ gb_on on b)) → wL_law_232 (fun r => r = 1) L xs _ on (nI n) (nI i) (nI a) (nI b) r z0 kc ks on am' bA' bB' ev' wt' mk' sh' s.1 a2' a3' a4' a5' a6' := fun z0 hz =>
      hk_232 hok ha hb ne hn hz hr (fun a1'' q k1 k2 => hw (a1'', q) ⟨k1, k2⟩)
    refine br_f (fun e => ne ((nI_eq (by omega) (by omega)).mp e)) (br_c (fun e1 => br_c (fun e2 => fin 1 ⟨fun _ => ⟨(bi_in _ (by omega)).mp e1, (bi_in _ (by omega)).mp e2⟩, fun _ => by decide⟩) (fun e2 => fin 0 ⟨fun z => absurd rfl z, fun z => absurd ((bi_in _ (by omega)).mpr z.2) e2⟩)) (fun e1 => fin 0 ⟨fun z => absurd rfl z, fun z => absurd ((bi_in _ (by omega)).mpr z.1) e1⟩))
theorem hk_124 {L : Nat} {xs : Nat → Int32} {on am bA bB ev wt mk sh : Int32} {a1 a2 a3 a4 a5 a6 : Nat → Int32} {kc ks : Nat} (hL : L ≤ 260) (hok : gb_ok a1) : wL_law_124 (fun r => r = 1) L xs on kc ks on am bA bB ev wt mk sh a1 a2 a3 a4 a5 a6 := by
  unfold wL_law_124
  refine hk_holds hok (fun am' bA' bB' ev' wt' mk' sh' a2' a3' a4' a5' a6' => br_f (by decide) ?_)
  refine hk_sz hok (fun n am' bA' bB' ev' wt' mk' sh' a2' a3' a4' a5' a6' hn => ?_)
  exact hk_142 hL a1 (am', bA', bB', ev', wt', mk', sh', a2', a3', a4', a5', a6') hok hn
theorem hk_99 {L : Nat} {xs : Nat → Int32} {J : Int32 → Int32 → Int32 → Int32 → Int32 → Int32 → Int32 → Int32 → Int32 → Int32 → (Nat → Int32) → (Nat → Int32) → (Nat → Int32) → (Nat → Int32) → (Nat → Int32) → (Nat → Int32) → Prop} {on am bA bB ev wt mk sh : Int32} {a1 a2 a3 a4 a5 a6 : Nat → Int32} {kc ks k : Nat} (hok : gb_ok a1)
    (HJ : ∀ q : Int32 × Int32 × Int32 × Int32 × Int32 × Int32 × Int32 × (Nat → Int32) × (Nat → Int32) × (Nat → Int32) × (Nat → Int32) × (Nat → Int32), J on (nI (k + 1)) on q.1 q.2.1 q.2.2.1 q.2.2.2.1 q.2.2.2.2.1 q.2.2.2.2.2.1 q.2.2.2.2.2.2.1 a1 q.2.2.2.2.2.2.2.1 q.2.2.2.2.2.2.2.2.1 q.2.2.2.2.2.2.2.2.2.1 q.2.2.2.2.2.2.2.2.2.2.1 q.2.2.2.2.2.2.2.2.2.2.2) : wL_law_99 (fun r => r = 1) L xs J on (nI k) kc ks on am bA bB ev wt mk sh a1 a2 a3 a4 a5 a6 := by
  refine br_c (fun z => ?_) (fun z => nm_r (nI_1 k) (HJ (am, bA, bB, ev, wt, mk, sh, a2, a3, a4, a5, a6)))
  refine hk_holds hok (fun am' bA' bB' ev' wt' mk' sh' a2' a3' a4' a5' a6' => br_f (by decide) (nm_r (nI_1 k) (HJ (am', bA', bB', ev', wt', mk', sh', a2', a3', a4', a5', a6'))))
end
section
theorem hk_14 {L : Nat} {xs : Nat → Int32} {kc ks : Nat} (hL : L ≤ 260) (on : Int32) (a1 : Nat → Int32) (q0 : Int32 × Int32 × Int32 × Int32 × Int32 × Int32 × Int32 × (Nat → Int32) × (Nat → Int32) × (Nat → Int32) × (Nat → Int32) × (Nat → Int32)) (hok : gb_ok a1) :
    ∃ fu, wL_law_14 (fun r => r = 1) L xs kc ks fu on 1 on q0.1 q0.2.1 q0.2.2.1 q0.2.2.2.1 q0.2.2.2.2.1 q0.2.2.2.2.2.1 q0.2.2.2.2.2.2.1 a1 q0.2.2.2.2.2.2.2.1 q0.2.2.2.2.2.2.2.2.1 q0.2.2.2.2.2.2.2.2.2.1 q0.2.2.2.2.2.2.2.2.2.2.1 q0.2.2.2.2.2.2.2.2.2.2.2 := by
  refine pk_loop (σ := Int32 × (Nat → Int32) × Int32 × Int32 × Int32 × Int32 × Int32 × Int32 × Int32 × (Nat → Int32) × (Nat → Int32) × (Nat → Int32) × (Nat → Int32) × (Nat → Int32)) (fun fu k s => wL_law_14 (fun r => r = 1) L xs kc ks fu s.1 (nI k) s.1 s.2.2.1 s.2.2.2.1 s.2.2.2.2.1 s.2.2.2.2.2.1 s.2.2.2.2.2.2.1 s.2.2.2.2.2.2.2.1 s.2.2.2.2.2.2.2.2.1 s.2.1 s.2.2.2.2.2.2.2.2.2.1 s.2.2.2.2.2.2.2.2.2.2.1 s.2.2.2.2.2.2.2.2.2.2.2.1 s.2.2.2.2.2.2.2.2.2.2.2.2.1 s.2.2.2.2.2.2.2.2.2.2.2.2.2) (fun _ s => gb_ok s.2.1) 40 1 (on, a1, q0) (by omega) hok ?_ ?_
  · intro fu s hok
    exact br_c (fun _ => hk_124 hL hok) (fun _ => pk_le 40 40 (fun _ => hk_124 hL hok) (fun z => absurd z (by omega)))
  · intro fu k s hk hok hw
    refine pk_le L k (fun _ => hk_124 hL hok) (fun z => pk_le 40 k (fun z => absurd z (by omega)) (fun _ => ⟨vp_in_nI z (by omega), nm_e ?_⟩)) rfl rfl (by omega) (by omega)
    generalize xs (nI k).toNatClampNeg = x
    obtain ⟨a, ha, ea⟩ := hk_mod (x >>> ((4 : Int32) &&& 31))
    refine hk_build ha ea hok (fun r on' a1' k1 k2 k3 => ⟨by decide, nm_r ea ?_⟩)
    have nxt : wL_law_99 (fun r => r = 1) L xs (wL_law_14 (fun r => r = 1) L xs kc ks fu) on' (nI k) kc ks on' s.2.2.1 s.2.2.2.1 s.2.2.2.2.1 s.2.2.2.2.2.1 s.2.2.2.2.2.2.1 s.2.2.2.2.2.2.2.1 s.2.2.2.2.2.2.2.2.1 a1' s.2.2.2.2.2.2.2.2.2.1 s.2.2.2.2.2.2.2.2.2.2.1 s.2.2.2.2.2.2.2.2.2.2.2.1 s.2.2.2.2.2.2.2.2.2.2.2.2.1 s.2.2.2.2.2.2.2.2.2.2.2.2.2 := hk_99 k1 (fun q => hw (on', a1', q) k1)
    have s71 : ((x &&& 15) = 11 ∨ (x &&& 15) = 12) → wL_law_71 (fun r => r = 1) L xs (wL_law_14 (fun r => r = 1) L xs kc ks fu) s.1 (nI k) x (nI a) kc ks on' s.2.2.1 s.2.2.2.1 s.2.2.2.2.1 s.2.2.2.2.2.1 s.2.2.2.2.2.2.1 s.2.2.2.2.2.2.2.1 s.2.2.2.2.2.2.2.2.1 a1' s.2.2.2.2.2.2.2.2.2.1 s.2.2.2.2.2.2.2.2.2.2.1 s.2.2.2.2.2.2.2.2.2.2.2.1 s.2.2.2.2.2.2.2.2.2.2.2.2.1 s.2.2.2.2.2.2.2.2.2.2.2.2.2 := fun e => by
      obtain ⟨e0, e1⟩ := k2 e
      refine br_c (fun y => ?_) (fun y => ?_)
      · rw [← e0 y]; exact nxt
      · rw [← e1 y]; exact nxt
    refine br_c (fun e => s71 (Or.inl e)) (fun e => br_c (fun e2 => s71 (Or.inr e2)) (fun e2 => ?_))
    rw [← k3 e e2]
    exact nxt
theorem i_vc (xs : Nat → Int32) (L : Nat) (hL : L ≤ 260) : wpL_law (fun r => r = 1) L xs := by
  refine ⟨6, 60, by omega, by omega, ?_⟩
  refine ⟨by omega, by omega, by omega, by omega, by omega, by omega, by omega, by omega, by omega, by omega, by omega, by omega, ?_⟩
  refine hk_14 hL 1023 (fun _ => 0) (0, 0, 0, 0, 0, 0, 0, (fun _ => 0), (fun _ => 0), (fun _ => 0), (fun _ => 0), (fun _ => 0)) (fun x _ y _ g => ?_)
  rw [bi_z] at g
  exact absurd g (by decide)
end
