section
/-! sums below a bound, counts of propositions -/
noncomputable def sm_cb (p : Prop) : Nat := @ite Nat p (Classical.propDecidable p) 1 0
theorem sm_cb1 {p : Prop} (h : p) : sm_cb p = 1 := if_pos h
theorem sm_cb0 {p : Prop} (h : ¬ p) : sm_cb p = 0 := if_neg h
theorem sm_cble {p q : Prop} (h : p → q) : sm_cb p ≤ sm_cb q := by
  by_cases hp : p
  · rw [sm_cb1 hp, sm_cb1 (h hp)]; exact Nat.le_refl 1
  · rw [sm_cb0 hp]; exact Nat.zero_le _
theorem sm_cbx {p q : Prop} (h : p ↔ q) : sm_cb p = sm_cb q := by rw [propext h]
theorem sm_cb_le1 (p : Prop) : sm_cb p ≤ 1 := by
  by_cases hp : p
  · rw [sm_cb1 hp]; exact Nat.le_refl 1
  · rw [sm_cb0 hp]; exact Nat.zero_le _
theorem sm_cbp {p : Prop} (h : 0 < sm_cb p) : p := by
  by_cases hp : p
  · exact hp
  · rw [sm_cb0 hp] at h; exact absurd h (Nat.lt_irrefl 0)
def sm_S (f : Nat → Nat) : Nat → Nat
  | 0 => 0
  | n + 1 => sm_S f n + f n
theorem sm_S_le {f g : Nat → Nat} : ∀ n, (∀ i, i < n → f i ≤ g i) → sm_S f n ≤ sm_S g n := by
  intro n
  induction n with
  | zero => intro _; exact Nat.le_refl 0
  | succ n ih =>
    intro h
    exact Nat.add_le_add (ih fun i hi => h i (by omega)) (h n (by omega))
theorem sm_S_eq {f g : Nat → Nat} (n : Nat) (h : ∀ i, i < n → f i = g i) : sm_S f n = sm_S g n :=
  Nat.le_antisymm (sm_S_le n fun i hi => Nat.le_of_eq (h i hi)) (sm_S_le n fun i hi => Nat.le_of_eq (h i hi).symm)
theorem sm_S_add {f g : Nat → Nat} : ∀ n, sm_S (fun i => f i + g i) n = sm_S f n + sm_S g n := by
  intro n
  induction n with
  | zero => rfl
  | succ n ih =>
    show sm_S (fun i => f i + g i) n + (f n + g n) = sm_S f n + f n + (sm_S g n + g n)
    rw [ih]; omega
theorem sm_S_0 : ∀ n, sm_S (fun _ => 0) n = 0 := by
  intro n
  induction n with
  | zero => rfl
  | succ n ih => show sm_S (fun _ => 0) n + 0 = 0; rw [ih]
theorem sm_S_comm {F : Nat → Nat → Nat} (m : Nat) : ∀ n, sm_S (fun i => sm_S (fun s => F i s) m) n = sm_S (fun s => sm_S (fun i => F i s) n) m := by
  intro n
  induction n with
  | zero => exact (sm_S_0 m).symm
  | succ n ih =>
    show sm_S (fun i => sm_S (fun s => F i s) m) n + sm_S (fun s => F n s) m = sm_S (fun s => sm_S (fun i => F i s) n + F n s) m
    rw [ih, sm_S_add]
theorem sm_S_pt {f g : Nat → Nat} {k : Nat} : ∀ n, k < n → (∀ i, i < n → i ≠ k → f i = g i) → sm_S f n + g k = sm_S g n + f k := by
  intro n
  induction n with
  | zero => intro h _; exact absurd h (Nat.not_lt_zero k)
  | succ n ih =>
    intro hk h
    show sm_S f n + f n + g k = sm_S g n + g n + f k
    by_cases e : k = n
    · subst e
      rw [sm_S_eq k fun i hi => h i (by omega) (by omega)]; omega
    · have := ih (by omega) fun i hi hne => h i (by omega) hne
      have := h n (by omega) (fun e' => e e'.symm)
      omega
theorem sm_S_pos {f : Nat → Nat} : ∀ n, 0 < sm_S f n → ∃ i, i < n ∧ 0 < f i := by
  intro n
  induction n with
  | zero => intro h; exact absurd h (Nat.lt_irrefl 0)
  | succ n ih =>
    intro h
    by_cases h0 : 0 < f n
    · exact ⟨n, by omega, h0⟩
    · have h' : 0 < sm_S f n + f n := h
      obtain ⟨i, hi, hf⟩ := ih (by omega)
      exact ⟨i, by omega, hf⟩
theorem sm_S_ge {f : Nat → Nat} {k : Nat} : ∀ n, k < n → f k ≤ sm_S f n := by
  intro n
  induction n with
  | zero => intro h; exact absurd h (Nat.not_lt_zero k)
  | succ n ih =>
    intro h
    show f k ≤ sm_S f n + f n
    by_cases e : k = n
    · subst e; omega
    · have := ih (by omega); omega
/-- an option is one of its values -/
theorem sm_one0 (p : Prop) (o : Option Nat) : ∀ m, (∀ s, o = some s → m ≤ s) → sm_S (fun s => sm_cb (p ∧ o = some s)) m = 0 := by
  intro m
  induction m with
  | zero => intro _; rfl
  | succ m ih =>
    intro h
    show sm_S (fun s => sm_cb (p ∧ o = some s)) m + sm_cb (p ∧ o = some m) = 0
    rw [ih (fun s hs => by have := h s hs; omega), sm_cb0 (fun ⟨_, e⟩ => by have := h m e; omega)]
theorem sm_one (p : Prop) (o : Option Nat) : ∀ m, (∀ s, o = some s → s < m) → sm_S (fun s => sm_cb (p ∧ o = some s)) m = sm_cb (p ∧ o ≠ none) := by
  intro m
  induction m with
  | zero =>
    intro h
    refine (sm_cb0 ?_).symm
    rintro ⟨_, h2⟩
    cases o with
    | none => exact h2 rfl
    | some s => exact absurd (h s rfl) (Nat.not_lt_zero s)
  | succ m ih =>
    intro h
    show sm_S (fun s => sm_cb (p ∧ o = some s)) m + sm_cb (p ∧ o = some m) = _
    by_cases e : o = some m
    · rw [sm_one0 p o m (fun s hs => by rw [e] at hs; cases hs; exact Nat.le_refl m), Nat.zero_add]
      refine sm_cbx ⟨fun ⟨a, b⟩ => ⟨a, by rw [b]; exact fun z => nomatch z⟩, fun ⟨a, _⟩ => ⟨a, e⟩⟩
    · rw [sm_cb0 (p := p ∧ o = some m) (fun ⟨_, b⟩ => e b), Nat.add_zero]
      refine ih fun s hs => ?_
      have := h s hs
      have : s ≠ m := fun z => e (by rw [hs, z])
      omega
/-- a number is the count of those below it -/
theorem sm_below (p : Prop) (k : Nat) : ∀ m, sm_S (fun t => sm_cb (p ∧ t + 1 ≤ k)) m = sm_cb p * (if k ≤ m then k else m) := by
  intro m
  induction m with
  | zero =>
    show 0 = _
    by_cases h : k ≤ 0
    · rw [if_pos h]; have : k = 0 := by omega
      rw [this, Nat.mul_zero]
    · rw [if_neg h, Nat.mul_zero]
  | succ m ih =>
    show sm_S (fun t => sm_cb (p ∧ t + 1 ≤ k)) m + sm_cb (p ∧ m + 1 ≤ k) = _
    rw [ih]
    by_cases hp : p
    · rw [sm_cb1 hp, Nat.one_mul, Nat.one_mul]
      by_cases h : m + 1 ≤ k
      · rw [sm_cb1 ⟨hp, h⟩]
        by_cases h2 : k ≤ m
        · omega
        · by_cases h3 : k ≤ m + 1
          · rw [if_neg h2, if_pos h3]; omega
          · rw [if_neg h2, if_neg h3]
      · rw [sm_cb0 (fun z => h z.2), if_pos (show k ≤ m by omega), if_pos (show k ≤ m + 1 by omega)]; rfl
    · rw [sm_cb0 hp, sm_cb0 (fun z => hp z.1), Nat.zero_mul, Nat.zero_mul]
/-! counts of sets of jobs (numbers below 7) -/
noncomputable def sm_cn (P : Nat → Prop) : Nat := sm_S (fun i => sm_cb (P i)) 7
theorem sm_cn_le {P Q : Nat → Prop} (h : ∀ i, i < 7 → P i → Q i) : sm_cn P ≤ sm_cn Q := sm_S_le 7 fun i hi => sm_cble (h i hi)
theorem sm_cn_eq {P Q : Nat → Prop} (h : ∀ i, i < 7 → (P i ↔ Q i)) : sm_cn P = sm_cn Q := sm_S_eq 7 fun i hi => sm_cbx (h i hi)
theorem sm_cn_split (P Q : Nat → Prop) : sm_cn P = sm_cn (fun i => P i ∧ Q i) + sm_cn (fun i => P i ∧ ¬ Q i) := by
  unfold sm_cn
  rw [← sm_S_add]
  refine sm_S_eq 7 fun i _ => ?_
  by_cases hp : P i
  · by_cases hq : Q i
    · rw [sm_cb1 hp, sm_cb1 (p := P i ∧ Q i) ⟨hp, hq⟩, sm_cb0 (p := P i ∧ ¬ Q i) (fun z => z.2 hq)]
    · rw [sm_cb1 hp, sm_cb0 (p := P i ∧ Q i) (fun z => hq z.2), sm_cb1 (p := P i ∧ ¬ Q i) ⟨hp, hq⟩]
  · rw [sm_cb0 hp, sm_cb0 (p := P i ∧ Q i) (fun z => hp z.1), sm_cb0 (p := P i ∧ ¬ Q i) (fun z => hp z.1)]
theorem sm_cn_pt {P Q : Nat → Prop} {k : Nat} (hk : k < 7) (h : ∀ i, i < 7 → i ≠ k → (P i ↔ Q i)) : sm_cn P + sm_cb (Q k) = sm_cn Q + sm_cb (P k) :=
  sm_S_pt (f := fun i => sm_cb (P i)) (g := fun i => sm_cb (Q i)) 7 hk fun i hi hne => sm_cbx (h i hi hne)
theorem sm_cn_add1 {P Q : Nat → Prop} {k : Nat} (hk : k < 7) (h : ∀ i, i < 7 → i ≠ k → (P i ↔ Q i)) (hP : ¬ P k) (hQ : Q k) : sm_cn Q = sm_cn P + 1 := by
  have := sm_cn_pt hk h
  rw [sm_cb0 hP, sm_cb1 hQ] at this; omega
theorem sm_cn_le1 {P Q : Nat → Prop} {k : Nat} (hk : k < 7) (h : ∀ i, i < 7 → i ≠ k → P i → Q i) : sm_cn P ≤ sm_cn Q + 1 := by
  have h1 : sm_cn P ≤ sm_cn (fun i => Q i ∨ i = k) := sm_cn_le fun i hi hp => by
    by_cases e : i = k
    · exact Or.inr e
    · exact Or.inl (h i hi e hp)
  have h2 := sm_cn_pt (P := fun i => Q i ∨ i = k) (Q := Q) hk fun i _ hne => ⟨fun z => z.resolve_right hne, Or.inl⟩
  have h3 := sm_cb_le1 (Q k ∨ k = k)
  have h4 : sm_cn (fun i => Q i ∨ i = k) + sm_cb (Q k) = sm_cn Q + sm_cb (Q k ∨ k = k) := h2
  omega
theorem sm_S_cap {f : Nat → Nat} (h : ∀ i, f i ≤ 1) : ∀ n, sm_S f n ≤ n := by
  intro n
  induction n with
  | zero => exact Nat.le_refl 0
  | succ n ih => have := h n; show sm_S f n + f n ≤ n + 1; omega
theorem sm_cn7 (P : Nat → Prop) : sm_cn P ≤ 7 := sm_S_cap (fun i => sm_cb_le1 (P i)) 7
/-- a function changed at one place -/
def sm_up {α : Type} (f : Nat → α) (k : Nat) (x : α) : Nat → α := fun j => if j = k then x else f j
theorem sm_us {α : Type} {f : Nat → α} {k : Nat} {x : α} : sm_up f k x k = x := if_pos rfl
theorem sm_un {α : Type} {f : Nat → α} {k j : Nat} {x : α} (h : j ≠ k) : sm_up f k x j = f j := if_neg h
theorem sm_uu {α : Type} {f : Nat → α} {k : Nat} {x y : α} : sm_up (sm_up f k x) k y = sm_up f k y := by
  funext j
  by_cases h : j = k
  · rw [h, sm_us, sm_us]
  · rw [sm_un h, sm_un h, sm_un h]
theorem sm_ui {α : Type} {f : Nat → α} {k : Nat} {x : α} (h : f k = x) : sm_up f k x = f := by
  funext j
  by_cases e : j = k
  · rw [e, sm_us, h]
  · rw [sm_un e]
end
section
/-! placements: o i is the slot of job i, if it has one; windows lo i .. hi i; rm s places in slot s -/
noncomputable def sm_ld (o : Nat → Option Nat) (s : Nat) : Nat := sm_cn (fun i => o i = some s)
def sm_Val (lo hi rm : Nat → Nat) (o : Nat → Option Nat) : Prop :=
  (∀ i s, o i = some s → i < 7 ∧ lo i ≤ s ∧ s ≤ hi i ∧ s < 12) ∧ ∀ s, sm_ld o s ≤ rm s
/-- a set of jobs whose windows are full, of jobs of the set alone -/
def sm_Cl (lo hi rm : Nat → Nat) (o : Nat → Option Nat) (R : Nat → Prop) : Prop :=
  ∀ j, R j → ∀ s, lo j ≤ s → s ≤ hi j → rm s ≤ sm_ld o s ∧ ∀ i, o i = some s → R i
/-- the jobs that a search from f reaches -/
def sm_St (lo hi : Nat → Nat) (o : Nat → Option Nat) (Q : Nat → Prop) : Prop :=
  ∀ j, Q j → ∀ s, lo j ≤ s → s ≤ hi j → ∀ i, o i = some s → Q i
def sm_Rc (lo hi : Nat → Nat) (o : Nat → Option Nat) (f i : Nat) : Prop := ∀ Q : Nat → Prop, Q f → sm_St lo hi o Q → Q i
theorem sm_Rc_0 {lo hi : Nat → Nat} {o : Nat → Option Nat} {f : Nat} : sm_Rc lo hi o f f := fun _ h _ => h
theorem sm_Rc_St {lo hi : Nat → Nat} {o : Nat → Option Nat} {f : Nat} : sm_St lo hi o (sm_Rc lo hi o f) :=
  fun j hj s h1 h2 i hi Q h0 hQ => hQ j (hj Q h0 hQ) s h1 h2 i hi
theorem sm_Rc_pl {lo hi : Nat → Nat} {o : Nat → Option Nat} {f i : Nat} (h : sm_Rc lo hi o f i) : o i ≠ none ∨ i = f :=
  h (fun i => o i ≠ none ∨ i = f) (Or.inr rfl) fun _ _ s _ _ i hi => Or.inl (by rw [hi]; exact fun z => nomatch z)
theorem sm_Rc_mono {lo hi : Nat → Nat} {o o' : Nat → Option Nat} {f i : Nat} (ho : ∀ i s, o i = some s → o' i = some s) (h : sm_Rc lo hi o f i) : sm_Rc lo hi o' f i :=
  fun Q h0 hQ => h Q h0 fun j hj s h1 h2 i hi => hQ j hj s h1 h2 i (ho i s hi)
/-- what a failed search shows -/
theorem sm_Rc_Cl {lo hi rm : Nat → Nat} {o : Nat → Option Nat} {f : Nat} {R : Nat → Prop} (h0 : R f) (h : sm_Cl lo hi rm o R) : sm_Cl lo hi rm o (sm_Rc lo hi o f) :=
  fun j hj s h1 h2 => ⟨(h j (hj R h0 fun j hj s h1 h2 => (h j hj s h1 h2).2) s h1 h2).1, sm_Rc_St j hj s h1 h2⟩
theorem sm_Cl_St {lo hi rm : Nat → Nat} {o : Nat → Option Nat} {R : Nat → Prop} (h : sm_Cl lo hi rm o R) : sm_St lo hi o R :=
  fun j hj s h1 h2 => (h j hj s h1 h2).2
theorem sm_ld_up {o : Nat → Option Nat} {k : Nat} (hk : k < 7) (x : Option Nat) (s : Nat) : sm_ld (sm_up o k x) s + sm_cb (o k = some s) = sm_ld o s + sm_cb (x = some s) := by
  have h := sm_cn_pt (P := fun i => sm_up o k x i = some s) (Q := fun i => o i = some s) hk fun i _ hne => by rw [sm_un hne]
  have e : sm_cb (sm_up o k x k = some s) = sm_cb (x = some s) := by rw [sm_us]
  have h' : sm_ld (sm_up o k x) s + sm_cb (o k = some s) = sm_ld o s + sm_cb (sm_up o k x k = some s) := h
  rw [h', e]
theorem sm_ld7 (o : Nat → Option Nat) (s : Nat) : sm_ld o s ≤ 7 := sm_cn7 _
theorem sm_ld_pos {o : Nat → Option Nat} {s : Nat} (h : 0 < sm_ld o s) : ∃ i, i < 7 ∧ o i = some s := by
  obtain ⟨i, hi, hp⟩ := sm_S_pos 7 h
  exact ⟨i, hi, sm_cbp hp⟩
theorem sm_ld_ge {o : Nat → Option Nat} {s i : Nat} (hi : i < 7) (h : o i = some s) : 0 < sm_ld o s := by
  have := sm_S_ge (f := fun i => sm_cb (o i = some s)) 7 hi
  have e : sm_cb (o i = some s) = 1 := sm_cb1 h
  have this' : sm_cb (o i = some s) ≤ sm_ld o s := this
  omega
/-- taking a job away -/
theorem sm_Val_out {lo hi rm : Nat → Nat} {o : Nat → Option Nat} {k : Nat} (h : sm_Val lo hi rm o) (hk : k < 7) : sm_Val lo hi rm (sm_up o k none) := by
  refine ⟨fun i s e => ?_, fun s => ?_⟩
  · by_cases z : i = k
    · rw [z, sm_us] at e; exact nomatch e
    · rw [sm_un z] at e; exact h.1 i s e
  · have := sm_ld_up (o := o) hk none s
    have := h.2 s
    rw [sm_cb0 (p := none = some s) (fun z => nomatch z)] at *
    omega
/-- putting a job that is not placed to a free place -/
theorem sm_Val_in {lo hi rm : Nat → Nat} {o : Nat → Option Nat} {k s : Nat} (h : sm_Val lo hi rm o) (hk : k < 7) (h0 : o k = none) (h1 : lo k ≤ s) (h2 : s ≤ hi k) (h3 : s < 12) (h4 : sm_ld o s < rm s) : sm_Val lo hi rm (sm_up o k (some s)) := by
  refine ⟨fun i t e => ?_, fun t => ?_⟩
  · by_cases z : i = k
    · subst z; rw [sm_us] at e; cases e; exact ⟨hk, h1, h2, h3⟩
    · rw [sm_un z] at e; exact h.1 i t e
  · have a := sm_ld_up (o := o) hk (some s) t
    have b := h.2 t
    rw [h0, sm_cb0 (p := none = some t) (fun z => nomatch z)] at a
    by_cases e : s = t
    · subst e
      have := sm_cb_le1 (some s = some s)
      omega
    · rw [sm_cb0 (p := some s = some t) (fun z => e (Option.some.inj z))] at a
      omega
/-! chains -/
def sm_PT (lo hi rm : Nat → Nat) (o : Nat → Option Nat) : Nat → Nat → Prop
  | 0, f => ∃ s, lo f ≤ s ∧ s ≤ hi f ∧ sm_ld o s < rm s
  | n + 1, f => ∃ i s, lo f ≤ s ∧ s ≤ hi f ∧ o i = some s ∧ sm_PT lo hi rm o n i
theorem sm_PT_keep {lo hi rm : Nat → Nat} {o o' : Nat → Option Nat} {i : Nat} (hl : ∀ s, sm_ld o' s = sm_ld o s) (ho : ∀ j s, j ≠ i → o j = some s → o' j = some s) :
    ∀ k, (∀ m, m < k → ¬ sm_PT lo hi rm o m i) → ∀ j, sm_PT lo hi rm o k j → sm_PT lo hi rm o' k j := by
  intro k
  induction k with
  | zero =>
    rintro _ j ⟨s, h1, h2, h3⟩
    exact ⟨s, h1, h2, by rw [hl]; exact h3⟩
  | succ k ih =>
    rintro hm j ⟨j', s, h1, h2, h3, h4⟩
    have hne : j' ≠ i := fun e => hm k (by omega) (e ▸ h4)
    exact ⟨j', s, h1, h2, ho j' s hne h3, ih (fun m hmk => hm m (by omega)) j' h4⟩
theorem sm_chain {lo hi rm : Nat → Nat} (hh : ∀ i, hi i ≤ 11) : ∀ n (o : Nat → Option Nat) (f : Nat), sm_Val lo hi rm o → f < 7 → o f = none → sm_PT lo hi rm o n f →
    ∃ o', sm_Val lo hi rm o' ∧ ∀ i, (o' i ≠ none ↔ o i ≠ none ∨ i = f) := by
  intro n
  induction n using Nat.strongRecOn with
  | ind n ih =>
    intro o f hV hf h0 hp
    by_cases hm : ∃ m, m < n ∧ sm_PT lo hi rm o m f
    · obtain ⟨m, hmn, hpm⟩ := hm
      exact ih m hmn o f hV hf h0 hpm
    · cases n with
      | zero =>
        obtain ⟨s, h1, h2, h3⟩ := hp
        refine ⟨sm_up o f (some s), sm_Val_in hV hf h0 h1 h2 (by have := hh f; omega) h3, fun i => ?_⟩
        by_cases e : i = f
        · rw [e, sm_us]; exact ⟨fun _ => Or.inr rfl, fun _ => fun z => nomatch z⟩
        · rw [sm_un e]; exact ⟨Or.inl, fun z => z.resolve_right e⟩
      | succ n =>
        obtain ⟨i, s, h1, h2, h3, h4⟩ := hp
        have hi7 := (hV.1 i s h3).1
        have hs := (hV.1 i s h3).2.2.2
        have hne : i ≠ f := fun e => by rw [e, h0] at h3; exact nomatch h3
        have hV1 := sm_Val_out (k := i) hV hi7
        have l1 := sm_ld_up (o := o) hi7 none s
        rw [sm_cb1 h3, sm_cb0 (p := none = some s) (fun z => nomatch z)] at l1
        have hfree : sm_ld (sm_up o i none) s < rm s := by have := hV.2 s; omega
        have h01 : sm_up o i none f = none := by rw [sm_un (fun e => hne e.symm)]; exact h0
        have hV2 := sm_Val_in hV1 hf h01 h1 h2 hs hfree
        have hl : ∀ t, sm_ld (sm_up (sm_up o i none) f (some s)) t = sm_ld o t := fun t => by
          have a := sm_ld_up (o := sm_up o i none) hf (some s) t
          have b := sm_ld_up (o := o) hi7 none t
          rw [h01, sm_cb0 (p := none = some t) (fun z => nomatch z)] at a
          rw [h3, sm_cb0 (p := none = some t) (fun z => nomatch z)] at b
          omega
        have hmi : ∀ m, m < n → ¬ sm_PT lo hi rm o m i := fun m hmn hp => hm ⟨m + 1, by omega, i, s, h1, h2, h3, hp⟩
        have hp2 : sm_PT lo hi rm (sm_up (sm_up o i none) f (some s)) n i :=
          sm_PT_keep hl (fun j t hj ht => by
            have : j ≠ f := fun e => by rw [e, h0] at ht; exact nomatch ht
            rw [sm_un this, sm_un hj]; exact ht) n hmi i h4
        have hn2 : sm_up (sm_up o i none) f (some s) i = none := by rw [sm_un hne, sm_us]
        obtain ⟨o', hV', hpl⟩ := ih n (by omega) _ i hV2 hi7 hn2 hp2
        refine ⟨o', hV', fun j => (hpl j).trans ?_⟩
        by_cases e : j = f
        · rw [e, sm_us]; exact ⟨fun _ => Or.inr rfl, fun _ => Or.inl fun z => nomatch z⟩
        · rw [sm_un e]
          by_cases e2 : j = i
          · rw [e2, h3]; exact ⟨fun _ => Or.inl fun z => (nomatch z), fun _ => Or.inr rfl⟩
          · rw [sm_un e2]
            exact ⟨fun z => Or.inl (z.resolve_right e2), fun z => Or.inl (z.resolve_right e)⟩
/-- a job can be placed, or its search fails -/
theorem sm_aug {lo hi rm : Nat → Nat} (hh : ∀ i, hi i ≤ 11) {o : Nat → Option Nat} {f : Nat} (hV : sm_Val lo hi rm o) (hf : f < 7) (h0 : o f = none) :
    (∃ o', sm_Val lo hi rm o' ∧ ∀ i, (o' i ≠ none ↔ o i ≠ none ∨ i = f)) ∨ sm_Cl lo hi rm o (sm_Rc lo hi o f) := by
  by_cases h : ∃ n, sm_PT lo hi rm o n f
  · obtain ⟨n, hp⟩ := h
    exact Or.inl (sm_chain hh n o f hV hf h0 hp)
  · refine Or.inr (sm_Rc_Cl (R := fun j => ∀ n, ¬ sm_PT lo hi rm o n j) (fun n hp => h ⟨n, hp⟩) ?_)
    intro j hj s h1 h2
    refine ⟨?_, fun i hi n hp => hj (n + 1) ⟨i, s, h1, h2, hi, hp⟩⟩
    by_cases z : sm_ld o s < rm s
    · exact absurd ⟨s, h1, h2, z⟩ (hj 0)
    · omega
/-- without a reached job the search succeeds -/
theorem sm_swap_no {lo hi rm : Nat → Nat} {o : Nat → Option Nat} {f r : Nat} (hV : sm_Val lo hi rm o) (hr : sm_Rc lo hi o f r) (hrf : r ≠ f) (hr7 : r < 7) : ¬ sm_Cl lo hi rm (sm_up o r none) (sm_Rc lo hi (sm_up o r none) f) := by
  intro hC
  have hnr : ¬ sm_Rc lo hi (sm_up o r none) f r := fun z => (sm_Rc_pl z).elim (fun y => y sm_us) hrf
  refine hnr (hr _ sm_Rc_0 fun j hj t h1 h2 i hi => ?_)
  have hc := hC j hj t h1 h2
  by_cases e : i = r
  · subst e
    have l1 := sm_ld_up (o := o) hr7 none t
    rw [sm_cb1 hi, sm_cb0 (p := none = some t) (fun z => nomatch z)] at l1
    have := hV.2 t
    have := hc.1
    omega
  · exact hc.2 i (by rw [sm_un e]; exact hi)
/-- a reached job can be exchanged -/
theorem sm_swap {lo hi rm : Nat → Nat} (hh : ∀ i, hi i ≤ 11) {o : Nat → Option Nat} {f r : Nat} (hV : sm_Val lo hi rm o) (hf : f < 7) (h0 : o f = none) (hr : sm_Rc lo hi o f r) (hrf : r ≠ f) :
    ∃ o', sm_Val lo hi rm o' ∧ ∀ i, (o' i ≠ none ↔ (o i ≠ none ∨ i = f) ∧ i ≠ r) := by
  have hro : o r ≠ none := (sm_Rc_pl hr).resolve_right hrf
  obtain ⟨s, hs⟩ : ∃ s, o r = some s := by
    cases e : o r with
    | none => exact absurd e hro
    | some s => exact ⟨s, rfl⟩
  have hr7 := (hV.1 r s hs).1
  have h01 : sm_up o r none f = none := by rw [sm_un (fun e => hrf e.symm)]; exact h0
  rcases sm_aug hh (sm_Val_out (k := r) hV hr7) hf h01 with ⟨o', hV', hpl⟩ | hC
  · refine ⟨o', hV', fun i => (hpl i).trans ?_⟩
    by_cases e : i = r
    · rw [e, sm_us]; exact ⟨fun z => z.elim (fun y => absurd rfl y) (fun y => absurd y hrf), fun z => absurd rfl z.2⟩
    · rw [sm_un e]; exact ⟨fun z => ⟨z, e⟩, fun z => z.1⟩
  · exact absurd hC (sm_swap_no hV hr hrf hr7)
/-- the count against a closed set -/
theorem sm_tight {lo hi rm : Nat → Nat} {o q : Nat → Option Nat} {R : Nat → Prop} (hC : sm_Cl lo hi rm o R) (ho : ∀ i s, o i = some s → s < 12) (hq : sm_Val lo hi rm q) :
    sm_cn (fun i => R i ∧ q i ≠ none) ≤ sm_cn (fun i => R i ∧ o i ≠ none) := by
  have e1 : ∀ p : Nat → Option Nat, (∀ i s, p i = some s → s < 12) → sm_cn (fun i => R i ∧ p i ≠ none) = sm_S (fun s => sm_cn (fun i => R i ∧ p i = some s)) 12 := fun p hp => by
    unfold sm_cn
    rw [← sm_S_comm (F := fun i s => sm_cb (R i ∧ p i = some s)) 12 7]
    exact sm_S_eq 7 fun i _ => (sm_one (R i) (p i) 12 (hp i)).symm
  rw [e1 q fun i s h => (hq.1 i s h).2.2.2, e1 o ho]
  refine sm_S_le 12 fun s _ => ?_
  by_cases hT : ∃ j, R j ∧ lo j ≤ s ∧ s ≤ hi j
  · obtain ⟨j, hj, h1, h2⟩ := hT
    have hc := hC j hj s h1 h2
    have a : sm_cn (fun i => R i ∧ q i = some s) ≤ sm_ld q s := sm_cn_le fun i _ h => h.2
    have b : sm_ld o s ≤ sm_cn (fun i => R i ∧ o i = some s) := sm_cn_le fun i _ h => ⟨hc.2 i h, h⟩
    have := hq.2 s
    have := hc.1
    omega
  · have : sm_cn (fun i => R i ∧ q i = some s) = sm_cn (fun _ => False) := sm_cn_eq fun i _ => ⟨fun h => hT ⟨i, h.1, (hq.1 i s h.2).2.1, (hq.1 i s h.2).2.2.1⟩, fun h => h.elim⟩
    rw [this]
    exact sm_cn_le fun i _ h => h.elim
/-- a search that failed: the placed jobs and the job sought have no placement together -/
theorem sm_nofit {lo hi rm : Nat → Nat} {o q : Nat → Option Nat} {R : Nat → Prop} {f : Nat} (hf : f < 7) (h0 : o f = none) (hV : sm_Val lo hi rm o) (hR : R f) (hC : sm_Cl lo hi rm o R) (hRp : ∀ i, R i → o i ≠ none ∨ i = f)
    (hq : sm_Val lo hi rm q) (hqp : ∀ i, (o i ≠ none ∨ i = f) → q i ≠ none) : False := by
  have a := sm_tight hC (fun i s h => (hV.1 i s h).2.2.2) hq
  have b : sm_cn (fun i => R i ∧ q i ≠ none) = sm_cn (fun i => R i ∧ o i ≠ none) + 1 := sm_cn_add1 hf (fun i _ hne => ⟨fun h => ⟨h.1, hqp i (Or.inl h.2)⟩, fun h => ⟨h.1, (hRp i h.1).resolve_right hne⟩⟩) (fun h => h.2 h0) ⟨hR, hqp f (Or.inr rfl)⟩
  omega
end
section
/-! the order of jobs by one number, and the best set -/
def sm_kw (w : Nat → Nat) (j : Nat) : Nat := w j * 128 + 2 ^ (6 - j)
def sm_Dom (lo hi rm w : Nat → Nat) (U B : Nat → Prop) : Prop :=
  ∀ q, sm_Val lo hi rm q → (∀ i, q i ≠ none → U i) → ∀ t, sm_cn (fun i => q i ≠ none ∧ t ≤ sm_kw w i) ≤ sm_cn (fun i => B i ∧ t ≤ sm_kw w i)
/-- in some closed set of jobs of weight t at least -/
def sm_G (lo hi rm w : Nat → Nat) (o : Nat → Option Nat) (t i : Nat) : Prop := ∃ R, sm_Cl lo hi rm o R ∧ (∀ r, R r → t ≤ sm_kw w r) ∧ R i
theorem sm_topdom {lo hi rm w : Nat → Nat} {o q : Nat → Option Nat} {U : Nat → Prop} {t : Nat} (hV : sm_Val lo hi rm o) (hq : sm_Val lo hi rm q) (hU : ∀ i, q i ≠ none → U i)
    (hB : ∀ i, i < 7 → U i → t ≤ sm_kw w i → o i = none → sm_G lo hi rm w o t i) :
    sm_cn (fun i => q i ≠ none ∧ t ≤ sm_kw w i) ≤ sm_cn (fun i => o i ≠ none ∧ t ≤ sm_kw w i) := by
  have hC : sm_Cl lo hi rm o (sm_G lo hi rm w o t) := by
    rintro j ⟨R, hR, ht, hj⟩ s h1 h2
    exact ⟨(hR j hj s h1 h2).1, fun i hi => ⟨R, hR, ht, (hR j hj s h1 h2).2 i hi⟩⟩
  have a := sm_tight hC (fun i s h => (hV.1 i s h).2.2.2) hq
  have hT : ∀ i, sm_G lo hi rm w o t i → t ≤ sm_kw w i := by
    rintro i ⟨R, _, ht, hi⟩; exact ht i hi
  rw [sm_cn_split (fun i => q i ≠ none ∧ t ≤ sm_kw w i) (sm_G lo hi rm w o t), sm_cn_split (fun i => o i ≠ none ∧ t ≤ sm_kw w i) (sm_G lo hi rm w o t)]
  have e : ∀ p : Nat → Option Nat, sm_cn (fun i => (p i ≠ none ∧ t ≤ sm_kw w i) ∧ sm_G lo hi rm w o t i) = sm_cn (fun i => sm_G lo hi rm w o t i ∧ p i ≠ none) := fun p =>
    sm_cn_eq fun i _ => ⟨fun h => ⟨h.2, h.1.1⟩, fun h => ⟨⟨h.2, hT i h.1⟩, h.1⟩⟩
  have b : sm_cn (fun i => (q i ≠ none ∧ t ≤ sm_kw w i) ∧ ¬ sm_G lo hi rm w o t i) ≤ sm_cn (fun i => (o i ≠ none ∧ t ≤ sm_kw w i) ∧ ¬ sm_G lo hi rm w o t i) :=
    sm_cn_le fun i hi h => ⟨⟨fun z => h.2 (hB i hi (hU i h.1.1) h.1.2 z), h.1.2⟩, h.2⟩
  rw [e q, e o]
  exact Nat.add_le_add a b
/-- the best set: every search from outside fails, and what it reaches goes before -/
theorem sm_cert {lo hi rm w : Nat → Nat} (hh : ∀ i, hi i ≤ 11) {o : Nat → Option Nat} {U : Nat → Prop} {f : Nat} (hV : sm_Val lo hi rm o) (hU : ∀ i, o i ≠ none → U i) (hD : sm_Dom lo hi rm w U (fun i => o i ≠ none))
    (hf : f < 7) (hUf : U f) (h0 : o f = none) : sm_Cl lo hi rm o (sm_Rc lo hi o f) ∧ ∀ r, sm_Rc lo hi o f r → sm_kw w f ≤ sm_kw w r := by
  constructor
  · rcases sm_aug hh hV hf h0 with ⟨o', hV', hpl⟩ | hC
    · exfalso
      have a : sm_cn (fun i => o' i ≠ none ∧ sm_kw w f ≤ sm_kw w i) ≤ sm_cn (fun i => o i ≠ none ∧ sm_kw w f ≤ sm_kw w i) := hD o' hV' (fun i hi => ((hpl i).mp hi).elim (hU i) (fun e => e ▸ hUf)) (sm_kw w f)
      have b : sm_cn (fun i => o' i ≠ none ∧ sm_kw w f ≤ sm_kw w i) = sm_cn (fun i => o i ≠ none ∧ sm_kw w f ≤ sm_kw w i) + 1 :=
        sm_cn_add1 hf (fun i _ hne => ⟨fun h => ⟨(hpl i).mpr (Or.inl h.1), h.2⟩, fun h => ⟨((hpl i).mp h.1).resolve_right hne, h.2⟩⟩) (fun h => h.1 h0) ⟨(hpl f).mpr (Or.inr rfl), Nat.le_refl _⟩
      omega
    · exact hC
  · intro r hr
    by_cases e : r = f
    · rw [e]; exact Nat.le_refl _
    · obtain ⟨o', hV', hpl⟩ := sm_swap hh hV hf h0 hr e
      have a : sm_cn (fun i => o' i ≠ none ∧ sm_kw w f ≤ sm_kw w i) ≤ sm_cn (fun i => o i ≠ none ∧ sm_kw w f ≤ sm_kw w i) := hD o' hV' (fun i hi => ((hpl i).mp hi).1.elim (hU i) (fun e => e ▸ hUf)) (sm_kw w f)
      by_cases z : sm_kw w f ≤ sm_kw w r
      · exact z
      · exfalso
        have b : sm_cn (fun i => o' i ≠ none ∧ sm_kw w f ≤ sm_kw w i) = sm_cn (fun i => o i ≠ none ∧ sm_kw w f ≤ sm_kw w i) + 1 := by
          refine sm_cn_add1 hf (fun i _ hne => ⟨fun h => ⟨(hpl i).mpr ⟨Or.inl h.1, fun e' => z (e' ▸ h.2)⟩, h.2⟩, fun h => ⟨((hpl i).mp h.1).1.resolve_right hne, h.2⟩⟩) (fun h => h.1 h0) ⟨(hpl f).mpr ⟨Or.inr rfl, fun e' => e e'.symm⟩, Nat.le_refl _⟩
        omega
/-! one job against a placement -/
def sm_Con (lo hi rm w : Nat → Nat) (o : Nat → Option Nat) (f : Nat) (o' : Nat → Option Nat) : Prop :=
  (∀ i, o' i ≠ none ↔ o i ≠ none ∨ i = f) ∨
  ∃ R : Nat → Prop, ∃ l, R f ∧ sm_Cl lo hi rm o R ∧ R l ∧ (o l ≠ none ∨ l = f) ∧ (∀ r, R r → sm_kw w l ≤ sm_kw w r) ∧ ∀ i, o' i ≠ none ↔ (o i ≠ none ∨ i = f) ∧ i ≠ l
theorem sm_contest {lo hi rm w : Nat → Nat} {U : Nat → Prop} {o o' : Nat → Option Nat} {f : Nat} (hV : sm_Val lo hi rm o) (hf : f < 7) (h0 : o f = none)
    (ha : sm_Dom lo hi rm w U (fun i => o i ≠ none ∨ i = f))
    (hb : ∀ g, g < 7 → U g → o g = none → g ≠ f → sm_G lo hi rm w o (sm_kw w g) g)
    (hc : sm_Con lo hi rm w o f o') : sm_Dom lo hi rm w U (fun i => o' i ≠ none) := by
  intro q hq hU t
  rcases hc with hc | ⟨R, l, hRf, hCl, hRl, hl, hmin, hpl⟩
  · refine Nat.le_trans (ha q hq hU t) (sm_cn_le fun i _ h => ⟨(hc i).mpr h.1, h.2⟩)
  · have hl7 : l < 7 := hl.elim (fun z => by
      cases e : o l with
      | none => exact absurd e z
      | some s => exact (hV.1 l s e).1) (fun z => z ▸ hf)
    by_cases ht : t ≤ sm_kw w l
    · have a : sm_cn (fun i => q i ≠ none ∧ t ≤ sm_kw w i) ≤ sm_cn (fun i => o i ≠ none ∧ t ≤ sm_kw w i) := by
        refine sm_topdom hV hq hU fun i hi hUi hti hoi => ?_
        by_cases e : i = f
        · exact ⟨R, hCl, fun r hr => Nat.le_trans ht (hmin r hr), e ▸ hRf⟩
        · obtain ⟨R', h1, h2, h3⟩ := hb i hi hUi hoi e
          exact ⟨R', h1, fun r hr => Nat.le_trans hti (h2 r hr), h3⟩
      have b : sm_cn (fun i => (o i ≠ none ∨ i = f) ∧ t ≤ sm_kw w i) = sm_cn (fun i => o i ≠ none ∧ t ≤ sm_kw w i) + 1 :=
        sm_cn_add1 hf (fun i _ hne => ⟨fun h => ⟨Or.inl h.1, h.2⟩, fun h => ⟨h.1.resolve_right hne, h.2⟩⟩) (fun h => h.1 h0) ⟨Or.inr rfl, Nat.le_trans ht (hmin f hRf)⟩
      have c : sm_cn (fun i => (o i ≠ none ∨ i = f) ∧ t ≤ sm_kw w i) = sm_cn (fun i => o' i ≠ none ∧ t ≤ sm_kw w i) + 1 :=
        sm_cn_add1 hl7 (fun i _ hne => ⟨fun h => ⟨((hpl i).mp h.1).1, h.2⟩, fun h => ⟨(hpl i).mpr ⟨h.1, hne⟩, h.2⟩⟩) (fun h => ((hpl l).mp h.1).2 rfl) ⟨hl, ht⟩
      show sm_cn (fun i => q i ≠ none ∧ t ≤ sm_kw w i) ≤ sm_cn (fun i => o' i ≠ none ∧ t ≤ sm_kw w i)
      omega
    · refine Nat.le_trans (ha q hq hU t) (sm_cn_le fun i _ h => ⟨(hpl i).mpr ⟨h.1, fun e => ht (e ▸ h.2)⟩, h.2⟩)
/-! the best of those that wait -/
def sm_Fil (lo hi rm w : Nat → Nat) (U : Nat → Prop) (o o' : Nat → Option Nat) : Prop :=
  ((∀ i, o' i ≠ none ↔ o i ≠ none) ∧ ∀ g, U g → o g = none → sm_Cl lo hi rm o (sm_Rc lo hi o g)) ∨
  ∃ f, U f ∧ o f = none ∧ (∀ i, o' i ≠ none ↔ o i ≠ none ∨ i = f) ∧ ∀ g, U g → o g = none → sm_kw w f < sm_kw w g → sm_Cl lo hi rm o (sm_Rc lo hi o g)
theorem sm_fill {lo hi rm w : Nat → Nat} {U : Nat → Prop} {o o' : Nat → Option Nat} (hV : sm_Val lo hi rm o) (hU7 : ∀ i, U i → i < 7)
    (ha : ∀ q, sm_Val lo hi rm q → (∀ i, q i ≠ none → U i) → ∀ t, sm_cn (fun i => q i ≠ none ∧ t ≤ sm_kw w i) ≤ sm_cn (fun i => o i ≠ none ∧ t ≤ sm_kw w i) + 1)
    (hb : ∀ g, U g → o g = none → sm_Cl lo hi rm o (sm_Rc lo hi o g) → ∀ r, sm_Rc lo hi o g r → sm_kw w g ≤ sm_kw w r)
    (hc : sm_Fil lo hi rm w U o o') : sm_Dom lo hi rm w U (fun i => o' i ≠ none) := by
  intro q hq hU t
  rcases hc with ⟨hpl, hCl⟩ | ⟨f, hUf, h0, hpl, hCl⟩
  · refine Nat.le_trans (sm_topdom (o := o) hV hq hU fun i hi hUi hti hoi => ?_) (sm_cn_le fun i _ h => ⟨(hpl i).mpr h.1, h.2⟩)
    have hc := hCl i hUi hoi
    exact ⟨_, hc, fun r hr => Nat.le_trans hti (hb i hUi hoi hc r hr), sm_Rc_0⟩
  · by_cases ht : t ≤ sm_kw w f
    · have a := ha q hq hU t
      have b : sm_cn (fun i => o' i ≠ none ∧ t ≤ sm_kw w i) = sm_cn (fun i => o i ≠ none ∧ t ≤ sm_kw w i) + 1 :=
        sm_cn_add1 (hU7 f hUf) (fun i _ hne => ⟨fun h => ⟨(hpl i).mpr (Or.inl h.1), h.2⟩, fun h => ⟨((hpl i).mp h.1).resolve_right hne, h.2⟩⟩) (fun h => h.1 h0) ⟨(hpl f).mpr (Or.inr rfl), ht⟩
      show sm_cn (fun i => q i ≠ none ∧ t ≤ sm_kw w i) ≤ sm_cn (fun i => o' i ≠ none ∧ t ≤ sm_kw w i)
      omega
    · refine Nat.le_trans (sm_topdom (o := o) hV hq hU fun i hi hUi hti hoi => ?_) (sm_cn_le fun i _ h => ⟨(hpl i).mpr (Or.inl h.1), h.2⟩)
      have hc := hCl i hUi hoi (by omega)
      exact ⟨_, hc, fun r hr => Nat.le_trans hti (hb i hUi hoi hc r hr), sm_Rc_0⟩
/-! the single cases -/
theorem sm_out_none {o : Nat → Option Nat} {k i : Nat} (h : sm_up o k none i ≠ none) : o i ≠ none ∧ i ≠ k := by
  by_cases e : i = k
  · rw [e, sm_us] at h; exact absurd rfl h
  · rw [sm_un e] at h; exact ⟨h, e⟩
theorem sm_out_iff {o : Nat → Option Nat} {k i : Nat} : sm_up o k none i ≠ none ↔ o i ≠ none ∧ i ≠ k :=
  ⟨sm_out_none, fun h => by rw [sm_un h.2]; exact h.1⟩
theorem sm_out_some {o : Nat → Option Nat} {k i s : Nat} (h : sm_up o k none i = some s) : o i = some s ∧ i ≠ k := by
  by_cases e : i = k
  · rw [e, sm_us] at h; exact nomatch h
  · rw [sm_un e] at h; exact ⟨h, e⟩
/-- a placed job goes for good -/
theorem sm_take {lo hi rm w : Nat → Nat} (hh : ∀ i, hi i ≤ 11) {U U' : Nat → Prop} {o o' : Nat → Option Nat} {k : Nat} (hk : k < 7) (hV : sm_Val lo hi rm o) (hU7 : ∀ i, U i → i < 7) (hU : ∀ i, o i ≠ none → U i) (hD : sm_Dom lo hi rm w U (fun i => o i ≠ none))
    (hU' : ∀ i, U' i ↔ U i ∧ i ≠ k) (hc : sm_Fil lo hi rm w U' (sm_up o k none) o') : sm_Dom lo hi rm w U' (fun i => o' i ≠ none) := by
  refine sm_fill (sm_Val_out hV hk) (fun i hi => hU7 i ((hU' i).mp hi).1) (fun q hq hqU t => ?_) (fun g hg h0 _ r hr => ?_) hc
  · refine Nat.le_trans (hD q hq (fun i hi => ((hU' i).mp (hqU i hi)).1) t) (sm_cn_le1 hk fun i _ hne h => ⟨?_, h.2⟩)
    rw [sm_un hne]; exact h.1
  · have hg' := (hU' g).mp hg
    rw [sm_un hg'.2] at h0
    exact (sm_cert hh hV hU hD (hU7 g hg'.1) hg'.1 h0).2 r (sm_Rc_mono (fun i s h => (sm_out_some h).1) hr)
/-- a placed job loses worth -/
theorem sm_lower {lo hi rm w w' : Nat → Nat} (hh : ∀ i, hi i ≤ 11) {U : Nat → Prop} {o o' : Nat → Option Nat} {k : Nat} (hk : k < 7) (hV : sm_Val lo hi rm o) (hU7 : ∀ i, U i → i < 7) (hU : ∀ i, o i ≠ none → U i) (hD : sm_Dom lo hi rm w U (fun i => o i ≠ none))
    (hok : o k ≠ none) (hw : ∀ i, i ≠ k → w' i = w i) (hwk : w' k ≤ w k) (hc : sm_Fil lo hi rm w' U (sm_up o k none) o') : sm_Dom lo hi rm w' U (fun i => o' i ≠ none) := by
  have hkw : ∀ i, i ≠ k → sm_kw w' i = sm_kw w i := fun i hi => by unfold sm_kw; rw [hw i hi]
  have hkk : sm_kw w' k ≤ sm_kw w k := by unfold sm_kw; omega
  refine sm_fill (sm_Val_out hV hk) hU7 (fun q hq hqU t => ?_) (fun g hg h0 hCl r hr => ?_) hc
  · have a : sm_cn (fun i => q i ≠ none ∧ t ≤ sm_kw w' i) ≤ sm_cn (fun i => q i ≠ none ∧ t ≤ sm_kw w i) := sm_cn_le fun i _ h => ⟨h.1, by
      by_cases e : i = k
      · have := h.2; rw [e] at this ⊢; omega
      · rw [← hkw i e]; exact h.2⟩
    refine Nat.le_trans (Nat.le_trans a (hD q hq hqU t)) (sm_cn_le1 hk fun i _ hne h => ⟨?_, ?_⟩)
    · rw [sm_un hne]; exact h.1
    · rw [hkw i hne]; exact h.2
  · by_cases e : g = k
    · exfalso
      cases es : o k with
      | none => exact hok es
      | some s =>
        have hv := hV.1 k s es
        have c := (hCl k (e ▸ sm_Rc_0) s hv.2.1 hv.2.2.1).1
        have l1 := sm_ld_up (o := o) hk none s
        rw [sm_cb1 es, sm_cb0 (p := none = some s) (fun z => nomatch z)] at l1
        have := hV.2 s
        omega
    · rw [sm_un e] at h0
      have c := (sm_cert hh hV hU hD (hU7 g hg) hg h0).2 r (sm_Rc_mono (fun i s h => (sm_out_some h).1) hr)
      have hrk : r ≠ k := (sm_Rc_pl hr).elim (fun z => (sm_out_none z).2) (fun z => z ▸ e)
      rw [hkw g e, hkw r hrk]; exact c
/-- one more place -/
theorem sm_widen {lo hi rm w : Nat → Nat} (hh : ∀ i, hi i ≤ 11) {U : Nat → Prop} {o o' : Nat → Option Nat} {s : Nat} (hV : sm_Val lo hi rm o) (hU7 : ∀ i, U i → i < 7) (hU : ∀ i, o i ≠ none → U i) (hD : sm_Dom lo hi rm w U (fun i => o i ≠ none))
    (hc : sm_Fil lo hi (sm_up rm s (rm s + 1)) w U o o') : sm_Dom lo hi (sm_up rm s (rm s + 1)) w U (fun i => o' i ≠ none) := by
  have hle : ∀ t, rm t ≤ sm_up rm s (rm s + 1) t := fun t => by
    by_cases e : t = s
    · rw [e, sm_us]; omega
    · rw [sm_un e]; exact Nat.le_refl _
  refine sm_fill ⟨hV.1, fun t => Nat.le_trans (hV.2 t) (hle t)⟩ hU7 (fun q hq hqU t => ?_) (fun g hg h0 _ r hr => ?_) hc
  · by_cases hz : sm_ld q s ≤ rm s
    · have hq' : sm_Val lo hi rm q := ⟨hq.1, fun t => by
        by_cases e : t = s
        · rw [e]; exact hz
        · have := hq.2 t; rw [sm_un e] at this; exact this⟩
      exact Nat.le_trans (hD q hq' hqU t) (Nat.le_add_right _ 1)
    · obtain ⟨j, hj, hjs⟩ := sm_ld_pos (o := q) (s := s) (by omega)
      have hq' : sm_Val lo hi rm (sm_up q j none) := ⟨(sm_Val_out hq hj).1, fun t => by
        have l := sm_ld_up (o := q) hj none t
        rw [sm_cb0 (p := none = some t) (fun z => nomatch z)] at l
        have h2 := hq.2 t
        by_cases e : t = s
        · subst e
          rw [sm_cb1 hjs] at l
          rw [sm_us] at h2
          omega
        · rw [sm_un e] at h2; omega⟩
      have a := hD _ hq' (fun i hi => hqU i (sm_out_none hi).1) t
      have b : sm_cn (fun i => q i ≠ none ∧ t ≤ sm_kw w i) ≤ sm_cn (fun i => sm_up q j none i ≠ none ∧ t ≤ sm_kw w i) + 1 :=
        sm_cn_le1 hj fun i _ hne h => ⟨by rw [sm_un hne]; exact h.1, h.2⟩
      exact Nat.le_trans b (Nat.add_le_add_right a 1)
  · exact (sm_cert hh hV hU hD (hU7 g hg) hg h0).2 r hr
/-- a job that is not placed comes, or gains worth -/
theorem sm_bring {lo hi rm w lo' hi' w' : Nat → Nat} (hh : ∀ i, hi i ≤ 11) {U : Nat → Prop} {o o' : Nat → Option Nat} {k : Nat} (hk : k < 7) (hV : sm_Val lo hi rm o) (hU7 : ∀ i, U i → i < 7) (hU : ∀ i, o i ≠ none → U i)
    (hD : sm_Dom lo hi rm w (fun i => U i ∧ i ≠ k) (fun i => o i ≠ none)) (h0 : o k = none) (hlo : ∀ i, i ≠ k → lo' i = lo i) (hhi : ∀ i, i ≠ k → hi' i = hi i) (hw : ∀ i, i ≠ k → w' i = w i)
    (hc : sm_Con lo' hi' rm w' o k o') : sm_Dom lo' hi' rm w' U (fun i => o' i ≠ none) := by
  have hkw : ∀ i, i ≠ k → sm_kw w' i = sm_kw w i := fun i hi => by unfold sm_kw; rw [hw i hi]
  have hok : ∀ i s, o i = some s → i ≠ k := fun i s h e => by rw [e, h0] at h; exact nomatch h
  have hok' : ∀ i, o i ≠ none → i ≠ k := fun i h e => h (e ▸ h0)
  have hV' : sm_Val lo' hi' rm o := ⟨fun i s h => by rw [hlo i (hok i s h), hhi i (hok i s h)]; exact hV.1 i s h, hV.2⟩
  refine sm_contest hV' hk h0 (fun q hq hqU t => ?_) (fun g hg hUg hog hne => ?_) hc
  · have hq1 : sm_Val lo hi rm (sm_up q k none) := ⟨fun i s h => by
      have h' := (sm_out_some h)
      rw [← hlo i h'.2, ← hhi i h'.2]; exact hq.1 i s h'.1, (sm_Val_out hq hk).2⟩
    have a := hD _ hq1 (fun i hi => ⟨hqU i (sm_out_none hi).1, (sm_out_none hi).2⟩) t
    have a1 : sm_cn (fun i => sm_up q k none i ≠ none ∧ t ≤ sm_kw w i) = sm_cn (fun i => sm_up q k none i ≠ none ∧ t ≤ sm_kw w' i) := sm_cn_eq fun i _ =>
      ⟨fun h => ⟨h.1, by rw [hkw i (sm_out_none h.1).2]; exact h.2⟩, fun h => ⟨h.1, by rw [← hkw i (sm_out_none h.1).2]; exact h.2⟩⟩
    have a2 : sm_cn (fun i => o i ≠ none ∧ t ≤ sm_kw w i) = sm_cn (fun i => o i ≠ none ∧ t ≤ sm_kw w' i) := sm_cn_eq fun i _ =>
      ⟨fun h => ⟨h.1, by rw [hkw i (hok' i h.1)]; exact h.2⟩, fun h => ⟨h.1, by rw [← hkw i (hok' i h.1)]; exact h.2⟩⟩
    have a' : sm_cn (fun i => sm_up q k none i ≠ none ∧ t ≤ sm_kw w i) ≤ sm_cn (fun i => o i ≠ none ∧ t ≤ sm_kw w i) := a
    rw [a1, a2] at a'
    show sm_cn (fun i => q i ≠ none ∧ t ≤ sm_kw w' i) ≤ sm_cn (fun i => (o i ≠ none ∨ i = k) ∧ t ≤ sm_kw w' i)
    by_cases ht : t ≤ sm_kw w' k
    · have b : sm_cn (fun i => (o i ≠ none ∨ i = k) ∧ t ≤ sm_kw w' i) = sm_cn (fun i => o i ≠ none ∧ t ≤ sm_kw w' i) + 1 :=
        sm_cn_add1 hk (fun i _ hne => ⟨fun h => ⟨Or.inl h.1, h.2⟩, fun h => ⟨h.1.resolve_right hne, h.2⟩⟩) (fun h => h.1 h0) ⟨Or.inr rfl, ht⟩
      have c : sm_cn (fun i => q i ≠ none ∧ t ≤ sm_kw w' i) ≤ sm_cn (fun i => sm_up q k none i ≠ none ∧ t ≤ sm_kw w' i) + 1 :=
        sm_cn_le1 hk fun i _ hne h => ⟨by rw [sm_un hne]; exact h.1, h.2⟩
      omega
    · have c : sm_cn (fun i => q i ≠ none ∧ t ≤ sm_kw w' i) ≤ sm_cn (fun i => sm_up q k none i ≠ none ∧ t ≤ sm_kw w' i) :=
        sm_cn_le fun i _ h => ⟨by
          have hne : i ≠ k := fun e => ht (by rw [← e]; exact h.2)
          rw [sm_un hne]; exact h.1, h.2⟩
      have d : sm_cn (fun i => o i ≠ none ∧ t ≤ sm_kw w' i) ≤ sm_cn (fun i => (o i ≠ none ∨ i = k) ∧ t ≤ sm_kw w' i) :=
        sm_cn_le fun i _ h => ⟨Or.inl h.1, h.2⟩
      omega
  · have c := sm_cert hh hV (U := fun i => U i ∧ i ≠ k) (fun i hi => ⟨hU i hi, hok' i hi⟩) hD hg ⟨hUg, hne⟩ hog
    have hRk : ∀ r, sm_Rc lo hi o g r → r ≠ k := fun r hr => (sm_Rc_pl hr).elim (hok' r) (fun z => z ▸ hne)
    refine ⟨sm_Rc lo hi o g, fun j hj s h1 h2 => ?_, fun r hr => ?_, sm_Rc_0⟩
    · rw [hlo j (hRk j hj)] at h1
      rw [hhi j (hRk j hj)] at h2
      exact c.1 j hj s h1 h2
    · rw [hkw g hne, hkw r (hRk r hr)]; exact c.2 r hr
/-- one place less -/
theorem sm_narrow {lo hi rm w : Nat → Nat} (hh : ∀ i, hi i ≤ 11) {U : Nat → Prop} {o o' : Nat → Option Nat} {s k : Nat} (hV : sm_Val lo hi rm o) (hU7 : ∀ i, U i → i < 7) (hU : ∀ i, o i ≠ none → U i) (hD : sm_Dom lo hi rm w U (fun i => o i ≠ none))
    (hk : o k = some s) (hl : rm s ≤ sm_ld o s) (hc : sm_Con lo hi (sm_up rm s (rm s - 1)) w (sm_up o k none) k o') : sm_Dom lo hi (sm_up rm s (rm s - 1)) w U (fun i => o' i ≠ none) := by
  have hk7 := (hV.1 k s hk).1
  have hle : ∀ t, sm_up rm s (rm s - 1) t ≤ rm t := fun t => by
    by_cases e : t = s
    · rw [e, sm_us]; omega
    · rw [sm_un e]; exact Nat.le_refl _
  have hld : ∀ t, sm_ld (sm_up o k none) t + sm_cb (o k = some t) = sm_ld o t := fun t => by
    have l := sm_ld_up (o := o) hk7 none t
    rw [sm_cb0 (p := none = some t) (fun z => nomatch z)] at l
    exact l
  have hV' : sm_Val lo hi (sm_up rm s (rm s - 1)) (sm_up o k none) := ⟨(sm_Val_out hV hk7).1, fun t => by
    have l := hld t
    have h2 := hV.2 t
    by_cases e : t = s
    · subst e; rw [sm_cb1 hk] at l; rw [sm_us]; omega
    · rw [sm_un e]; omega⟩
  refine sm_contest hV' hk7 sm_us (fun q hq hqU t => ?_) (fun g hg hUg hog hne => ?_) hc
  · refine Nat.le_trans (hD q ⟨hq.1, fun t => Nat.le_trans (hq.2 t) (hle t)⟩ hqU t) (sm_cn_le fun i _ h => ⟨?_, h.2⟩)
    by_cases e : i = k
    · exact Or.inr e
    · exact Or.inl (by rw [sm_un e]; exact h.1)
  · rw [sm_un hne] at hog
    have c := sm_cert hh hV hU hD hg hUg hog
    refine ⟨sm_Rc lo hi o g, fun j hj t h1 h2 => ⟨?_, fun i hi => (c.1 j hj t h1 h2).2 i (sm_out_some hi).1⟩, c.2, sm_Rc_0⟩
    have d := (c.1 j hj t h1 h2).1
    have l := hld t
    by_cases e : t = s
    · subst e; rw [sm_cb1 hk] at l; rw [sm_us]; omega
    · rw [sm_un e]
      rw [sm_cb0 (p := o k = some t) (fun z => e (by rw [hk] at z; exact (Option.some.inj z).symm))] at l
      omega
/-- one place less that nobody sits on -/
theorem sm_narrow0 {lo hi rm rm' w : Nat → Nat} {U B : Nat → Prop} (hle : ∀ t, rm' t ≤ rm t) (hD : sm_Dom lo hi rm w U B) : sm_Dom lo hi rm' w U B :=
  fun q hq hqU t => hD q ⟨hq.1, fun t => Nat.le_trans (hq.2 t) (hle t)⟩ hqU t
theorem sm_Dom_sub {lo hi rm w : Nat → Nat} {U U' B : Nat → Prop} (hU : ∀ i, U' i → U i) (hD : sm_Dom lo hi rm w U B) : sm_Dom lo hi rm w U' B :=
  fun q hq hqU t => hD q hq (fun i hi => hU i (hqU i hi)) t
theorem sm_Dom_iff {lo hi rm w : Nat → Nat} {U B B' : Nat → Prop} (h : ∀ i, B i ↔ B' i) (hD : sm_Dom lo hi rm w U B) : sm_Dom lo hi rm w U B' :=
  fun q hq hqU t => Nat.le_trans (hD q hq hqU t) (sm_cn_le fun i _ z => ⟨(h i).mp z.1, z.2⟩)
end
section
/-! weights of sets -/
noncomputable def sm_W (w : Nat → Nat) (A : Nat → Prop) : Nat := sm_S (fun i => sm_cb (A i) * sm_kw w i) 7
noncomputable def sm_ws (w : Nat → Nat) (A : Nat → Prop) (n : Nat) : Nat := sm_S (fun i => sm_cb (A i) * w i) n
noncomputable def sm_rv (A : Nat → Prop) : Nat := sm_S (fun i => sm_cb (A i) * 2 ^ (6 - i)) 7
theorem sm_kw_le {w : Nat → Nat} {i : Nat} (h : w i ≤ 20) : sm_kw w i ≤ 3000 := by
  unfold sm_kw
  have : 2 ^ (6 - i) ≤ 2 ^ 6 := Nat.pow_le_pow_right (by decide) (by omega)
  have : (2 : Nat) ^ 6 = 64 := rfl
  omega
theorem sm_W_eq {w : Nat → Nat} {A : Nat → Prop} (hw : ∀ i, w i ≤ 20) : sm_W w A = sm_S (fun t => sm_cn (fun i => A i ∧ t + 1 ≤ sm_kw w i)) 3000 := by
  unfold sm_W sm_cn
  rw [← sm_S_comm (F := fun i t => sm_cb (A i ∧ t + 1 ≤ sm_kw w i)) 3000 7]
  refine sm_S_eq 7 fun i _ => ?_
  rw [sm_below (A i) (sm_kw w i) 3000, if_pos (sm_kw_le (hw i))]
theorem sm_dom_W {lo hi rm w : Nat → Nat} {U B : Nat → Prop} (hw : ∀ i, w i ≤ 20) (hD : sm_Dom lo hi rm w U B) {q : Nat → Option Nat} (hq : sm_Val lo hi rm q) (hU : ∀ i, q i ≠ none → U i) : sm_W w (fun i => q i ≠ none) ≤ sm_W w B := by
  rw [sm_W_eq hw, sm_W_eq hw]
  exact sm_S_le 3000 fun t _ => hD q hq hU (t + 1)
theorem sm_W_split (w : Nat → Nat) (A : Nat → Prop) : ∀ n, sm_S (fun i => sm_cb (A i) * sm_kw w i) n = sm_ws w A n * 128 + sm_S (fun i => sm_cb (A i) * 2 ^ (6 - i)) n := by
  intro n
  induction n with
  | zero => rfl
  | succ n ih =>
    show sm_S (fun i => sm_cb (A i) * sm_kw w i) n + sm_cb (A n) * (w n * 128 + 2 ^ (6 - n)) = (sm_ws w A n + sm_cb (A n) * w n) * 128 + (sm_S (fun i => sm_cb (A i) * 2 ^ (6 - i)) n + sm_cb (A n) * 2 ^ (6 - n))
    rw [ih, Nat.mul_add, Nat.add_mul, Nat.mul_assoc]
    omega
theorem sm_rv7 (A : Nat → Prop) : sm_rv A = sm_cb (A 0) * 64 + sm_cb (A 1) * 32 + sm_cb (A 2) * 16 + sm_cb (A 3) * 8 + sm_cb (A 4) * 4 + sm_cb (A 5) * 2 + sm_cb (A 6) := by
  show 0 + sm_cb (A 0) * 64 + sm_cb (A 1) * 32 + sm_cb (A 2) * 16 + sm_cb (A 3) * 8 + sm_cb (A 4) * 4 + sm_cb (A 5) * 2 + sm_cb (A 6) * 1 = _
  omega
theorem sm_rv_lt (A : Nat → Prop) : sm_rv A < 128 := by
  rw [sm_rv7]
  have := sm_cb_le1 (A 0); have := sm_cb_le1 (A 1); have := sm_cb_le1 (A 2); have := sm_cb_le1 (A 3); have := sm_cb_le1 (A 4); have := sm_cb_le1 (A 5); have := sm_cb_le1 (A 6)
  omega
theorem sm_7 {P : Nat → Prop} (h0 : P 0) (h1 : P 1) (h2 : P 2) (h3 : P 3) (h4 : P 4) (h5 : P 5) (h6 : P 6) {i : Nat} (hi : i < 7) : P i := by
  match i, hi with
  | 0, _ => exact h0
  | 1, _ => exact h1
  | 2, _ => exact h2
  | 3, _ => exact h3
  | 4, _ => exact h4
  | 5, _ => exact h5
  | 6, _ => exact h6
theorem sm_cbi {p q : Prop} (h : sm_cb p = sm_cb q) : p ↔ q := by
  by_cases hp : p
  · by_cases hq : q
    · exact ⟨fun _ => hq, fun _ => hp⟩
    · rw [sm_cb1 hp, sm_cb0 hq] at h; exact absurd h (by decide)
  · by_cases hq : q
    · rw [sm_cb0 hp, sm_cb1 hq] at h; exact absurd h (by decide)
    · exact ⟨fun z => absurd z hp, fun z => absurd z hq⟩
/-- the first job that is in one of the two sets alone decides -/
theorem sm_rv_lex {A B : Nat → Prop} {j : Nat} (hj : j < 7) (h : ∀ i, i < j → (A i ↔ B i)) (hA : A j) (hB : ¬ B j) : sm_rv B < sm_rv A := by
  rw [sm_rv7, sm_rv7]
  have a0 := sm_cb_le1 (A 0); have a1 := sm_cb_le1 (A 1); have a2 := sm_cb_le1 (A 2); have a3 := sm_cb_le1 (A 3); have a4 := sm_cb_le1 (A 4); have a5 := sm_cb_le1 (A 5); have a6 := sm_cb_le1 (A 6)
  have b0 := sm_cb_le1 (B 0); have b1 := sm_cb_le1 (B 1); have b2 := sm_cb_le1 (B 2); have b3 := sm_cb_le1 (B 3); have b4 := sm_cb_le1 (B 4); have b5 := sm_cb_le1 (B 5); have b6 := sm_cb_le1 (B 6)
  have hA1 : sm_cb (A j) = 1 := sm_cb1 hA
  have hB0 : sm_cb (B j) = 0 := sm_cb0 hB
  have he : ∀ i, i < j → sm_cb (A i) = sm_cb (B i) := fun i hi => sm_cbx (h i hi)
  match j, hj with
  | 0, _ => omega
  | 1, _ => have := he 0 (by omega); omega
  | 2, _ => have := he 0 (by omega); have := he 1 (by omega); omega
  | 3, _ => have := he 0 (by omega); have := he 1 (by omega); have := he 2 (by omega); omega
  | 4, _ => have := he 0 (by omega); have := he 1 (by omega); have := he 2 (by omega); have := he 3 (by omega); omega
  | 5, _ => have := he 0 (by omega); have := he 1 (by omega); have := he 2 (by omega); have := he 3 (by omega); have := he 4 (by omega); omega
  | 6, _ => have := he 0 (by omega); have := he 1 (by omega); have := he 2 (by omega); have := he 3 (by omega); have := he 4 (by omega); have := he 5 (by omega); omega
theorem sm_rv_inj {A B : Nat → Prop} (h : sm_rv A = sm_rv B) : ∀ i, i < 7 → (A i ↔ B i) := by
  intro i
  induction i using Nat.strongRecOn with
  | ind i ih =>
    intro hi
    have ih' : ∀ k, k < i → (A k ↔ B k) := fun k hk => ih k hk (by omega)
    by_cases hA : A i
    · by_cases hB : B i
      · exact ⟨fun _ => hB, fun _ => hA⟩
      · have := sm_rv_lex hi ih' hA hB; omega
    · by_cases hB : B i
      · have := sm_rv_lex hi (fun k hk => (ih' k hk).symm) hB hA; omega
      · exact ⟨fun z => absurd z hA, fun z => absurd z hB⟩
theorem sm_W_rv {w : Nat → Nat} (A : Nat → Prop) : sm_W w A = sm_ws w A 7 * 128 + sm_rv A := sm_W_split w A 7
/-- equal weights, equal sets -/
theorem sm_W_inj {w : Nat → Nat} {A B : Nat → Prop} (h : sm_W w A = sm_W w B) {i : Nat} (hi : i < 7) : A i ↔ B i := by
  refine sm_rv_inj ?_ i hi
  rw [sm_W_rv, sm_W_rv] at h
  have := sm_rv_lt A
  have := sm_rv_lt B
  omega
/-! masks -/
def sm_bt (m i : Nat) : Prop := m / 2 ^ i % 2 = 1
theorem sm_bt_big {m i : Nat} (hm : m < 128) (hi : 7 ≤ i) : ¬ sm_bt m i := by
  unfold sm_bt
  have h1 : (2 : Nat) ^ 7 ≤ 2 ^ i := Nat.pow_le_pow_right (by decide) hi
  have h2 : (2 : Nat) ^ 7 = 128 := rfl
  rw [Nat.div_eq_of_lt (by omega)]
  decide
theorem sm_bt7 {m i : Nat} (hm : m < 128) (h : sm_bt m i) : i < 7 := by
  by_cases z : i < 7
  · exact z
  · exact absurd h (sm_bt_big hm (by omega))
noncomputable def sm_mk (B : Nat → Prop) (n : Nat) : Nat := sm_S (fun i => sm_cb (B i) * 2 ^ i) n
theorem sm_mk_lt (B : Nat → Prop) : ∀ n, sm_mk B n < 2 ^ n := by
  intro n
  induction n with
  | zero => show 0 < 2 ^ 0; decide
  | succ n ih =>
    have : sm_cb (B n) * 2 ^ n ≤ 1 * 2 ^ n := Nat.mul_le_mul_right _ (sm_cb_le1 _)
    show sm_mk B n + sm_cb (B n) * 2 ^ n < 2 ^ (n + 1)
    rw [Nat.pow_succ]; omega
theorem sm_mk128 (B : Nat → Prop) : sm_mk B 7 < 128 := sm_mk_lt B 7
theorem sm_mk_bit0 (B : Nat → Prop) {i : Nat} : ∀ n, i < n → sm_mk B n / 2 ^ i % 2 = sm_cb (B i) := by
  intro n
  induction n with
  | zero => intro h; exact absurd h (Nat.not_lt_zero i)
  | succ n ih =>
    intro h
    show (sm_mk B n + sm_cb (B n) * 2 ^ n) / 2 ^ i % 2 = _
    by_cases e : i = n
    · subst e
      rw [Nat.add_mul_div_right _ _ (Nat.two_pow_pos i), Nat.div_eq_of_lt (sm_mk_lt B i), Nat.zero_add]
      have := sm_cb_le1 (B i)
      exact Nat.mod_eq_of_lt (by omega)
    · have e2 : (2 : Nat) ^ n = 2 * 2 ^ (n - i - 1) * 2 ^ i := by
        rw [← Nat.pow_succ', ← Nat.pow_add]; congr 1; omega
      rw [e2, ← Nat.mul_assoc, Nat.add_mul_div_right _ _ (Nat.two_pow_pos i), ← Nat.mul_assoc, Nat.mul_comm (sm_cb (B n)) 2, Nat.mul_assoc, Nat.add_mul_mod_self_left]
      exact ih (by omega)
theorem sm_mk_bit (B : Nat → Prop) {i : Nat} (hi : i < 7) : sm_mk B 7 / 2 ^ i % 2 = sm_cb (B i) := sm_mk_bit0 B 7 hi
theorem sm_mk_bt (B : Nat → Prop) {i : Nat} (hi : i < 7) : sm_bt (sm_mk B 7) i ↔ B i := by
  unfold sm_bt
  rw [sm_mk_bit B hi]
  exact ⟨fun h => sm_cbp (by omega), sm_cb1⟩
theorem sm_exp_t : ∀ m, m < 128 → m = m / 2 ^ 0 % 2 + m / 2 ^ 1 % 2 * 2 + m / 2 ^ 2 % 2 * 4 + m / 2 ^ 3 % 2 * 8 + m / 2 ^ 4 % 2 * 16 + m / 2 ^ 5 % 2 * 32 + m / 2 ^ 6 % 2 * 64 := by decide +kernel
theorem sm_exp {m : Nat} (h : m < 128) : m = m / 2 ^ 0 % 2 + m / 2 ^ 1 % 2 * 2 + m / 2 ^ 2 % 2 * 4 + m / 2 ^ 3 % 2 * 8 + m / 2 ^ 4 % 2 * 16 + m / 2 ^ 5 % 2 * 32 + m / 2 ^ 6 % 2 * 64 := sm_exp_t m h
theorem sm_bt_ext {a b : Nat} (ha : a < 128) (hb : b < 128) (h : ∀ i, i < 7 → (sm_bt a i ↔ sm_bt b i)) : a = b := by
  have e : ∀ i, i < 7 → a / 2 ^ i % 2 = b / 2 ^ i % 2 := fun i hi => by
    have h1 := h i hi
    unfold sm_bt at h1
    generalize a / 2 ^ i = x at h1 ⊢
    generalize b / 2 ^ i = y at h1 ⊢
    omega
  rw [sm_exp ha, sm_exp hb, e 0 (by decide), e 1 (by decide), e 2 (by decide), e 3 (by decide), e 4 (by decide), e 5 (by decide), e 6 (by decide)]
theorem sm_mk_ext {B B' : Nat → Prop} (h : ∀ i, i < 7 → (B i ↔ B' i)) : sm_mk B 7 = sm_mk B' 7 :=
  sm_S_eq 7 fun i hi => by rw [sm_cbx (h i hi)]
theorem sm_bt_le_t : ∀ m, m < 128 → ∀ j, j < 7 → m / 2 ^ j % 2 = 1 → 2 ^ j ≤ m := by decide +kernel
def sm_bt_f (m j i : Nat) : Bool := (m / 2 ^ j % 2 != 1) || (i == j && (m - 2 ^ j) / 2 ^ i % 2 == 0) || (i != j && (m - 2 ^ j) / 2 ^ i % 2 == m / 2 ^ i % 2)
theorem sm_bt_sub_t : ∀ m, m < 128 → ∀ j, j < 7 → ∀ i, i < 7 → sm_bt_f m j i = true := by decide +kernel
theorem sm_bt_sub {m j : Nat} (hm : m < 128) (h : sm_bt m j) (i : Nat) : sm_bt (m - 2 ^ j) i ↔ sm_bt m i ∧ i ≠ j := by
  have hj := sm_bt7 hm h
  by_cases hi : i < 7
  · have t := sm_bt_sub_t m hm j hj i hi
    unfold sm_bt_f at t
    unfold sm_bt at h ⊢
    simp only [Bool.or_eq_true, Bool.and_eq_true, bne_iff_ne, beq_iff_eq, ne_eq] at t
    rcases t with (t | t) | t
    · exact absurd h t
    · rw [t.2]; exact ⟨fun z => absurd z (by decide), fun z => absurd t.1 z.2⟩
    · rw [t.2]; exact ⟨fun z => ⟨z, t.1⟩, fun z => z.1⟩
  · exact ⟨fun z => absurd z (sm_bt_big (Nat.lt_of_le_of_lt (Nat.sub_le _ _) hm) (by omega)), fun z => absurd z.1 (sm_bt_big hm (by omega))⟩
theorem sm_bt_le {m j : Nat} (hm : m < 128) (h : sm_bt m j) : 2 ^ j ≤ m := sm_bt_le_t m hm j (sm_bt7 hm h) h
theorem sm_bt_add_t : ∀ m, m < 128 → ∀ j, j < 7 → ¬ m / 2 ^ j % 2 = 1 → m + 2 ^ j < 128 ∧ (m + 2 ^ j) / 2 ^ j % 2 = 1 := by decide +kernel
theorem sm_bt_add {m j : Nat} (hm : m < 128) (hj : j < 7) (h : ¬ sm_bt m j) : m + 2 ^ j < 128 ∧ sm_bt (m + 2 ^ j) j := sm_bt_add_t m hm j hj h
theorem sm_bt_0 (i : Nat) : ¬ sm_bt 0 i := by unfold sm_bt; rw [Nat.zero_div]; decide
/-- a mask within another is not greater -/
theorem sm_sub_le {a b : Nat} (ha : a < 128) (hb : b < 128) (h : ∀ i, sm_bt a i → sm_bt b i) : a ≤ b := by
  have e : ∀ i, a / 2 ^ i % 2 ≤ b / 2 ^ i % 2 := fun i => by
    have h1 := h i
    unfold sm_bt at h1
    generalize a / 2 ^ i = x at h1 ⊢
    generalize b / 2 ^ i = y at h1 ⊢
    omega
  rw [sm_exp ha, sm_exp hb]
  exact Nat.add_le_add (Nat.add_le_add (Nat.add_le_add (Nat.add_le_add (Nat.add_le_add (Nat.add_le_add (e 0) (Nat.mul_le_mul_right _ (e 1))) (Nat.mul_le_mul_right _ (e 2))) (Nat.mul_le_mul_right _ (e 3))) (Nat.mul_le_mul_right _ (e 4))) (Nat.mul_le_mul_right _ (e 5))) (Nat.mul_le_mul_right _ (e 6))
/-! the sets that fit -/
def sm_Fm (lo hi rm : Nat → Nat) (al m : Nat) : Prop := (∀ i, sm_bt m i → sm_bt al i) ∧ ∃ q, sm_Val lo hi rm q ∧ ∀ i, (q i ≠ none ↔ sm_bt m i)
theorem sm_Fm_step {lo hi rm : Nat → Nat} {al m s : Nat} (hm : m < 128) (hs : s < 12) :
    sm_Fm lo hi (sm_up rm s (rm s + 1)) al m ↔ sm_Fm lo hi rm al m ∨ ∃ j, sm_bt m j ∧ sm_bt al j ∧ lo j ≤ s ∧ s ≤ hi j ∧ sm_Fm lo hi rm al (m - 2 ^ j) := by
  constructor
  · rintro ⟨hal, q, hq, hpl⟩
    by_cases hz : sm_ld q s ≤ rm s
    · refine Or.inl ⟨hal, q, ⟨hq.1, fun t => ?_⟩, hpl⟩
      by_cases e : t = s
      · rw [e]; exact hz
      · have := hq.2 t; rw [sm_un e] at this; exact this
    · obtain ⟨j, hj, hjs⟩ := sm_ld_pos (o := q) (s := s) (by omega)
      have hbj : sm_bt m j := (hpl j).mp (by rw [hjs]; exact fun z => nomatch z)
      have hv := hq.1 j s hjs
      refine Or.inr ⟨j, hbj, hal j hbj, hv.2.1, hv.2.2.1, fun i hi => hal i ((sm_bt_sub hm hbj i).mp hi).1, sm_up q j none, ⟨(sm_Val_out hq hj).1, fun t => ?_⟩, fun i => ?_⟩
      · have l := sm_ld_up (o := q) hj none t
        rw [sm_cb0 (p := none = some t) (fun z => nomatch z)] at l
        have h2 := hq.2 t
        by_cases e : t = s
        · subst e
          rw [sm_cb1 hjs] at l
          rw [sm_us] at h2
          omega
        · rw [sm_un e] at h2; omega
      · rw [sm_out_iff, sm_bt_sub hm hbj i, hpl i]
  · rintro (⟨hal, q, hq, hpl⟩ | ⟨j, hbj, haj, h1, h2, hal, q, hq, hpl⟩)
    · refine ⟨hal, q, ⟨hq.1, fun t => Nat.le_trans (hq.2 t) ?_⟩, hpl⟩
      by_cases e : t = s
      · rw [e, sm_us]; omega
      · rw [sm_un e]; exact Nat.le_refl _
    · have hj := sm_bt7 hm hbj
      have hq0 : q j = none := by
        cases e : q j with
        | none => rfl
        | some t => exact absurd rfl ((sm_bt_sub hm hbj j).mp ((hpl j).mp (by rw [e]; exact fun z => nomatch z))).2
      have hle : ∀ t, rm t ≤ sm_up rm s (rm s + 1) t := fun t => by
        by_cases e : t = s
        · rw [e, sm_us]; omega
        · rw [sm_un e]; exact Nat.le_refl _
      refine ⟨fun i hi => ?_, sm_up q j (some s), sm_Val_in ⟨hq.1, fun t => Nat.le_trans (hq.2 t) (hle t)⟩ hj hq0 h1 h2 hs (by rw [sm_us]; have := hq.2 s; omega), fun i => ?_⟩
      · by_cases e : i = j
        · rw [e]; exact haj
        · exact hal i ((sm_bt_sub hm hbj i).mpr ⟨hi, e⟩)
      · by_cases e : i = j
        · rw [e, sm_us]; exact ⟨fun _ => hbj, fun _ z => nomatch z⟩
        · rw [sm_un e, hpl i, sm_bt_sub hm hbj i]; exact ⟨fun z => z.1, fun z => ⟨z, e⟩⟩
theorem sm_Fm_0 {lo hi : Nat → Nat} {al m : Nat} (hm : m < 128) : sm_Fm lo hi (fun _ => 0) al m ↔ m = 0 := by
  constructor
  · rintro ⟨_, q, hq, hpl⟩
    refine sm_bt_ext hm (by decide) fun i hi => ⟨fun h => ?_, fun h => absurd h (sm_bt_0 i)⟩
    exfalso
    have := (hpl i).mpr h
    cases e : q i with
    | none => exact this e
    | some s =>
      have a := sm_ld_ge hi e
      have b : sm_ld q s ≤ 0 := hq.2 s
      omega
  · intro h
    subst h
    refine ⟨fun i hi => absurd hi (sm_bt_0 i), fun _ => none, ⟨fun i s e => (nomatch e), fun s => ?_⟩, fun i => ⟨fun z => absurd rfl z, fun z => absurd z (sm_bt_0 i)⟩⟩
    have : sm_ld (fun _ => none) s = sm_cn (fun _ => False) := sm_cn_eq fun i _ => ⟨fun h => (nomatch h), fun h => h.elim⟩
    rw [this]
    show sm_S (fun _ => sm_cb False) 7 ≤ 0
    rw [sm_cb0 (p := False) id, sm_S_0]
    exact Nat.le_refl 0
theorem sm_Fm_rm {lo hi lo' hi' rm rm' : Nat → Nat} {al m : Nat} (hl : ∀ i, i < 7 → lo i = lo' i) (hh : ∀ i, i < 7 → hi i = hi' i) (h : ∀ s, s < 12 → rm s = rm' s) : sm_Fm lo hi rm al m → sm_Fm lo' hi' rm' al m := by
  rintro ⟨hal, q, hq, hpl⟩
  refine ⟨hal, q, ⟨fun i s e => ?_, fun s => ?_⟩, hpl⟩
  · have := hq.1 i s e
    rw [← hl i this.1, ← hh i this.1]; exact this
  · by_cases hs : s < 12
    · rw [← h s hs]; exact hq.2 s
    · by_cases z : 0 < sm_ld q s
      · obtain ⟨i, _, e⟩ := sm_ld_pos z
        have := (hq.1 i s e).2.2.2
        omega
      · omega
end
section
/-! ints: options, truth values, bytes -/
def sx_eO : Option Nat → Int32
  | none => -1
  | some s => nI s
noncomputable def sx_bI (p : Prop) : Int32 := nI (sm_cb p)
theorem sx_bI1 {p : Prop} (h : p) : sx_bI p = 1 := by unfold sx_bI; rw [sm_cb1 h]; rfl
theorem sx_bI0 {p : Prop} (h : ¬ p) : sx_bI p = 0 := by unfold sx_bI; rw [sm_cb0 h]; rfl
theorem sx_bI_0 {p : Prop} : sx_bI p = 0 ↔ ¬ p := by
  constructor
  · intro h hp
    rw [sx_bI1 hp] at h
    exact absurd h (by decide)
  · exact sx_bI0
theorem sx_bI_n {p : Prop} : narrow .boolean (.int (sx_bI p)) = .int (sx_bI p) := by
  by_cases h : p
  · rw [sx_bI1 h]; rfl
  · rw [sx_bI0 h]; rfl
theorem sx_bIx {p q : Prop} (h : p ↔ q) : sx_bI p = sx_bI q := by rw [propext h]
theorem sx_m1 : (-1 : Int32) < 0 := by decide
theorem sx_m1' : ¬ (0 : Int32) ≤ -1 := by decide
theorem sx_eO_n {o : Option Nat} (h : o = none) : sx_eO o < 0 := by rw [h]; exact sx_m1
theorem sx_eO_s {o : Option Nat} {s : Nat} (h : o = some s) (hs : s < 2 ^ 31) : ¬ sx_eO o < 0 := by rw [h]; exact nI_pos hs
theorem sx_eO_n' {o : Option Nat} (h : o = none) : ¬ 0 ≤ sx_eO o := by rw [h]; exact sx_m1'
theorem sx_eO_s' {o : Option Nat} {s : Nat} (h : o = some s) (hs : s < 2 ^ 31) : 0 ≤ sx_eO o := by rw [h]; exact nI_pos' hs
theorem sx_eO_ne {o : Option Nat} {s : Nat} (ho : ∀ t, o = some t → t < 2 ^ 31) (hs : s < 2 ^ 31) (h : ¬ o = some s) : ¬ sx_eO o = nI s := by
  intro e
  cases eo : o with
  | none =>
    rw [eo] at e
    have e' : (-1 : Int32) = nI s := e
    have h1 := nI_pos hs
    rw [← e'] at h1
    exact h1 sx_m1
  | some t =>
    rw [eo] at e
    have e' : nI t = nI s := e
    rw [nI_eq (ho t eo) hs] at e'
    exact h (by rw [eo, e'])
theorem sx_b8 : ∀ n, n < 128 → (nI n).toInt8.toInt32 = nI n := by decide +kernel
theorem sx_by {n : Nat} (h : n < 128) : vp_nar .byte (nI n) = nI n := by rw [vp_nar_byte]; exact sx_b8 n h
theorem sx_by2 {n : Nat} (h : n < 128) : vp_nar .byte (nI n).toInt8.toInt32 = nI n := by rw [sx_b8 n h]; exact sx_by h
theorem sx_bym : vp_nar .byte (-1) = -1 := by rw [vp_nar_byte]; decide
theorem sx_byO {o : Option Nat} (h : ∀ t, o = some t → t < 128) : vp_nar .byte (sx_eO o) = sx_eO o := by
  cases e : o with
  | none => exact sx_bym
  | some t => exact sx_by (h t e)
theorem sx_bo1 : vp_nar .boolean 1 = 1 := rfl
theorem sx_bo0 : vp_nar .boolean 0 = 0 := rfl
theorem sx_us {f : Nat → Int32} {k : Nat} {x : Int32} : upd f k x k = x := if_pos rfl
theorem sx_un {f : Nat → Int32} {k j : Nat} {x : Int32} (h : j ≠ k) : upd f k x j = f j := if_neg h
theorem sx_sub1 {n : Nat} (h : 0 < n) : nI n - 1 = nI (n - 1) := by
  obtain ⟨m, rfl⟩ : ∃ m, n = m + 1 := ⟨n - 1, by omega⟩
  rw [nI_pred]; rfl
/-- an array holds a function below a bound, written at one place -/
theorem sx_wr {α : Type} {e : α → Int32} {a : Nat → Int32} {g : Nat → α} {N k : Nat} {x : α} {y : Int32} (h : ∀ i, i < N → a i = e (g i)) (hy : y = e x) : ∀ i, i < N → upd a k y i = e (sm_up g k x i) := by
  intro i hi
  by_cases z : i = k
  · rw [z, sx_us, sm_us]; exact hy
  · rw [sx_un z, sm_un z]; exact h i hi
/-! bits -/
theorem sx_bit : ∀ m, m < 128 → ∀ i, i < 7 → ((nI m >>> (nI i &&& 31)) &&& 1) = nI (m / 2 ^ i % 2) := by decide +kernel
theorem sx_bit1 {m i : Nat} (hm : m < 128) (hi : i < 7) : ((nI m >>> (nI i &&& 31)) &&& 1) = 1 ↔ sm_bt m i := by
  rw [sx_bit m hm i hi]
  have h2 : m / 2 ^ i % 2 < 2 := Nat.mod_lt _ (by decide)
  exact nI_eq (b := 1) (by omega) (by decide)
theorem sx_bit0 {m i : Nat} (hm : m < 128) (hi : i < 7) : ((nI m >>> (nI i &&& 31)) &&& 1) = 0 ↔ ¬ sm_bt m i := by
  rw [sx_bit m hm i hi]
  have h2 : m / 2 ^ i % 2 < 2 := Nat.mod_lt _ (by decide)
  have e : nI (m / 2 ^ i % 2) = nI 0 ↔ m / 2 ^ i % 2 = 0 := nI_eq (b := 0) (by omega) (by decide)
  have e' : nI (m / 2 ^ i % 2) = 0 ↔ m / 2 ^ i % 2 = 0 := e
  rw [e']
  unfold sm_bt
  omega
theorem sx_or_t : ∀ i, i < 7 → ∀ m, m < 64 → m < 2 ^ i → nI m ||| ((1 : Int32) <<< (nI i &&& 31)) = nI (m + 2 ^ i) := by decide +kernel
theorem sx_or {i m : Nat} (hi : i < 7) (h : m < 2 ^ i) : nI m ||| ((1 : Int32) <<< (nI i &&& 31)) = nI (m + 2 ^ i) := by
  have : (2 : Nat) ^ i ≤ 2 ^ 6 := Nat.pow_le_pow_right (by decide) (by omega)
  have e : (2 : Nat) ^ 6 = 64 := rfl
  exact sx_or_t i hi m (by omega) h
theorem sx_set_t : ∀ m, m < 128 → ∀ i, i < 7 → ¬ m / 2 ^ i % 2 = 1 → nI m ||| ((1 : Int32) <<< (nI i &&& 31)) = nI (m + 2 ^ i) := by decide +kernel
theorem sx_set {i m : Nat} (hm : m < 128) (hi : i < 7) (h : ¬ sm_bt m i) : nI m ||| ((1 : Int32) <<< (nI i &&& 31)) = nI (m + 2 ^ i) := sx_set_t m hm i hi h
theorem sx_and127 : ∀ m, m < 128 → nI m &&& 127 = nI m := by decide +kernel
/-! placements in the arrays -/
def sx_SE (o : Nat → Option Nat) (a_seat a_load : Nat → Int32) : Prop := (∀ i, i < 8 → a_seat i = sx_eO (o i)) ∧ ∀ s, s < 12 → a_load s = nI (sm_ld o s)
section
variable {f_capacity f_lineEnd f_freeSlot f_freeFor f_tableKnown : Int32} {a_used a_first a_last a_worths a_rooms a_seat a_load a_reached a_opener a_line a_savedSeat a_savedLoad a_savedFirst a_savedLast a_table : Nat → Int32}
theorem sx_vacate {post : SX → Prop} {o : Nat → Option Nat} {i : Nat} (hi : i < 7) (ho : ∀ i t, o i = some t → t < 12) (h : sx_SE o a_seat a_load)
    (K : ∀ se ld, sx_SE (sm_up o i none) se ld → post (f_capacity, f_lineEnd, f_freeSlot, f_freeFor, f_tableKnown, a_used, a_first, a_last, a_worths, a_rooms, se, ld, a_reached, a_opener, a_line, a_savedSeat, a_savedLoad, a_savedFirst, a_savedLast, a_table)) : wpX_vacate post (f_capacity, f_lineEnd, f_freeSlot, f_freeFor, f_tableKnown, a_used, a_first, a_last, a_worths, a_rooms, a_seat, a_load, a_reached, a_opener, a_line, a_savedSeat, a_savedLoad, a_savedFirst, a_savedLast, a_table) (nI i) := by
  have es : a_seat (nI i).toNatClampNeg = sx_eO (o i) := by rw [nI_clamp (by omega)]; exact h.1 i (by omega)
  refine And.intro (vp_in_nI (by omega) (by omega)) (nm_r es ?_)
  cases eo : o i with
  | none =>
    refine br_t sx_m1 (K _ _ ?_)
    rw [sm_ui eo]; exact h
  | some t =>
    have ht := ho i t eo
    have hl := h.2 t ht
    have lp := sm_ld_ge hi eo
    have l7 := sm_ld7 o t
    refine br_f (nI_pos (by omega)) ⟨vp_in_nI ht (by omega), vp_in_nI ht (by omega), nm_r (e' := upd a_load t (nI (sm_ld o t - 1))) ?_ ⟨vp_in_nI (by omega) (by omega), nm_r (e' := upd a_seat i (-1)) ?_ (K _ _ ⟨?_, ?_⟩)⟩⟩
    · show upd a_load (nI t).toNatClampNeg (vp_nar .byte ((a_load (nI t).toNatClampNeg - 1).toInt8.toInt32)) = _
      rw [nI_clamp (by omega), hl, sx_sub1 lp, sx_by2 (by omega)]
    · rw [nI_clamp (by omega), sx_bym]
    · exact sx_wr h.1 rfl
    · intro s hs
      have l := sm_ld_up (o := o) hi none s
      rw [sm_cb0 (p := none = some s) (fun z => nomatch z)] at l
      by_cases e : s = t
      · subst e
        rw [sm_cb1 eo] at l
        rw [sx_us]; congr 1; omega
      · rw [sm_cb0 (p := o i = some s) (fun z => e (by rw [eo] at z; exact (Option.some.inj z).symm))] at l
        rw [sx_un e, h.2 s hs]; congr 1; omega
theorem sx_sit {post : SX → Prop} {o : Nat → Option Nat} {i t : Nat} (hi : i < 7) (ht : t < 12) (h0 : o i = none) (h : sx_SE o a_seat a_load)
    (K : ∀ se ld, sx_SE (sm_up o i (some t)) se ld → post (f_capacity, f_lineEnd, f_freeSlot, f_freeFor, f_tableKnown, a_used, a_first, a_last, a_worths, a_rooms, se, ld, a_reached, a_opener, a_line, a_savedSeat, a_savedLoad, a_savedFirst, a_savedLast, a_table)) : wpX_sit post (f_capacity, f_lineEnd, f_freeSlot, f_freeFor, f_tableKnown, a_used, a_first, a_last, a_worths, a_rooms, a_seat, a_load, a_reached, a_opener, a_line, a_savedSeat, a_savedLoad, a_savedFirst, a_savedLast, a_table) (nI i) (nI t) := by
  have hl := h.2 t ht
  have l7 := sm_ld7 o t
  refine And.intro (vp_in_nI (by omega) (by omega)) (nm_r (e' := upd a_seat i (nI t)) ?_ ⟨vp_in_nI ht (by omega), vp_in_nI ht (by omega), nm_r (e' := upd a_load t (nI (sm_ld o t + 1))) ?_ (K _ _ ⟨?_, ?_⟩)⟩)
  · rw [nI_clamp (by omega), sx_by2 (by omega)]
  · rw [nI_clamp (by omega), hl, nI_1, sx_by2 (by omega)]
  · exact sx_wr h.1 rfl
  · intro s hs
    have l := sm_ld_up (o := o) hi (some t) s
    rw [h0, sm_cb0 (p := none = some s) (fun z => nomatch z)] at l
    by_cases e : s = t
    · subst e
      rw [sm_cb1 rfl] at l
      rw [sx_us]; congr 1; omega
    · rw [sm_cb0 (p := some t = some s) (fun z => e (Option.some.inj z).symm)] at l
      rw [sx_un e, h.2 s hs]; congr 1; omega
end
end
section
/-! the search for a chain: jobs reached in the order of the line -/
def sx_BF (lo hi : Nat → Nat) (o : Nat → Option Nat) (f n : Nat) (ln : Nat → Nat) (op : Nat → Option Nat) (R : Nat → Prop) : Prop :=
  1 ≤ n ∧ ln 0 = f ∧ op f = none ∧ (∀ k, k < n → R (ln k)) ∧ (∀ i, R i → i < 7 ∧ ∃ k, k < n ∧ ln k = i) ∧ (∀ j k, j < n → k < n → ln j = ln k → j = k) ∧ n = sm_cn R ∧
  ∀ k, 0 < k → k < n → ∃ m s, m < k ∧ op (ln k) = some (ln m) ∧ o (ln k) = some s ∧ lo (ln m) ≤ s ∧ s ≤ hi (ln m)
def sx_AR (n : Nat) (ln : Nat → Nat) (op : Nat → Option Nat) (R : Nat → Prop) (re opn li : Nat → Int32) : Prop :=
  (∀ i, i < 8 → re i = sx_bI (R i)) ∧ (∀ k, k < n → li k = nI (ln k)) ∧ ∀ i, R i → opn i = sx_eO (op i)
def sx_Ex (n0 : Nat) (ln0 : Nat → Nat) (R0 : Nat → Prop) (n : Nat) (ln : Nat → Nat) (R : Nat → Prop) : Prop := n0 ≤ n ∧ (∀ k, k < n0 → ln k = ln0 k) ∧ ∀ i, R0 i → R i
theorem sx_Ex_rf {n : Nat} {ln : Nat → Nat} {R : Nat → Prop} : sx_Ex n ln R n ln R := ⟨Nat.le_refl n, fun _ _ => rfl, fun _ h => h⟩
theorem sx_Ex_tr {n0 n1 n2 : Nat} {l0 l1 l2 : Nat → Nat} {R0 R1 R2 : Nat → Prop} (a : sx_Ex n0 l0 R0 n1 l1 R1) (b : sx_Ex n1 l1 R1 n2 l2 R2) : sx_Ex n0 l0 R0 n2 l2 R2 :=
  ⟨Nat.le_trans a.1 b.1, fun k hk => (b.2.1 k (Nat.lt_of_lt_of_le hk a.1)).trans (a.2.1 k hk), fun i h => b.2.2 i (a.2.2 i h)⟩
theorem sx_BF7 {lo hi : Nat → Nat} {o : Nat → Option Nat} {f n : Nat} {ln : Nat → Nat} {op : Nat → Option Nat} {R : Nat → Prop} (h : sx_BF lo hi o f n ln op R) : n ≤ 7 := by
  rw [h.2.2.2.2.2.2.1]; exact sm_cn7 R
theorem sx_BF_f {lo hi : Nat → Nat} {o : Nat → Option Nat} {f n : Nat} {ln : Nat → Nat} {op : Nat → Option Nat} {R : Nat → Prop} (h : sx_BF lo hi o f n ln op R) : R f := by
  have := h.2.2.2.1 0 h.1
  rw [h.2.1] at this; exact this
/-- the first row -/
theorem sx_BF_0 {lo hi : Nat → Nat} {o : Nat → Option Nat} {f : Nat} {op : Nat → Option Nat} (hf : f < 7) (hop : op f = none) : sx_BF lo hi o f 1 (fun _ => f) op (fun i => i = f) := by
  refine ⟨Nat.le_refl 1, rfl, hop, fun _ _ => rfl, fun i hi => ⟨hi ▸ hf, 0, by decide, hi.symm⟩, fun j k hj hk _ => by omega, ?_, fun k h0 h1 => by omega⟩
  have := sm_cn_add1 (P := fun _ => False) (Q := fun i => i = f) hf (fun i _ hne => ⟨fun h => h.elim, fun h => hne h⟩) (fun h => h) rfl
  rw [this]
  have e : sm_cn (fun _ => False) = 0 := by
    show sm_S (fun _ => sm_cb False) 7 = 0
    rw [sm_cb0 (p := False) id, sm_S_0]
  rw [e]
/-- one more job -/
theorem sx_BF_s {lo hi : Nat → Nat} {o : Nat → Option Nat} {f n : Nat} {ln : Nat → Nat} {op : Nat → Option Nat} {R : Nat → Prop} {i k0 s : Nat} (h : sx_BF lo hi o f n ln op R) (hi7 : i < 7) (hR : ¬ R i)
    (hk0 : k0 < n) (hs : o i = some s) (h1 : lo (ln k0) ≤ s) (h2 : s ≤ hi (ln k0)) :
    sx_BF lo hi o f (n + 1) (sm_up ln n i) (sm_up op i (some (ln k0))) (fun x => R x ∨ x = i) := by
  have hln : ∀ k, k < n → sm_up ln n i k = ln k := fun k hk => sm_un (by omega)
  have hne : ∀ k, k < n → ln k ≠ i := fun k hk e => hR (e ▸ h.2.2.2.1 k hk)
  have hf : f ≠ i := fun e => hR (e ▸ sx_BF_f h)
  obtain ⟨a1, a2, a3, a4, a5, a6, a7, a8⟩ := h
  refine ⟨by omega, ?_, ?_, fun k hk => ?_, fun x hx => ?_, fun j k hj hk e => ?_, ?_, fun k hk0' hk => ?_⟩
  · rw [hln 0 a1]; exact a2
  · rw [sm_un hf]; exact a3
  · by_cases e : k < n
    · rw [hln k e]; exact Or.inl (a4 k e)
    · have : k = n := by omega
      rw [this, sm_us]; exact Or.inr rfl
  · rcases hx with hx | hx
    · obtain ⟨b, k, hk, e⟩ := a5 x hx
      exact ⟨b, k, by omega, by rw [hln k hk]; exact e⟩
    · exact ⟨hx ▸ hi7, n, by omega, by rw [sm_us]; exact hx.symm⟩
  · by_cases ej : j < n
    · by_cases ek : k < n
      · rw [hln j ej, hln k ek] at e; exact a6 j k ej ek e
      · have : k = n := by omega
        rw [this, sm_us, hln j ej] at e
        exact absurd e (hne j ej)
    · have : j = n := by omega
      by_cases ek : k < n
      · rw [this, sm_us, hln k ek] at e
        exact absurd e.symm (hne k ek)
      · omega
  · rw [sm_cn_add1 (P := R) (Q := fun x => R x ∨ x = i) hi7 (fun x _ hx => ⟨Or.inl, fun z => z.resolve_right hx⟩) hR (Or.inr rfl), ← a7]
  · by_cases e : k < n
    · obtain ⟨m, t, b1, b2, b3, b4, b5⟩ := a8 k hk0' e
      refine ⟨m, t, b1, ?_, ?_, ?_, ?_⟩
      · rw [hln k e, hln m (by omega), sm_un (hne k e)]; exact b2
      · rw [hln k e]; exact b3
      · rw [hln m (by omega)]; exact b4
      · rw [hln m (by omega)]; exact b5
    · have : k = n := by omega
      subst this
      refine ⟨k0, s, hk0, ?_, ?_, ?_, ?_⟩
      · rw [sm_us, sm_us, hln k0 hk0]
      · rw [sm_us]; exact hs
      · rw [hln k0 hk0]; exact h1
      · rw [hln k0 hk0]; exact h2
/-- what the search reached is what can be reached -/
theorem sx_BF_least {lo hi : Nat → Nat} {o : Nat → Option Nat} {f n : Nat} {ln : Nat → Nat} {op : Nat → Option Nat} {R : Nat → Prop} (h : sx_BF lo hi o f n ln op R) : ∀ i, R i → sm_Rc lo hi o f i := by
  have : ∀ k, k < n → sm_Rc lo hi o f (ln k) := by
    intro k
    induction k using Nat.strongRecOn with
    | ind k ih =>
      intro hk
      by_cases e : k = 0
      · rw [e, h.2.1]; exact sm_Rc_0
      · obtain ⟨m, s, b1, _, b3, b4, b5⟩ := h.2.2.2.2.2.2.2 k (by omega) hk
        exact sm_Rc_St (ln m) (ih m b1 (by omega)) s b4 b5 (ln k) b3
  intro i hi
  obtain ⟨_, k, hk, e⟩ := h.2.2.2.2.1 i hi
  exact e ▸ this k hk
section
variable {f_capacity f_lineEnd f_freeSlot f_freeFor f_tableKnown : Int32} {a_used a_first a_last a_worths a_rooms a_seat a_load a_reached a_opener a_line a_savedSeat a_savedLoad a_savedFirst a_savedLast a_table : Nat → Int32}
theorem sx_rs {post : SX → Prop} {cap : Nat} {lo hi : Nat → Nat} {o : Nat → Option Nat} {f s k0 n0 : Nat} {ln0 : Nat → Nat} {R0 : Nat → Prop}
    (hc : cap ≤ 7) (hs : s < 12) (hoc : ∀ i t, o i = some t → i < cap) (ho : ∀ i t, o i = some t → t < 12) (hse : ∀ i, i < 8 → a_seat i = sx_eO (o i))
    (hk0 : k0 < n0) (hj7 : ln0 k0 < 7) (h1 : lo (ln0 k0) ≤ s) (h2 : s ≤ hi (ln0 k0))
    (K : ∀ n ln op R re opn li, sx_BF lo hi o f n ln op R → sx_AR n ln op R re opn li → sx_Ex n0 ln0 R0 n ln R → (∀ i, o i = some s → R i) → post (nI cap, nI n, f_freeSlot, f_freeFor, f_tableKnown, a_used, a_first, a_last, a_worths, a_rooms, a_seat, a_load, re, opn, li, a_savedSeat, a_savedLoad, a_savedFirst, a_savedLast, a_table)) :
    ∀ d i n ln op R a_reached a_opener a_line, i + d = cap → sx_BF lo hi o f n ln op R → sx_AR n ln op R a_reached a_opener a_line → sx_Ex n0 ln0 R0 n ln R → (∀ x, x < i → o x = some s → R x) →
      wX_reachSitters_2 post (nI s) (nI (ln0 k0)) (nI cap) f_freeSlot f_freeFor f_tableKnown (d + 1) (nI i) (nI n) a_used a_first a_last a_worths a_rooms a_seat a_load a_reached a_opener a_line a_savedSeat a_savedLoad a_savedFirst a_savedLast a_table := by
  intro d
  induction d with
  | zero =>
    intro i n ln op R a_reached a_opener a_line hd hB hA hE hR
    exact br_t (nI_le (by omega) (by omega)) (K n ln op R _ _ _ hB hA hE fun x hx => hR x (by have := hoc x s hx; omega) hx)
  | succ d ih =>
    intro i n ln op R a_reached a_opener a_line hd hB hA hE hR
    have hn7 := sx_BF7 hB
    have es : a_seat (nI i).toNatClampNeg = sx_eO (o i) := by rw [nI_clamp (by omega)]; exact hse i (by omega)
    have er : a_reached (nI i).toNatClampNeg = sx_bI (R i) := by rw [nI_clamp (by omega)]; exact hA.1 i (by omega)
    have hin : vp_in (nI i) 8 := vp_in_nI (by omega) (by omega)
    refine br_f (nI_ge (by omega) (by omega)) ⟨hin, ?_⟩
    by_cases e : o i = some s
    · refine br_t (es.trans (by rw [e]; rfl)) ⟨hin, ?_⟩
      by_cases r : R i
      · refine br_f (fun z => sx_bI_0.mp (er.symm.trans z) r) (nm_r (nI_1 i) (ih (i + 1) n ln op R _ _ _ (by omega) hB hA hE fun x hx hxs => ?_))
        by_cases ex : x = i
        · rw [ex]; exact r
        · exact hR x (by omega) hxs
      · have hn8 : n < 8 := by omega
        have hk : ln k0 = ln0 k0 := hE.2.1 k0 hk0
        have hkn : k0 < n := Nat.lt_of_lt_of_le hk0 hE.1
        refine br_t (er.trans (sx_bI0 r)) (br_f (nI_ge (b := 8) hn8 (by decide)) ⟨hin, nm_r (e' := upd a_reached i 1) ?_ ⟨hin, nm_r (e' := upd a_opener i (nI (ln0 k0))) ?_ ⟨vp_in_nI hn8 (by decide), nm_r (e' := upd a_line n (nI i)) ?_ (nm_r (nI_1 n) (nm_r (nI_1 i)
          (ih (i + 1) (n + 1) (sm_up ln n i) (sm_up op i (some (ln k0))) (fun x => R x ∨ x = i) _ _ _ (by omega) (sx_BF_s hB (by omega) r hkn e (by rw [hk]; exact h1) (by rw [hk]; exact h2)) ⟨?_, ?_, ?_⟩ ⟨?_, ?_, ?_⟩ ?_)))⟩⟩⟩)
        · rw [nI_clamp (by omega)]; rfl
        · rw [nI_clamp (by omega), sx_by2 (by omega)]
        · rw [nI_clamp (by omega), sx_by2 (by omega)]
        · intro x hx
          by_cases ex : x = i
          · rw [ex, sx_us, sx_bI1 (Or.inr rfl)]
          · rw [sx_un ex, hA.1 x hx]; exact sx_bIx ⟨Or.inl, fun z => z.resolve_right ex⟩
        · intro k hk'
          by_cases ek : k = n
          · rw [ek, sx_us, sm_us]
          · rw [sx_un ek, sm_un ek]; exact hA.2.1 k (by omega)
        · intro x hx
          by_cases ex : x = i
          · rw [ex, sx_us, sm_us, hk]; rfl
          · rw [sx_un ex, sm_un ex]; exact hA.2.2 x (hx.resolve_right ex)
        · have := hE.1; omega
        · intro k hk'
          rw [sm_un (by have := hE.1; omega)]; exact hE.2.1 k hk'
        · exact fun x hx => Or.inl (hE.2.2 x hx)
        · intro x hx hxs
          by_cases ex : x = i
          · exact Or.inr ex
          · exact Or.inl (hR x (by omega) hxs)
    · refine br_f (fun z => sx_eO_ne (fun t ht => by have := ho i t ht; omega) (by omega) e (es.symm.trans z)) (nm_r (nI_1 i) (ih (i + 1) n ln op R _ _ _ (by omega) hB hA hE fun x hx hxs => ?_))
      by_cases ex : x = i
      · rw [ex] at hxs; exact absurd hxs e
      · exact hR x (by omega) hxs
end
end
section
/-! windows and rooms in the arrays -/
def sx_WA (cap : Nat) (lo hi rm : Nat → Nat) (a_first a_last a_rooms : Nat → Int32) : Prop :=
  cap ≤ 7 ∧ (∀ i, lo i ≤ hi i) ∧ (∀ i, hi i ≤ 11) ∧ (∀ s, rm s ≤ 4) ∧ (∀ i, i < 8 → a_first i = nI (lo i)) ∧ (∀ i, i < 8 → a_last i = nI (hi i)) ∧ ∀ s, s < 12 → a_rooms s = nI (rm s)
def sx_PL (cap : Nat) (lo hi rm : Nat → Nat) (o : Nat → Option Nat) (a_seat a_load : Nat → Int32) : Prop :=
  sm_Val lo hi rm o ∧ sx_SE o a_seat a_load ∧ ∀ i t, o i = some t → i < cap
section
variable {f_capacity f_lineEnd f_freeSlot f_freeFor f_tableKnown : Int32} {a_used a_first a_last a_worths a_rooms a_seat a_load a_reached a_opener a_line a_savedSeat a_savedLoad a_savedFirst a_savedLast a_table : Nat → Int32}
theorem sx_look7 {post : SX → Prop} {cap : Nat} {lo hi rm : Nat → Nat} {o : Nat → Option Nat} {f k0 n0 : Nat} {ln0 : Nat → Nat} {R0 : Nat → Prop}
    (hW : sx_WA cap lo hi rm a_first a_last a_rooms) (hP : sx_PL cap lo hi rm o a_seat a_load) (hk0 : k0 < n0) (hj7 : ln0 k0 < 7)
    (K0 : ∀ n ln op R re opn li, sx_BF lo hi o f n ln op R → sx_AR n ln op R re opn li → sx_Ex n0 ln0 R0 n ln R → (∀ t, lo (ln0 k0) ≤ t → t ≤ hi (ln0 k0) → rm t ≤ sm_ld o t ∧ ∀ i, o i = some t → R i) →
      post (nI cap, nI n, -1, f_freeFor, f_tableKnown, a_used, a_first, a_last, a_worths, a_rooms, a_seat, a_load, re, opn, li, a_savedSeat, a_savedLoad, a_savedFirst, a_savedLast, a_table))
    (K1 : ∀ s n ln op R re opn li, sx_BF lo hi o f n ln op R → sx_AR n ln op R re opn li → sx_Ex n0 ln0 R0 n ln R → lo (ln0 k0) ≤ s → s ≤ hi (ln0 k0) → sm_ld o s < rm s →
      post (nI cap, nI n, nI s, nI (ln0 k0), f_tableKnown, a_used, a_first, a_last, a_worths, a_rooms, a_seat, a_load, re, opn, li, a_savedSeat, a_savedLoad, a_savedFirst, a_savedLast, a_table)) :
    ∀ d s n ln op R a_reached a_opener a_line, s + d = hi (ln0 k0) + 1 → lo (ln0 k0) ≤ s → sx_BF lo hi o f n ln op R → sx_AR n ln op R a_reached a_opener a_line → sx_Ex n0 ln0 R0 n ln R →
      (∀ t, lo (ln0 k0) ≤ t → t < s → rm t ≤ sm_ld o t ∧ ∀ i, o i = some t → R i) →
      wX_look_7 post (nI (ln0 k0)) (d + 2) (nI s) (nI cap) (nI n) (-1) f_freeFor f_tableKnown a_used a_first a_last a_worths a_rooms a_seat a_load a_reached a_opener a_line a_savedSeat a_savedLoad a_savedFirst a_savedLast a_table := by
  obtain ⟨hc, hlh, hh, hr4, ef, el, er⟩ := hW
  obtain ⟨hV, hS, hoc⟩ := hP
  have ho : ∀ i t, o i = some t → t < 12 := fun i t e => (hV.1 i t e).2.2.2
  have hin : vp_in (nI (ln0 k0)) 8 := vp_in_nI (by omega) (by omega)
  have eh : a_last (nI (ln0 k0)).toNatClampNeg = nI (hi (ln0 k0)) := by rw [nI_clamp (by omega)]; exact el _ (by omega)
  have h11 := hh (ln0 k0)
  intro d
  induction d with
  | zero =>
    intro s n ln op R a_reached a_opener a_line hd hs hB hA hE hR
    refine And.intro hin (br_t (by rw [eh]; exact nI_lt (by omega) (by omega)) (K0 n ln op R _ _ _ hB hA hE fun t h1 h2 => hR t h1 (by omega)))
  | succ d ih =>
    intro s n ln op R a_reached a_opener a_line hd hs hB hA hE hR
    have hs12 : s < 12 := by omega
    have is : vp_in (nI s) 12 := vp_in_nI hs12 (by decide)
    have r4 := hr4 s
    have l7 := sm_ld7 o s
    have e1 : a_rooms (nI s).toNatClampNeg = nI (rm s) := by rw [nI_clamp (by omega)]; exact er s hs12
    have e2 : a_load (nI s).toNatClampNeg = nI (sm_ld o s) := by rw [nI_clamp (by omega)]; exact hS.2 s hs12
    refine And.intro hin (br_f (by rw [eh]; exact nI_nlt (by omega) (by omega)) (br_f sx_m1' ⟨is, is, ?_⟩))
    by_cases z : rm s ≤ sm_ld o s
    · refine br_t (by rw [e1, e2]; exact nI_le z (by omega)) ⟨cap + 1, sx_rs (f := f) (lo := lo) (hi := hi) (k0 := k0) (n0 := n0) (ln0 := ln0) (R0 := R) hc hs12 hoc ho hS.1 hk0 hj7 hs (by omega)
        (fun n' ln' op' R' re opn li hB' hA' hE' hR' => nm_r (nI_1 s) (ih (s + 1) n' ln' op' R' re opn li (by omega) (by omega) hB' hA' ⟨hE'.1, hE'.2.1, fun i h => hE'.2.2 i (hE.2.2 i h)⟩ fun t h1 h2 => ?_)) cap 0 n ln op R _ _ _ (by omega) hB hA ⟨hE.1, hE.2.1, fun _ h => h⟩ fun x hx => absurd hx (Nat.not_lt_zero x)⟩
      by_cases et : t = s
      · rw [et]; exact ⟨z, hR'⟩
      · have := hR t h1 (by omega)
        exact ⟨this.1, fun i hi => hE'.2.2 i (this.2 i hi)⟩
    · refine br_f (by rw [e1, e2]; exact nI_ge (by omega) (by omega)) (nm_r (nI_1 s) (And.intro hin (br_c (fun _ => ?_) (fun _ => br_t (nI_pos' (by omega)) ?_))))
      · exact K1 s n ln op R _ _ _ hB hA hE hs (by omega) (by omega)
      · exact K1 s n ln op R _ _ _ hB hA hE hs (by omega) (by omega)
theorem sx_shift12 {post : SX → Prop} {lo hi rm : Nat → Nat} {o : Nat → Option Nat} {f n : Nat} {ln : Nat → Nat} {op : Nat → Option Nat} {R : Nat → Prop}
    (hB : sx_BF lo hi o f n ln op R) (hop : ∀ i, R i → a_opener i = sx_eO (op i)) (h0 : o f = none)
    (K : ∀ o' se ld, sm_Val lo hi rm o' → (∀ i, o' i ≠ none ↔ o i ≠ none ∨ i = f) → sx_SE o' se ld → post (f_capacity, f_lineEnd, f_freeSlot, f_freeFor, f_tableKnown, a_used, a_first, a_last, a_worths, a_rooms, se, ld, a_reached, a_opener, a_line, a_savedSeat, a_savedLoad, a_savedFirst, a_savedLast, a_table)) :
    ∀ m c t o' a_seat a_load fu, m < n → c + m ≤ 6 → t < 12 → lo (ln m) ≤ t → t ≤ hi (ln m) → sm_ld o' t < rm t → sm_Val lo hi rm o' → (∀ k, k ≤ m → o' (ln k) = o (ln k)) → (∀ i, o' i ≠ none ↔ o i ≠ none) → sx_SE o' a_seat a_load →
      m + 2 ≤ fu → wX_shift_12 post fu (nI (ln m)) (nI t) (nI c) f_capacity f_lineEnd f_freeSlot f_freeFor f_tableKnown a_used a_first a_last a_worths a_rooms a_seat a_load a_reached a_opener a_line a_savedSeat a_savedLoad a_savedFirst a_savedLast a_table := by
  intro m
  induction m using Nat.strongRecOn with
  | ind m ih =>
    intro c t o' a_seat a_load fu hm hcm ht h1 h2 hl hV hk hpl hS hfu
    obtain ⟨fu, rfl⟩ : ∃ x, fu = x + 1 := ⟨fu - 1, by omega⟩
    have hj7 := (hB.2.2.2.2.1 (ln m) (hB.2.2.2.1 m hm)).1
    have hin : vp_in (nI (ln m)) 8 := vp_in_nI (by omega) (by omega)
    have es : a_seat (nI (ln m)).toNatClampNeg = sx_eO (o (ln m)) := by rw [nI_clamp (by omega), hS.1 _ (by omega), hk m (Nat.le_refl m)]
    have eo : a_opener (nI (ln m)).toNatClampNeg = sx_eO (op (ln m)) := by rw [nI_clamp (by omega)]; exact hop _ (hB.2.2.2.1 m hm)
    have hV1 : sm_Val lo hi rm (sm_up o' (ln m) (some t)) := by
      have l := sm_ld_up (o := o') hj7 none t
      rw [sm_cb0 (p := none = some t) (fun z => nomatch z)] at l
      have := sm_Val_in (sm_Val_out (k := ln m) hV hj7) hj7 sm_us h1 h2 ht (by omega)
      rw [sm_uu] at this; exact this
    refine br_f (nI_ge (b := 8) (by omega) (by decide)) (br_f (nI_pos (by omega)) ⟨hin, nm_r es (sx_vacate hj7 (fun i t e => (hV.1 i t e).2.2.2) hS fun se ld hS1 => sx_sit hj7 ht sm_us hS1 fun se2 ld2 hS2 => And.intro hin (nm_r eo (nm_r (nI_1 c) ?_)))⟩)
    rw [sm_uu] at hS2
    by_cases e : m = 0
    · subst e
      have ef : ln 0 = f := hB.2.1
      have hK : post (f_capacity, f_lineEnd, f_freeSlot, f_freeFor, f_tableKnown, a_used, a_first, a_last, a_worths, a_rooms, se2, ld2, a_reached, a_opener, a_line, a_savedSeat, a_savedLoad, a_savedFirst, a_savedLast, a_table) := by
        refine K (sm_up o' (ln 0) (some t)) se2 ld2 hV1 (fun i => ?_) hS2
        by_cases ei : i = ln 0
        · rw [ei, sm_us, ef]; exact ⟨fun _ => Or.inr rfl, fun _ z => nomatch z⟩
        · rw [sm_un ei, hpl i]; exact ⟨Or.inl, fun z => z.resolve_right (fun y => ei (y.trans ef.symm))⟩
      have eop : op (ln 0) = none := by rw [ef]; exact hB.2.2.1
      rw [eop]
      obtain ⟨fu, rfl⟩ : ∃ x, fu = x + 1 := ⟨fu - 1, by omega⟩
      exact br_c (fun _ => hK) (fun _ => br_t sx_m1 hK)
    · obtain ⟨m', q, b1, b2, b3, b4, b5⟩ := hB.2.2.2.2.2.2.2 m (by omega) hm
      have b3' : o' (ln m) = some q := (hk m (Nat.le_refl m)).trans b3
      have hq := hV.1 (ln m) q b3'
      rw [b2, b3]
      refine ih m' b1 (c + 1) q (sm_up o' (ln m) (some t)) se2 ld2 fu (by omega) (by omega) hq.2.2.2 b4 b5 ?_ hV1 (fun k hk' => ?_) (fun i => ?_) hS2 (by omega)
      · have l := sm_ld_up (o := o') hj7 (some t) q
        rw [sm_cb1 b3'] at l
        have v := hV.2 q
        by_cases z : t = q
        · subst z
          have := sm_cb_le1 (some t = some t)
          omega
        · rw [sm_cb0 (p := some t = some q) (fun y => z (Option.some.inj y))] at l
          omega
      · have hne : ln k ≠ ln m := fun y => by have := hB.2.2.2.2.2.1 k m (by omega) hm y; omega
        rw [sm_un hne]; exact hk k (by omega)
      · by_cases ei : i = ln m
        · rw [ei, sm_us, b3]; exact ⟨fun _ z => (nomatch z), fun _ z => nomatch z⟩
        · rw [sm_un ei]; exact hpl i
theorem sx_place55 {post : Int32 → SX → Prop} {cap : Nat} {lo hi rm : Nat → Nat} {o : Nat → Option Nat} {f : Nat}
    (hW : sx_WA cap lo hi rm a_first a_last a_rooms) (hP : sx_PL cap lo hi rm o a_seat a_load) (h0 : o f = none)
    (P1 : ∀ o' fl fs ff se ld re opn li, sm_Val lo hi rm o' → (∀ i, o' i ≠ none ↔ o i ≠ none ∨ i = f) → sx_SE o' se ld → post 1 (nI cap, fl, fs, ff, f_tableKnown, a_used, a_first, a_last, a_worths, a_rooms, se, ld, re, opn, li, a_savedSeat, a_savedLoad, a_savedFirst, a_savedLast, a_table))
    (P0 : ∀ fl fs ff re opn li, (∀ i, i < 8 → re i = sx_bI (sm_Rc lo hi o f i)) → sm_Cl lo hi rm o (sm_Rc lo hi o f) → post 0 (nI cap, fl, fs, ff, f_tableKnown, a_used, a_first, a_last, a_worths, a_rooms, a_seat, a_load, re, opn, li, a_savedSeat, a_savedLoad, a_savedFirst, a_savedLast, a_table)) :
    ∀ d k n ln op R a_reached a_opener a_line, k + d = 8 → k ≤ n → sx_BF lo hi o f n ln op R → sx_AR n ln op R a_reached a_opener a_line →
      (∀ m, m < k → ∀ t, lo (ln m) ≤ t → t ≤ hi (ln m) → rm t ≤ sm_ld o t ∧ ∀ i, o i = some t → R i) →
      wX_place_55 post (d + 2) (nI k) (nI cap) (nI n) (-1) f_freeFor f_tableKnown a_used a_first a_last a_worths a_rooms a_seat a_load a_reached a_opener a_line a_savedSeat a_savedLoad a_savedFirst a_savedLast a_table := by
  have hV := hP.1
  have hS := hP.2.1
  intro d
  induction d with
  | zero =>
    intro k n ln op R a_reached a_opener a_line hd hkn hB
    have := sx_BF7 hB
    omega
  | succ d ih =>
    intro k n ln op R a_reached a_opener a_line hd hkn hB hA hR
    have hn7 := sx_BF7 hB
    by_cases e : k = n
    · refine br_t (nI_le (by omega) (by omega)) (br_f sx_m1' (P0 _ _ _ _ _ _ ?_ ?_))
      · intro i hi
        rw [hA.1 i hi]
        refine sx_bIx ⟨sx_BF_least hB i, fun z => z R (sx_BF_f hB) fun j hj s h1 h2 => ?_⟩
        obtain ⟨_, m, hm, em⟩ := hB.2.2.2.2.1 j hj
        rw [← em] at h1 h2
        exact (hR m (by omega) s h1 h2).2
      · refine sm_Rc_Cl (sx_BF_f hB) fun j hj s h1 h2 => ?_
        obtain ⟨_, m, hm, em⟩ := hB.2.2.2.2.1 j hj
        rw [← em] at h1 h2
        exact hR m (by omega) s h1 h2
    · have hk : k < n := by omega
      have hj7 := (hB.2.2.2.2.1 (ln k) (hB.2.2.2.1 k hk)).1
      have el : a_line (nI k).toNatClampNeg = nI (ln k) := by rw [nI_clamp (by omega)]; exact hA.2.1 k hk
      have ef : a_first (nI (ln k)).toNatClampNeg = nI (lo (ln k)) := by rw [nI_clamp (by omega)]; exact hW.2.2.2.2.1 _ (by omega)
      have hlh := hW.2.1 (ln k)
      refine br_f (nI_ge hk (by omega)) (br_f (nI_ge (b := 8) (by omega) (by decide)) (br_f sx_m1' ⟨vp_in_nI (by omega) (by decide), ?_⟩))
      rw [el]
      refine And.intro (vp_in_nI (by omega) (by decide)) (nm_r ef ⟨hi (ln k) + 1 - lo (ln k) + 2, sx_look7 (n0 := n) (R0 := R) hW hP hk hj7 (fun n' ln' op' R' re opn li hB' hA' hE' hR' => nm_r (nI_1 k) (ih (k + 1) n' ln' op' R' re opn li (by omega) (by have := hE'.1; omega) hB' hA' fun m hm t h1 h2 => ?_))
        (fun s n' ln' op' R' re opn li hB' hA' hE' h1 h2 h3 => nm_r (nI_1 k) ?_) (hi (ln k) + 1 - lo (ln k)) (lo (ln k)) n ln op R _ _ _ (by omega) (Nat.le_refl _) hB hA sx_Ex_rf fun t h1 h2 => absurd h1 (by omega)⟩)
      · by_cases em : m = k
        · subst em
          rw [hE'.2.1 m hk] at h1 h2
          exact hR' t h1 h2
        · rw [hE'.2.1 m (by omega)] at h1 h2
          have := hR m (by omega) t h1 h2
          exact ⟨this.1, fun i hi => hE'.2.2 i (this.2 i hi)⟩
      · have hs12 : s < 12 := by have := hW.2.2.1 (ln k); omega
        have hek := hE'.2.1 k hk
        have hX : wX_place_92 post (nI cap) (nI n') (nI s) (nI (ln k)) f_tableKnown a_used a_first a_last a_worths a_rooms a_seat a_load re opn li a_savedSeat a_savedLoad a_savedFirst a_savedLast a_table := by
          refine br_t (nI_pos' (by omega)) ⟨8, ?_⟩
          rw [← hek]
          exact sx_shift12 (rm := rm) hB' hA'.2.2 h0 (fun o' se ld hV' hpl' hS' => P1 o' _ _ _ se ld _ _ _ hV' hpl' hS') k 0 s o a_seat a_load 8 (by have := hE'.1; omega) (by omega) hs12 (by rw [hek]; exact h1) (by rw [hek]; exact h2) h3 hV (fun _ _ => rfl) (fun _ => Iff.rfl) hS (by omega)
        exact br_c (fun _ => hX) (fun _ => br_c (fun _ => hX) (fun _ => br_t (nI_pos' (by omega)) hX))
/-- place: the job gets a place, or the search fails, nothing moved, and reached holds what can be reached -/
theorem sx_place {post : Int32 → SX → Prop} {cap : Nat} {lo hi rm : Nat → Nat} {o : Nat → Option Nat} {f : Nat} (hf : f < 7)
    (hW : sx_WA cap lo hi rm a_first a_last a_rooms) (hP : sx_PL cap lo hi rm o a_seat a_load) (h0 : o f = none)
    (P1 : ∀ o' fl fs ff se ld re opn li, sm_Val lo hi rm o' → (∀ i, o' i ≠ none ↔ o i ≠ none ∨ i = f) → sx_SE o' se ld → post 1 (nI cap, fl, fs, ff, f_tableKnown, a_used, a_first, a_last, a_worths, a_rooms, se, ld, re, opn, li, a_savedSeat, a_savedLoad, a_savedFirst, a_savedLast, a_table))
    (P0 : ∀ fl fs ff re opn li, (∀ i, i < 8 → re i = sx_bI (sm_Rc lo hi o f i)) → sm_Cl lo hi rm o (sm_Rc lo hi o f) → post 0 (nI cap, fl, fs, ff, f_tableKnown, a_used, a_first, a_last, a_worths, a_rooms, a_seat, a_load, re, opn, li, a_savedSeat, a_savedLoad, a_savedFirst, a_savedLast, a_table)) :
    wpX_place post (nI cap, f_lineEnd, f_freeSlot, f_freeFor, f_tableKnown, a_used, a_first, a_last, a_worths, a_rooms, a_seat, a_load, a_reached, a_opener, a_line, a_savedSeat, a_savedLoad, a_savedFirst, a_savedLast, a_table) (nI f) := by
  have hin : vp_in (nI f) 8 := vp_in_nI (by omega) (by omega)
  have L : ∀ d i a_reached, i + d = 8 → (∀ x, x < i → a_reached x = 0) → wX_place_2 post (nI f) (nI cap) f_lineEnd f_freeSlot f_freeFor f_tableKnown (d + 1) (nI i) a_used a_first a_last a_worths a_rooms a_seat a_load a_reached a_opener a_line a_savedSeat a_savedLoad a_savedFirst a_savedLast a_table := by
    intro d
    induction d with
    | zero =>
      intro i a_reached hd hz
      refine br_t (nI_le (a := 8) (by omega) (by omega)) ⟨hin, nm_r (e' := upd a_reached f 1) ?_ ⟨hin, nm_r (e' := upd a_opener f (-1)) ?_ (nm_r (e' := upd a_line 0 (nI f)) ?_ ⟨8 + 2, ?_⟩)⟩⟩
      · rw [nI_clamp (by omega)]; rfl
      · rw [nI_clamp (by omega), sx_bym]
      · rw [sx_by2 (by omega)]
      · refine sx_place55 hW hP h0 P1 P0 8 0 1 (fun _ => f) (fun _ => none) (fun x => x = f) _ _ _ rfl (by decide) (sx_BF_0 hf rfl) ⟨?_, ?_, ?_⟩ fun m hm => absurd hm (Nat.not_lt_zero m)
        · intro x hx
          by_cases e : x = f
          · rw [e, sx_us, sx_bI1 rfl]
          · rw [sx_un e, sx_bI0 e]; exact hz x (by omega)
        · intro k hk
          have : k = 0 := by omega
          rw [this, sx_us]
        · intro x hx
          rw [hx, sx_us]; rfl
    | succ d ih =>
      intro i a_reached hd hz
      refine br_f (nI_ge (b := 8) (by omega) (by decide)) ⟨vp_in_nI (by omega) (by decide), nm_r (e' := upd a_reached i 0) ?_ (nm_r (nI_1 i) (ih (i + 1) _ (by omega) fun x hx => ?_))⟩
      · rw [nI_clamp (by omega)]; rfl
      · by_cases e : x = i
        · rw [e, sx_us]
        · rw [sx_un e]; exact hz x (by omega)
  exact ⟨9, L 8 0 a_reached rfl fun x hx => absurd hx (Nat.not_lt_zero x)⟩
end
end
section
/-! the order of two jobs -/
theorem sm_kw_lt {w : Nat → Nat} {i j : Nat} (hi : i < 7) (hj : j < 7) : sm_kw w j < sm_kw w i ↔ w j < w i ∨ (w j = w i ∧ i < j) := by
  unfold sm_kw
  have a : (2 : Nat) ^ (6 - i) ≤ 2 ^ 6 := Nat.pow_le_pow_right (by decide) (by omega)
  have b : (2 : Nat) ^ (6 - j) ≤ 2 ^ 6 := Nat.pow_le_pow_right (by decide) (by omega)
  have a0 := Nat.two_pow_pos (6 - i)
  have b0 := Nat.two_pow_pos (6 - j)
  have e : (2 : Nat) ^ 6 = 64 := rfl
  by_cases h : i < j
  · have : (2 : Nat) ^ (6 - j) < 2 ^ (6 - i) := Nat.pow_lt_pow_right (by decide) (by omega)
    omega
  · have : (2 : Nat) ^ (6 - i) ≤ 2 ^ (6 - j) := Nat.pow_le_pow_right (by decide) (by omega)
    omega
theorem sm_kw_inj {w : Nat → Nat} {i j : Nat} (hi : i < 7) (hj : j < 7) (h : sm_kw w i = sm_kw w j) : i = j := by
  have a := sm_kw_lt (w := w) hi hj
  have b := sm_kw_lt (w := w) hj hi
  omega
def sx_WO (w : Nat → Nat) (a_worths : Nat → Int32) : Prop := (∀ i, w i ≤ 20) ∧ ∀ i, i < 8 → a_worths i = nI (w i)
section
variable {f_capacity f_lineEnd f_freeSlot f_freeFor f_tableKnown : Int32} {a_used a_first a_last a_worths a_rooms a_seat a_load a_reached a_opener a_line a_savedSeat a_savedLoad a_savedFirst a_savedLast a_table : Nat → Int32}
theorem sx_before {post : Int32 → Prop} {w : Nat → Nat} {i j : Nat} (hi : i < 7) (hj : j < 7) (hw : sx_WO w a_worths) (K1 : sm_kw w j < sm_kw w i → post 1) (K0 : sm_kw w i ≤ sm_kw w j → post 0) :
    wpX_before post (f_capacity, f_lineEnd, f_freeSlot, f_freeFor, f_tableKnown, a_used, a_first, a_last, a_worths, a_rooms, a_seat, a_load, a_reached, a_opener, a_line, a_savedSeat, a_savedLoad, a_savedFirst, a_savedLast, a_table) (nI i) (nI j) := by
  have ii : vp_in (nI i) 8 := vp_in_nI (by omega) (by decide)
  have ij : vp_in (nI j) 8 := vp_in_nI (by omega) (by decide)
  have ei : a_worths (nI i).toNatClampNeg = nI (w i) := by rw [nI_clamp (by omega)]; exact hw.2 i (by omega)
  have ej : a_worths (nI j).toNatClampNeg = nI (w j) := by rw [nI_clamp (by omega)]; exact hw.2 j (by omega)
  have wi := hw.1 i
  have wj := hw.1 j
  have hk := sm_kw_lt (w := w) hi hj
  refine And.intro ii ⟨ij, ?_⟩
  rw [ei, ej]
  by_cases h : w j < w i
  · exact br_t (nI_lt h (by omega)) (K1 (hk.mpr (Or.inl h)))
  · refine br_f (nI_nlt (by omega) (by omega)) ⟨ii, ij, ?_⟩
    by_cases e : w i = w j
    · refine br_t (by rw [e]) ?_
      by_cases l : j ≤ i
      · exact br_t (nI_le l (by omega)) (K0 (by omega))
      · exact br_f (nI_ge (by omega) (by omega)) (K1 (hk.mpr (Or.inr ⟨e.symm, by omega⟩)))
    · exact br_f (fun z => e ((nI_eq (by omega) (by omega)).mp z)) (K0 (by omega))
theorem sx_least {post : Int32 → Prop} {cap : Nat} {w : Nat → Nat} {R : Nat → Prop} (hc : cap ≤ 7) (hw : sx_WO w a_worths) (hre : ∀ i, i < 8 → a_reached i = sx_bI (R i)) (hRc : ∀ i, R i → i < cap) {f : Nat} (hf : R f)
    (K : ∀ a, R a → (∀ r, R r → sm_kw w a ≤ sm_kw w r) → post (nI a)) : wpX_leastReached post (nI cap, f_lineEnd, f_freeSlot, f_freeFor, f_tableKnown, a_used, a_first, a_last, a_worths, a_rooms, a_seat, a_load, a_reached, a_opener, a_line, a_savedSeat, a_savedLoad, a_savedFirst, a_savedLast, a_table) := by
  have L : ∀ d i l, i + d = cap → (l = none → ∀ x, x < i → ¬ R x) → (∀ a, l = some a → R a ∧ ∀ x, x < i → R x → sm_kw w a ≤ sm_kw w x) → wX_leastReached_4 post (nI cap) f_lineEnd f_freeSlot f_freeFor f_tableKnown a_used a_first a_last a_worths a_rooms a_seat a_load a_reached a_opener a_line a_savedSeat a_savedLoad a_savedFirst a_savedLast a_table (d + 1) (sx_eO l) (nI i) := by
    intro d
    induction d with
    | zero =>
      intro i l hd hn hs
      refine br_t (nI_le (by omega) (by omega)) ?_
      cases l with
      | none => exact absurd hf (hn rfl f (by have := hRc f hf; omega))
      | some a => exact K a (hs a rfl).1 fun r hr => (hs a rfl).2 r (by have := hRc r hr; omega) hr
    | succ d ih =>
      intro i l hd hn hs
      have er : a_reached (nI i).toNatClampNeg = sx_bI (R i) := by rw [nI_clamp (by omega)]; exact hre i (by omega)
      refine br_f (nI_ge (by omega) (by omega)) ⟨vp_in_nI (by omega) (by decide), ?_⟩
      by_cases r : R i
      · refine br_f (fun z => sx_bI_0.mp (er.symm.trans z) r) ?_
        cases l with
        | none =>
          refine br_t sx_m1 (nm_r (nI_1 i) (ih (i + 1) (some i) (by omega) (fun z => nomatch z) fun a ha => ?_))
          cases ha
          refine ⟨r, fun x hx hR => ?_⟩
          by_cases e : x = i
          · rw [e]; exact Nat.le_refl _
          · exact absurd hR (hn rfl x (by omega))
        | some a =>
          have h := hs a rfl
          have ha := hRc a h.1
          refine br_f (nI_pos (by omega)) (sx_before (by omega) (by omega) hw (fun hk => br_f (by decide) (nm_r (nI_1 i) (ih (i + 1) (some i) (by omega) (fun z => nomatch z) fun b hb => ?_))) (fun hk => br_t rfl (nm_r (nI_1 i) (ih (i + 1) (some a) (by omega) (fun z => nomatch z) fun b hb => ?_))))
          · cases hb
            refine ⟨r, fun x hx hR => ?_⟩
            by_cases e : x = i
            · rw [e]; exact Nat.le_refl _
            · have := h.2 x (by omega) hR; omega
          · cases hb
            refine ⟨h.1, fun x hx hR => ?_⟩
            by_cases e : x = i
            · rw [e]; exact hk
            · exact h.2 x (by omega) hR
      · refine br_t (er.trans (sx_bI0 r)) (nm_r (nI_1 i) (ih (i + 1) l (by omega) (fun z x hx hR => ?_) fun a ha => ⟨(hs a ha).1, fun x hx hR => ?_⟩))
        · by_cases e : x = i
          · exact r (e ▸ hR)
          · exact hn z x (by omega) hR
        · by_cases e : x = i
          · exact absurd (e ▸ hR) r
          · exact (hs a ha).2 x (by omega) hR
  exact ⟨cap + 1, L cap 0 none (by omega) (fun _ x hx => absurd hx (Nat.not_lt_zero x)) (fun a z => nomatch z)⟩
theorem sx_contest {post : SX → Prop} {cap : Nat} {lo hi rm w : Nat → Nat} {o : Nat → Option Nat} {f : Nat} (hf : f < cap) (hw : sx_WO w a_worths)
    (hW : sx_WA cap lo hi rm a_first a_last a_rooms) (hP : sx_PL cap lo hi rm o a_seat a_load) (h0 : o f = none)
    (K : ∀ o' fl fs ff se ld re opn li, sx_PL cap lo hi rm o' se ld → sm_Con lo hi rm w o f o' → post (nI cap, fl, fs, ff, f_tableKnown, a_used, a_first, a_last, a_worths, a_rooms, se, ld, re, opn, li, a_savedSeat, a_savedLoad, a_savedFirst, a_savedLast, a_table)) :
    wpX_contest post (nI cap, f_lineEnd, f_freeSlot, f_freeFor, f_tableKnown, a_used, a_first, a_last, a_worths, a_rooms, a_seat, a_load, a_reached, a_opener, a_line, a_savedSeat, a_savedLoad, a_savedFirst, a_savedLast, a_table) (nI f) := by
  have hc := hW.1
  have hV := hP.1
  have hoc := hP.2.2
  have hf7 : f < 7 := by omega
  have hcap : ∀ i, o i ≠ none → i < cap := fun i h => by
    cases e : o i with
    | none => exact absurd e h
    | some t => exact hoc i t e
  refine sx_place hf7 hW hP h0 (fun o' fl fs ff se ld re opn li hV' hpl hS' => br_f (by decide) (K o' _ _ _ _ _ _ _ _ ⟨hV', hS', fun i t e => ?_⟩ (Or.inl hpl))) (fun fl fs ff re opn li hre hCl => br_t rfl ?_)
  · exact ((hpl i).mp (by rw [e]; exact fun z => nomatch z)).elim (hcap i) (fun z => z ▸ hf)
  · have hRc : ∀ i, sm_Rc lo hi o f i → i < cap := fun i h => (sm_Rc_pl h).elim (hcap i) (fun z => z ▸ hf)
    refine sx_least hc hw hre hRc sm_Rc_0 fun a ha hmin => ?_
    have hac := hRc a ha
    by_cases e : a = f
    · subst e
      refine br_t rfl (K o _ _ _ _ _ _ _ _ hP (Or.inr ⟨sm_Rc lo hi o a, a, sm_Rc_0, hCl, ha, Or.inr rfl, hmin, fun i => ⟨fun h => ⟨Or.inl h, fun z => h (z ▸ h0)⟩, fun h => h.1.resolve_right h.2⟩⟩))
    · have hoa := (sm_Rc_pl ha).resolve_right e
      refine br_f (fun z => e ((nI_eq (by omega) (by omega)).mp z)) (sx_vacate (by omega) (fun i t e => (hV.1 i t e).2.2.2) hP.2.1 fun se ld hS1 => ?_)
      have hP1 : sx_PL cap lo hi rm (sm_up o a none) se ld := ⟨sm_Val_out hV (by omega), hS1, fun i t h => hoc i t (sm_out_some h).1⟩
      have h01 : sm_up o a none f = none := by rw [sm_un (fun z => e z.symm)]; exact h0
      refine sx_place hf7 hW hP1 h01 (fun o' fl fs ff se ld re opn li hV' hpl hS' => K o' _ _ _ _ _ _ _ _ ⟨hV', hS', fun i t e => ?_⟩ (Or.inr ⟨sm_Rc lo hi o f, a, sm_Rc_0, hCl, ha, Or.inl hoa, hmin, fun i => (hpl i).trans ⟨fun h => ?_, fun h => ?_⟩⟩)) (fun fl fs ff re opn li _ hC1 => absurd hC1 (sm_swap_no hV ha e (by omega)))
      · exact ((hpl i).mp (by rw [e]; exact fun z => nomatch z)).elim (fun z => hcap i (sm_out_none z).1) (fun z => z ▸ hf)
      · exact h.elim (fun z => ⟨Or.inl (sm_out_none z).1, (sm_out_none z).2⟩) (fun z => ⟨Or.inr z, fun y => e (y.symm.trans z)⟩)
      · exact h.1.elim (fun z => Or.inl (sm_out_iff.mpr ⟨z, h.2⟩)) Or.inr
end
end
section
/-! the best of the jobs that wait -/
def sx_Ca (w : Nat → Nat) (us : Nat → Prop) (o : Nat → Option Nat) (b : Option Nat) (g : Nat) : Prop := us g ∧ o g = none ∧ ∀ a, b = some a → sm_kw w g < sm_kw w a
def sx_US (cap : Nat) (us : Nat → Prop) (a_used : Nat → Int32) : Prop := (∀ i, us i → i < cap) ∧ ∀ i, i < 8 → a_used i = sx_bI (us i)
theorem sm_cn_cap : ∀ c, c ≤ 7 → sm_cn (fun i => i < c) = c := by
  intro c
  induction c with
  | zero =>
    intro _
    show sm_S (fun i => sm_cb (i < 0)) 7 = 0
    rw [sm_S_eq (g := fun _ => 0) 7 fun i _ => sm_cb0 (Nat.not_lt_zero i), sm_S_0]
  | succ c ih =>
    intro h
    rw [sm_cn_add1 (P := fun i => i < c) (Q := fun i => i < c + 1) (k := c) (by omega) (fun i _ hne => ⟨fun z => by omega, fun z => by omega⟩) (Nat.lt_irrefl c) (Nat.lt_succ_self c), ih (by omega)]
theorem sm_cn_ge {P : Nat → Prop} {k : Nat} (hk : k < 7) (h : P k) : 1 ≤ sm_cn P := by
  have := sm_S_ge (f := fun i => sm_cb (P i)) 7 hk
  have e : sm_cb (P k) = 1 := sm_cb1 h
  have this' : sm_cb (P k) ≤ sm_cn P := this
  omega
section
variable {f_capacity f_lineEnd f_freeSlot f_freeFor f_tableKnown : Int32} {a_used a_first a_last a_worths a_rooms a_seat a_load a_reached a_opener a_line a_savedSeat a_savedLoad a_savedFirst a_savedLast a_table : Nat → Int32}
theorem sx_best {post : Int32 → Prop} {cap : Nat} {w : Nat → Nat} {us : Nat → Prop} {o : Nat → Option Nat} {b : Option Nat} (hc : cap ≤ 7) (hw : sx_WO w a_worths) (hu : sx_US cap us a_used) (hse : ∀ i, i < 8 → a_seat i = sx_eO (o i)) (ho : ∀ i t, o i = some t → t < 12) (hb : ∀ a, b = some a → a < 7)
    (K : ∀ l, (l = none → ∀ x, ¬ sx_Ca w us o b x) → (∀ a, l = some a → sx_Ca w us o b a ∧ ∀ x, sx_Ca w us o b x → sm_kw w x ≤ sm_kw w a) → post (sx_eO l)) :
    wpX_bestWaitingAfter post (nI cap, f_lineEnd, f_freeSlot, f_freeFor, f_tableKnown, a_used, a_first, a_last, a_worths, a_rooms, a_seat, a_load, a_reached, a_opener, a_line, a_savedSeat, a_savedLoad, a_savedFirst, a_savedLast, a_table) (sx_eO b) := by
  have L : ∀ d i l, i + d = cap → (l = none → ∀ x, x < i → ¬ sx_Ca w us o b x) → (∀ a, l = some a → sx_Ca w us o b a ∧ ∀ x, x < i → sx_Ca w us o b x → sm_kw w x ≤ sm_kw w a) → wX_bestWaitingAfter_4 post (sx_eO b) (nI cap) f_lineEnd f_freeSlot f_freeFor f_tableKnown a_used a_first a_last a_worths a_rooms a_seat a_load a_reached a_opener a_line a_savedSeat a_savedLoad a_savedFirst a_savedLast a_table (d + 1) (sx_eO l) (nI i) := by
    intro d
    induction d with
    | zero =>
      intro i l hd hn hs
      refine br_t (nI_le (by omega) (by omega)) (K l (fun z x hx => hn z x (by have := hu.1 x hx.1; omega) hx) fun a ha => ⟨(hs a ha).1, fun x hx => (hs a ha).2 x (by have := hu.1 x hx.1; omega) hx⟩)
    | succ d ih =>
      intro i l hd hn hs
      have hin : vp_in (nI i) 8 := vp_in_nI (by omega) (by decide)
      have eu : a_used (nI i).toNatClampNeg = sx_bI (us i) := by rw [nI_clamp (by omega)]; exact hu.2 i (by omega)
      have es : a_seat (nI i).toNatClampNeg = sx_eO (o i) := by rw [nI_clamp (by omega)]; exact hse i (by omega)
      -- the job is no candidate
      have N : ¬ sx_Ca w us o b i → wX_bestWaitingAfter_4 post (sx_eO b) (nI cap) f_lineEnd f_freeSlot f_freeFor f_tableKnown a_used a_first a_last a_worths a_rooms a_seat a_load a_reached a_opener a_line a_savedSeat a_savedLoad a_savedFirst a_savedLast a_table (d + 1) (sx_eO l) (nI (i + 1)) := fun hno => by
        refine ih (i + 1) l (by omega) (fun z x hx hC => ?_) fun a ha => ⟨(hs a ha).1, fun x hx hC => ?_⟩
        · by_cases e : x = i
          · exact hno (e ▸ hC)
          · exact hn z x (by omega) hC
        · by_cases e : x = i
          · exact absurd (e ▸ hC) hno
          · exact (hs a ha).2 x (by omega) hC
      -- the job is one
      have Y : sx_Ca w us o b i → wX_bestWaitingAfter_48 post (wX_bestWaitingAfter_4 post (sx_eO b) (nI cap) f_lineEnd f_freeSlot f_freeFor f_tableKnown a_used a_first a_last a_worths a_rooms a_seat a_load a_reached a_opener a_line a_savedSeat a_savedLoad a_savedFirst a_savedLast a_table (d + 1)) (sx_eO b) (sx_eO l) (nI i) 1 (nI cap) f_lineEnd f_freeSlot f_freeFor f_tableKnown a_used a_first a_last a_worths a_rooms a_seat a_load a_reached a_opener a_line a_savedSeat a_savedLoad a_savedFirst a_savedLast a_table := fun hC => by
        refine br_f (by decide) ?_
        cases l with
        | none =>
          refine br_t sx_m1 (nm_r (nI_1 i) (ih (i + 1) (some i) (by omega) (fun z => nomatch z) fun a ha => ?_))
          cases ha
          refine ⟨hC, fun x hx hx' => ?_⟩
          by_cases e : x = i
          · rw [e]; exact Nat.le_refl _
          · exact absurd hx' (hn rfl x (by omega))
        | some a =>
          have h := hs a rfl
          have ha := hu.1 a h.1.1
          refine br_f (nI_pos (by omega)) (sx_before (by omega) (by omega) hw (fun hk => br_f (by decide) (nm_r (nI_1 i) (ih (i + 1) (some i) (by omega) (fun z => nomatch z) fun b hb => ?_))) (fun hk => br_t rfl (nm_r (nI_1 i) (ih (i + 1) (some a) (by omega) (fun z => nomatch z) fun b hb => ?_))))
          · cases hb
            refine ⟨hC, fun x hx hx' => ?_⟩
            by_cases e : x = i
            · rw [e]; exact Nat.le_refl _
            · have := h.2 x (by omega) hx'; omega
          · cases hb
            refine ⟨h.1, fun x hx hx' => ?_⟩
            by_cases e : x = i
            · rw [e]; exact hk
            · exact h.2 x (by omega) hx'
      refine br_f (nI_ge (by omega) (by omega)) ⟨hin, ?_⟩
      by_cases u : us i
      · refine br_f (fun z => sx_bI_0.mp (eu.symm.trans z) u) ⟨hin, ?_⟩
        rw [es]
        cases eo : o i with
        | some t => exact br_t (nI_pos' (by have := ho i t eo; omega)) (nm_r (nI_1 i) (N fun hC => by rw [hC.2.1] at eo; exact nomatch eo))
        | none =>
          refine br_f sx_m1' ?_
          cases b with
          | none => exact br_t sx_m1 (Y ⟨u, eo, fun a z => nomatch z⟩)
          | some g =>
            have hg := hb g rfl
            refine br_f (nI_pos (by omega)) (sx_before hg (by omega) hw (fun hk => br_f (by decide) (Y ⟨u, eo, fun a z => by cases z; exact hk⟩)) (fun hk => br_t rfl (br_t rfl (nm_r (nI_1 i) (N fun hC => ?_)))))
            have := hC.2.2 g rfl
            omega
      · exact br_t (eu.trans (sx_bI0 u)) (nm_r (nI_1 i) (N fun hC => u hC.1))
  exact ⟨cap + 1, L cap 0 none (by omega) (fun _ x hx => absurd hx (Nat.not_lt_zero x)) (fun a z => nomatch z)⟩
theorem sx_fill {post : SX → Prop} {cap : Nat} {lo hi rm w : Nat → Nat} {us : Nat → Prop} {o : Nat → Option Nat} (hw : sx_WO w a_worths) (hu : sx_US cap us a_used)
    (hW : sx_WA cap lo hi rm a_first a_last a_rooms) (hP : sx_PL cap lo hi rm o a_seat a_load)
    (K : ∀ o' fl fs ff se ld re opn li, sx_PL cap lo hi rm o' se ld → sm_Fil lo hi rm w us o o' → post (nI cap, fl, fs, ff, f_tableKnown, a_used, a_first, a_last, a_worths, a_rooms, se, ld, re, opn, li, a_savedSeat, a_savedLoad, a_savedFirst, a_savedLast, a_table)) :
    wpX_fillFromBest post (nI cap, f_lineEnd, f_freeSlot, f_freeFor, f_tableKnown, a_used, a_first, a_last, a_worths, a_rooms, a_seat, a_load, a_reached, a_opener, a_line, a_savedSeat, a_savedLoad, a_savedFirst, a_savedLast, a_table) := by
  have hc := hW.1
  have hV := hP.1
  have hoc := hP.2.2
  have ho : ∀ i t, o i = some t → t < 12 := fun i t e => (hV.1 i t e).2.2.2
  have hcap : ∀ i, o i ≠ none → i < cap := fun i h => by
    cases e : o i with
    | none => exact absurd e h
    | some t => exact hoc i t e
  have L : ∀ d k b f_lineEnd f_freeSlot f_freeFor a_reached a_opener a_line, k + d = cap → (∀ a, b = some a → a < 7) → sm_cn (sx_Ca w us o b) + k ≤ cap → (∀ g, us g → o g = none → ¬ sx_Ca w us o b g → sm_Cl lo hi rm o (sm_Rc lo hi o g)) →
      wX_fillFromBest_6 post (d + 2) 0 (sx_eO b) (nI k) (nI cap) f_lineEnd f_freeSlot f_freeFor f_tableKnown a_used a_first a_last a_worths a_rooms a_seat a_load a_reached a_opener a_line a_savedSeat a_savedLoad a_savedFirst a_savedLast a_table := by
    intro d
    induction d with
    | zero =>
      intro k b f_lineEnd f_freeSlot f_freeFor a_reached a_opener a_line hd hb hcn hT
      refine br_t (nI_le (by omega) (by omega)) (K o _ _ _ _ _ _ _ _ hP (Or.inl ⟨fun i => Iff.rfl, fun g hg h0 => hT g hg h0 fun hC => ?_⟩))
      have := sm_cn_ge (by have := hu.1 g hg; omega) hC
      omega
    | succ d ih =>
      intro k b f_lineEnd f_freeSlot f_freeFor a_reached a_opener a_line hd hb hcn hT
      refine br_f (nI_ge (by omega) (by omega)) (br_t rfl (sx_best hc hw hu hP.2.1.1 ho hb fun l hn hs => ?_))
      cases l with
      | none =>
        have hK : post (nI cap, f_lineEnd, f_freeSlot, f_freeFor, f_tableKnown, a_used, a_first, a_last, a_worths, a_rooms, a_seat, a_load, a_reached, a_opener, a_line, a_savedSeat, a_savedLoad, a_savedFirst, a_savedLast, a_table) := K o _ _ _ _ _ _ _ _ hP (Or.inl ⟨fun i => Iff.rfl, fun g hg h0 => hT g hg h0 (hn rfl g)⟩)
        exact br_f sx_m1' (nm_r (nI_1 k) (br_c (fun _ => hK) (fun _ => br_f (by decide) hK)))
      | some a =>
        obtain ⟨ha, hmax⟩ := hs a rfl
        have hac := hu.1 a ha.1
        refine br_t (nI_pos' (by omega)) (sx_place (by omega) hW hP ha.2.1 (fun o' fl fs ff se ld re opn li hV' hpl hS' => nm_r (nI_1 k) ?_) (fun fl fs ff re opn li _ hCl => nm_r (nI_1 k) (ih (k + 1) (some a) fl fs ff re opn li (by omega) (fun x hx => by cases hx; omega) ?_ fun g hg h0 hno => ?_)))
        · have hK : post (nI cap, fl, fs, ff, f_tableKnown, a_used, a_first, a_last, a_worths, a_rooms, se, ld, re, opn, li, a_savedSeat, a_savedLoad, a_savedFirst, a_savedLast, a_table) :=
            K o' _ _ _ _ _ _ _ _ ⟨hV', hS', fun i t e => ((hpl i).mp (by rw [e]; exact fun z => nomatch z)).elim (hcap i) (fun z => z ▸ hac)⟩ (Or.inr ⟨a, ha.1, ha.2.1, hpl, fun g hg h0 hlt => hT g hg h0 fun hC => by have := hmax g hC; omega⟩)
          exact br_c (fun _ => hK) (fun _ => br_f (by decide) hK)
        · have e1 : sm_cn (fun x => sx_Ca w us o (some a) x ∨ x = a) = sm_cn (sx_Ca w us o (some a)) + 1 :=
            sm_cn_add1 (by omega) (fun i _ hne => ⟨Or.inl, fun z => z.resolve_right hne⟩) (fun hC => by have := hC.2.2 a rfl; omega) (Or.inr rfl)
          have e2 : sm_cn (fun x => sx_Ca w us o (some a) x ∨ x = a) ≤ sm_cn (sx_Ca w us o b) := sm_cn_le fun i _ h => h.elim (fun z => ⟨z.1, z.2.1, fun c hc => by
            have h1 := z.2.2 a rfl
            have h2 := ha.2.2 c hc
            omega⟩) (fun z => z ▸ ha)
          omega
        · by_cases hC : sx_Ca w us o b g
          · have h1 := hmax g hC
            by_cases h2 : sm_kw w g < sm_kw w a
            · exact absurd ⟨hg, h0, fun c hc => by cases hc; exact h2⟩ hno
            · have : g = a := sm_kw_inj (w := w) (by have := hu.1 g hg; omega) (by omega) (by omega)
              rw [this]; exact hCl
          · exact hT g hg h0 hC
  refine ⟨cap + 2, L cap 0 none _ _ _ _ _ _ (by omega) (fun a z => nomatch z) ?_ fun g hg h0 hno => absurd ⟨hg, h0, fun a z => nomatch z⟩ hno⟩
  have h1 : sm_cn (sx_Ca w us o none) ≤ sm_cn (fun i => i < cap) := sm_cn_le fun i _ h => hu.1 i h.1
  rw [sm_cn_cap cap hc] at h1
  omega
end
end
section
/-! one place more, one place less, over the best set -/
def sx_GD (cap : Nat) (lo hi rm w : Nat → Nat) (us : Nat → Prop) (o : Nat → Option Nat) (a_seat a_load : Nat → Int32) : Prop :=
  sx_PL cap lo hi rm o a_seat a_load ∧ (∀ i, o i ≠ none → us i) ∧ sm_Dom lo hi rm w us (fun i => o i ≠ none)
theorem sm_some {o : Option Nat} (h : o ≠ none) : ∃ t, o = some t := by
  cases e : o with
  | none => exact absurd e h
  | some t => exact ⟨t, rfl⟩
theorem sm_ns {o : Option Nat} {t : Nat} (h : o = some t) : o ≠ none := by rw [h]; exact fun z => nomatch z
theorem sm_Con_us {lo hi rm w : Nat → Nat} {us : Nat → Prop} {o o' : Nat → Option Nat} {f : Nat} (hf : us f) (h : ∀ i, o i ≠ none → us i) (hc : sm_Con lo hi rm w o f o') : ∀ i, o' i ≠ none → us i := by
  intro i hi
  rcases hc with hc | ⟨R, l, _, _, _, _, _, hc⟩
  · exact ((hc i).mp hi).elim (h i) (fun z => z ▸ hf)
  · exact ((hc i).mp hi).1.elim (h i) (fun z => z ▸ hf)
theorem sm_Fil_us {lo hi rm w : Nat → Nat} {us : Nat → Prop} {o o' : Nat → Option Nat} (h : ∀ i, o i ≠ none → us i) (hc : sm_Fil lo hi rm w us o o') : ∀ i, o' i ≠ none → us i := by
  intro i hi
  rcases hc with ⟨hc, _⟩ | ⟨f, hf, _, hc, _⟩
  · exact h i ((hc i).mp hi)
  · exact ((hc i).mp hi).elim (h i) (fun z => z ▸ hf)
section
variable {f_capacity f_lineEnd f_freeSlot f_freeFor f_tableKnown : Int32} {a_used a_first a_last a_worths a_rooms a_seat a_load a_reached a_opener a_line a_savedSeat a_savedLoad a_savedFirst a_savedLast a_table : Nat → Int32}
theorem sx_widen {post : SX → Prop} {cap : Nat} {lo hi rm w : Nat → Nat} {us : Nat → Prop} {o : Nat → Option Nat} {s : Nat} (hs : s < 12) (hr3 : rm s ≤ 3) (hw : sx_WO w a_worths) (hu : sx_US cap us a_used)
    (hW : sx_WA cap lo hi rm a_first a_last a_rooms) (hG : sx_GD cap lo hi rm w us o a_seat a_load)
    (K : ∀ o' fl fs ff se ld re opn li ro, sx_WA cap lo hi (sm_up rm s (rm s + 1)) a_first a_last ro → sx_GD cap lo hi (sm_up rm s (rm s + 1)) w us o' se ld → post (nI cap, fl, fs, ff, f_tableKnown, a_used, a_first, a_last, a_worths, ro, se, ld, re, opn, li, a_savedSeat, a_savedLoad, a_savedFirst, a_savedLast, a_table)) :
    wpX_widen post (nI cap, f_lineEnd, f_freeSlot, f_freeFor, f_tableKnown, a_used, a_first, a_last, a_worths, a_rooms, a_seat, a_load, a_reached, a_opener, a_line, a_savedSeat, a_savedLoad, a_savedFirst, a_savedLast, a_table) (nI s) := by
  have is : vp_in (nI s) 12 := vp_in_nI hs (by decide)
  have er := hW.2.2.2.2.2.2 s hs
  obtain ⟨hc, w1, w2, w3, w4, w5, w6⟩ := hW
  have hW' : sx_WA cap lo hi (sm_up rm s (rm s + 1)) a_first a_last (upd a_rooms s (nI (rm s + 1))) := ⟨hc, w1, w2, fun t => by
    by_cases e : t = s
    · rw [e, sm_us]; omega
    · rw [sm_un e]; exact w3 t, w4, w5, sx_wr w6 rfl⟩
  have hP' : sx_PL cap lo hi (sm_up rm s (rm s + 1)) o a_seat a_load := ⟨⟨hG.1.1.1, fun t => Nat.le_trans (hG.1.1.2 t) (by
    by_cases e : t = s
    · rw [e, sm_us]; omega
    · rw [sm_un e]; exact Nat.le_refl _)⟩, hG.1.2⟩
  refine And.intro is ⟨is, nm_r (e' := upd a_rooms s (nI (rm s + 1))) ?_ (sx_fill hw hu hW' hP' fun o' fl fs ff se ld re opn li hP1 hF => K o' _ _ _ _ _ _ _ _ _ hW' ⟨hP1, sm_Fil_us hG.2.1 hF, sm_widen w2 hG.1.1 (fun i hi => by have := hu.1 i hi; omega) hG.2.1 hG.2.2 hF⟩)⟩
  rw [nI_clamp (by omega), er, nI_1, sx_by2 (by omega)]
theorem sx_anyIn {post : Int32 → Prop} {cap : Nat} {o : Nat → Option Nat} {s : Nat} (hs : s < 12) (hc : cap ≤ 7) (ho : ∀ i t, o i = some t → t < 12) (hse : ∀ i, i < 8 → a_seat i = sx_eO (o i)) (hex : ∃ i, i < cap ∧ o i = some s)
    (K : ∀ i, o i = some s → post (nI i)) : wpX_anyIn post (nI cap, f_lineEnd, f_freeSlot, f_freeFor, f_tableKnown, a_used, a_first, a_last, a_worths, a_rooms, a_seat, a_load, a_reached, a_opener, a_line, a_savedSeat, a_savedLoad, a_savedFirst, a_savedLast, a_table) (nI s) := by
  have L : ∀ d i, i + d = cap → (∀ x, x < i → ¬ o x = some s) → wX_anyIn_2 post (nI s) (nI cap) f_lineEnd f_freeSlot f_freeFor f_tableKnown a_used a_first a_last a_worths a_rooms a_seat a_load a_reached a_opener a_line a_savedSeat a_savedLoad a_savedFirst a_savedLast a_table (d + 1) (nI i) := by
    intro d
    induction d with
    | zero =>
      intro i hd hn
      obtain ⟨x, hx, e⟩ := hex
      exact absurd e (hn x (by omega))
    | succ d ih =>
      intro i hd hn
      have es : a_seat (nI i).toNatClampNeg = sx_eO (o i) := by rw [nI_clamp (by omega)]; exact hse i (by omega)
      refine br_f (nI_ge (by omega) (by omega)) ⟨vp_in_nI (by omega) (by decide), ?_⟩
      by_cases e : o i = some s
      · exact br_t (es.trans (by rw [e]; rfl)) (K i e)
      · refine br_f (fun z => sx_eO_ne (fun t ht => by have := ho i t ht; omega) (by omega) e (es.symm.trans z)) (nm_r (nI_1 i) (ih (i + 1) (by omega) fun x hx => ?_))
        by_cases ex : x = i
        · rw [ex]; exact e
        · exact hn x (by omega)
  exact ⟨cap + 1, L cap 0 (by omega) fun x hx => absurd hx (Nat.not_lt_zero x)⟩
theorem sx_narrow {post : SX → Prop} {cap : Nat} {lo hi rm w : Nat → Nat} {us : Nat → Prop} {o : Nat → Option Nat} {s : Nat} (hs : s < 12) (hr1 : 1 ≤ rm s) (hw : sx_WO w a_worths) (hu : sx_US cap us a_used)
    (hW : sx_WA cap lo hi rm a_first a_last a_rooms) (hG : sx_GD cap lo hi rm w us o a_seat a_load)
    (K : ∀ o' fl fs ff se ld re opn li ro, sx_WA cap lo hi (sm_up rm s (rm s - 1)) a_first a_last ro → sx_GD cap lo hi (sm_up rm s (rm s - 1)) w us o' se ld → post (nI cap, fl, fs, ff, f_tableKnown, a_used, a_first, a_last, a_worths, ro, se, ld, re, opn, li, a_savedSeat, a_savedLoad, a_savedFirst, a_savedLast, a_table)) :
    wpX_narrow post (nI cap, f_lineEnd, f_freeSlot, f_freeFor, f_tableKnown, a_used, a_first, a_last, a_worths, a_rooms, a_seat, a_load, a_reached, a_opener, a_line, a_savedSeat, a_savedLoad, a_savedFirst, a_savedLast, a_table) (nI s) := by
  have is : vp_in (nI s) 12 := vp_in_nI hs (by decide)
  have er := hW.2.2.2.2.2.2 s hs
  obtain ⟨hc, w1, w2, w3, w4, w5, w6⟩ := hW
  have r4 := w3 s
  have hW' : sx_WA cap lo hi (sm_up rm s (rm s - 1)) a_first a_last (upd a_rooms s (nI (rm s - 1))) := ⟨hc, w1, w2, fun t => by
    by_cases e : t = s
    · rw [e, sm_us]; omega
    · rw [sm_un e]; exact w3 t, w4, w5, sx_wr w6 rfl⟩
  have hV := hG.1.1
  have hS := hG.1.2.1
  have hoc := hG.1.2.2
  have ho : ∀ i t, o i = some t → t < 12 := fun i t e => (hV.1 i t e).2.2.2
  have hl := hV.2 s
  have e1 : upd a_rooms s (nI (rm s - 1)) (nI s).toNatClampNeg = nI (rm s - 1) := by rw [nI_clamp (by omega), sx_us]
  have e2 : a_load (nI s).toNatClampNeg = nI (sm_ld o s) := by rw [nI_clamp (by omega)]; exact hS.2 s hs
  have hU7 : ∀ i, us i → i < 7 := fun i hi => by have := hu.1 i hi; omega
  refine And.intro is ⟨is, nm_r (e' := upd a_rooms s (nI (rm s - 1))) ?_ ⟨is, is, ?_⟩⟩
  · rw [nI_clamp (by omega), er, sx_sub1 hr1, sx_by2 (by omega)]
  · by_cases z : rm s - 1 < sm_ld o s
    · refine br_t (by rw [e1, e2]; exact nI_lt z (by omega)) (sx_anyIn hs hc ho hS.1 ?_ fun k hk => sx_vacate (hV.1 k s hk).1 ho hS fun se ld hS1 => ?_)
      · obtain ⟨i, _, e⟩ := sm_ld_pos (o := o) (s := s) (by omega)
        exact ⟨i, hoc i s e, e⟩
      · have hk7 := (hV.1 k s hk).1
        have hP1 : sx_PL cap lo hi (sm_up rm s (rm s - 1)) (sm_up o k none) se ld := ⟨⟨(sm_Val_out hV hk7).1, fun t => by
          have l := sm_ld_up (o := o) hk7 none t
          rw [sm_cb0 (p := none = some t) (fun z => nomatch z)] at l
          have h2 := hV.2 t
          by_cases e : t = s
          · subst e; rw [sm_cb1 hk] at l; rw [sm_us]; omega
          · rw [sm_un e]; omega⟩, hS1, fun i t h => hoc i t (sm_out_some h).1⟩
        exact sx_contest (hoc k s hk) hw hW' hP1 sm_us fun o' fl fs ff se ld re opn li hP2 hC => K o' _ _ _ _ _ _ _ _ _ hW' ⟨hP2, sm_Con_us (hG.2.1 k (sm_ns hk)) (fun i hi => hG.2.1 i (sm_out_none hi).1) hC, sm_narrow w2 hV hU7 hG.2.1 hG.2.2 hk (by omega) hC⟩
    · refine br_f (by rw [e1, e2]; exact nI_nlt (by omega) (by omega)) (K o _ _ _ _ _ _ _ _ _ hW' ⟨⟨⟨hV.1, fun t => ?_⟩, hS, hoc⟩, hG.2.1, sm_narrow0 (fun t => ?_) hG.2.2⟩)
      · by_cases e : t = s
        · rw [e, sm_us]; omega
        · rw [sm_un e]; exact hV.2 t
      · by_cases e : t = s
        · rw [e, sm_us]; omega
        · rw [sm_un e]; exact Nat.le_refl _
end
end
section
/-! saved placements; sets and sums of X -/
theorem sm_S_cut {f : Nat → Nat} {c : Nat} (h : ∀ i, c ≤ i → f i = 0) : ∀ n, c ≤ n → sm_S f n = sm_S f c := by
  intro n
  induction n with
  | zero => intro hc; have : c = 0 := by omega
            rw [this]
  | succ n ih =>
    intro hc
    by_cases e : c = n + 1
    · rw [e]
    · show sm_S f n + f n = _
      rw [ih (by omega), h n (by omega)]; rfl
theorem sm_mk_cut {B : Nat → Prop} {c : Nat} (hc : c ≤ 7) (h : ∀ i, B i → i < c) : sm_mk B c = sm_mk B 7 :=
  (sm_S_cut (fun i hi => by rw [sm_cb0 (fun z => by have := h i z; omega), Nat.zero_mul]) 7 hc).symm
theorem sm_ws_cut {w : Nat → Nat} {B : Nat → Prop} {c : Nat} (hc : c ≤ 7) (h : ∀ i, B i → i < c) : sm_ws w B c = sm_ws w B 7 :=
  (sm_S_cut (fun i hi => by rw [sm_cb0 (fun z => by have := h i z; omega), Nat.zero_mul]) 7 hc).symm
theorem sm_ld_none (s : Nat) : sm_ld (fun _ => none) s = 0 := by
  show sm_S (fun i => sm_cb (none = some s)) 7 = 0
  rw [sm_cb0 (p := none = some s) (fun z => nomatch z), sm_S_0]
theorem sm_Val_none (lo hi rm : Nat → Nat) : sm_Val lo hi rm (fun _ => none) := ⟨fun i s e => (nomatch e), fun s => by rw [sm_ld_none]; exact Nat.zero_le _⟩
section
variable {f_capacity f_lineEnd f_freeSlot f_freeFor f_tableKnown : Int32} {a_used a_first a_last a_worths a_rooms a_seat a_load a_reached a_opener a_line a_savedSeat a_savedLoad a_savedFirst a_savedLast a_table : Nat → Int32}
theorem sx_save {post : SX → Prop} {o : Nat → Option Nat} (ho : ∀ i t, o i = some t → t < 12) (h : sx_SE o a_seat a_load)
    (K : ∀ ss sl, sx_SE o ss sl → post (f_capacity, f_lineEnd, f_freeSlot, f_freeFor, f_tableKnown, a_used, a_first, a_last, a_worths, a_rooms, a_seat, a_load, a_reached, a_opener, a_line, ss, sl, a_savedFirst, a_savedLast, a_table)) : wpX_save post (f_capacity, f_lineEnd, f_freeSlot, f_freeFor, f_tableKnown, a_used, a_first, a_last, a_worths, a_rooms, a_seat, a_load, a_reached, a_opener, a_line, a_savedSeat, a_savedLoad, a_savedFirst, a_savedLast, a_table) := by
  have L2 : ∀ d i a_savedSeat a_savedLoad, i + d = 12 → (∀ x, x < 8 → a_savedSeat x = sx_eO (o x)) → (∀ x, x < i → a_savedLoad x = nI (sm_ld o x)) → wX_save_28 post f_capacity f_lineEnd f_freeSlot f_freeFor f_tableKnown (d + 1) (nI i) a_used a_first a_last a_worths a_rooms a_seat a_load a_reached a_opener a_line a_savedSeat a_savedLoad a_savedFirst a_savedLast a_table := by
    intro d
    induction d with
    | zero =>
      intro i a_savedSeat a_savedLoad hd h1 h2
      exact br_t (nI_le (a := 12) (by omega) (by omega)) (K _ _ ⟨h1, fun s hs => h2 s (by omega)⟩)
    | succ d ih =>
      intro i a_savedSeat a_savedLoad hd h1 h2
      have is : vp_in (nI i) 12 := vp_in_nI (by omega) (by decide)
      have l7 := sm_ld7 o i
      refine br_f (nI_ge (b := 12) (by omega) (by decide)) ⟨is, is, nm_r (e' := upd a_savedLoad i (nI (sm_ld o i))) ?_ (nm_r (nI_1 i) (ih (i + 1) _ _ (by omega) h1 fun x hx => ?_))⟩
      · rw [nI_clamp (by omega), h.2 i (by omega), sx_by (by omega)]
      · by_cases e : x = i
        · rw [e, sx_us]
        · rw [sx_un e]; exact h2 x (by omega)
  have L1 : ∀ d i a_savedSeat, i + d = 8 → (∀ x, x < i → a_savedSeat x = sx_eO (o x)) → wX_save_2 post f_capacity f_lineEnd f_freeSlot f_freeFor f_tableKnown (d + 1) (nI i) a_used a_first a_last a_worths a_rooms a_seat a_load a_reached a_opener a_line a_savedSeat a_savedLoad a_savedFirst a_savedLast a_table := by
    intro d
    induction d with
    | zero =>
      intro i a_savedSeat hd h1
      exact br_t (nI_le (a := 8) (by omega) (by omega)) ⟨13, L2 12 0 _ _ rfl (fun x hx => h1 x (by omega)) fun x hx => absurd hx (Nat.not_lt_zero x)⟩
    | succ d ih =>
      intro i a_savedSeat hd h1
      have is : vp_in (nI i) 8 := vp_in_nI (by omega) (by decide)
      refine br_f (nI_ge (b := 8) (by omega) (by decide)) ⟨is, is, nm_r (e' := upd a_savedSeat i (sx_eO (o i))) ?_ (nm_r (nI_1 i) (ih (i + 1) _ (by omega) fun x hx => ?_))⟩
      · rw [nI_clamp (by omega), h.1 i (by omega), sx_byO (fun t ht => by have := ho i t ht; omega)]
      · by_cases e : x = i
        · rw [e, sx_us]
        · rw [sx_un e]; exact h1 x (by omega)
  exact ⟨9, L1 8 0 _ rfl fun x hx => absurd hx (Nat.not_lt_zero x)⟩
theorem sx_restore {post : SX → Prop} {o : Nat → Option Nat} (ho : ∀ i t, o i = some t → t < 12) (h : sx_SE o a_savedSeat a_savedLoad)
    (K : ∀ se ld, sx_SE o se ld → post (f_capacity, f_lineEnd, f_freeSlot, f_freeFor, f_tableKnown, a_used, a_first, a_last, a_worths, a_rooms, se, ld, a_reached, a_opener, a_line, a_savedSeat, a_savedLoad, a_savedFirst, a_savedLast, a_table)) : wpX_restore post (f_capacity, f_lineEnd, f_freeSlot, f_freeFor, f_tableKnown, a_used, a_first, a_last, a_worths, a_rooms, a_seat, a_load, a_reached, a_opener, a_line, a_savedSeat, a_savedLoad, a_savedFirst, a_savedLast, a_table) := by
  have L2 : ∀ d i a_seat a_load, i + d = 12 → (∀ x, x < 8 → a_seat x = sx_eO (o x)) → (∀ x, x < i → a_load x = nI (sm_ld o x)) → wX_restore_28 post f_capacity f_lineEnd f_freeSlot f_freeFor f_tableKnown (d + 1) (nI i) a_used a_first a_last a_worths a_rooms a_seat a_load a_reached a_opener a_line a_savedSeat a_savedLoad a_savedFirst a_savedLast a_table := by
    intro d
    induction d with
    | zero =>
      intro i a_seat a_load hd h1 h2
      exact br_t (nI_le (a := 12) (by omega) (by omega)) (K _ _ ⟨h1, fun s hs => h2 s (by omega)⟩)
    | succ d ih =>
      intro i a_seat a_load hd h1 h2
      have is : vp_in (nI i) 12 := vp_in_nI (by omega) (by decide)
      have l7 := sm_ld7 o i
      refine br_f (nI_ge (b := 12) (by omega) (by decide)) ⟨is, is, nm_r (e' := upd a_load i (nI (sm_ld o i))) ?_ (nm_r (nI_1 i) (ih (i + 1) _ _ (by omega) h1 fun x hx => ?_))⟩
      · rw [nI_clamp (by omega), h.2 i (by omega), sx_by (by omega)]
      · by_cases e : x = i
        · rw [e, sx_us]
        · rw [sx_un e]; exact h2 x (by omega)
  have L1 : ∀ d i a_seat, i + d = 8 → (∀ x, x < i → a_seat x = sx_eO (o x)) → wX_restore_2 post f_capacity f_lineEnd f_freeSlot f_freeFor f_tableKnown (d + 1) (nI i) a_used a_first a_last a_worths a_rooms a_seat a_load a_reached a_opener a_line a_savedSeat a_savedLoad a_savedFirst a_savedLast a_table := by
    intro d
    induction d with
    | zero =>
      intro i a_seat hd h1
      exact br_t (nI_le (a := 8) (by omega) (by omega)) ⟨13, L2 12 0 _ _ rfl (fun x hx => h1 x (by omega)) fun x hx => absurd hx (Nat.not_lt_zero x)⟩
    | succ d ih =>
      intro i a_seat hd h1
      have is : vp_in (nI i) 8 := vp_in_nI (by omega) (by decide)
      refine br_f (nI_ge (b := 8) (by omega) (by decide)) ⟨is, is, nm_r (e' := upd a_seat i (sx_eO (o i))) ?_ (nm_r (nI_1 i) (ih (i + 1) _ (by omega) fun x hx => ?_))⟩
      · rw [nI_clamp (by omega), h.1 i (by omega), sx_byO (fun t ht => by have := ho i t ht; omega)]
      · by_cases e : x = i
        · rw [e, sx_us]
        · rw [sx_un e]; exact h1 x (by omega)
  exact ⟨9, L1 8 0 _ rfl fun x hx => absurd hx (Nat.not_lt_zero x)⟩
theorem sx_empty {post : SX → Prop} (K : ∀ se ld, sx_SE (fun _ => none) se ld → post (f_capacity, f_lineEnd, f_freeSlot, f_freeFor, f_tableKnown, a_used, a_first, a_last, a_worths, a_rooms, se, ld, a_reached, a_opener, a_line, a_savedSeat, a_savedLoad, a_savedFirst, a_savedLast, a_table)) : wpX_empty post (f_capacity, f_lineEnd, f_freeSlot, f_freeFor, f_tableKnown, a_used, a_first, a_last, a_worths, a_rooms, a_seat, a_load, a_reached, a_opener, a_line, a_savedSeat, a_savedLoad, a_savedFirst, a_savedLast, a_table) := by
  have L2 : ∀ d i a_seat a_load, i + d = 12 → (∀ x, x < 8 → a_seat x = -1) → (∀ x, x < i → a_load x = 0) → wX_empty_23 post f_capacity f_lineEnd f_freeSlot f_freeFor f_tableKnown (d + 1) (nI i) a_used a_first a_last a_worths a_rooms a_seat a_load a_reached a_opener a_line a_savedSeat a_savedLoad a_savedFirst a_savedLast a_table := by
    intro d
    induction d with
    | zero =>
      intro i a_seat a_load hd h1 h2
      exact br_t (nI_le (a := 12) (by omega) (by omega)) (K _ _ ⟨h1, fun s hs => by rw [sm_ld_none, h2 s (by omega)]; rfl⟩)
    | succ d ih =>
      intro i a_seat a_load hd h1 h2
      have is : vp_in (nI i) 12 := vp_in_nI (by omega) (by decide)
      refine br_f (nI_ge (b := 12) (by omega) (by decide)) ⟨is, nm_r (e' := upd a_load i 0) ?_ (nm_r (nI_1 i) (ih (i + 1) _ _ (by omega) h1 fun x hx => ?_))⟩
      · rw [nI_clamp (by omega)]; exact congrArg (upd a_load i) (sx_by (n := 0) (by decide))
      · by_cases e : x = i
        · rw [e, sx_us]
        · rw [sx_un e]; exact h2 x (by omega)
  have L1 : ∀ d i a_seat, i + d = 8 → (∀ x, x < i → a_seat x = -1) → wX_empty_2 post f_capacity f_lineEnd f_freeSlot f_freeFor f_tableKnown (d + 1) (nI i) a_used a_first a_last a_worths a_rooms a_seat a_load a_reached a_opener a_line a_savedSeat a_savedLoad a_savedFirst a_savedLast a_table := by
    intro d
    induction d with
    | zero =>
      intro i a_seat hd h1
      exact br_t (nI_le (a := 8) (by omega) (by omega)) ⟨13, L2 12 0 _ _ rfl (fun x hx => h1 x (by omega)) fun x hx => absurd hx (Nat.not_lt_zero x)⟩
    | succ d ih =>
      intro i a_seat hd h1
      have is : vp_in (nI i) 8 := vp_in_nI (by omega) (by decide)
      refine br_f (nI_ge (b := 8) (by omega) (by decide)) ⟨is, nm_r (e' := upd a_seat i (-1)) ?_ (nm_r (nI_1 i) (ih (i + 1) _ (by omega) fun x hx => ?_))⟩
      · rw [nI_clamp (by omega), sx_bym]
      · by_cases e : x = i
        · rw [e, sx_us]
        · rw [sx_un e]; exact h1 x (by omega)
  exact ⟨9, L1 8 0 _ rfl fun x hx => absurd hx (Nat.not_lt_zero x)⟩
theorem sx_jobs {post : Int32 → Prop} {cap : Nat} {us : Nat → Prop} (hc : cap ≤ 7) (hu : sx_US cap us a_used) (K : post (nI (sm_mk us 7))) : wpX_jobs post (nI cap, f_lineEnd, f_freeSlot, f_freeFor, f_tableKnown, a_used, a_first, a_last, a_worths, a_rooms, a_seat, a_load, a_reached, a_opener, a_line, a_savedSeat, a_savedLoad, a_savedFirst, a_savedLast, a_table) := by
  have L : ∀ d i, i + d = cap → wX_jobs_4 post (nI cap) f_lineEnd f_freeSlot f_freeFor f_tableKnown a_used a_first a_last a_worths a_rooms a_seat a_load a_reached a_opener a_line a_savedSeat a_savedLoad a_savedFirst a_savedLast a_table (d + 1) (nI (sm_mk us i)) (nI i) := by
    intro d
    induction d with
    | zero =>
      intro i hd
      refine br_t (nI_le (by omega) (by omega)) ?_
      have : i = cap := by omega
      rw [this, sm_mk_cut hc hu.1]; exact K
    | succ d ih =>
      intro i hd
      have eu : a_used (nI i).toNatClampNeg = sx_bI (us i) := by rw [nI_clamp (by omega)]; exact hu.2 i (by omega)
      refine br_f (nI_ge (by omega) (by omega)) ⟨vp_in_nI (by omega) (by decide), ?_⟩
      have ih' := ih (i + 1) (by omega)
      by_cases u : us i
      · have e : sm_mk us (i + 1) = sm_mk us i + 2 ^ i := by show sm_mk us i + sm_cb (us i) * 2 ^ i = _; rw [sm_cb1 u, Nat.one_mul]
        rw [e] at ih'
        exact br_f (fun z => sx_bI_0.mp (eu.symm.trans z) u) (nm_r (sx_or (by omega) (sm_mk_lt us i)) (nm_r (nI_1 i) ih'))
      · have e : sm_mk us (i + 1) = sm_mk us i := by show sm_mk us i + sm_cb (us i) * 2 ^ i = _; rw [sm_cb0 u, Nat.zero_mul]; rfl
        rw [e] at ih'
        exact br_t (eu.trans (sx_bI0 u)) (nm_r (nI_1 i) ih')
  exact ⟨cap + 1, L cap 0 (by omega)⟩
theorem sx_chosen {post : Int32 → Prop} {cap : Nat} {o : Nat → Option Nat} (hc : cap ≤ 7) (hoc : ∀ i t, o i = some t → i < cap) (ho : ∀ i t, o i = some t → t < 12) (hse : ∀ i, i < 8 → a_seat i = sx_eO (o i)) (K : post (nI (sm_mk (fun i => o i ≠ none) 7))) : wpX_chosen post (nI cap, f_lineEnd, f_freeSlot, f_freeFor, f_tableKnown, a_used, a_first, a_last, a_worths, a_rooms, a_seat, a_load, a_reached, a_opener, a_line, a_savedSeat, a_savedLoad, a_savedFirst, a_savedLast, a_table) := by
  have hcap : ∀ i, o i ≠ none → i < cap := fun i h => by
    obtain ⟨t, e⟩ := sm_some h
    exact hoc i t e
  have L : ∀ d i, i + d = cap → wX_chosen_4 post (nI cap) f_lineEnd f_freeSlot f_freeFor f_tableKnown a_used a_first a_last a_worths a_rooms a_seat a_load a_reached a_opener a_line a_savedSeat a_savedLoad a_savedFirst a_savedLast a_table (d + 1) (nI (sm_mk (fun i => o i ≠ none) i)) (nI i) := by
    intro d
    induction d with
    | zero =>
      intro i hd
      refine br_t (nI_le (by omega) (by omega)) ?_
      have : i = cap := by omega
      rw [this, sm_mk_cut hc hcap]; exact K
    | succ d ih =>
      intro i hd
      have es : a_seat (nI i).toNatClampNeg = sx_eO (o i) := by rw [nI_clamp (by omega)]; exact hse i (by omega)
      refine br_f (nI_ge (by omega) (by omega)) ⟨vp_in_nI (by omega) (by decide), ?_⟩
      rw [es]
      have ih' := ih (i + 1) (by omega)
      cases eo : o i with
      | some t =>
        have e : sm_mk (fun i => o i ≠ none) (i + 1) = sm_mk (fun i => o i ≠ none) i + 2 ^ i := by show sm_mk (fun i => o i ≠ none) i + sm_cb (o i ≠ none) * 2 ^ i = _; rw [sm_cb1 (sm_ns eo), Nat.one_mul]
        rw [e] at ih'
        exact br_f (nI_pos (by have := ho i t eo; omega)) (nm_r (sx_or (by omega) (sm_mk_lt _ i)) (nm_r (nI_1 i) ih'))
      | none =>
        have e : sm_mk (fun i => o i ≠ none) (i + 1) = sm_mk (fun i => o i ≠ none) i := by show sm_mk (fun i => o i ≠ none) i + sm_cb (o i ≠ none) * 2 ^ i = _; rw [sm_cb0 (fun z => z eo), Nat.zero_mul]; rfl
        rw [e] at ih'
        exact br_t sx_m1 (nm_r (nI_1 i) ih')
  exact ⟨cap + 1, L cap 0 (by omega)⟩
theorem sx_total {post : Int32 → Prop} {cap : Nat} {w : Nat → Nat} {o : Nat → Option Nat} (hc : cap ≤ 7) (hw : sx_WO w a_worths) (hoc : ∀ i t, o i = some t → i < cap) (ho : ∀ i t, o i = some t → t < 12) (hse : ∀ i, i < 8 → a_seat i = sx_eO (o i)) (K : post (nI (sm_ws w (fun i => o i ≠ none) 7))) : wpX_total post (nI cap, f_lineEnd, f_freeSlot, f_freeFor, f_tableKnown, a_used, a_first, a_last, a_worths, a_rooms, a_seat, a_load, a_reached, a_opener, a_line, a_savedSeat, a_savedLoad, a_savedFirst, a_savedLast, a_table) := by
  have hcap : ∀ i, o i ≠ none → i < cap := fun i h => by
    obtain ⟨t, e⟩ := sm_some h
    exact hoc i t e
  have L : ∀ d i, i + d = cap → wX_total_4 post (nI cap) f_lineEnd f_freeSlot f_freeFor f_tableKnown a_used a_first a_last a_worths a_rooms a_seat a_load a_reached a_opener a_line a_savedSeat a_savedLoad a_savedFirst a_savedLast a_table (d + 1) (nI (sm_ws w (fun i => o i ≠ none) i)) (nI i) := by
    intro d
    induction d with
    | zero =>
      intro i hd
      refine br_t (nI_le (by omega) (by omega)) ?_
      have : i = cap := by omega
      rw [this, sm_ws_cut hc hcap]; exact K
    | succ d ih =>
      intro i hd
      have es : a_seat (nI i).toNatClampNeg = sx_eO (o i) := by rw [nI_clamp (by omega)]; exact hse i (by omega)
      have ew : a_worths (nI i).toNatClampNeg = nI (w i) := by rw [nI_clamp (by omega)]; exact hw.2 i (by omega)
      refine br_f (nI_ge (by omega) (by omega)) ⟨vp_in_nI (by omega) (by decide), ?_⟩
      rw [es]
      have ih' := ih (i + 1) (by omega)
      cases eo : o i with
      | some t =>
        have e : sm_ws w (fun i => o i ≠ none) (i + 1) = sm_ws w (fun i => o i ≠ none) i + w i := by show sm_ws w (fun i => o i ≠ none) i + sm_cb (o i ≠ none) * w i = _; rw [sm_cb1 (sm_ns eo), Nat.one_mul]
        rw [e] at ih'
        exact br_f (nI_pos (by have := ho i t eo; omega)) ⟨vp_in_nI (by omega) (by decide), nm_r (by rw [ew, nI_add]) (nm_r (nI_1 i) ih')⟩
      | none =>
        have e : sm_ws w (fun i => o i ≠ none) (i + 1) = sm_ws w (fun i => o i ≠ none) i := by show sm_ws w (fun i => o i ≠ none) i + sm_cb (o i ≠ none) * w i = _; rw [sm_cb0 (fun z => z eo), Nat.zero_mul]; rfl
        rw [e] at ih'
        exact br_t sx_m1 (nm_r (nI_1 i) ih')
  exact ⟨cap + 1, L cap 0 (by omega)⟩
end
end
section
/-! the reference: which sets fit -/
def sy_WL (lo : Nat → Nat) (a : Nat → Int32) : Prop := ∀ j, j < 7 → a j = nI (lo j)
def sy_CA (C : Nat → Prop) (a : Nat → Int32) : Prop := ∀ m, m < 128 → a m = sx_bI (C m)
def sy_D (lo hi : Nat → Nat) (al s : Nat) (C : Nat → Prop) (x j m : Nat) : Prop :=
  C m ∨ ∃ i, sm_bt m i ∧ sm_bt al i ∧ lo i ≤ s ∧ s ≤ hi i ∧ C (m - 2 ^ i) ∧ (x + 1 ≤ m - 2 ^ i ∨ (m - 2 ^ i = x ∧ i < j))
def sy_E (lo hi : Nat → Nat) (al s : Nat) (C : Nat → Prop) (y m : Nat) : Prop :=
  C m ∨ ∃ i, sm_bt m i ∧ sm_bt al i ∧ lo i ≤ s ∧ s ≤ hi i ∧ C (m - 2 ^ i) ∧ y ≤ m - 2 ^ i
theorem sy_D0 {lo hi : Nat → Nat} {al s : Nat} {C : Nat → Prop} {x m : Nat} : sy_D lo hi al s C x 0 m ↔ sy_E lo hi al s C (x + 1) m := by
  constructor
  · rintro (h | ⟨i, a, b, c, d, e, f | f⟩)
    · exact Or.inl h
    · exact Or.inr ⟨i, a, b, c, d, e, f⟩
    · exact absurd f.2 (Nat.not_lt_zero i)
  · rintro (h | ⟨i, a, b, c, d, e, f⟩)
    · exact Or.inl h
    · exact Or.inr ⟨i, a, b, c, d, e, Or.inl f⟩
theorem sy_D7 {lo hi : Nat → Nat} {al s : Nat} {C : Nat → Prop} {x m : Nat} (hm : m < 128) : sy_D lo hi al s C x 7 m ↔ sy_E lo hi al s C x m := by
  constructor
  · rintro (h | ⟨i, a, b, c, d, e, f | f⟩)
    · exact Or.inl h
    · exact Or.inr ⟨i, a, b, c, d, e, by omega⟩
    · exact Or.inr ⟨i, a, b, c, d, e, by omega⟩
  · rintro (h | ⟨i, a, b, c, d, e, f⟩)
    · exact Or.inl h
    · refine Or.inr ⟨i, a, b, c, d, e, ?_⟩
      have := sm_bt7 hm a
      by_cases z : m - 2 ^ i = x
      · exact Or.inr ⟨z, this⟩
      · exact Or.inl (by omega)
theorem sy_Dx {lo hi : Nat → Nat} {al s : Nat} {C : Nat → Prop} {x j : Nat} (hx : x < 128) : sy_D lo hi al s C x j x ↔ C x := by
  constructor
  · rintro (h | ⟨i, a, _, _, _, _, f⟩)
    · exact h
    · have h1 := sm_bt_le hx a
      have h2 := Nat.two_pow_pos i
      exfalso
      omega
  · exact Or.inl
theorem sy_D_same {lo hi : Nat → Nat} {al s : Nat} {C : Nat → Prop} {x j m : Nat} (hm : m < 128) (h : ¬ (C x ∧ sm_bt al j ∧ ¬ sm_bt x j ∧ lo j ≤ s ∧ s ≤ hi j)) : sy_D lo hi al s C x (j + 1) m ↔ sy_D lo hi al s C x j m := by
  constructor
  · rintro (z | ⟨i, a, b, c, d, e, f | f⟩)
    · exact Or.inl z
    · exact Or.inr ⟨i, a, b, c, d, e, Or.inl f⟩
    · by_cases ei : i = j
      · subst ei
        refine absurd ⟨f.1 ▸ e, b, fun y => ?_, c, d⟩ h
        rw [← f.1] at y
        exact ((sm_bt_sub hm a i).mp y).2 rfl
      · exact Or.inr ⟨i, a, b, c, d, e, Or.inr ⟨f.1, by omega⟩⟩
  · rintro (z | ⟨i, a, b, c, d, e, f | f⟩)
    · exact Or.inl z
    · exact Or.inr ⟨i, a, b, c, d, e, Or.inl f⟩
    · exact Or.inr ⟨i, a, b, c, d, e, Or.inr ⟨f.1, by omega⟩⟩
theorem sy_D_set {lo hi : Nat → Nat} {al s : Nat} {C : Nat → Prop} {x j m : Nat} (hm : m < 128) (hx : x < 128) (hj : j < 7) (h1 : C x) (h2 : sm_bt al j) (h3 : ¬ sm_bt x j) (h4 : lo j ≤ s) (h5 : s ≤ hi j) :
    sy_D lo hi al s C x (j + 1) m ↔ (sy_D lo hi al s C x j m ∨ m = x + 2 ^ j) := by
  have hadd := sm_bt_add hx hj h3
  constructor
  · rintro (z | ⟨i, a, b, c, d, e, f | f⟩)
    · exact Or.inl (Or.inl z)
    · exact Or.inl (Or.inr ⟨i, a, b, c, d, e, Or.inl f⟩)
    · by_cases ei : i = j
      · subst ei
        have := sm_bt_le hm a
        exact Or.inr (by omega)
      · exact Or.inl (Or.inr ⟨i, a, b, c, d, e, Or.inr ⟨f.1, by omega⟩⟩)
  · rintro ((z | ⟨i, a, b, c, d, e, f | f⟩) | z)
    · exact Or.inl z
    · exact Or.inr ⟨i, a, b, c, d, e, Or.inl f⟩
    · exact Or.inr ⟨i, a, b, c, d, e, Or.inr ⟨f.1, by omega⟩⟩
    · subst z
      have e : x + 2 ^ j - 2 ^ j = x := Nat.add_sub_cancel x (2 ^ j)
      exact Or.inr ⟨j, hadd.2, h2, h4, h5, by rw [e]; exact h1, Or.inr ⟨e, Nat.lt_succ_self j⟩⟩
section
variable {f_cap : Int32} {a_rooms a_held a_from a_to a_value a_lo a_hi a_can : Nat → Int32}
theorem sy_there1 {post : Int32 → Prop} {us : Nat → Prop} {j : Nat} (hh : ∀ i, i < 7 → a_held i = sx_bI (us i)) (hj : j < 7) (hu : us j) (K : post 1) : wpY_there post (f_cap, a_rooms, a_held, a_from, a_to, a_value, a_lo, a_hi, a_can) (nI j) := by
  have e : a_held (nI j).toNatClampNeg = sx_bI (us j) := by rw [nI_clamp (by omega)]; exact hh j hj
  exact br_f (nI_pos (by omega)) (br_f (nI_ge (b := 7) hj (by decide)) ⟨vp_in_nI hj (by decide), br_f (fun z => sx_bI_0.mp (e.symm.trans z) hu) K⟩)
theorem sy_there0 {post : Int32 → Prop} {us : Nat → Prop} {v : Int32} (hh : ∀ i, i < 7 → a_held i = sx_bI (us i)) (hv : ¬ ∃ j, us j ∧ v = nI j) (K : post 0) : wpY_there post (f_cap, a_rooms, a_held, a_from, a_to, a_value, a_lo, a_hi, a_can) v := by
  by_cases h0 : v < 0
  · exact br_t h0 K
  · refine br_f h0 ?_
    obtain ⟨j, hj, rfl⟩ := nI_of h0
    by_cases h7 : 7 ≤ j
    · exact br_t (nI_le (a := 7) h7 hj) K
    · have e : a_held (nI j).toNatClampNeg = sx_bI (us j) := by rw [nI_clamp (by omega)]; exact hh j (by omega)
      exact br_f (nI_ge (b := 7) (by omega) (by decide)) ⟨vp_in_nI (by omega) (by decide), br_t (e.trans (sx_bI0 fun z => hv ⟨j, z, rfl⟩)) K⟩
theorem sy_or0 (m : Nat) : nI m ||| 0 = nI m := by
  have : ∀ x : Int32, x ||| 0 = x := fun x => by simp
  exact this _
theorem sy_jobs {post : Int32 → Prop} {us : Nat → Prop} (hh : ∀ i, i < 7 → a_held i = sx_bI (us i)) (K : post (nI (sm_mk us 7))) : wpY_jobs post (f_cap, a_rooms, a_held, a_from, a_to, a_value, a_lo, a_hi, a_can) := by
  have L : ∀ d i, i + d = 7 → wY_jobs_4 post f_cap a_rooms a_held a_from a_to a_value a_lo a_hi a_can (d + 1) (nI (sm_mk us i)) (nI i) := by
    intro d
    induction d with
    | zero =>
      intro i hd
      refine br_t (nI_le (a := 7) (by omega) (by omega)) ?_
      have : i = 7 := by omega
      rw [this]; exact K
    | succ d ih =>
      intro i hd
      have eu : a_held (nI i).toNatClampNeg = sx_bI (us i) := by rw [nI_clamp (by omega)]; exact hh i (by omega)
      refine br_f (nI_ge (b := 7) (by omega) (by decide)) ⟨vp_in_nI (by omega) (by decide), ?_⟩
      have ih' := ih (i + 1) (by omega)
      by_cases u : us i
      · have e : sm_mk us (i + 1) = sm_mk us i + 2 ^ i := by show sm_mk us i + sm_cb (us i) * 2 ^ i = _; rw [sm_cb1 u, Nat.one_mul]
        rw [e] at ih'
        exact br_f (fun z => sx_bI_0.mp (eu.symm.trans z) u) (nm_r (sx_or (by omega) (sm_mk_lt us i)) (nm_r (nI_1 i) ih'))
      · have e : sm_mk us (i + 1) = sm_mk us i := by show sm_mk us i + sm_cb (us i) * 2 ^ i = _; rw [sm_cb0 u, Nat.zero_mul]; rfl
        rw [e] at ih'
        exact br_t (eu.trans (sx_bI0 u)) (nm_r (sy_or0 _) (nm_r (nI_1 i) ih'))
  exact ⟨8, L 7 0 rfl⟩
theorem sy_inUse {post : Int32 → Prop} {us : Nat → Prop} (hh : ∀ i, i < 7 → a_held i = sx_bI (us i)) (K : post (nI (sm_cn us))) : wpY_inUse post (f_cap, a_rooms, a_held, a_from, a_to, a_value, a_lo, a_hi, a_can) := by
  have L : ∀ d i, i + d = 7 → wY_inUse_4 post f_cap a_rooms a_held a_from a_to a_value a_lo a_hi a_can (d + 1) (nI (sm_S (fun i => sm_cb (us i)) i)) (nI i) := by
    intro d
    induction d with
    | zero =>
      intro i hd
      refine br_t (nI_le (a := 7) (by omega) (by omega)) ?_
      have : i = 7 := by omega
      rw [this]; exact K
    | succ d ih =>
      intro i hd
      have eu : a_held (nI i).toNatClampNeg = sx_bI (us i) := by rw [nI_clamp (by omega)]; exact hh i (by omega)
      refine br_f (nI_ge (b := 7) (by omega) (by decide)) ⟨vp_in_nI (by omega) (by decide), ?_⟩
      have ih' := ih (i + 1) (by omega)
      by_cases u : us i
      · have e : sm_S (fun i => sm_cb (us i)) (i + 1) = sm_S (fun i => sm_cb (us i)) i + 1 := by show sm_S (fun i => sm_cb (us i)) i + sm_cb (us i) = _; rw [sm_cb1 u]
        rw [e] at ih'
        exact br_f (fun z => sx_bI_0.mp (eu.symm.trans z) u) (nm_r (nI_1 _) (nm_r (nI_1 i) ih'))
      · have e : sm_S (fun i => sm_cb (us i)) (i + 1) = sm_S (fun i => sm_cb (us i)) i := by show sm_S (fun i => sm_cb (us i)) i + sm_cb (us i) = _; rw [sm_cb0 u]; rfl
        rw [e] at ih'
        exact br_t (eu.trans (sx_bI0 u)) (nm_r (nI_add _ 0) (nm_r (nI_1 i) ih'))
  exact ⟨8, L 7 0 rfl⟩
theorem sy_ask {post : SY → Prop} {lo hi : Nat → Nat} (hf : sy_WL lo a_from) (ht : sy_WL hi a_to) (K : ∀ l h, sy_WL lo l → sy_WL hi h → post (f_cap, a_rooms, a_held, a_from, a_to, a_value, l, h, a_can)) : wpY_ask post (f_cap, a_rooms, a_held, a_from, a_to, a_value, a_lo, a_hi, a_can) := by
  have L : ∀ d i a_lo a_hi, i + d = 7 → (∀ x, x < i → a_lo x = nI (lo x)) → (∀ x, x < i → a_hi x = nI (hi x)) → wY_ask_2 post f_cap (d + 1) (nI i) a_rooms a_held a_from a_to a_value a_lo a_hi a_can := by
    intro d
    induction d with
    | zero =>
      intro i a_lo a_hi hd h1 h2
      exact br_t (nI_le (a := 7) (by omega) (by omega)) (K _ _ (fun j hj => h1 j (by omega)) fun j hj => h2 j (by omega))
    | succ d ih =>
      intro i a_lo a_hi hd h1 h2
      have is : vp_in (nI i) 7 := vp_in_nI (by omega) (by decide)
      refine br_f (nI_ge (b := 7) (by omega) (by decide)) ⟨is, is, nm_r (e' := upd a_lo i (nI (lo i))) ?_ ⟨is, is, nm_r (e' := upd a_hi i (nI (hi i))) ?_ (nm_r (nI_1 i) (ih (i + 1) _ _ (by omega) (fun x hx => ?_) fun x hx => ?_))⟩⟩
      · rw [nI_clamp (by omega), hf i (by omega)]
      · rw [nI_clamp (by omega), ht i (by omega)]
      · by_cases e : x = i
        · rw [e, sx_us]
        · rw [sx_un e]; exact h1 x (by omega)
      · by_cases e : x = i
        · rw [e, sx_us]
        · rw [sx_un e]; exact h2 x (by omega)
  exact ⟨8, L 7 0 _ _ rfl (fun x hx => absurd hx (Nat.not_lt_zero x)) fun x hx => absurd hx (Nat.not_lt_zero x)⟩
theorem sy_one12 {post : SY → Prop} {J5 : Int32 → (Nat → Int32) → (Nat → Int32) → (Nat → Int32) → (Nat → Int32) → (Nat → Int32) → (Nat → Int32) → (Nat → Int32) → (Nat → Int32) → Prop} {lo hi : Nat → Nat} {al s x : Nat} {C : Nat → Prop}
    (hl : sy_WL lo a_lo) (hh : sy_WL hi a_hi) (hlo : ∀ i, lo i ≤ 11) (hhi : ∀ i, hi i ≤ 11) (hal : al < 128) (hs : s < 12) (hx : x < 128)
    (K : ∀ a_can, sy_CA (sy_D lo hi al s C x 7) a_can → J5 (nI x + (-1)) a_rooms a_held a_from a_to a_value a_lo a_hi a_can) :
    ∀ d j a_can, j + d = 7 → sy_CA (sy_D lo hi al s C x j) a_can → wY_onePlace_12 post J5 (nI s) (nI al) (nI x) f_cap (d + 1) (nI j) a_rooms a_held a_from a_to a_value a_lo a_hi a_can := by
  intro d
  induction d with
  | zero =>
    intro j a_can hd hC
    have : j = 7 := by omega
    subst this
    exact br_t (nI_le (a := 7) (by omega) (by omega)) (nm_e (K _ hC))
  | succ d ih =>
    intro j a_can hd hC
    have ij : vp_in (nI j) 7 := vp_in_nI (by omega) (by decide)
    have ix : vp_in (nI x) 128 := vp_in_nI hx (by decide)
    have ec : a_can (nI x).toNatClampNeg = sx_bI (C x) := by rw [nI_clamp (by omega), hC x hx]; exact sx_bIx (sy_Dx hx)
    have el : a_lo (nI j).toNatClampNeg = nI (lo j) := by rw [nI_clamp (by omega)]; exact hl j (by omega)
    have eh : a_hi (nI j).toNatClampNeg = nI (hi j) := by rw [nI_clamp (by omega)]; exact hh j (by omega)
    have l11 := hlo j
    have h11 := hhi j
    have N : ¬ (C x ∧ sm_bt al j ∧ ¬ sm_bt x j ∧ lo j ≤ s ∧ s ≤ hi j) → wY_onePlace_12 post J5 (nI s) (nI al) (nI x) f_cap (d + 1) (nI (j + 1)) a_rooms a_held a_from a_to a_value a_lo a_hi a_can := fun h =>
      ih (j + 1) a_can (by omega) fun m hm => (hC m hm).trans (sx_bIx (sy_D_same hm h).symm)
    have N0 : ¬ (C x ∧ sm_bt al j ∧ ¬ sm_bt x j ∧ lo j ≤ s ∧ s ≤ hi j) → wY_onePlace_43 post J5 (wY_onePlace_12 post J5 (nI s) (nI al) (nI x) f_cap (d + 1)) (nI s) (nI al) (nI x) (nI j) 0 f_cap a_rooms a_held a_from a_to a_value a_lo a_hi a_can := fun h =>
      And.intro ix (br_c (fun _ => nm_r (nI_1 j) (N h)) (fun _ => br_t rfl (nm_r (nI_1 j) (N h))))
    refine br_f (nI_ge (b := 7) (by omega) (by decide)) ?_
    by_cases ha : sm_bt al j
    · refine br_t ((sx_bit1 hal (by omega)).mpr ha) ?_
      by_cases hb : sm_bt x j
      · exact br_f (fun z => (sx_bit0 hx (by omega)).mp z hb) (N0 fun h => h.2.2.1 hb)
      · refine br_t ((sx_bit0 hx (by omega)).mpr hb) (And.intro ix ?_)
        by_cases hc : C x
        · refine br_f (fun z => sx_bI_0.mp (ec.symm.trans z) hc) (br_f (by decide) ⟨ij, ?_⟩)
          rw [el]
          by_cases h1 : lo j ≤ s
          · refine br_f (nI_nlt h1 (by omega)) ⟨ij, ?_⟩
            rw [eh]
            by_cases h2 : s ≤ hi j
            · have hadd := sm_bt_add hx (show j < 7 by omega) hb
              refine br_f (nI_nlt h2 (by omega)) ?_
              rw [sx_set hx (by omega) hb]
              refine ⟨vp_in_nI hadd.1 (by decide), nm_r (e' := upd a_can (x + 2 ^ j) 1) ?_ (nm_r (nI_1 j) (ih (j + 1) _ (by omega) fun m hm => ?_))⟩
              · rw [nI_clamp (by have := hadd.1; omega)]; rfl
              · have e := sy_D_set (lo := lo) (hi := hi) (s := s) (C := C) hm hx (show j < 7 by omega) hc ha hb h1 h2
                rw [sx_bIx e]
                by_cases em : m = x + 2 ^ j
                · rw [em, sx_us, sx_bI1 (Or.inr rfl)]
                · rw [sx_un em, hC m hm]; exact sx_bIx ⟨Or.inl, fun z => z.resolve_right em⟩
            · exact br_t (nI_lt (by omega) (by omega)) (nm_r (nI_1 j) (N fun h => h2 h.2.2.2.2))
          · exact br_t (nI_lt (by omega) (by omega)) (nm_r (nI_1 j) (N fun h => h1 h.2.2.2.1))
        · exact br_t (ec.trans (sx_bI0 hc)) (nm_r (nI_1 j) (N fun h => hc h.1))
    · exact br_f (fun z => ha ((sx_bit1 hal (by omega)).mp z)) (N0 fun h => ha h.2.1)
theorem sy_m1 (n : Nat) : nI (n + 1) + (-1) = nI n := by
  have h : ∀ x : Int32, x + 1 + (-1) = x := fun x => by grind
  rw [← nI_1]; exact h _
theorem sy_onePlace {post : SY → Prop} {lo hi : Nat → Nat} {al s : Nat} {C : Nat → Prop}
    (hl : sy_WL lo a_lo) (hh : sy_WL hi a_hi) (hlo : ∀ i, lo i ≤ 11) (hhi : ∀ i, hi i ≤ 11) (hal : al < 128) (hs : s < 12) (hC : sy_CA C a_can) (hCs : ∀ m, m < 128 → C m → m ≤ al)
    (K : ∀ c, sy_CA (fun m => C m ∨ ∃ i, sm_bt m i ∧ sm_bt al i ∧ lo i ≤ s ∧ s ≤ hi i ∧ C (m - 2 ^ i)) c → post (f_cap, a_rooms, a_held, a_from, a_to, a_value, a_lo, a_hi, c)) : wpY_onePlace post (f_cap, a_rooms, a_held, a_from, a_to, a_value, a_lo, a_hi, a_can) (nI s) (nI al) := by
  have L : ∀ y a_can, y ≤ 128 → sy_CA (sy_E lo hi al s C y) a_can → wY_onePlace_5 post (nI s) (nI al) f_cap (y + 1) (nI y + (-1)) a_rooms a_held a_from a_to a_value a_lo a_hi a_can := by
    intro y
    induction y with
    | zero =>
      intro a_can _ hE
      refine br_t (by decide) (K _ fun m hm => (hE m hm).trans (sx_bIx ⟨?_, ?_⟩))
      · rintro (z | ⟨i, a, b, c, d, e, _⟩)
        · exact Or.inl z
        · exact Or.inr ⟨i, a, b, c, d, e⟩
      · rintro (z | ⟨i, a, b, c, d, e⟩)
        · exact Or.inl z
        · exact Or.inr ⟨i, a, b, c, d, e, Nat.zero_le _⟩
    | succ x ih =>
      intro a_can hy hE
      rw [sy_m1]
      refine br_f (nI_pos (by omega)) ⟨8, sy_one12 hl hh hlo hhi hal hs (by omega) (fun c hc => ih c (by omega) fun m hm => (hc m hm).trans (sx_bIx (sy_D7 hm))) 7 0 a_can rfl fun m hm => (hE m hm).trans (sx_bIx sy_D0.symm)⟩
  refine nm_r (e' := nI (al + 1) + (-1)) (by rw [sx_and127 al hal, sy_m1]) ⟨al + 2, L (al + 1) a_can (by omega) fun m hm => (hC m hm).trans (sx_bIx ⟨Or.inl, ?_⟩)⟩
  rintro (z | ⟨i, a, b, c, d, e, f⟩)
  · exact z
  · have := hCs _ (Nat.lt_of_le_of_lt (Nat.sub_le _ _) hm) e
    omega
/-- the rooms of the slots below s, and p of slot s -/
def sy_rv (rm : Nat → Nat) (s p t : Nat) : Nat := if t < s then rm t else if t = s then p else 0
theorem sy_rv_up {rm : Nat → Nat} {s p : Nat} : sm_up (sy_rv rm s p) s (sy_rv rm s p s + 1) = sy_rv rm s (p + 1) := by
  funext t
  unfold sy_rv
  by_cases e : t = s
  · subst e
    rw [sm_us, if_neg (Nat.lt_irrefl t), if_pos rfl, if_neg (Nat.lt_irrefl t), if_pos rfl]
  · rw [sm_un e, if_neg e, if_neg e]
theorem sy_rv_next {rm : Nat → Nat} {s : Nat} : sy_rv rm s (rm s) = sy_rv rm (s + 1) 0 := by
  funext t
  unfold sy_rv
  by_cases e : t = s
  · subst e
    rw [if_neg (Nat.lt_irrefl t), if_pos rfl, if_pos (Nat.lt_succ_self t)]
  · by_cases h : t < s
    · rw [if_pos h, if_pos (by omega)]
    · rw [if_neg h, if_neg e, if_neg (by omega)]
      by_cases h2 : t = s + 1
      · rw [if_pos h2]
      · rw [if_neg h2]
theorem sy_rv_0 {rm : Nat → Nat} : sy_rv rm 0 0 = fun _ => 0 := by
  funext t
  unfold sy_rv
  rw [if_neg (Nat.not_lt_zero t)]
  by_cases h : t = 0
  · rw [if_pos h]
  · rw [if_neg h]
theorem sy_sweep {post : SY → Prop} {lo hi rm : Nat → Nat} {al : Nat} (hr : ∀ s, s < 12 → a_rooms s = nI (rm s)) (hr4 : ∀ s, rm s ≤ 4)
    (hl : sy_WL lo a_lo) (hh : sy_WL hi a_hi) (hlo : ∀ i, lo i ≤ 11) (hhi : ∀ i, hi i ≤ 11) (hal : al < 128)
    (K : ∀ c, sy_CA (sm_Fm lo hi rm al) c → post (f_cap, a_rooms, a_held, a_from, a_to, a_value, a_lo, a_hi, c)) : wpY_sweep post (f_cap, a_rooms, a_held, a_from, a_to, a_value, a_lo, a_hi, a_can) (nI al) := by
  have L40 : ∀ (J : Int32 → Int32 → (Nat → Int32) → (Nat → Int32) → (Nat → Int32) → (Nat → Int32) → (Nat → Int32) → (Nat → Int32) → (Nat → Int32) → (Nat → Int32) → Prop) s, s < 12 →
      (∀ a_can, sy_CA (sm_Fm lo hi (sy_rv rm s (rm s)) al) a_can → J (nI (s + 1)) f_cap a_rooms a_held a_from a_to a_value a_lo a_hi a_can) → ∀ d p a_can, p + d = rm s → sy_CA (sm_Fm lo hi (sy_rv rm s p) al) a_can → wY_sweep_40 post J (nI al) (nI s) (d + 1) (nI p) f_cap a_rooms a_held a_from a_to a_value a_lo a_hi a_can := by
    intro J s hs KJ d
    have es : a_rooms (nI s).toNatClampNeg = nI (rm s) := by rw [nI_clamp (by omega)]; exact hr s hs
    have r4 := hr4 s
    induction d with
    | zero =>
      intro p a_can hd hC
      have : p = rm s := by omega
      subst this
      exact And.intro (vp_in_nI hs (by decide)) (br_t (by rw [es]; exact nI_le (by omega) (by omega)) (nm_r (nI_1 s) (KJ _ hC)))
    | succ d ih =>
      intro p a_can hd hC
      refine And.intro (vp_in_nI hs (by decide)) (br_f (by rw [es]; exact nI_ge (by omega) (by omega)) (br_f (nI_ge (b := 4) (by omega) (by decide)) (sy_onePlace hl hh hlo hhi hal hs hC (fun m hm h => sm_sub_le hm hal h.1) fun c hc => nm_r (nI_1 p) (ih (p + 1) c (by omega) fun m hm => (hc m hm).trans (sx_bIx ?_)))))
      rw [← sy_rv_up, sm_Fm_step hm hs]
  have L32 : ∀ d s a_can, s + d = 12 → sy_CA (sm_Fm lo hi (sy_rv rm s 0) al) a_can → wY_sweep_32 post (nI al) (d + 1) (nI s) f_cap a_rooms a_held a_from a_to a_value a_lo a_hi a_can := by
    intro d
    induction d with
    | zero =>
      intro s a_can hd hC
      refine br_t (nI_le (a := 12) (by omega) (by omega)) (K _ fun m hm => (hC m hm).trans (sx_bIx ⟨?_, ?_⟩))
      · exact sm_Fm_rm (fun _ _ => rfl) (fun _ _ => rfl) fun t ht => if_pos (by omega)
      · exact sm_Fm_rm (fun _ _ => rfl) (fun _ _ => rfl) fun t ht => (if_pos (by omega)).symm
    | succ d ih =>
      intro s a_can hd hC
      exact br_f (nI_ge (b := 12) (by omega) (by decide)) ⟨rm s + 1, L40 _ s (by omega) (fun c hc => ih (s + 1) c (by omega) (by rw [← sy_rv_next]; exact hc)) (rm s) 0 a_can (by omega) hC⟩
  have L2 : ∀ d i a_can, i + d = 128 → (∀ m, m < i → a_can m = sx_bI (m = 0)) → wY_sweep_2 post (nI al) f_cap (d + 1) (nI i) a_rooms a_held a_from a_to a_value a_lo a_hi a_can := by
    intro d
    induction d with
    | zero =>
      intro i a_can hd hz
      refine br_t (nI_le (a := 128) (by omega) (by omega)) ⟨13, L32 12 0 _ rfl fun m hm => (hz m (by omega)).trans (sx_bIx ?_)⟩
      rw [sy_rv_0, sm_Fm_0 hm]
    | succ d ih =>
      intro i a_can hd hz
      have ii : vp_in (nI i) 128 := vp_in_nI (by omega) (by decide)
      refine br_f (nI_ge (b := 128) (by omega) (by decide)) ?_
      by_cases e0 : i = 0
      · subst e0
        refine br_t rfl ⟨ii, nm_r (e' := upd a_can 0 1) ?_ (nm_r (nI_1 0) (ih 1 _ (by omega) fun m hm => ?_))⟩
        · rfl
        · have : m = 0 := by omega
          rw [this, sx_us, sx_bI1 rfl]
      · refine br_f (nI_ne0 (by omega) (by omega)) ⟨ii, nm_r (e' := upd a_can i 0) ?_ (nm_r (nI_1 i) (ih (i + 1) _ (by omega) fun m hm => ?_))⟩
        · rw [nI_clamp (by omega)]; rfl
        · by_cases em : m = i
          · rw [em, sx_us, sx_bI0 e0]
          · rw [sx_un em]; exact hz m (by omega)
  exact ⟨129, L2 128 0 _ rfl fun m hm => absurd hm (Nat.not_lt_zero m)⟩
end
end
section
/-! the reference: the best set -/
theorem sm_ws_ext {w : Nat → Nat} {A B : Nat → Prop} (h : ∀ i, i < 7 → (A i ↔ B i)) : sm_ws w A 7 = sm_ws w B 7 := sm_S_eq 7 fun i hi => by rw [sm_cbx (h i hi)]
theorem sm_W_ext {w : Nat → Nat} {A B : Nat → Prop} (h : ∀ i, i < 7 → (A i ↔ B i)) : sm_W w A = sm_W w B := sm_S_eq 7 fun i hi => by rw [sm_cbx (h i hi)]
theorem sm_ws_le {w : Nat → Nat} {A : Nat → Prop} (hw : ∀ i, w i ≤ 20) : ∀ n, sm_ws w A n ≤ n * 20 := by
  intro n
  induction n with
  | zero => exact Nat.zero_le _
  | succ n ih =>
    have : sm_cb (A n) * w n ≤ 1 * 20 := Nat.mul_le_mul (sm_cb_le1 _) (hw n)
    show sm_ws w A n + sm_cb (A n) * w n ≤ _
    omega
section
variable {f_cap : Int32} {a_rooms a_held a_from a_to a_value a_lo a_hi a_can : Nat → Int32}
theorem sy_worthOf {post : Int32 → Prop} {w : Nat → Nat} {m : Nat} (hv : sy_WL w a_value) (hm : m < 128) (K : post (nI (sm_ws w (sm_bt m) 7))) : wpY_worthOf post (f_cap, a_rooms, a_held, a_from, a_to, a_value, a_lo, a_hi, a_can) (nI m) := by
  have L : ∀ d i, i + d = 7 → wY_worthOf_4 post (nI m) f_cap a_rooms a_held a_from a_to a_value a_lo a_hi a_can (d + 1) (nI (sm_ws w (sm_bt m) i)) (nI i) := by
    intro d
    induction d with
    | zero =>
      intro i hd
      refine br_t (nI_le (a := 7) (by omega) (by omega)) ?_
      have : i = 7 := by omega
      rw [this]; exact K
    | succ d ih =>
      intro i hd
      have ev : a_value (nI i).toNatClampNeg = nI (w i) := by rw [nI_clamp (by omega)]; exact hv i (by omega)
      refine br_f (nI_ge (b := 7) (by omega) (by decide)) ?_
      have ih' := ih (i + 1) (by omega)
      by_cases b : sm_bt m i
      · have e : sm_ws w (sm_bt m) (i + 1) = sm_ws w (sm_bt m) i + w i := by show sm_ws w (sm_bt m) i + sm_cb (sm_bt m i) * w i = _; rw [sm_cb1 b, Nat.one_mul]
        rw [e] at ih'
        exact br_t ((sx_bit1 hm (by omega)).mpr b) ⟨vp_in_nI (by omega) (by decide), nm_r (by rw [ev, nI_add]) (nm_r (nI_1 i) ih')⟩
      · have e : sm_ws w (sm_bt m) (i + 1) = sm_ws w (sm_bt m) i := by show sm_ws w (sm_bt m) i + sm_cb (sm_bt m i) * w i = _; rw [sm_cb0 b, Nat.zero_mul]; rfl
        rw [e] at ih'
        exact br_f (fun z => b ((sx_bit1 hm (by omega)).mp z)) (nm_r (nI_add _ 0) (nm_r (nI_1 i) ih'))
  exact ⟨8, L 7 0 rfl⟩
theorem sy_before {post : Int32 → Prop} {w : Nat → Nat} {a b : Nat} (hw : ∀ i, w i ≤ 20) (hv : sy_WL w a_value) (ha : a < 128) (hb : b < 128)
    (K1 : sm_W w (sm_bt b) < sm_W w (sm_bt a) → post 1) (K0 : sm_W w (sm_bt a) ≤ sm_W w (sm_bt b) → post 0) : wpY_before post (f_cap, a_rooms, a_held, a_from, a_to, a_value, a_lo, a_hi, a_can) (nI a) (nI b) := by
  have ra := sm_rv_lt (sm_bt a)
  have rb := sm_rv_lt (sm_bt b)
  have la := sm_ws_le (A := sm_bt a) hw 7
  have lb := sm_ws_le (A := sm_bt b) hw 7
  rw [sm_W_rv (sm_bt a), sm_W_rv (sm_bt b)] at K0 K1
  refine sy_worthOf hv ha (sy_worthOf hv hb ?_)
  by_cases e : sm_ws w (sm_bt a) 7 = sm_ws w (sm_bt b) 7
  · refine br_t (congrArg nI e) ⟨8, ?_⟩
    have L : ∀ d j, j + d = 7 → (∀ i, i < j → (sm_bt a i ↔ sm_bt b i)) → wY_before_34 post (nI a) (nI b) f_cap a_rooms a_held a_from a_to a_value a_lo a_hi a_can (d + 1) (nI j) := by
      intro d
      induction d with
      | zero =>
        intro j hd h
        have : a = b := sm_bt_ext ha hb fun i hi => h i (by omega)
        subst this
        exact br_t (nI_le (a := 7) (by omega) (by omega)) (K0 (Nat.le_refl _))
      | succ d ih =>
        intro j hd h
        have hj : j < 7 := by omega
        have ea := sx_bit a ha j hj
        have eb := sx_bit b hb j hj
        have ma : a / 2 ^ j % 2 < 2 := Nat.mod_lt _ (by decide)
        have mb : b / 2 ^ j % 2 < 2 := Nat.mod_lt _ (by decide)
        refine br_f (nI_ge (b := 7) hj (by decide)) ?_
        by_cases z : a / 2 ^ j % 2 = b / 2 ^ j % 2
        · refine br_t (by rw [ea, eb, z]) (nm_r (nI_1 j) (ih (j + 1) (by omega) fun i hi => ?_))
          by_cases ei : i = j
          · subst ei; unfold sm_bt; rw [z]
          · exact h i (by omega)
        · refine br_f (fun y => z ((nI_eq (by omega) (by omega)).mp (ea.symm.trans (y.trans eb)))) ?_
          by_cases ba : sm_bt a j
          · refine br_t ((sx_bit1 ha hj).mpr ba) (K1 ?_)
            have bb : ¬ sm_bt b j := fun y => by unfold sm_bt at ba y; omega
            have := sm_rv_lex hj h ba bb
            omega
          · refine br_f (fun y => ba ((sx_bit1 ha hj).mp y)) (K0 ?_)
            have bb : sm_bt b j := by unfold sm_bt at ba ⊢; omega
            have := sm_rv_lex hj (fun i hi => (h i hi).symm) bb ba
            omega
    exact L 7 0 rfl fun i hi => absurd hi (Nat.not_lt_zero i)
  · refine br_f (fun z => e ((nI_eq (by omega) (by omega)).mp z)) ?_
    by_cases h : sm_ws w (sm_bt a) 7 ≤ sm_ws w (sm_bt b) 7
    · exact br_t (nI_le h (by omega)) (K0 (by omega))
    · exact br_f (nI_ge (by omega) (by omega)) (K1 (by omega))
/-- the best of the sets that fit -/
theorem sy_best18 {post : Int32 → SY → Prop} {w : Nat → Nat} {C : Nat → Prop} (hw : ∀ i, w i ≤ 20) (hv : sy_WL w a_value) (hC : sy_CA C a_can) (h0 : C 0)
    (K : ∀ b, b < 128 → C b → (∀ m, m < 128 → C m → sm_W w (sm_bt m) ≤ sm_W w (sm_bt b)) → post (nI b) (f_cap, a_rooms, a_held, a_from, a_to, a_value, a_lo, a_hi, a_can)) : wY_chosen_18 post f_cap a_rooms a_held a_from a_to a_value a_lo a_hi a_can 128 0 1 := by
  have L : ∀ d i b, i + d = 128 → b < 128 → C b → (∀ m, m < i → C m → sm_W w (sm_bt m) ≤ sm_W w (sm_bt b)) → wY_chosen_18 post f_cap a_rooms a_held a_from a_to a_value a_lo a_hi a_can (d + 1) (nI b) (nI i) := by
    intro d
    induction d with
    | zero =>
      intro i b hd hb hCb hm
      exact br_t (nI_le (a := 128) (by omega) (by omega)) (K b hb hCb fun m h => hm m (by omega))
    | succ d ih =>
      intro i b hd hb hCb hm
      have ec : a_can (nI i).toNatClampNeg = sx_bI (C i) := by rw [nI_clamp (by omega)]; exact hC i (by omega)
      refine br_f (nI_ge (b := 128) (by omega) (by decide)) ⟨vp_in_nI (by omega) (by decide), ?_⟩
      by_cases c : C i
      · refine br_f (fun z => sx_bI_0.mp (ec.symm.trans z) c) (sy_before hw hv (by omega) hb (fun hlt => br_f (by decide) (nm_r (nI_1 i) (ih (i + 1) i (by omega) (by omega) c fun m hmi hCm => ?_))) (fun hle => br_t rfl (nm_r (nI_1 i) (ih (i + 1) b (by omega) hb hCb fun m hmi hCm => ?_))))
        · by_cases e : m = i
          · rw [e]; exact Nat.le_refl _
          · have := hm m (by omega) hCm; omega
        · by_cases e : m = i
          · rw [e]; exact hle
          · exact hm m (by omega) hCm
      · refine br_t (ec.trans (sx_bI0 c)) (nm_r (nI_1 i) (ih (i + 1) b (by omega) hb hCb fun m hmi hCm => ?_))
        by_cases e : m = i
        · exact absurd (e ▸ hCm) c
        · exact hm m (by omega) hCm
  refine L 127 1 0 rfl (by decide) h0 fun m hm hCm => ?_
  have : m = 0 := by omega
  rw [this]; exact Nat.le_refl _
/-- the reference's state -/
def sy_YA (us : Nat → Prop) (lo hi rm w : Nat → Nat) (a_rooms a_held a_from a_to a_value : Nat → Int32) : Prop :=
  (∀ s, s < 12 → a_rooms s = nI (rm s)) ∧ (∀ i, i < 7 → a_held i = sx_bI (us i)) ∧ sy_WL lo a_from ∧ sy_WL hi a_to ∧ sy_WL w a_value
def sy_BD (us : Nat → Prop) (lo hi rm w : Nat → Nat) : Prop := (∀ i, us i → i < 7) ∧ (∀ i, lo i ≤ hi i) ∧ (∀ i, hi i ≤ 11) ∧ (∀ s, rm s ≤ 4) ∧ ∀ i, w i ≤ 20
theorem sy_chosen {post : Int32 → SY → Prop} {us : Nat → Prop} {lo hi rm w : Nat → Nat} {o : Nat → Option Nat} (hY : sy_YA us lo hi rm w a_rooms a_held a_from a_to a_value) (hB : sy_BD us lo hi rm w)
    (hV : sm_Val lo hi rm o) (hU : ∀ i, o i ≠ none → us i) (hD : sm_Dom lo hi rm w us (fun i => o i ≠ none))
    (K : ∀ l h c, sy_WL lo l → sy_WL hi h → post (nI (sm_mk (fun i => o i ≠ none) 7)) (f_cap, a_rooms, a_held, a_from, a_to, a_value, l, h, c)) : wpY_chosen post (f_cap, a_rooms, a_held, a_from, a_to, a_value, a_lo, a_hi, a_can) := by
  obtain ⟨hr, hh, hf, ht, hv⟩ := hY
  obtain ⟨b1, b2, b3, b4, b5⟩ := hB
  refine sy_ask hf ht fun l h hl hhi => sy_jobs hh (sy_sweep hr b4 hl hhi (fun i => Nat.le_trans (b2 i) (b3 i)) b3 (sm_mk128 us) fun c hc => ⟨128, sy_best18 b5 hv hc ?_ fun b hb hFb hmax => ?_⟩)
  · exact ⟨fun i hi => absurd hi (sm_bt_0 i), fun _ => none, sm_Val_none lo hi rm, fun i => ⟨fun z => absurd rfl z, fun z => absurd z (sm_bt_0 i)⟩⟩
  · have hmk : ∀ i, (o i ≠ none ↔ sm_bt (sm_mk (fun i => o i ≠ none) 7) i) := fun i => by
      by_cases hi : i < 7
      · exact (sm_mk_bt (fun i => o i ≠ none) hi).symm
      · exact ⟨fun z => absurd (b1 i (hU i z)) hi, fun z => absurd (sm_bt7 (sm_mk128 _) z) hi⟩
    have h1 := hmax (sm_mk (fun i => o i ≠ none) 7) (sm_mk128 _) ⟨fun i hi => by
      have := hU i ((hmk i).mpr hi)
      exact (sm_mk_bt us (b1 i this)).mpr this, o, hV, hmk⟩
    obtain ⟨hbs, q, hq, hqp⟩ := hFb
    have h2 : sm_W w (fun i => q i ≠ none) ≤ sm_W w (fun i => o i ≠ none) := sm_dom_W b5 hD hq fun i hi => by
      have := hbs i ((hqp i).mp hi)
      exact (sm_mk_bt us (sm_bt7 (sm_mk128 us) this)).mp this
    have e1 : sm_W w (fun i => q i ≠ none) = sm_W w (sm_bt b) := sm_W_ext fun i _ => hqp i
    have e2 : sm_W w (fun i => o i ≠ none) = sm_W w (sm_bt (sm_mk (fun i => o i ≠ none) 7)) := sm_W_ext fun i _ => hmk i
    have e3 : sm_W w (sm_bt b) = sm_W w (sm_bt (sm_mk (fun i => o i ≠ none) 7)) := by omega
    have e4 : b = sm_mk (fun i => o i ≠ none) 7 := sm_bt_ext hb (sm_mk128 _) fun i hi => sm_W_inj e3 hi
    rw [e4]
    exact K l h c hl hhi
theorem sy_total {post : Int32 → SY → Prop} {us : Nat → Prop} {lo hi rm w : Nat → Nat} {o : Nat → Option Nat} (hY : sy_YA us lo hi rm w a_rooms a_held a_from a_to a_value) (hB : sy_BD us lo hi rm w)
    (hV : sm_Val lo hi rm o) (hU : ∀ i, o i ≠ none → us i) (hD : sm_Dom lo hi rm w us (fun i => o i ≠ none))
    (K : ∀ l h c, sy_WL lo l → sy_WL hi h → post (nI (sm_ws w (fun i => o i ≠ none) 7)) (f_cap, a_rooms, a_held, a_from, a_to, a_value, l, h, c)) : wpY_total post (f_cap, a_rooms, a_held, a_from, a_to, a_value, a_lo, a_hi, a_can) := by
  refine sy_chosen hY hB hV hU hD fun l h c hl hh => sy_worthOf hY.2.2.2.2 (sm_mk128 _) ?_
  rw [sm_ws_ext (A := sm_bt (sm_mk (fun i => o i ≠ none) 7)) (B := fun i => o i ≠ none) fun i hi => sm_mk_bt _ hi]
  exact K l h c hl hh
end
end
section
/-! the first timetable -/
def sm_FT (lo hi rm : Nat → Nat) (B : Nat → Prop) : Prop := ∃ q, sm_Val lo hi rm q ∧ ∀ i, (q i ≠ none ↔ B i)
/-- the windows when the jobs of B below k are fixed -/
noncomputable def sm_nl (lo tb : Nat → Nat) (B : Nat → Prop) (k j : Nat) : Nat := @ite Nat (j < k ∧ B j) (Classical.propDecidable _) (tb j) (lo j)
theorem sm_nl0 {lo tb : Nat → Nat} {B : Nat → Prop} : sm_nl lo tb B 0 = lo := by
  funext j
  exact if_neg fun z => Nat.not_lt_zero j z.1
theorem sm_nlk {lo tb : Nat → Nat} {B : Nat → Prop} {k : Nat} : sm_nl lo tb B k k = lo k := if_neg fun z => Nat.lt_irrefl k z.1
theorem sm_nln {lo tb : Nat → Nat} {B : Nat → Prop} {k : Nat} (h : ¬ B k) : sm_nl lo tb B (k + 1) = sm_nl lo tb B k := by
  funext j
  unfold sm_nl
  by_cases z : j < k ∧ B j
  · rw [if_pos z, if_pos ⟨by omega, z.2⟩]
  · rw [if_neg z, if_neg fun y => z ⟨by
      have : j ≠ k := fun e => h (e ▸ y.2)
      omega, y.2⟩]
theorem sm_nls {lo tb : Nat → Nat} {B : Nat → Prop} {k : Nat} (h : B k) : sm_nl lo tb B (k + 1) = sm_up (sm_nl lo tb B k) k (tb k) := by
  funext j
  by_cases e : j = k
  · subst e
    rw [sm_us]
    exact if_pos ⟨Nat.lt_succ_self j, h⟩
  · rw [sm_un e]
    unfold sm_nl
    by_cases z : j < k ∧ B j
    · rw [if_pos z, if_pos ⟨by omega, z.2⟩]
    · rw [if_neg z, if_neg fun y => z ⟨by omega, y.2⟩]
theorem sm_nlx {lo tb tb' : Nat → Nat} {B : Nat → Prop} {k : Nat} (h : ∀ j, j < k → tb j = tb' j) : sm_nl lo tb B k = sm_nl lo tb' B k := by
  funext j
  unfold sm_nl
  by_cases z : j < k ∧ B j
  · rw [if_pos z, if_pos z, h j z.1]
  · rw [if_neg z, if_neg z]
def sm_T1 (lo hi rm : Nat → Nat) (B : Nat → Prop) (tb : Nat → Nat) (j : Nat) : Prop :=
  lo j ≤ tb j ∧ tb j ≤ hi j ∧ sm_FT (sm_nl lo tb B (j + 1)) (sm_nl hi tb B (j + 1)) rm B ∧
  ∀ s, lo j ≤ s → s < tb j → ¬ sm_FT (sm_up (sm_nl lo tb B j) j s) (sm_up (sm_nl hi tb B j) j s) rm B
def sm_Tab (lo hi rm : Nat → Nat) (B : Nat → Prop) (tb : Nat → Nat) : Prop := ∀ j, j < 7 → B j → sm_T1 lo hi rm B tb j
theorem sm_T1x {lo hi rm : Nat → Nat} {B : Nat → Prop} {tb tb' : Nat → Nat} {j : Nat} (h : ∀ i, i ≤ j → tb i = tb' i) (hT : sm_T1 lo hi rm B tb j) : sm_T1 lo hi rm B tb' j := by
  obtain ⟨a, b, c, d⟩ := hT
  have e0 := h j (Nat.le_refl j)
  have e1 : ∀ l : Nat → Nat, sm_nl l tb B (j + 1) = sm_nl l tb' B (j + 1) := fun l => sm_nlx fun i hi => h i (by omega)
  have e2 : ∀ l : Nat → Nat, sm_nl l tb B j = sm_nl l tb' B j := fun l => sm_nlx fun i hi => h i (by omega)
  rw [e0] at a b d
  rw [e1 lo, e1 hi] at c
  rw [e2 lo, e2 hi] at d
  exact ⟨a, b, c, d⟩
section
variable {f_capacity f_lineEnd f_freeSlot f_freeFor f_tableKnown : Int32} {a_used a_first a_last a_worths a_rooms a_seat a_load a_reached a_opener a_line a_savedSeat a_savedLoad a_savedFirst a_savedLast a_table : Nat → Int32}
theorem sx_fix {post : SX → Prop} {cap : Nat} {lo hi rm : Nat → Nat} {o : Nat → Option Nat} {k : Nat} (hk : k < cap) (hok : o k ≠ none)
    (hW : sx_WA cap lo hi rm a_first a_last a_rooms) (hP : sx_PL cap lo hi rm o a_seat a_load)
    (K : ∀ t o' fl fs ff fi la se ld re opn li, lo k ≤ t → t ≤ hi k → sx_WA cap (sm_up lo k t) (sm_up hi k t) rm fi la a_rooms → sx_PL cap (sm_up lo k t) (sm_up hi k t) rm o' se ld → (∀ i, o' i ≠ none ↔ o i ≠ none) →
      (∀ s, lo k ≤ s → s < t → ¬ sm_FT (sm_up lo k s) (sm_up hi k s) rm (fun i => o i ≠ none)) →
      post (nI cap, fl, fs, ff, f_tableKnown, a_used, fi, la, a_worths, a_rooms, se, ld, re, opn, li, a_savedSeat, a_savedLoad, a_savedFirst, a_savedLast, upd a_table k (nI t))) :
    wpX_fix post (nI cap, f_lineEnd, f_freeSlot, f_freeFor, f_tableKnown, a_used, a_first, a_last, a_worths, a_rooms, a_seat, a_load, a_reached, a_opener, a_line, a_savedSeat, a_savedLoad, a_savedFirst, a_savedLast, a_table) (nI k) := by
  obtain ⟨hc, w1, w2, w3, w4, w5, w6⟩ := hW
  obtain ⟨hV, hS, hoc⟩ := hP
  have hk7 : k < 7 := by omega
  obtain ⟨hs, ehs⟩ := sm_some hok
  have hv := hV.1 k hs ehs
  have ho : ∀ i t, o i = some t → t < 12 := fun i t e => (hV.1 i t e).2.2.2
  have hin : vp_in (nI k) 8 := vp_in_nI (by omega) (by decide)
  have ef : a_first (nI k).toNatClampNeg = nI (lo k) := by rw [nI_clamp (by omega)]; exact w4 k (by omega)
  have es : a_seat (nI k).toNatClampNeg = nI hs := by rw [nI_clamp (by omega), hS.1 k (by omega), ehs]; rfl
  refine And.intro hin (nm_r ef ⟨hin, nm_r es (sx_vacate hk7 ho hS fun se ld hS1 => ⟨hs + 1 - lo k + 2, ?_⟩)⟩)
  have hoff : ∀ i t, sm_up o k none i = some t → i ≠ k := fun i t h => (sm_out_some h).2
  have L : ∀ d s f_lineEnd f_freeSlot f_freeFor a_first a_last a_reached a_opener a_line, s + d = hs + 1 → lo k ≤ s → (∀ i, i < 8 → i ≠ k → a_first i = nI (lo i)) → (∀ i, i < 8 → i ≠ k → a_last i = nI (hi i)) →
      (∀ s', lo k ≤ s' → s' < s → ¬ sm_FT (sm_up lo k s') (sm_up hi k s') rm (fun i => o i ≠ none)) → s ≤ hs →
      wX_fix_25 post (nI k) (nI hs) (d + 2) 0 (nI s) (nI cap) f_lineEnd f_freeSlot f_freeFor f_tableKnown a_used a_first a_last a_worths a_rooms se ld a_reached a_opener a_line a_savedSeat a_savedLoad a_savedFirst a_savedLast a_table := by
    intro d
    induction d with
    | zero =>
      intro s f_lineEnd f_freeSlot f_freeFor a_first a_last a_reached a_opener a_line hd h1 hf hl hno hsh
      omega
    | succ d ih =>
      intro s f_lineEnd f_freeSlot f_freeFor a_first a_last a_reached a_opener a_line hd h1 hf hl hno hsh
      have hW' : sx_WA cap (sm_up lo k s) (sm_up hi k s) rm (upd a_first k (nI s)) (upd a_last k (nI s)) a_rooms := by
        refine ⟨hc, fun i => ?_, fun i => ?_, w3, fun i hi => ?_, fun i hi => ?_, w6⟩
        · by_cases e : i = k
          · rw [e, sm_us, sm_us]; exact Nat.le_refl _
          · rw [sm_un e, sm_un e]; exact w1 i
        · by_cases e : i = k
          · rw [e, sm_us]; omega
          · rw [sm_un e]; exact w2 i
        · by_cases e : i = k
          · rw [e, sm_us, sx_us]
          · rw [sm_un e, sx_un e]; exact hf i hi e
        · by_cases e : i = k
          · rw [e, sm_us, sx_us]
          · rw [sm_un e, sx_un e]; exact hl i hi e
      have hP' : sx_PL cap (sm_up lo k s) (sm_up hi k s) rm (sm_up o k none) se ld := ⟨⟨fun i t h => by
        rw [sm_un (hoff i t h), sm_un (hoff i t h)]
        exact hV.1 i t (sm_out_some h).1, (sm_Val_out hV hk7).2⟩, hS1, fun i t h => hoc i t (sm_out_some h).1⟩
      refine br_f (nI_nlt hsh (by omega)) (br_t rfl ⟨hin, nm_r (e' := upd a_first k (nI s)) ?_ ⟨hin, nm_r (e' := upd a_last k (nI s)) ?_ (sx_place hk7 hW' hP' sm_us (fun o' fl fs ff se' ld' re opn li hV' hpl hS' => nm_r (nI_1 s) ?_) (fun fl fs ff re opn li _ hCl => nm_r (nI_1 s) ?_))⟩⟩)
      · rw [nI_clamp (by omega), sx_by2 (by omega)]
      · rw [nI_clamp (by omega), sx_by2 (by omega)]
      · have hpl' : ∀ i, o' i ≠ none ↔ o i ≠ none := fun i => (hpl i).trans ⟨fun z => z.elim (fun y => (sm_out_none y).1) (fun y => y ▸ hok), fun z => by
          by_cases e : i = k
          · exact Or.inr e
          · exact Or.inl (sm_out_iff.mpr ⟨z, e⟩)⟩
        obtain ⟨t, et⟩ := sm_some ((hpl' k).mpr hok)
        have hvt := hV'.1 k t et
        rw [sm_us, sm_us] at hvt
        have ets : t = s := by omega
        subst ets
        have hX : wX_fix_67 post (nI k) (nI cap) fl fs ff f_tableKnown a_used (upd a_first k (nI t)) (upd a_last k (nI t)) a_worths a_rooms se' ld' re opn li a_savedSeat a_savedLoad a_savedFirst a_savedLast a_table := by
          refine And.intro hin ⟨hin, nm_r (e' := upd a_table k (nI t)) ?_ (K t o' _ _ _ _ _ _ _ _ _ _ h1 (by omega) hW' ⟨hV', hS', fun i t h => ?_⟩ hpl' hno)⟩
          · rw [nI_clamp (by omega), hS'.1 k (by omega), et]; exact congrArg (upd a_table k) (sx_by (by omega))
          · obtain ⟨t', e'⟩ := sm_some ((hpl' i).mp (sm_ns h))
            exact hoc i t' e'
        exact br_c (fun _ => hX) (fun _ => br_f (by decide) hX)
      · have hlt : s < hs := by
          by_cases z : s = hs
          · exfalso
            subst z
            have c := (hCl k sm_Rc_0 s (by rw [sm_us]; exact Nat.le_refl s) (by rw [sm_us]; exact Nat.le_refl s)).1
            have l := sm_ld_up (o := o) hk7 none s
            rw [sm_cb1 ehs, sm_cb0 (p := none = some s) (fun z => nomatch z)] at l
            have := hV.2 s
            omega
          · omega
        refine ih (s + 1) _ _ _ _ _ _ _ _ (by omega) (by omega) (fun i hi e => by rw [sx_un e]; exact hf i hi e) (fun i hi e => by rw [sx_un e]; exact hl i hi e) (fun s' h1' h2' => ?_) (by omega)
        by_cases e : s' = s
        · subst e
          rintro ⟨q, hq, hqp⟩
          refine sm_nofit hk7 sm_us hP'.1 sm_Rc_0 hCl (fun i h => sm_Rc_pl h) hq fun i hi => (hqp i).mpr ?_
          exact hi.elim (fun z => (sm_out_none z).1) (fun z => z ▸ hok)
        · exact hno s' h1' (by omega)
  exact L (hs + 1 - lo k) (lo k) _ _ _ _ _ _ _ _ (by omega) (Nat.le_refl _) (fun i hi _ => w4 i hi) (fun i hi _ => w5 i hi) (fun s' h1 h2 => absurd h1 (by omega)) hv.2.1
theorem sx_makeTable {post : SX → Prop} {cap : Nat} {lo hi rm : Nat → Nat} {o : Nat → Option Nat}
    (hW : sx_WA cap lo hi rm a_first a_last a_rooms) (hP : sx_PL cap lo hi rm o a_seat a_load)
    (K : ∀ tb fl fs ff fi la se ld re opn li ss sl sf st ta, sm_Tab lo hi rm (fun i => o i ≠ none) tb → (∀ j, j < 7 → o j ≠ none → ta j = nI (tb j)) → sx_WA cap lo hi rm fi la a_rooms → sx_PL cap lo hi rm o se ld →
      post (nI cap, fl, fs, ff, 1, a_used, fi, la, a_worths, a_rooms, se, ld, re, opn, li, ss, sl, sf, st, ta)) :
    wpX_makeTable post (nI cap, f_lineEnd, f_freeSlot, f_freeFor, f_tableKnown, a_used, a_first, a_last, a_worths, a_rooms, a_seat, a_load, a_reached, a_opener, a_line, a_savedSeat, a_savedLoad, a_savedFirst, a_savedLast, a_table) := by
  obtain ⟨hc, w1, w2, w3, w4, w5, w6⟩ := hW
  obtain ⟨hV, hS, hoc⟩ := hP
  have ho : ∀ i t, o i = some t → t < 12 := fun i t e => (hV.1 i t e).2.2.2
  have hcap : ∀ i, o i ≠ none → i < cap := fun i h => by
    obtain ⟨t, e⟩ := sm_some h
    exact hoc i t e
  -- the windows come back
  have L79 : ∀ d i f_lineEnd f_freeSlot f_freeFor a_first a_last a_seat a_load a_reached a_opener a_line a_savedSeat a_savedLoad a_savedFirst a_savedLast a_table tb, i + d = 8 → sx_SE o a_savedSeat a_savedLoad → (∀ x, x < 8 → a_savedFirst x = nI (lo x)) → (∀ x, x < 8 → a_savedLast x = nI (hi x)) →
      (∀ x, x < i → a_first x = nI (lo x)) → (∀ x, x < i → a_last x = nI (hi x)) → sm_Tab lo hi rm (fun i => o i ≠ none) tb → (∀ j, j < 7 → o j ≠ none → a_table j = nI (tb j)) →
      wX_makeTable_79 post (nI cap) f_lineEnd f_freeSlot f_freeFor 1 (d + 1) (nI i) a_used a_first a_last a_worths a_rooms a_seat a_load a_reached a_opener a_line a_savedSeat a_savedLoad a_savedFirst a_savedLast a_table := by
    intro d
    induction d with
    | zero =>
      intro i f_lineEnd f_freeSlot f_freeFor a_first a_last a_seat a_load a_reached a_opener a_line a_savedSeat a_savedLoad a_savedFirst a_savedLast a_table tb hd h1 h2 h3 h4 h5 h6 h7
      exact br_t (nI_le (a := 8) (by omega) (by omega)) (sx_restore ho h1 fun se ld hS1 => K tb _ _ _ _ _ _ _ _ _ _ _ _ _ _ _ h6 h7 ⟨hc, w1, w2, w3, fun x hx => h4 x (by omega), fun x hx => h5 x (by omega), w6⟩ ⟨hV, hS1, hoc⟩)
    | succ d ih =>
      intro i f_lineEnd f_freeSlot f_freeFor a_first a_last a_seat a_load a_reached a_opener a_line a_savedSeat a_savedLoad a_savedFirst a_savedLast a_table tb hd h1 h2 h3 h4 h5 h6 h7
      have is : vp_in (nI i) 8 := vp_in_nI (by omega) (by decide)
      have a1 := w1 i
      have a2 := w2 i
      refine br_f (nI_ge (b := 8) (by omega) (by decide)) ⟨is, is, nm_r (e' := upd a_first i (nI (lo i))) ?_ ⟨is, is, nm_r (e' := upd a_last i (nI (hi i))) ?_ (nm_r (nI_1 i) (ih (i + 1) _ _ _ _ _ _ _ _ _ _ _ _ _ _ _ tb (by omega) h1 h2 h3 (fun x hx => ?_) (fun x hx => ?_) h6 h7))⟩⟩
      · rw [nI_clamp (by omega), h2 i (by omega), sx_by (by omega)]
      · rw [nI_clamp (by omega), h3 i (by omega), sx_by (by omega)]
      · by_cases e : x = i
        · rw [e, sx_us]
        · rw [sx_un e]; exact h4 x (by omega)
      · by_cases e : x = i
        · rw [e, sx_us]
        · rw [sx_un e]; exact h5 x (by omega)
  -- one job after the other
  have L49 : ∀ d k f_lineEnd f_freeSlot f_freeFor a_first a_last a_seat a_load a_reached a_opener a_line a_savedSeat a_savedLoad a_savedFirst a_savedLast a_table tb o1, k + d = cap → sx_SE o a_savedSeat a_savedLoad → (∀ x, x < 8 → a_savedFirst x = nI (lo x)) → (∀ x, x < 8 → a_savedLast x = nI (hi x)) →
      sx_WA cap (sm_nl lo tb (fun i => o i ≠ none) k) (sm_nl hi tb (fun i => o i ≠ none) k) rm a_first a_last a_rooms → sx_PL cap (sm_nl lo tb (fun i => o i ≠ none) k) (sm_nl hi tb (fun i => o i ≠ none) k) rm o1 a_seat a_load → (∀ i, o1 i ≠ none ↔ o i ≠ none) →
      (∀ j, j < k → o j ≠ none → sm_T1 lo hi rm (fun i => o i ≠ none) tb j ∧ a_table j = nI (tb j)) →
      wX_makeTable_49 post (d + 1) (nI k) (nI cap) f_lineEnd f_freeSlot f_freeFor 1 a_used a_first a_last a_worths a_rooms a_seat a_load a_reached a_opener a_line a_savedSeat a_savedLoad a_savedFirst a_savedLast a_table := by
    intro d
    induction d with
    | zero =>
      intro k f_lineEnd f_freeSlot f_freeFor a_first a_last a_seat a_load a_reached a_opener a_line a_savedSeat a_savedLoad a_savedFirst a_savedLast a_table tb o1 hd h1 h2 h3 h4 h5 h6 h7
      exact br_t (nI_le (by omega) (by omega)) ⟨9, L79 8 0 _ _ _ _ _ _ _ _ _ _ _ _ _ _ _ tb rfl h1 h2 h3 (fun x hx => absurd hx (Nat.not_lt_zero x)) (fun x hx => absurd hx (Nat.not_lt_zero x)) (fun j _ hj => (h7 j (by have := hcap j hj; omega) hj).1) fun j _ hj => (h7 j (by have := hcap j hj; omega) hj).2⟩
    | succ d ih =>
      intro k f_lineEnd f_freeSlot f_freeFor a_first a_last a_seat a_load a_reached a_opener a_line a_savedSeat a_savedLoad a_savedFirst a_savedLast a_table tb o1 hd h1 h2 h3 h4 h5 h6 h7
      have es : a_seat (nI k).toNatClampNeg = sx_eO (o1 k) := by rw [nI_clamp (by omega)]; exact h5.2.1.1 k (by omega)
      refine br_f (nI_ge (by omega) (by omega)) ⟨vp_in_nI (by omega) (by decide), ?_⟩
      rw [es]
      by_cases hk : o1 k = none
      · have hBk : ¬ o k ≠ none := fun z => (h6 k).mpr z hk
        have en : ∀ l : Nat → Nat, sm_nl l tb (fun i => o i ≠ none) (k + 1) = sm_nl l tb (fun i => o i ≠ none) k := fun l => sm_nln hBk
        refine br_t (sx_eO_n hk) (nm_r (nI_1 k) (ih (k + 1) _ _ _ _ _ _ _ _ _ _ _ _ _ _ _ tb o1 (by omega) h1 h2 h3 ?_ ?_ h6 fun j hj hBj => ?_))
        · rw [en lo, en hi]; exact h4
        · rw [en lo, en hi]; exact h5
        · exact h7 j (by
            have : j ≠ k := fun e => hBk (e ▸ hBj)
            omega) hBj
      · obtain ⟨q, eq⟩ := sm_some hk
        have hBk : o k ≠ none := (h6 k).mp hk
        have hq := (h5.1.1 k q eq).2.2.2
        refine br_f (sx_eO_s eq (by omega)) (sx_fix (by omega) hk h4 h5 fun t o2 fl fs ff fi la se ld re opn li a1 a2 a3 a4 a5 a6 => nm_r (nI_1 k) ?_)
        rw [sm_nlk] at a1 a2
        have hx : ∀ j, j < k → tb j = sm_up tb k t j := fun j hj => (sm_un (by omega)).symm
        have en : ∀ l : Nat → Nat, sm_nl l (sm_up tb k t) (fun i => o i ≠ none) (k + 1) = sm_up (sm_nl l tb (fun i => o i ≠ none) k) k t := fun l => by
          rw [sm_nls (k := k) hBk, sm_us, sm_nlx hx]
        have hpl2 : ∀ i, o2 i ≠ none ↔ o i ≠ none := fun i => (a5 i).trans (h6 i)
        refine ih (k + 1) _ _ _ _ _ _ _ _ _ _ _ _ _ _ _ (sm_up tb k t) o2 (by omega) h1 h2 h3 ?_ ?_ hpl2 fun j hj hBj => ?_
        · rw [en lo, en hi]; exact a3
        · rw [en lo, en hi]; exact a4
        · by_cases e : j = k
          · subst e
            refine ⟨⟨?_, ?_, ?_, fun s s1 s2 hF => ?_⟩, ?_⟩
            · rw [sm_us]; exact a1
            · rw [sm_us]; exact a2
            · rw [en lo, en hi]; exact ⟨o2, a4.1, hpl2⟩
            · rw [sm_us] at s2
              rw [← sm_nlx hx, ← sm_nlx hx] at hF
              obtain ⟨q', b1, b2⟩ := hF
              exact a6 s (by rw [sm_nlk]; exact s1) s2 ⟨q', b1, fun i => (b2 i).trans (h6 i).symm⟩
            · rw [sx_us, sm_us]
          · have h := h7 j (by omega) hBj
            refine ⟨sm_T1x (fun i hi => hx i (by omega)) h.1, ?_⟩
            rw [sx_un e, sm_un e]; exact h.2
  -- the windows are saved
  have L11 : ∀ d i a_savedSeat a_savedLoad a_savedFirst a_savedLast, i + d = 8 → sx_SE o a_savedSeat a_savedLoad → (∀ x, x < i → a_savedFirst x = nI (lo x)) → (∀ x, x < i → a_savedLast x = nI (hi x)) →
      wX_makeTable_11 post (nI cap) f_lineEnd f_freeSlot f_freeFor 1 (d + 1) (nI i) a_used a_first a_last a_worths a_rooms a_seat a_load a_reached a_opener a_line a_savedSeat a_savedLoad a_savedFirst a_savedLast a_table := by
    intro d
    induction d with
    | zero =>
      intro i a_savedSeat a_savedLoad a_savedFirst a_savedLast hd h1 h2 h3
      refine br_t (nI_le (a := 8) (by omega) (by omega)) ⟨cap + 1, L49 cap 0 _ _ _ _ _ _ _ _ _ _ _ _ _ _ _ (fun _ => 0) o (by omega) h1 (fun x hx => h2 x (by omega)) (fun x hx => h3 x (by omega)) ?_ ?_ (fun _ => Iff.rfl) fun j hj => absurd hj (Nat.not_lt_zero j)⟩
      · rw [sm_nl0, sm_nl0]; exact ⟨hc, w1, w2, w3, w4, w5, w6⟩
      · rw [sm_nl0, sm_nl0]; exact ⟨hV, hS, hoc⟩
    | succ d ih =>
      intro i a_savedSeat a_savedLoad a_savedFirst a_savedLast hd h1 h2 h3
      have is : vp_in (nI i) 8 := vp_in_nI (by omega) (by decide)
      have a1 := w1 i
      have a2 := w2 i
      refine br_f (nI_ge (b := 8) (by omega) (by decide)) ⟨is, is, nm_r (e' := upd a_savedFirst i (nI (lo i))) ?_ ⟨is, is, nm_r (e' := upd a_savedLast i (nI (hi i))) ?_ (nm_r (nI_1 i) (ih (i + 1) _ _ _ _ (by omega) h1 (fun x hx => ?_) (fun x hx => ?_)))⟩⟩
      · rw [nI_clamp (by omega), w4 i (by omega), sx_by (by omega)]
      · rw [nI_clamp (by omega), w5 i (by omega), sx_by (by omega)]
      · by_cases e : x = i
        · rw [e, sx_us]
        · rw [sx_un e]; exact h2 x (by omega)
      · by_cases e : x = i
        · rw [e, sx_us]
        · rw [sx_un e]; exact h3 x (by omega)
  exact sx_save ho hS fun ss sl hSS => ⟨9, L11 8 0 _ _ _ _ rfl hSS (fun x hx => absurd hx (Nat.not_lt_zero x)) fun x hx => absurd hx (Nat.not_lt_zero x)⟩
end
end
section
/-! the reference: the first timetable -/
theorem sm_Fm_FT {lo hi rm : Nat → Nat} {B : Nat → Prop} (hB : ∀ i, B i → i < 7) : sm_Fm lo hi rm (sm_mk B 7) (sm_mk B 7) ↔ sm_FT lo hi rm B := by
  have hmk : ∀ i, (sm_bt (sm_mk B 7) i ↔ B i) := fun i => by
    by_cases hi : i < 7
    · exact sm_mk_bt B hi
    · exact ⟨fun z => absurd (sm_bt7 (sm_mk128 _) z) hi, fun z => absurd (hB i z) hi⟩
  constructor
  · rintro ⟨_, q, hq, hp⟩
    exact ⟨q, hq, fun i => (hp i).trans (hmk i)⟩
  · rintro ⟨q, hq, hp⟩
    exact ⟨fun _ h => h, q, hq, fun i => (hp i).trans (hmk i).symm⟩
section
variable {f_cap : Int32} {a_rooms a_held a_from a_to a_value a_lo a_hi a_can : Nat → Int32}
theorem sy_settle {post : Int32 → SY → Prop} {lo hi l0 h0 rm : Nat → Nat} {B : Nat → Prop} {j t : Nat} (hj : j < 7) (hB : ∀ i, B i → i < 7) (hr : ∀ s, s < 12 → a_rooms s = nI (rm s)) (hr4 : ∀ s, rm s ≤ 4)
    (hf : sy_WL l0 a_from) (ht : sy_WL h0 a_to) (hl : sy_WL lo a_lo) (hh : sy_WL hi a_hi) (hlo : ∀ i, lo i ≤ 11) (hhi : ∀ i, hi i ≤ 11) (h11 : h0 j ≤ 11)
    (h1 : l0 j ≤ t) (h2 : t ≤ h0 j) (hF : sm_FT (sm_up lo j t) (sm_up hi j t) rm B) (hN : ∀ s, l0 j ≤ s → s < t → ¬ sm_FT (sm_up lo j s) (sm_up hi j s) rm B)
    (K : ∀ l h c, sy_WL (sm_up lo j t) l → sy_WL (sm_up hi j t) h → post (nI t) (f_cap, a_rooms, a_held, a_from, a_to, a_value, l, h, c)) : wpY_settle post (f_cap, a_rooms, a_held, a_from, a_to, a_value, a_lo, a_hi, a_can) (nI j) (nI (sm_mk B 7)) := by
  have hin : vp_in (nI j) 7 := vp_in_nI hj (by decide)
  have hm := sm_mk128 B
  have ef : a_from (nI j).toNatClampNeg = nI (l0 j) := by rw [nI_clamp (by omega)]; exact hf j hj
  have et : a_to (nI j).toNatClampNeg = nI (h0 j) := by rw [nI_clamp (by omega)]; exact ht j hj
  have L : ∀ d s a_lo a_hi a_can, s + d = t → l0 j ≤ s → (∀ i, i < 7 → i ≠ j → a_lo i = nI (lo i)) → (∀ i, i < 7 → i ≠ j → a_hi i = nI (hi i)) → wY_settle_7 post (nI j) (nI (sm_mk B 7)) (d + 1) (nI s) f_cap a_rooms a_held a_from a_to a_value a_lo a_hi a_can := by
    intro d
    induction d with
    | zero =>
      intro s a_lo a_hi a_can hd hs hl hh
      have : s = t := by omega
      subst this
      have hl' : sy_WL (sm_up lo j s) (upd a_lo j (nI s)) := fun i hi => by
        by_cases e : i = j
        · rw [e, sm_us, sx_us]
        · rw [sm_un e, sx_un e]; exact hl i hi e
      have hh' : sy_WL (sm_up hi j s) (upd a_hi j (nI s)) := fun i hi => by
        by_cases e : i = j
        · rw [e, sm_us, sx_us]
        · rw [sm_un e, sx_un e]; exact hh i hi e
      refine And.intro hin (br_f (by rw [et]; exact nI_nlt h2 (by omega)) ⟨hin, nm_r (e' := upd a_lo j (nI s)) (by rw [nI_clamp (by omega)]) ⟨hin, nm_r (e' := upd a_hi j (nI s)) (by rw [nI_clamp (by omega)]) (sy_sweep hr hr4 hl' hh' ?_ ?_ hm fun c hc => ?_)⟩⟩)
      · intro i
        by_cases e : i = j
        · rw [e, sm_us]; omega
        · rw [sm_un e]; exact hlo i
      · intro i
        by_cases e : i = j
        · rw [e, sm_us]; omega
        · rw [sm_un e]; exact hhi i
      · show vp_in (nI (sm_mk B 7) &&& 127) 128 ∧ _
        rw [sx_and127 _ hm]
        refine ⟨vp_in_nI hm (by decide), br_f (fun z => ?_) (K _ _ _ hl' hh')⟩
        rw [nI_clamp (by omega), hc _ hm] at z
        exact sx_bI_0.mp z ((sm_Fm_FT hB).mpr hF)
    | succ d ih =>
      intro s a_lo a_hi a_can hd hs hl hh
      have hl' : sy_WL (sm_up lo j s) (upd a_lo j (nI s)) := fun i hi => by
        by_cases e : i = j
        · rw [e, sm_us, sx_us]
        · rw [sm_un e, sx_un e]; exact hl i hi e
      have hh' : sy_WL (sm_up hi j s) (upd a_hi j (nI s)) := fun i hi => by
        by_cases e : i = j
        · rw [e, sm_us, sx_us]
        · rw [sm_un e, sx_un e]; exact hh i hi e
      refine And.intro hin (br_f (by rw [et]; exact nI_nlt (by omega) (by omega)) ⟨hin, nm_r (e' := upd a_lo j (nI s)) (by rw [nI_clamp (by omega)]) ⟨hin, nm_r (e' := upd a_hi j (nI s)) (by rw [nI_clamp (by omega)]) (sy_sweep hr hr4 hl' hh' ?_ ?_ hm fun c hc => ?_)⟩⟩)
      · intro i
        by_cases e : i = j
        · rw [e, sm_us]; omega
        · rw [sm_un e]; exact hlo i
      · intro i
        by_cases e : i = j
        · rw [e, sm_us]; omega
        · rw [sm_un e]; exact hhi i
      · show vp_in (nI (sm_mk B 7) &&& 127) 128 ∧ _
        rw [sx_and127 _ hm]
        refine ⟨vp_in_nI hm (by decide), br_t ?_ (nm_r (nI_1 s) (ih (s + 1) _ _ _ (by omega) (by omega) (fun i hi e => by rw [sx_un e]; exact hl i hi e) fun i hi e => by rw [sx_un e]; exact hh i hi e))⟩
        rw [nI_clamp (by omega), hc _ hm]
        exact sx_bI0 fun z => hN s hs (by omega) ((sm_Fm_FT hB).mp z)
  exact And.intro hin (nm_r ef ⟨t - l0 j + 1, L (t - l0 j) (l0 j) _ _ _ (by omega) (Nat.le_refl _) (fun i hi _ => hl i hi) fun i hi _ => hh i hi⟩)
theorem sm_nl11 {lo tb : Nat → Nat} {B : Nat → Prop} {k : Nat} (h : ∀ i, lo i ≤ 11) (ht : ∀ i, i < k → B i → tb i ≤ 11) (i : Nat) : sm_nl lo tb B k i ≤ 11 := by
  unfold sm_nl
  by_cases z : i < k ∧ B i
  · rw [if_pos z]; exact ht i z.1 z.2
  · rw [if_neg z]; exact h i
theorem sy_slot28 {post : Int32 → SY → Prop} {lo hi rm : Nat → Nat} {B : Nat → Prop} {tb : Nat → Nat} {id : Nat} (hid : id < 7) (hBid : B id) (hB : ∀ i, B i → i < 7) (hr : ∀ s, s < 12 → a_rooms s = nI (rm s)) (hr4 : ∀ s, rm s ≤ 4)
    (hf : sy_WL lo a_from) (ht : sy_WL hi a_to) (b2 : ∀ i, lo i ≤ hi i) (b3 : ∀ i, hi i ≤ 11) (hT : sm_Tab lo hi rm B tb) (hl : sy_WL lo a_lo) (hh : sy_WL hi a_hi)
    (K : ∀ l h c, post (nI (tb id)) (f_cap, a_rooms, a_held, a_from, a_to, a_value, l, h, c)) : wY_slotOf_28 post (nI id) (nI (sm_mk B 7)) 9 (-1) 0 f_cap a_rooms a_held a_from a_to a_value a_lo a_hi a_can := by
  have hm := sm_mk128 B
  have L : ∀ d k x a_lo a_hi a_can fu, k + d = id + 1 → d + 1 ≤ fu → (k = id + 1 → x = nI (tb id)) → sy_WL (sm_nl lo tb B k) a_lo → sy_WL (sm_nl hi tb B k) a_hi → wY_slotOf_28 post (nI id) (nI (sm_mk B 7)) fu x (nI k) f_cap a_rooms a_held a_from a_to a_value a_lo a_hi a_can := by
    intro d
    induction d with
    | zero =>
      intro k x a_lo a_hi a_can fu hd hfu hx hl hh
      obtain ⟨fu, rfl⟩ : ∃ y, fu = y + 1 := ⟨fu - 1, by omega⟩
      refine br_t (nI_lt (by omega) (by omega)) ?_
      rw [hx (by omega)]; exact K _ _ _
    | succ d ih =>
      intro k x a_lo a_hi a_can fu hd hfu hx hl hh
      obtain ⟨fu, rfl⟩ : ∃ y, fu = y + 1 := ⟨fu - 1, by omega⟩
      have hk7 : k < 7 := by omega
      refine br_f (nI_nlt (by omega) (by omega)) (br_f (nI_ge (b := 7) hk7 (by decide)) ?_)
      by_cases hBk : B k
      · have hT1 := hT k hk7 hBk
        have en : ∀ l : Nat → Nat, sm_nl l tb B (k + 1) = sm_up (sm_nl l tb B k) k (tb k) := fun l => sm_nls hBk
        have t11 : ∀ i, i < k → B i → tb i ≤ 11 := fun i _ hBi => Nat.le_trans (hT i (hB i hBi) hBi).2.1 (b3 i)
        refine br_t ((sx_bit1 hm hk7).mpr ((sm_mk_bt B hk7).mpr hBk)) (sy_settle (lo := sm_nl lo tb B k) (hi := sm_nl hi tb B k) (t := tb k) hk7 hB hr hr4 hf ht hl hh (sm_nl11 (fun i => Nat.le_trans (b2 i) (b3 i)) t11) (sm_nl11 b3 t11) (b3 k) hT1.1 hT1.2.1 ?_ hT1.2.2.2 fun l h c hl' hh' => nm_r (nI_1 k) (ih (k + 1) _ _ _ _ fu (by omega) (by omega) (fun e => by
          have : k = id := by omega
          rw [this]) ?_ ?_))
        · rw [← en lo, ← en hi]; exact hT1.2.2.1
        · rw [en lo]; exact hl'
        · rw [en hi]; exact hh'
      · have en : ∀ l : Nat → Nat, sm_nl l tb B (k + 1) = sm_nl l tb B k := fun l => sm_nln hBk
        refine br_f (fun z => hBk ((sm_mk_bt B hk7).mp ((sx_bit1 hm hk7).mp z))) (nm_r (nI_1 k) (ih (k + 1) _ _ _ _ fu (by omega) (by omega) (fun e => ?_) ?_ ?_))
        · have : k = id := by omega
          exact absurd (this ▸ hBid) hBk
        · rw [en lo]; exact hl
        · rw [en hi]; exact hh
  exact L (id + 1) 0 (-1) _ _ _ 9 (by omega) (by omega) (fun e => absurd e (by omega)) (by rw [sm_nl0]; exact hl) (by rw [sm_nl0]; exact hh)
theorem sy_slotOf1 {post : Int32 → SY → Prop} {us : Nat → Prop} {lo hi rm w : Nat → Nat} {o : Nat → Option Nat} {tb : Nat → Nat} {id : Nat} (hY : sy_YA us lo hi rm w a_rooms a_held a_from a_to a_value) (hB : sy_BD us lo hi rm w)
    (hV : sm_Val lo hi rm o) (hU : ∀ i, o i ≠ none → us i) (hD : sm_Dom lo hi rm w us (fun i => o i ≠ none)) (hoi : o id ≠ none) (hT : sm_Tab lo hi rm (fun i => o i ≠ none) tb)
    (K : ∀ l h c, post (nI (tb id)) (f_cap, a_rooms, a_held, a_from, a_to, a_value, l, h, c)) : wpY_slotOf post (f_cap, a_rooms, a_held, a_from, a_to, a_value, a_lo, a_hi, a_can) (nI id) := by
  have hid := hB.1 id (hU id hoi)
  have hm := sm_mk128 (fun i => o i ≠ none)
  refine sy_chosen hY hB hV hU hD fun l h c hl hh => sy_there1 hY.2.1 hid (hU id hoi) (br_f (by decide) (br_f (fun z => ?_) ⟨9, sy_slot28 hid hoi (fun i hi => hB.1 i (hU i hi)) hY.1 hB.2.2.2.1 hY.2.2.1 hY.2.2.2.1 hB.2.1 hB.2.2.1 hT hl hh K⟩))
  exact (sx_bit0 hm hid).mp z ((sm_mk_bt (fun i => o i ≠ none) hid).mpr hoi)
theorem sy_slotOf0 {post : Int32 → SY → Prop} {us : Nat → Prop} {lo hi rm w : Nat → Nat} {o : Nat → Option Nat} {v : Int32} (hY : sy_YA us lo hi rm w a_rooms a_held a_from a_to a_value) (hB : sy_BD us lo hi rm w)
    (hV : sm_Val lo hi rm o) (hU : ∀ i, o i ≠ none → us i) (hD : sm_Dom lo hi rm w us (fun i => o i ≠ none)) (hv : ¬ ∃ j, o j ≠ none ∧ v = nI j)
    (K : ∀ l h c, post (-1) (f_cap, a_rooms, a_held, a_from, a_to, a_value, l, h, c)) : wpY_slotOf post (f_cap, a_rooms, a_held, a_from, a_to, a_value, a_lo, a_hi, a_can) v := by
  have hm := sm_mk128 (fun i => o i ≠ none)
  refine sy_chosen hY hB hV hU hD fun l h c hl hh => ?_
  by_cases hu : ∃ j, us j ∧ v = nI j
  · obtain ⟨j, hj, rfl⟩ := hu
    have hj7 := hB.1 j hj
    refine sy_there1 hY.2.1 hj7 hj (br_f (by decide) (br_t ((sx_bit0 hm hj7).mpr fun z => hv ⟨j, (sm_mk_bt (fun i => o i ≠ none) hj7).mp z, rfl⟩) (K _ _ _)))
  · exact sy_there0 hY.2.1 hu (br_t rfl (K _ _ _))
end
end
section
/-! the relation -/
def sr_F (cap : Nat) (us : Nat → Prop) (lo hi rm w : Nat → Nat) (o : Nat → Option Nat) (f_tableKnown : Int32) (a_used a_first a_last a_worths a_rooms a_seat a_load a_table b_rooms a_held a_from a_to a_value : Nat → Int32) : Prop :=
  (1 ≤ cap ∧ ∀ i, us i → 1 ≤ w i) ∧ (∀ s, rm s ≤ 3) ∧ sx_WO w a_worths ∧ sx_US cap us a_used ∧ sx_WA cap lo hi rm a_first a_last a_rooms ∧ sx_GD cap lo hi rm w us o a_seat a_load ∧ sy_YA us lo hi rm w b_rooms a_held a_from a_to a_value ∧
  (f_tableKnown = 0 ∨ ∃ tb, sm_Tab lo hi rm (fun i => o i ≠ none) tb ∧ ∀ j, j < 7 → o j ≠ none → a_table j = nI (tb j))
def sr_U (u : SX) (v : SY) : Prop := match u, v with
  | (f_capacity, f_lineEnd, f_freeSlot, f_freeFor, f_tableKnown, a_used, a_first, a_last, a_worths, a_rooms, a_seat, a_load, a_reached, a_opener, a_line, a_savedSeat, a_savedLoad, a_savedFirst, a_savedLast, a_table), (f_cap, b_rooms, a_held, a_from, a_to, a_value, a_lo, a_hi, a_can) => ∃ cap us lo hi rm w o, f_capacity = nI cap ∧ f_cap = nI cap ∧ sr_F cap us lo hi rm w o f_tableKnown a_used a_first a_last a_worths a_rooms a_seat a_load a_table b_rooms a_held a_from a_to a_value
/-- one best set of placed jobs on both sides; the table, if known, is the first timetable -/
def i_Rel (_ : Nat) (u : SX) (v : SY) : Prop := sr_U u v
theorem i_up {k : Nat} {u : SX} {v : SY} (h : i_Rel k u v) : i_Rel (k + 4) u v := h
section
variable {f_capacity f_lineEnd f_freeSlot f_freeFor f_tableKnown : Int32} {a_used a_first a_last a_worths a_rooms a_seat a_load a_reached a_opener a_line a_savedSeat a_savedLoad a_savedFirst a_savedLast a_table : Nat → Int32} {b_rooms a_held a_from a_to a_value a_lo a_hi a_can : Nat → Int32}
theorem sr_in {k cap : Nat} {us : Nat → Prop} {lo hi rm w : Nat → Nat} {o : Nat → Option Nat} (h : sr_F cap us lo hi rm w o f_tableKnown a_used a_first a_last a_worths a_rooms a_seat a_load a_table b_rooms a_held a_from a_to a_value) :
    i_Rel k (nI cap, f_lineEnd, f_freeSlot, f_freeFor, f_tableKnown, a_used, a_first, a_last, a_worths, a_rooms, a_seat, a_load, a_reached, a_opener, a_line, a_savedSeat, a_savedLoad, a_savedFirst, a_savedLast, a_table) (nI cap, b_rooms, a_held, a_from, a_to, a_value, a_lo, a_hi, a_can) := ⟨cap, us, lo, hi, rm, w, o, rfl, rfl, h⟩
end
theorem sr_el {P : SX → SY → Prop} {k : Nat} {u : SX} {v : SY}
    (h : ∀ (cap : Nat) (us : Nat → Prop) (lo hi rm w : Nat → Nat) (o : Nat → Option Nat) (f_lineEnd f_freeSlot f_freeFor f_tableKnown : Int32) (a_used a_first a_last a_worths a_rooms a_seat a_load a_reached a_opener a_line a_savedSeat a_savedLoad a_savedFirst a_savedLast a_table b_rooms a_held a_from a_to a_value a_lo a_hi a_can : Nat → Int32),
      sr_F cap us lo hi rm w o f_tableKnown a_used a_first a_last a_worths a_rooms a_seat a_load a_table b_rooms a_held a_from a_to a_value → P (nI cap, f_lineEnd, f_freeSlot, f_freeFor, f_tableKnown, a_used, a_first, a_last, a_worths, a_rooms, a_seat, a_load, a_reached, a_opener, a_line, a_savedSeat, a_savedLoad, a_savedFirst, a_savedLast, a_table) (nI cap, b_rooms, a_held, a_from, a_to, a_value, a_lo, a_hi, a_can)) (I : i_Rel k u v) : P u v := by
  obtain ⟨f_capacity, f_lineEnd, f_freeSlot, f_freeFor, f_tableKnown, a_used, a_first, a_last, a_worths, a_rooms, a_seat, a_load, a_reached, a_opener, a_line, a_savedSeat, a_savedLoad, a_savedFirst, a_savedLast, a_table⟩ := u
  obtain ⟨f_cap, b_rooms, a_held, a_from, a_to, a_value, a_lo, a_hi, a_can⟩ := v
  obtain ⟨cap, us, lo, hi, rm, w, o, e1, e2, hF⟩ := I
  subst e1
  subst e2
  exact h cap us lo hi rm w o _ _ _ _ _ _ _ _ _ _ _ _ _ _ _ _ _ _ _ _ _ _ _ _ _ _ _ hF
theorem sr_BD {cap : Nat} {us : Nat → Prop} {lo hi rm w : Nat → Nat} {a_worths a_used a_first a_last a_rooms : Nat → Int32} (hw : sx_WO w a_worths) (hu : sx_US cap us a_used) (hW : sx_WA cap lo hi rm a_first a_last a_rooms) : sy_BD us lo hi rm w :=
  ⟨fun i hi => by have := hu.1 i hi; have := hW.1; omega, hW.2.1, hW.2.2.1, hW.2.2.2.1, hw.1⟩
theorem sr_ho {cap : Nat} {lo hi rm : Nat → Nat} {o : Nat → Option Nat} {a_seat a_load : Nat → Int32} (h : sx_PL cap lo hi rm o a_seat a_load) : ∀ i t, o i = some t → t < 12 := fun i t e => (h.1.1 i t e).2.2.2
/-! the constructors -/
theorem sr_cl7 (k0 : Int32) : ∃ cap, 1 ≤ cap ∧ cap ≤ 7 ∧ ∀ F : Int32 → Prop, F (nI cap) → ((1 ≤ k0 → (((k0 ≤ 7 → F k0) ∧ (¬ k0 ≤ 7 → F 7)))) ∧ (¬ 1 ≤ k0 → F 1)) := by
  by_cases h1 : 1 ≤ k0
  · by_cases h7 : k0 ≤ 7
    · have h0 : ¬ k0 < 0 := fun z => by
        rw [Int32.lt_iff_toInt_lt] at z
        rw [Int32.le_iff_toInt_le] at h1
        have e0 : (0 : Int32).toInt = 0 := by decide
        have e1 : (1 : Int32).toInt = 1 := by decide
        omega
      obtain ⟨j, hj, rfl⟩ := nI_of2 (M := 7) (n := 7) (by decide) h0 h7
      refine ⟨j, ?_, hj, fun F h => br_t h1 (br_t h7 h)⟩
      have := (nI_leI (a := 1) (b := j) (by decide) (by omega)).mp h1
      exact this
    · exact ⟨7, by decide, by decide, fun F h => br_t h1 (br_f h7 h)⟩
  · exact ⟨1, by decide, by decide, fun F h => br_f h1 h⟩
theorem sr_cl3 (k1 : Int32) : ∃ n, n ≤ 3 ∧ ∀ F : Int32 → Prop, F (nI n) → ((0 ≤ k1 → (((k1 ≤ 3 → F k1) ∧ (¬ k1 ≤ 3 → F 3)))) ∧ (¬ 0 ≤ k1 → F 0)) := by
  by_cases h1 : 0 ≤ k1
  · by_cases h3 : k1 ≤ 3
    · obtain ⟨j, hj, rfl⟩ := nI_of2 (M := 3) (n := 3) (by decide) (Int32.not_lt.mpr h1) h3
      exact ⟨j, hj, fun F h => br_t h1 (br_t h3 h)⟩
    · exact ⟨3, by decide, fun F h => br_t h1 (br_f h3 h)⟩
  · exact ⟨0, by decide, fun F h => br_f h1 h⟩
section
variable {f_capacity f_lineEnd f_freeSlot f_freeFor f_tableKnown : Int32} {a_used a_first a_last a_worths a_rooms a_seat a_load a_reached a_opener a_line a_savedSeat a_savedLoad a_savedFirst a_savedLast a_table : Nat → Int32}
theorem sx_init171 {post : SX → Prop} {n : Nat} (hn : n ≤ 3) (K : ∀ ro se, (∀ s, s < 12 → ro s = nI n) → (∀ i, i < 8 → se i = -1) → post (f_capacity, f_lineEnd, f_freeSlot, f_freeFor, f_tableKnown, a_used, a_first, a_last, a_worths, ro, se, a_load, a_reached, a_opener, a_line, a_savedSeat, a_savedLoad, a_savedFirst, a_savedLast, a_table)) : ∃ fu, wX_init_171 post (nI n) f_capacity f_lineEnd f_freeSlot f_freeFor f_tableKnown fu 0 a_used a_first a_last a_worths a_rooms a_seat a_load a_reached a_opener a_line a_savedSeat a_savedLoad a_savedFirst a_savedLast a_table := by
  have L2 : ∀ d i a_rooms a_seat, i + d = 8 → (∀ s, s < 12 → a_rooms s = nI n) → (∀ x, x < i → a_seat x = -1) → wX_init_196 post f_capacity f_lineEnd f_freeSlot f_freeFor f_tableKnown (d + 1) (nI i) a_used a_first a_last a_worths a_rooms a_seat a_load a_reached a_opener a_line a_savedSeat a_savedLoad a_savedFirst a_savedLast a_table := by
    intro d
    induction d with
    | zero =>
      intro i a_rooms a_seat hd h1 h2
      exact br_t (nI_le (a := 8) (by omega) (by omega)) (K _ _ h1 fun x hx => h2 x (by omega))
    | succ d ih =>
      intro i a_rooms a_seat hd h1 h2
      refine br_f (nI_ge (b := 8) (by omega) (by decide)) ⟨vp_in_nI (by omega) (by decide), nm_r (e' := upd a_seat i (-1)) ?_ (nm_r (nI_1 i) (ih (i + 1) _ _ (by omega) h1 fun x hx => ?_))⟩
      · rw [nI_clamp (by omega), sx_bym]
      · by_cases e : x = i
        · rw [e, sx_us]
        · rw [sx_un e]; exact h2 x (by omega)
  have L1 : ∀ d i a_rooms, i + d = 12 → (∀ s, s < i → a_rooms s = nI n) → wX_init_171 post (nI n) f_capacity f_lineEnd f_freeSlot f_freeFor f_tableKnown (d + 1) (nI i) a_used a_first a_last a_worths a_rooms a_seat a_load a_reached a_opener a_line a_savedSeat a_savedLoad a_savedFirst a_savedLast a_table := by
    intro d
    induction d with
    | zero =>
      intro i a_rooms hd h1
      exact br_t (nI_le (a := 12) (by omega) (by omega)) ⟨9, L2 8 0 _ _ rfl (fun s hs => h1 s (by omega)) fun x hx => absurd hx (Nat.not_lt_zero x)⟩
    | succ d ih =>
      intro i a_rooms hd h1
      refine br_f (nI_ge (b := 12) (by omega) (by decide)) ⟨vp_in_nI (by omega) (by decide), nm_r (e' := upd a_rooms i (nI n)) ?_ (nm_r (nI_1 i) (ih (i + 1) _ (by omega) fun x hx => ?_))⟩
      · rw [nI_clamp (by omega), sx_by2 (by omega)]
      · by_cases e : x = i
        · rw [e, sx_us]
        · rw [sx_un e]; exact h1 x (by omega)
  exact ⟨13, L1 12 0 _ rfl fun x hx => absurd hx (Nat.not_lt_zero x)⟩
end
section
variable {f_cap : Int32} {a_rooms a_held a_from a_to a_value a_lo a_hi a_can : Nat → Int32}
theorem sy_init116 {post : SY → Prop} {n : Nat} (K : ∀ ro, (∀ s, s < 12 → ro s = nI n) → post (f_cap, ro, a_held, a_from, a_to, a_value, a_lo, a_hi, a_can)) : ∃ fu, wY_init_116 post (nI n) f_cap fu 0 a_rooms a_held a_from a_to a_value a_lo a_hi a_can := by
  have L1 : ∀ d i a_rooms, i + d = 12 → (∀ s, s < i → a_rooms s = nI n) → wY_init_116 post (nI n) f_cap (d + 1) (nI i) a_rooms a_held a_from a_to a_value a_lo a_hi a_can := by
    intro d
    induction d with
    | zero =>
      intro i a_rooms hd h1
      exact br_t (nI_le (a := 12) (by omega) (by omega)) (K _ fun s hs => h1 s (by omega))
    | succ d ih =>
      intro i a_rooms hd h1
      refine br_f (nI_ge (b := 12) (by omega) (by decide)) ⟨vp_in_nI (by omega) (by decide), nm_r (e' := upd a_rooms i (nI n)) ?_ (nm_r (nI_1 i) (ih (i + 1) _ (by omega) fun x hx => ?_))⟩
      · rw [nI_clamp (by omega)]
      · by_cases e : x = i
        · rw [e, sx_us]
        · rw [sx_un e]; exact h1 x (by omega)
  exact ⟨13, L1 12 0 _ rfl fun x hx => absurd hx (Nat.not_lt_zero x)⟩
end
theorem i_vc0 (k0 : Int32) (k1 : Int32) : wpX_init (fun u => wpY_init (fun v => i_Rel 2 u v) k0 k1) k0 k1 := by
  obtain ⟨cap, h1, h7, hc⟩ := sr_cl7 k0
  obtain ⟨n, h3, hn⟩ := sr_cl3 k1
  refine hc (fun z => wX_init_146 _ k1 z 0 0 0 0 0 (fun _ => 0) (fun _ => 0) (fun _ => 0) (fun _ => 0) (fun _ => 0) (fun _ => 0) (fun _ => 0) (fun _ => 0) (fun _ => 0) (fun _ => 0) (fun _ => 0) (fun _ => 0) (fun _ => 0) (fun _ => 0) (fun _ => 0)) ?_
  refine hn (fun y => ∃ n171 : Nat, wX_init_171 _ y (nI cap) 0 0 0 0 n171 0 (fun _ => 0) (fun _ => 0) (fun _ => 0) (fun _ => 0) (fun _ => 0) (fun _ => 0) (fun _ => 0) (fun _ => 0) (fun _ => 0) (fun _ => 0) (fun _ => 0) (fun _ => 0) (fun _ => 0) (fun _ => 0) (fun _ => 0)) ?_
  refine sx_init171 h3 fun ro se hro hse => ?_
  refine hc (fun z => wY_init_91 _ k1 z 0 (fun _ => 0) (fun _ => 0) (fun _ => 0) (fun _ => 0) (fun _ => 0) (fun _ => 0) (fun _ => 0) (fun _ => 0)) ?_
  refine hn (fun y => ∃ n116 : Nat, wY_init_116 _ y (nI cap) n116 0 (fun _ => 0) (fun _ => 0) (fun _ => 0) (fun _ => 0) (fun _ => 0) (fun _ => 0) (fun _ => 0) (fun _ => 0)) ?_
  refine sy_init116 fun ro2 hro2 => ?_
  refine sr_in (us := fun _ => False) (lo := fun _ => 0) (hi := fun _ => 0) (rm := fun _ => n) (w := fun _ => 0) (o := fun _ => none) ⟨⟨h1, fun _ z => z.elim⟩, fun _ => h3, ⟨fun _ => Nat.zero_le _, fun _ _ => rfl⟩, ⟨fun _ z => z.elim, fun _ _ => (sx_bI0 id).symm⟩, ⟨h7, fun _ => Nat.le_refl _, fun _ => Nat.zero_le _, fun _ => Nat.le_succ_of_le h3, fun _ _ => rfl, fun _ _ => rfl, hro⟩,
    ⟨⟨sm_Val_none _ _ _, ⟨hse, fun s _ => by rw [sm_ld_none]; rfl⟩, fun i t e => (nomatch e)⟩, fun i z => absurd rfl z, fun q _ hq t => sm_cn_le fun i _ z => (hq i z.1).elim⟩, ⟨hro2, fun _ _ => (sx_bI0 id).symm, fun _ _ => rfl, fun _ _ => rfl, fun _ _ => rfl⟩, Or.inl rfl⟩
end
section
/-! questions -/
section
variable {f_capacity f_lineEnd f_freeSlot f_freeFor f_tableKnown : Int32} {a_used a_first a_last a_worths a_rooms a_seat a_load a_reached a_opener a_line a_savedSeat a_savedLoad a_savedFirst a_savedLast a_table : Nat → Int32}
theorem sx_holds1 {post : Int32 → Prop} {cap : Nat} {us : Nat → Prop} {j : Nat} (hc : cap ≤ 7) (hu : sx_US cap us a_used) (h : us j) (K : post 1) : wpX_holds post (nI cap, f_lineEnd, f_freeSlot, f_freeFor, f_tableKnown, a_used, a_first, a_last, a_worths, a_rooms, a_seat, a_load, a_reached, a_opener, a_line, a_savedSeat, a_savedLoad, a_savedFirst, a_savedLast, a_table) (nI j) := by
  have hj := hu.1 j h
  have e : a_used (nI j).toNatClampNeg = sx_bI (us j) := by rw [nI_clamp (by omega)]; exact hu.2 j (by omega)
  exact br_f (nI_pos (by omega)) (br_f (nI_ge hj (by omega)) ⟨vp_in_nI (by omega) (by decide), br_f (fun z => sx_bI_0.mp (e.symm.trans z) h) K⟩)
theorem sx_holds0 {post : Int32 → Prop} {cap : Nat} {us : Nat → Prop} {v : Int32} (hc : cap ≤ 7) (hu : sx_US cap us a_used) (hv : ¬ ∃ j, us j ∧ v = nI j) (K : post 0) : wpX_holds post (nI cap, f_lineEnd, f_freeSlot, f_freeFor, f_tableKnown, a_used, a_first, a_last, a_worths, a_rooms, a_seat, a_load, a_reached, a_opener, a_line, a_savedSeat, a_savedLoad, a_savedFirst, a_savedLast, a_table) v := by
  by_cases h0 : v < 0
  · exact br_t h0 K
  · refine br_f h0 ?_
    obtain ⟨j, hj, rfl⟩ := nI_of h0
    by_cases h7 : cap ≤ j
    · exact br_t (nI_le h7 hj) K
    · have e : a_used (nI j).toNatClampNeg = sx_bI (us j) := by rw [nI_clamp (by omega)]; exact hu.2 j (by omega)
      exact br_f (nI_ge (by omega) (by omega)) ⟨vp_in_nI (by omega) (by decide), br_t (e.trans (sx_bI0 fun z => hv ⟨j, z, rfl⟩)) K⟩
end
/-- a slot's number, or none -/
theorem sr_slot (v : Int32) : v < 0 ∨ (¬ v < 0 ∧ 11 < v ∧ ¬ v ≤ 11) ∨ ∃ s, s < 12 ∧ v = nI s := by
  by_cases h0 : v < 0
  · exact Or.inl h0
  · obtain ⟨s, hs, rfl⟩ := nI_of h0
    by_cases h : s < 12
    · exact Or.inr (Or.inr ⟨s, h, rfl⟩)
    · exact Or.inr (Or.inl ⟨h0, nI_lt (a := 11) (by omega) hs, nI_ge (a := 11) (by omega) hs⟩)
theorem i_vc_room {k : Nat} {u : SX} {v : SY} (I : i_Rel k u v) (hk : k + 4 ≤ 2050) (v1 : Int32) : wpX_room (fun r => wpY_room (fun r' => r' = r ∧ i_Rel (k + 4) u v) v v1) u v1 := by
  refine sr_el (P := fun u v => wpX_room (fun r => wpY_room (fun r' => r' = r ∧ i_Rel (k + 4) u v) v v1) u v1) ?_ I
  intro cap us lo hi rm w o f_lineEnd f_freeSlot f_freeFor f_tableKnown a_used a_first a_last a_worths a_rooms a_seat a_load a_reached a_opener a_line a_savedSeat a_savedLoad a_savedFirst a_savedLast a_table b_rooms a_held a_from a_to a_value a_lo a_hi a_can hF
  rcases sr_slot v1 with h0 | ⟨h0, _, h2⟩ | ⟨s, hs, rfl⟩
  · exact br_t h0 (br_t h0 ⟨rfl, sr_in hF⟩)
  · exact br_f h0 (br_f h2 (br_f h0 (br_f h2 ⟨rfl, sr_in hF⟩)))
  · have h0 : ¬ nI s < 0 := nI_pos (by omega)
    have h1 : nI s ≤ 11 := nI_le (b := 11) (by omega) (by decide)
    have is : vp_in (nI s) 12 := vp_in_nI hs (by decide)
    refine br_f h0 (br_t h1 ⟨is, br_f h0 (br_t h1 ⟨is, ?_, sr_in hF⟩)⟩)
    rw [nI_clamp (by omega), hF.2.2.2.2.1.2.2.2.2.2.2 s hs, hF.2.2.2.2.2.2.1.1 s hs]
theorem i_vc_jobs {k : Nat} {u : SX} {v : SY} (I : i_Rel k u v) (hk : k + 4 ≤ 2050) : wpX_jobs (fun r => wpY_jobs (fun r' => r' = r ∧ i_Rel (k + 4) u v) v) u := by
  refine sr_el (P := fun u v => wpX_jobs (fun r => wpY_jobs (fun r' => r' = r ∧ i_Rel (k + 4) u v) v) u) ?_ I
  intro cap us lo hi rm w o f_lineEnd f_freeSlot f_freeFor f_tableKnown a_used a_first a_last a_worths a_rooms a_seat a_load a_reached a_opener a_line a_savedSeat a_savedLoad a_savedFirst a_savedLast a_table b_rooms a_held a_from a_to a_value a_lo a_hi a_can hF
  obtain ⟨c1, r3, hw, hu, hW, hG, hY, hT⟩ := hF
  exact sx_jobs hW.1 hu (sy_jobs hY.2.1 ⟨rfl, sr_in ⟨c1, r3, hw, hu, hW, hG, hY, hT⟩⟩)
theorem i_vc_worth {k : Nat} {u : SX} {v : SY} (I : i_Rel k u v) (hk : k + 4 ≤ 2050) (v1 : Int32) : wpX_worth (fun r => wpY_worth (fun r' => r' = r ∧ i_Rel (k + 4) u v) v v1) u v1 := by
  refine sr_el (P := fun u v => wpX_worth (fun r => wpY_worth (fun r' => r' = r ∧ i_Rel (k + 4) u v) v v1) u v1) ?_ I
  intro cap us lo hi rm w o f_lineEnd f_freeSlot f_freeFor f_tableKnown a_used a_first a_last a_worths a_rooms a_seat a_load a_reached a_opener a_line a_savedSeat a_savedLoad a_savedFirst a_savedLast a_table b_rooms a_held a_from a_to a_value a_lo a_hi a_can hF
  obtain ⟨c1, r3, hw, hu, hW, hG, hY, hT⟩ := hF
  have hc := hW.1
  by_cases h : ∃ j, us j ∧ v1 = nI j
  · obtain ⟨j, hj, rfl⟩ := h
    have hj7 := hu.1 j hj
    unfold wpX_worth
    refine sx_holds1 hc hu hj ?_
    refine br_f (by decide) ⟨vp_in_nI (by omega) (by decide), ?_⟩
    unfold wpY_worth
    refine sy_there1 hY.2.1 (by omega) hj ?_
    refine br_f (by decide) ⟨vp_in_nI (by omega) (by decide), ?_, sr_in ⟨c1, r3, hw, hu, hW, hG, hY, hT⟩⟩
    rw [nI_clamp (by omega), hw.2 j (by omega), hY.2.2.2.2 j (by omega)]
  · unfold wpX_worth
    refine sx_holds0 hc hu h ?_
    refine br_t rfl ?_
    unfold wpY_worth
    refine sy_there0 hY.2.1 h ?_
    exact br_t rfl ⟨rfl, sr_in ⟨c1, r3, hw, hu, hW, hG, hY, hT⟩⟩
theorem i_vc_chosen {k : Nat} {u : SX} {v : SY} (I : i_Rel k u v) (hk : k + 4 ≤ 2050) : wpX_chosen (fun r => wpY_chosen (fun r' v' => r' = r ∧ i_Rel (k + 4) u v') v) u := by
  refine sr_el (P := fun u v => wpX_chosen (fun r => wpY_chosen (fun r' v' => r' = r ∧ i_Rel (k + 4) u v') v) u) ?_ I
  intro cap us lo hi rm w o f_lineEnd f_freeSlot f_freeFor f_tableKnown a_used a_first a_last a_worths a_rooms a_seat a_load a_reached a_opener a_line a_savedSeat a_savedLoad a_savedFirst a_savedLast a_table b_rooms a_held a_from a_to a_value a_lo a_hi a_can hF
  obtain ⟨c1, r3, hw, hu, hW, hG, hY, hT⟩ := hF
  exact sx_chosen hW.1 hG.1.2.2 (sr_ho hG.1) hG.1.2.1.1 (sy_chosen hY (sr_BD hw hu hW) hG.1.1 hG.2.1 hG.2.2 fun l h c _ _ => ⟨rfl, sr_in ⟨c1, r3, hw, hu, hW, hG, hY, hT⟩⟩)
theorem i_vc_total {k : Nat} {u : SX} {v : SY} (I : i_Rel k u v) (hk : k + 4 ≤ 2050) : wpX_total (fun r => wpY_total (fun r' v' => r' = r ∧ i_Rel (k + 4) u v') v) u := by
  refine sr_el (P := fun u v => wpX_total (fun r => wpY_total (fun r' v' => r' = r ∧ i_Rel (k + 4) u v') v) u) ?_ I
  intro cap us lo hi rm w o f_lineEnd f_freeSlot f_freeFor f_tableKnown a_used a_first a_last a_worths a_rooms a_seat a_load a_reached a_opener a_line a_savedSeat a_savedLoad a_savedFirst a_savedLast a_table b_rooms a_held a_from a_to a_value a_lo a_hi a_can hF
  obtain ⟨c1, r3, hw, hu, hW, hG, hY, hT⟩ := hF
  exact sx_total hW.1 hw hG.1.2.2 (sr_ho hG.1) hG.1.2.1.1 (sy_total hY (sr_BD hw hu hW) hG.1.1 hG.2.1 hG.2.2 fun l h c _ _ => ⟨rfl, sr_in ⟨c1, r3, hw, hu, hW, hG, hY, hT⟩⟩)
theorem i_vc_slotOf {k : Nat} {u : SX} {v : SY} (I : i_Rel k u v) (hk : k + 4 ≤ 2050) (v1 : Int32) : wpX_slotOf (fun r u' => wpY_slotOf (fun r' v' => r' = r ∧ i_Rel (k + 4) u' v') v v1) u v1 := by
  refine sr_el (P := fun u v => wpX_slotOf (fun r u' => wpY_slotOf (fun r' v' => r' = r ∧ i_Rel (k + 4) u' v') v v1) u v1) ?_ I
  intro cap us lo hi rm w o f_lineEnd f_freeSlot f_freeFor f_tableKnown a_used a_first a_last a_worths a_rooms a_seat a_load a_reached a_opener a_line a_savedSeat a_savedLoad a_savedFirst a_savedLast a_table b_rooms a_held a_from a_to a_value a_lo a_hi a_can hF
  obtain ⟨c1, r3, hw, hu, hW, hG, hY, hT⟩ := hF
  have hc := hW.1
  have hB := sr_BD hw hu hW
  have hse := hG.1.2.1.1
  have ho := sr_ho hG.1
  by_cases h : ∃ j, o j ≠ none ∧ v1 = nI j
  · obtain ⟨j, hj, rfl⟩ := h
    have huj := hG.2.1 j hj
    have hj7 := hu.1 j huj
    obtain ⟨t, et⟩ := sm_some hj
    have ht := ho j t et
    have es : a_seat (nI j).toNatClampNeg = sx_eO (o j) := by rw [nI_clamp (by omega)]; exact hse j (by omega)
    have ij : vp_in (nI j) 8 := vp_in_nI (by omega) (by decide)
    unfold wpX_slotOf
    refine sx_holds1 hc hu huj ?_
    refine br_f (by decide) ⟨ij, br_t (by rw [es]; exact sx_eO_s' et (by omega)) ?_⟩
    by_cases ek : f_tableKnown = 0
    · refine br_t ek (sx_makeTable hW hG.1 fun tb fl fs ff fi la se ld re opn li ss sl sf st ta hTb hta hW' hP' => ⟨ij, sy_slotOf1 hY hB hG.1.1 hG.2.1 hG.2.2 hj hTb fun l h c => ⟨?_, sr_in ⟨c1, r3, hw, hu, hW', ⟨hP', hG.2⟩, hY, Or.inr ⟨tb, hTb, hta⟩⟩⟩⟩)
      rw [nI_clamp (by omega), hta j (by omega) hj]
    · obtain ⟨tb, hTb, hta⟩ := hT.resolve_left ek
      refine br_f ek ⟨ij, sy_slotOf1 hY hB hG.1.1 hG.2.1 hG.2.2 hj hTb fun l h c => ⟨?_, sr_in ⟨c1, r3, hw, hu, hW, hG, hY, hT⟩⟩⟩
      rw [nI_clamp (by omega), hta j (by omega) hj]
  · have KY := fun (P : Int32 → SY → Prop) K => sy_slotOf0 (a_lo := a_lo) (a_hi := a_hi) (a_can := a_can) (f_cap := nI cap) (post := P) hY hB hG.1.1 hG.2.1 hG.2.2 h K
    by_cases hu1 : ∃ j, us j ∧ v1 = nI j
    · obtain ⟨j, huj, rfl⟩ := hu1
      have hj7 := hu.1 j huj
      have ej : o j = none := by
        cases e : o j with
        | none => rfl
        | some t => exact absurd ⟨j, sm_ns e, rfl⟩ h
      have es : a_seat (nI j).toNatClampNeg = sx_eO (o j) := by rw [nI_clamp (by omega)]; exact hse j (by omega)
      unfold wpX_slotOf
      refine sx_holds1 hc hu huj ?_
      exact br_f (by decide) ⟨vp_in_nI (by omega) (by decide), br_f (by rw [es]; exact sx_eO_n' ej) (KY _ fun l h c => ⟨rfl, sr_in ⟨c1, r3, hw, hu, hW, hG, hY, hT⟩⟩)⟩
    · unfold wpX_slotOf
      refine sx_holds0 hc hu hu1 ?_
      exact br_t rfl (KY _ fun l h c => ⟨rfl, sr_in ⟨c1, r3, hw, hu, hW, hG, hY, hT⟩⟩)
end
section
/-! loss and gain -/
theorem sr_back {rm : Nat → Nat} {s c : Nat} {ro : Nat → Int32} (h : ∀ t, t < 12 → ro t = nI (sm_up rm s c t)) : ∀ t, t < 12 → upd ro s (nI (rm s)) t = nI (rm t) := by
  intro t ht
  by_cases e : t = s
  · rw [e, sx_us]
  · rw [sx_un e, h t ht, sm_un e]
theorem sr_WAb {cap : Nat} {lo hi rm : Nat → Nat} {s c : Nat} {fi la ro : Nat → Int32} (hr : ∀ s, rm s ≤ 3) (h : sx_WA cap lo hi (sm_up rm s c) fi la ro) : sx_WA cap lo hi rm fi la (upd ro s (nI (rm s))) :=
  ⟨h.1, h.2.1, h.2.2.1, fun t => Nat.le_succ_of_le (hr t), h.2.2.2.2.1, h.2.2.2.2.2.1, sr_back h.2.2.2.2.2.2⟩
theorem sr_up4 {rm : Nat → Nat} {s c : Nat} (hr : ∀ s, rm s ≤ 3) (hc : c ≤ 4) : ∀ t, sm_up rm s c t ≤ 4 := by
  intro t
  by_cases e : t = s
  · rw [e, sm_us]; exact hc
  · rw [sm_un e]; exact Nat.le_succ_of_le (hr t)
theorem i_vc_loss {k : Nat} {u : SX} {v : SY} (I : i_Rel k u v) (hk : k + 4 ≤ 2050) (v1 : Int32) : wpX_loss (fun r u' => wpY_loss (fun r' v' => r' = r ∧ i_Rel (k + 4) u' v') v v1) u v1 := by
  refine sr_el (P := fun u v => wpX_loss (fun r u' => wpY_loss (fun r' v' => r' = r ∧ i_Rel (k + 4) u' v') v v1) u v1) ?_ I
  intro cap us lo hi rm w o f_lineEnd f_freeSlot f_freeFor f_tableKnown a_used a_first a_last a_worths a_rooms a_seat a_load a_reached a_opener a_line a_savedSeat a_savedLoad a_savedFirst a_savedLast a_table b_rooms a_held a_from a_to a_value a_lo a_hi a_can hF
  obtain ⟨c1, r3, hw, hu, hW, hG, hY, hT⟩ := hF
  have hc := hW.1
  have hB := sr_BD hw hu hW
  have ho := sr_ho hG.1
  rcases sr_slot v1 with h0 | ⟨h0, h2, _⟩ | ⟨s, hs, rfl⟩
  · exact br_t h0 (br_t h0 ⟨rfl, sr_in ⟨c1, r3, hw, hu, hW, hG, hY, hT⟩⟩)
  · exact br_f h0 (br_t h2 (br_f h0 (br_t h2 ⟨rfl, sr_in ⟨c1, r3, hw, hu, hW, hG, hY, hT⟩⟩)))
  · have h0 : ¬ nI s < 0 := nI_pos (by omega)
    have h1 : ¬ 11 < nI s := nI_nlt (b := s) (a := 11) (by omega) (by decide)
    have is : vp_in (nI s) 12 := vp_in_nI hs (by decide)
    have ec : (nI s).toNatClampNeg = s := nI_clamp (by omega)
    have er : a_rooms (nI s).toNatClampNeg = nI (rm s) := by rw [ec]; exact hW.2.2.2.2.2.2 s hs
    have eb : b_rooms (nI s).toNatClampNeg = nI (rm s) := by rw [ec]; exact hY.1 s hs
    have s3 := r3 s
    by_cases z : rm s = 0
    · exact br_f h0 (br_f h1 ⟨is, br_t (er.trans (by rw [z]; rfl)) (br_f h0 (br_f h1 ⟨is, br_t (eb.trans (by rw [z]; rfl)) ⟨rfl, sr_in ⟨c1, r3, hw, hu, hW, hG, hY, hT⟩⟩⟩))⟩)
    · have z1 : ¬ nI (rm s) = 0 := nI_ne0 (by omega) (by omega)
      refine br_f h0 (br_f h1 ⟨is, br_f (fun y => z1 (er.symm.trans y)) ?_⟩)
      refine sx_save ho hG.1.2.1 fun ss sl hSS => sx_total hc hw hG.1.2.2 ho hG.1.2.1.1 (sx_narrow hs (by omega) hw hu hW hG fun o' fl fs ff se ld re opn li ro hW' hG' => sx_total hc hw hG'.1.2.2 (sr_ho hG'.1) hG'.1.2.1.1 ⟨is, is, nm_r (e' := upd ro s (nI (rm s))) ?_ (sx_restore ho hSS fun se2 ld2 hS2 => ?_)⟩)
      · have e := hW'.2.2.2.2.2.2 s hs
        rw [sm_us] at e
        rw [ec, e, nI_1, sx_by2 (by omega), show rm s - 1 + 1 = rm s by omega]
      · refine br_f h0 (br_f h1 ⟨is, br_f (fun y => z1 (eb.symm.trans y)) ?_⟩)
        have hY' : sy_YA us lo hi (sm_up rm s (rm s - 1)) w (upd b_rooms s (nI (rm s - 1))) a_held a_from a_to a_value := ⟨sx_wr hY.1 rfl, hY.2⟩
        have hB' : sy_BD us lo hi (sm_up rm s (rm s - 1)) w := ⟨hB.1, hB.2.1, hB.2.2.1, sr_up4 r3 (by omega), hB.2.2.2.2⟩
        refine sy_total hY hB hG.1.1 hG.2.1 hG.2.2 fun l h c _ _ => ⟨is, is, nm_r (e' := upd b_rooms s (nI (rm s - 1))) ?_ (sy_total hY' hB' hG'.1.1 hG'.2.1 hG'.2.2 fun l h c _ _ => ⟨is, is, nm_r (e' := upd (upd b_rooms s (nI (rm s - 1))) s (nI (rm s))) ?_ ⟨rfl, sr_in ⟨c1, r3, hw, hu, sr_WAb r3 hW', ⟨⟨hG.1.1, hS2, hG.1.2.2⟩, hG.2⟩, ⟨sr_back hY'.1, hY.2⟩, hT⟩⟩⟩)⟩
        · rw [eb, ec, sx_sub1 (by omega)]
        · rw [ec, sx_us, nI_1, show rm s - 1 + 1 = rm s by omega]
theorem i_vc_gain {k : Nat} {u : SX} {v : SY} (I : i_Rel k u v) (hk : k + 4 ≤ 2050) (v1 : Int32) : wpX_gain (fun r u' => wpY_gain (fun r' v' => r' = r ∧ i_Rel (k + 4) u' v') v v1) u v1 := by
  refine sr_el (P := fun u v => wpX_gain (fun r u' => wpY_gain (fun r' v' => r' = r ∧ i_Rel (k + 4) u' v') v v1) u v1) ?_ I
  intro cap us lo hi rm w o f_lineEnd f_freeSlot f_freeFor f_tableKnown a_used a_first a_last a_worths a_rooms a_seat a_load a_reached a_opener a_line a_savedSeat a_savedLoad a_savedFirst a_savedLast a_table b_rooms a_held a_from a_to a_value a_lo a_hi a_can hF
  obtain ⟨c1, r3, hw, hu, hW, hG, hY, hT⟩ := hF
  have hc := hW.1
  have hB := sr_BD hw hu hW
  have ho := sr_ho hG.1
  rcases sr_slot v1 with h0 | ⟨h0, _, h2⟩ | ⟨s, hs, rfl⟩
  · exact br_t h0 (br_t h0 ⟨rfl, sr_in ⟨c1, r3, hw, hu, hW, hG, hY, hT⟩⟩)
  · exact br_f h0 (br_f h2 (br_f h0 (br_f h2 ⟨rfl, sr_in ⟨c1, r3, hw, hu, hW, hG, hY, hT⟩⟩)))
  · have h0 : ¬ nI s < 0 := nI_pos (by omega)
    have h1 : nI s ≤ 11 := nI_le (b := 11) (by omega) (by decide)
    have is : vp_in (nI s) 12 := vp_in_nI hs (by decide)
    have ec : (nI s).toNatClampNeg = s := nI_clamp (by omega)
    have er : a_rooms (nI s).toNatClampNeg = nI (rm s) := by rw [ec]; exact hW.2.2.2.2.2.2 s hs
    have eb : b_rooms (nI s).toNatClampNeg = nI (rm s) := by rw [ec]; exact hY.1 s hs
    have s3 := r3 s
    refine br_f h0 (br_t h1 ?_)
    refine sx_save ho hG.1.2.1 fun ss sl hSS => sx_total hc hw hG.1.2.2 ho hG.1.2.1.1 (sx_widen hs s3 hw hu hW hG fun o' fl fs ff se ld re opn li ro hW' hG' => sx_total hc hw hG'.1.2.2 (sr_ho hG'.1) hG'.1.2.1.1 ⟨is, is, nm_r (e' := upd ro s (nI (rm s))) ?_ (sx_restore ho hSS fun se2 ld2 hS2 => ?_)⟩)
    · have e := hW'.2.2.2.2.2.2 s hs
      rw [sm_us] at e
      rw [ec, e, sx_sub1 (by omega), sx_by2 (by omega), show rm s + 1 - 1 = rm s by omega]
    · refine br_f h0 (br_t h1 ?_)
      have hY' : sy_YA us lo hi (sm_up rm s (rm s + 1)) w (upd b_rooms s (nI (rm s + 1))) a_held a_from a_to a_value := ⟨sx_wr hY.1 rfl, hY.2⟩
      have hB' : sy_BD us lo hi (sm_up rm s (rm s + 1)) w := ⟨hB.1, hB.2.1, hB.2.2.1, sr_up4 r3 (by omega), hB.2.2.2.2⟩
      refine sy_total hY hB hG.1.1 hG.2.1 hG.2.2 fun l h c _ _ => ⟨is, is, nm_r (e' := upd b_rooms s (nI (rm s + 1))) ?_ (sy_total hY' hB' hG'.1.1 hG'.2.1 hG'.2.2 fun l h c _ _ => ⟨is, is, nm_r (e' := upd (upd b_rooms s (nI (rm s + 1))) s (nI (rm s))) ?_ ⟨rfl, sr_in ⟨c1, r3, hw, hu, sr_WAb r3 hW', ⟨⟨hG.1.1, hS2, hG.1.2.2⟩, hG.2⟩, ⟨sr_back hY'.1, hY.2⟩, hT⟩⟩⟩)⟩
      · rw [eb, ec, nI_1]
      · rw [ec, sx_us, sx_sub1 (by omega), show rm s + 1 - 1 = rm s by omega]
end
section
/-! changes: take, setRoom, revalue -/
theorem sr_US0 {cap : Nat} {us : Nat → Prop} {a : Nat → Int32} {j : Nat} (hu : sx_US cap us a) : sx_US cap (fun i => us i ∧ i ≠ j) (upd a j 0) := by
  refine ⟨fun i h => hu.1 i h.1, fun i hi => ?_⟩
  by_cases e : i = j
  · rw [e, sx_us, sx_bI0 fun z => z.2 rfl]
  · rw [sx_un e, hu.2 i hi]; exact sx_bIx ⟨fun z => ⟨z, e⟩, fun z => z.1⟩
theorem sr_US0' {cap : Nat} {us : Nat → Prop} {a : Nat → Int32} {j : Nat} (hu : sx_US cap (fun i => us i ∧ i ≠ j) a) : sx_US cap (fun i => us i ∧ i ≠ j) (upd a j 0) := by
  refine ⟨hu.1, fun i hi => ?_⟩
  by_cases e : i = j
  · rw [e, sx_us, sx_bI0 fun z => z.2 rfl]
  · rw [sx_un e]; exact hu.2 i hi
theorem i_vc_take {k : Nat} {u : SX} {v : SY} (I : i_Rel k u v) (hk : k + 4 ≤ 2050) (v1 : Int32) : wpX_take (fun r u' => wpY_take (fun r' v' => r' = r ∧ i_Rel (k + 4) u' v') v v1) u v1 := by
  refine sr_el (P := fun u v => wpX_take (fun r u' => wpY_take (fun r' v' => r' = r ∧ i_Rel (k + 4) u' v') v v1) u v1) ?_ I
  intro cap us lo hi rm w o f_lineEnd f_freeSlot f_freeFor f_tableKnown a_used a_first a_last a_worths a_rooms a_seat a_load a_reached a_opener a_line a_savedSeat a_savedLoad a_savedFirst a_savedLast a_table b_rooms a_held a_from a_to a_value a_lo a_hi a_can hF
  obtain ⟨c1, r3, hw, hu, hW, hG, hY, hT⟩ := hF
  have hc := hW.1
  have hB := sr_BD hw hu hW
  have ho := sr_ho hG.1
  by_cases h : ∃ j, us j ∧ v1 = nI j
  · obtain ⟨j, hj, rfl⟩ := h
    have hjc := hu.1 j hj
    have hj7 : j < 7 := by omega
    have ij : vp_in (nI j) 8 := vp_in_nI (by omega) (by decide)
    have i7 : vp_in (nI j) 7 := vp_in_nI hj7 (by decide)
    have ec : (nI j).toNatClampNeg = j := nI_clamp (by omega)
    have es : a_seat (nI j).toNatClampNeg = sx_eO (o j) := by rw [ec]; exact hG.1.2.1.1 j (by omega)
    have hY' : sy_YA (fun i => us i ∧ i ≠ j) lo hi rm w b_rooms (upd a_held j 0) a_from a_to a_value := ⟨hY.1, fun i hi => by
      by_cases e : i = j
      · rw [e, sx_us, sx_bI0 fun z => z.2 rfl]
      · rw [sx_un e, hY.2.1 i hi]; exact sx_bIx ⟨fun z => ⟨z, e⟩, fun z => z.1⟩, hY.2.2⟩
    unfold wpX_take
    refine sx_holds1 hc hu hj ?_
    refine br_f (by decide) ⟨ij, ?_⟩
    rw [es]
    by_cases hoj : o j = none
    · refine br_t (sx_eO_n hoj) ⟨ij, nm_r (e' := upd a_used j 0) (by rw [ec]; rfl) ?_⟩
      unfold wpY_take
      refine sy_there1 hY.2.1 hj7 hj ?_
      refine br_f (by decide) ⟨i7, nm_r (e' := upd a_held j 0) (by rw [ec]; rfl) ⟨rfl, sr_in ⟨⟨c1.1, fun i z => c1.2 i z.1⟩, r3, hw, sr_US0 hu, hW, ⟨hG.1, fun i hi => ⟨hG.2.1 i hi, fun e => hi (e ▸ hoj)⟩, sm_Dom_sub (fun i h => h.1) hG.2.2⟩, hY', Or.inl rfl⟩⟩⟩
    · obtain ⟨t, et⟩ := sm_some hoj
      have ht := ho j t et
      refine br_f (sx_eO_s et (by omega)) (sx_vacate hj7 ho hG.1.2.1 fun se ld hS1 => ⟨ij, nm_r (e' := upd a_used j 0) (by rw [ec]; rfl) (sx_fill hw (sr_US0 hu) hW ⟨sm_Val_out hG.1.1 hj7, hS1, fun i t h => hG.1.2.2 i t (sm_out_some h).1⟩ fun o' fl fs ff se ld re opn li hP' hF => ⟨ij, nm_r (e' := upd (upd a_used j 0) j 0) (by rw [ec]; rfl) ?_⟩)⟩)
      unfold wpY_take
      refine sy_there1 hY.2.1 hj7 hj ?_
      refine br_f (by decide) ⟨i7, nm_r (e' := upd a_held j 0) (by rw [ec]; rfl) ⟨rfl, sr_in ⟨⟨c1.1, fun i z => c1.2 i z.1⟩, r3, hw, sr_US0' (sr_US0 hu), hW, ⟨hP', sm_Fil_us (fun i hi => ⟨hG.2.1 i (sm_out_none hi).1, (sm_out_none hi).2⟩) hF, sm_take hW.2.2.1 hj7 hG.1.1 hB.1 hG.2.1 hG.2.2 (fun i => Iff.rfl) hF⟩, hY', Or.inl rfl⟩⟩⟩
  · unfold wpX_take
    refine sx_holds0 hc hu h ?_
    refine br_t rfl ?_
    unfold wpY_take
    refine sy_there0 hY.2.1 h ?_
    exact br_t rfl ⟨rfl, sr_in ⟨c1, r3, hw, hu, hW, hG, hY, hT⟩⟩
section
variable {f_capacity f_lineEnd f_freeSlot f_freeFor f_tableKnown : Int32} {a_used a_first a_last a_worths a_rooms a_seat a_load a_reached a_opener a_line a_savedSeat a_savedLoad a_savedFirst a_savedLast a_table : Nat → Int32}
theorem sx_room56 {post : Int32 → SX → Prop} {cap : Nat} {lo hi rm w : Nat → Nat} {us : Nat → Prop} {s n : Nat} (hs : s < 12) (hn : n ≤ 3) (hw : sx_WO w a_worths) (hu : sx_US cap us a_used)
    (K : ∀ o fl fs ff ro se ld re opn li, sx_WA cap lo hi (sm_up rm s n) a_first a_last ro → sx_GD cap lo hi (sm_up rm s n) w us o se ld → post 1 (nI cap, fl, fs, ff, f_tableKnown, a_used, a_first, a_last, a_worths, ro, se, ld, re, opn, li, a_savedSeat, a_savedLoad, a_savedFirst, a_savedLast, a_table)) :
    ∀ d k c o f_lineEnd f_freeSlot f_freeFor a_rooms a_seat a_load a_reached a_opener a_line, k + d = 3 → n ≤ c → c ≤ n + d → c ≤ 4 → sx_WA cap lo hi (sm_up rm s c) a_first a_last a_rooms → sx_GD cap lo hi (sm_up rm s c) w us o a_seat a_load →
      wX_setRoom_56 post (nI s) (nI n) (d + 1) (nI k) (nI cap) f_lineEnd f_freeSlot f_freeFor f_tableKnown a_used a_first a_last a_worths a_rooms a_seat a_load a_reached a_opener a_line a_savedSeat a_savedLoad a_savedFirst a_savedLast a_table := by
  have is : vp_in (nI s) 12 := vp_in_nI hs (by decide)
  have ec : (nI s).toNatClampNeg = s := nI_clamp (by omega)
  intro d
  induction d with
  | zero =>
    intro k c o f_lineEnd f_freeSlot f_freeFor a_rooms a_seat a_load a_reached a_opener a_line hd h1 h2 h4 hW hG
    have : c = n := by omega
    subst this
    exact br_t (nI_le (a := 3) (by omega) (by omega)) (K o _ _ _ _ _ _ _ _ _ hW hG)
  | succ d ih =>
    intro k c o f_lineEnd f_freeSlot f_freeFor a_rooms a_seat a_load a_reached a_opener a_line hd h1 h2 h4 hW hG
    have er : a_rooms (nI s).toNatClampNeg = nI c := by
      have e := hW.2.2.2.2.2.2 s hs
      rw [sm_us] at e
      rw [ec]; exact e
    refine br_f (nI_ge (b := 3) (by omega) (by decide)) ⟨is, ?_⟩
    rw [er]
    by_cases z : c ≤ n
    · have : c = n := by omega
      subst this
      exact br_t (nI_le z (by omega)) (K o _ _ _ _ _ _ _ _ _ hW hG)
    · refine br_f (nI_ge (by omega) (by omega)) (sx_narrow hs (by rw [sm_us]; omega) hw hu hW hG fun o' fl fs ff se ld re opn li ro hW' hG' => nm_r (nI_1 k) ?_)
      rw [sm_us, sm_uu] at hW' hG'
      exact ih (k + 1) (c - 1) o' _ _ _ _ _ _ _ _ _ (by omega) (by omega) (by omega) (by omega) hW' hG'
theorem sx_room28 {post : Int32 → SX → Prop} {cap : Nat} {lo hi rm w : Nat → Nat} {us : Nat → Prop} {s n : Nat} (hs : s < 12) (hn : n ≤ 3) (hw : sx_WO w a_worths) (hu : sx_US cap us a_used)
    (K : ∀ o fl fs ff ro se ld re opn li, sx_WA cap lo hi (sm_up rm s n) a_first a_last ro → sx_GD cap lo hi (sm_up rm s n) w us o se ld → post 1 (nI cap, fl, fs, ff, f_tableKnown, a_used, a_first, a_last, a_worths, ro, se, ld, re, opn, li, a_savedSeat, a_savedLoad, a_savedFirst, a_savedLast, a_table)) :
    ∀ d k c o f_lineEnd f_freeSlot f_freeFor a_rooms a_seat a_load a_reached a_opener a_line, k + d = 3 → n ≤ c + d → c ≤ 3 → sx_WA cap lo hi (sm_up rm s c) a_first a_last a_rooms → sx_GD cap lo hi (sm_up rm s c) w us o a_seat a_load →
      wX_setRoom_28 post (nI s) (nI n) (d + 1) (nI k) (nI cap) f_lineEnd f_freeSlot f_freeFor f_tableKnown a_used a_first a_last a_worths a_rooms a_seat a_load a_reached a_opener a_line a_savedSeat a_savedLoad a_savedFirst a_savedLast a_table := by
  have is : vp_in (nI s) 12 := vp_in_nI hs (by decide)
  have ec : (nI s).toNatClampNeg = s := nI_clamp (by omega)
  intro d
  induction d with
  | zero =>
    intro k c o f_lineEnd f_freeSlot f_freeFor a_rooms a_seat a_load a_reached a_opener a_line hd h1 h2 hW hG
    exact br_t (nI_le (a := 3) (by omega) (by omega)) ⟨4, sx_room56 hs hn hw hu K 3 0 c o _ _ _ _ _ _ _ _ _ rfl (by omega) (by omega) (by omega) hW hG⟩
  | succ d ih =>
    intro k c o f_lineEnd f_freeSlot f_freeFor a_rooms a_seat a_load a_reached a_opener a_line hd h1 h2 hW hG
    have er : a_rooms (nI s).toNatClampNeg = nI c := by
      have e := hW.2.2.2.2.2.2 s hs
      rw [sm_us] at e
      rw [ec]; exact e
    refine br_f (nI_ge (b := 3) (by omega) (by decide)) ⟨is, ?_⟩
    rw [er]
    by_cases z : n ≤ c
    · exact br_t (nI_le z (by omega)) ⟨4, sx_room56 hs hn hw hu K 3 0 c o _ _ _ _ _ _ _ _ _ rfl (by omega) (by omega) (by omega) hW hG⟩
    · refine br_f (nI_ge (by omega) (by omega)) (sx_widen hs (by rw [sm_us]; omega) hw hu hW hG fun o' fl fs ff se ld re opn li ro hW' hG' => nm_r (nI_1 k) ?_)
      rw [sm_us, sm_uu] at hW' hG'
      exact ih (k + 1) (c + 1) o' _ _ _ _ _ _ _ _ _ (by omega) (by omega) (by omega) hW' hG'
end
/-- a number from 0 to 3, or none -/
theorem sr_num (v : Int32) : v < 0 ∨ (¬ v < 0 ∧ ¬ v ≤ 3) ∨ ∃ n, n ≤ 3 ∧ v = nI n := by
  by_cases h0 : v < 0
  · exact Or.inl h0
  · obtain ⟨s, hs, rfl⟩ := nI_of h0
    by_cases h : s ≤ 3
    · exact Or.inr (Or.inr ⟨s, h, rfl⟩)
    · exact Or.inr (Or.inl ⟨h0, nI_ge (a := 3) (by omega) hs⟩)
theorem i_vc_setRoom {k : Nat} {u : SX} {v : SY} (I : i_Rel k u v) (hk : k + 4 ≤ 2050) (v1 : Int32) (v2 : Int32) : wpX_setRoom (fun r u' => wpY_setRoom (fun r' v' => r' = r ∧ i_Rel (k + 4) u' v') v v1 v2) u v1 v2 := by
  refine sr_el (P := fun u v => wpX_setRoom (fun r u' => wpY_setRoom (fun r' v' => r' = r ∧ i_Rel (k + 4) u' v') v v1 v2) u v1 v2) ?_ I
  intro cap us lo hi rm w o f_lineEnd f_freeSlot f_freeFor f_tableKnown a_used a_first a_last a_worths a_rooms a_seat a_load a_reached a_opener a_line a_savedSeat a_savedLoad a_savedFirst a_savedLast a_table b_rooms a_held a_from a_to a_value a_lo a_hi a_can hF
  obtain ⟨c1, r3, hw, hu, hW, hG, hY, hT⟩ := hF
  rcases sr_slot v1 with h0 | ⟨h0, h2, _⟩ | ⟨s, hs, rfl⟩
  · exact br_t h0 (br_t h0 ⟨rfl, sr_in ⟨c1, r3, hw, hu, hW, hG, hY, hT⟩⟩)
  · exact br_f h0 (br_t h2 (br_f h0 (br_t h2 ⟨rfl, sr_in ⟨c1, r3, hw, hu, hW, hG, hY, hT⟩⟩)))
  · have h0 : ¬ nI s < 0 := nI_pos (by omega)
    have h1 : ¬ 11 < nI s := nI_nlt (b := s) (a := 11) (by omega) (by decide)
    have is : vp_in (nI s) 12 := vp_in_nI hs (by decide)
    have ec : (nI s).toNatClampNeg = s := nI_clamp (by omega)
    rcases sr_num v2 with g0 | ⟨g0, g3⟩ | ⟨n, hn, rfl⟩
    · exact br_f h0 (br_f h1 (br_t g0 (br_f h0 (br_f h1 (br_t g0 ⟨rfl, sr_in ⟨c1, r3, hw, hu, hW, hG, hY, hT⟩⟩)))))
    · exact br_f h0 (br_f h1 (br_f g0 (br_f g3 (br_f h0 (br_f h1 (br_f g0 (br_f g3 ⟨rfl, sr_in ⟨c1, r3, hw, hu, hW, hG, hY, hT⟩⟩)))))))
    · have g0 : ¬ nI n < 0 := nI_pos (by omega)
      have g3 : nI n ≤ 3 := nI_le (b := 3) hn (by decide)
      have s3 := r3 s
      have eup : sm_up rm s (rm s) = rm := sm_ui rfl
      refine br_f h0 (br_f h1 (br_f g0 (br_t g3 ⟨4, sx_room28 (rm := rm) hs hn hw hu (fun o' fl fs ff ro se ld re opn li hW' hG' => ?_) 3 0 (rm s) o _ _ _ _ _ _ _ _ _ rfl (by omega) s3 (by rw [eup]; exact hW) (by rw [eup]; exact hG)⟩)))
      refine br_f h0 (br_f h1 (br_f g0 (br_t g3 ⟨is, nm_r (e' := upd b_rooms s (nI n)) (by rw [ec]) ⟨rfl, sr_in ⟨c1, fun t => ?_, hw, hu, hW', hG', ⟨sx_wr hY.1 rfl, hY.2⟩, Or.inl rfl⟩⟩⟩)))
      by_cases e : t = s
      · rw [e, sm_us]; exact hn
      · rw [sm_un e]; exact r3 t
end
section
/-! revalue and bring -/
theorem sm_low0 {lo hi rm w w' : Nat → Nat} {U : Nat → Prop} {o : Nat → Option Nat} {k : Nat} (hw : ∀ i, i ≠ k → w' i = w i) (hwk : w' k ≤ w k) (hok : o k = none) (hD : sm_Dom lo hi rm w U (fun i => o i ≠ none)) : sm_Dom lo hi rm w' U (fun i => o i ≠ none) := by
  have hkw : ∀ i, i ≠ k → sm_kw w' i = sm_kw w i := fun i hi => by unfold sm_kw; rw [hw i hi]
  have hkk : sm_kw w' k ≤ sm_kw w k := by unfold sm_kw; omega
  intro q hq hU t
  have a : sm_cn (fun i => q i ≠ none ∧ t ≤ sm_kw w' i) ≤ sm_cn (fun i => q i ≠ none ∧ t ≤ sm_kw w i) := sm_cn_le fun i _ h => ⟨h.1, by
    by_cases e : i = k
    · have := h.2; rw [e] at this ⊢; omega
    · rw [← hkw i e]; exact h.2⟩
  refine Nat.le_trans (Nat.le_trans a (hD q hq hU t)) (sm_cn_le fun i _ h => ⟨h.1, ?_⟩)
  rw [hkw i fun e => h.1 (e ▸ hok)]; exact h.2
theorem sm_raise {lo hi rm w w' : Nat → Nat} {U : Nat → Prop} {o : Nat → Option Nat} {k : Nat} (hk : k < 7) (hw : ∀ i, i ≠ k → w' i = w i) (hwk : w k ≤ w' k) (hok : o k ≠ none) (hD : sm_Dom lo hi rm w U (fun i => o i ≠ none)) : sm_Dom lo hi rm w' U (fun i => o i ≠ none) := by
  have hkw : ∀ i, i ≠ k → sm_kw w' i = sm_kw w i := fun i hi => by unfold sm_kw; rw [hw i hi]
  have hkk : sm_kw w k ≤ sm_kw w' k := by unfold sm_kw; omega
  intro q hq hU t
  have d : sm_cn (fun i => q i ≠ none ∧ t ≤ sm_kw w i) ≤ sm_cn (fun i => o i ≠ none ∧ t ≤ sm_kw w i) := hD q hq hU t
  show sm_cn (fun i => q i ≠ none ∧ t ≤ sm_kw w' i) ≤ sm_cn (fun i => o i ≠ none ∧ t ≤ sm_kw w' i)
  by_cases h : t ≤ sm_kw w k ∨ ¬ t ≤ sm_kw w' k
  · have e : ∀ i, t ≤ sm_kw w' i ↔ t ≤ sm_kw w i := fun i => by
      by_cases ei : i = k
      · rw [ei]; omega
      · rw [hkw i ei]
    have e1 : ∀ p : Nat → Option Nat, sm_cn (fun i => p i ≠ none ∧ t ≤ sm_kw w' i) = sm_cn (fun i => p i ≠ none ∧ t ≤ sm_kw w i) := fun p => sm_cn_eq fun i _ => ⟨fun z => ⟨z.1, (e i).mp z.2⟩, fun z => ⟨z.1, (e i).mpr z.2⟩⟩
    rw [e1 q, e1 o]; exact d
  · have a : sm_cn (fun i => q i ≠ none ∧ t ≤ sm_kw w' i) ≤ sm_cn (fun i => q i ≠ none ∧ t ≤ sm_kw w i) + 1 := sm_cn_le1 hk fun i _ hne z => ⟨z.1, by rw [← hkw i hne]; exact z.2⟩
    have b : sm_cn (fun i => o i ≠ none ∧ t ≤ sm_kw w' i) = sm_cn (fun i => o i ≠ none ∧ t ≤ sm_kw w i) + 1 :=
      sm_cn_add1 hk (fun i _ hne => ⟨fun z => ⟨z.1, by rw [hkw i hne]; exact z.2⟩, fun z => ⟨z.1, by rw [← hkw i hne]; exact z.2⟩⟩) (fun z => h (Or.inl z.2)) ⟨hok, by omega⟩
    omega
theorem sr_WO {w : Nat → Nat} {a : Nat → Int32} {j x : Nat} (hx : x ≤ 20) (h : sx_WO w a) : sx_WO (sm_up w j x) (upd a j (nI x)) := by
  refine ⟨fun i => ?_, sx_wr h.2 rfl⟩
  by_cases e : i = j
  · rw [e, sm_us]; exact hx
  · rw [sm_un e]; exact h.1 i
/-- a worth from 1 to 20, or none -/
theorem sr_worth (v : Int32) : v < 1 ∨ (¬ v < 1 ∧ ¬ v ≤ 20) ∨ ∃ n, 1 ≤ n ∧ n ≤ 20 ∧ v = nI n := by
  by_cases h1 : v < 1
  · exact Or.inl h1
  · have h0 : ¬ v < 0 := fun z => h1 (Int32.lt_trans z (by decide))
    obtain ⟨s, hs, rfl⟩ := nI_of h0
    have : ¬ s < 1 := fun z => h1 (nI_lt (b := 1) z (by decide))
    by_cases h : s ≤ 20
    · exact Or.inr (Or.inr ⟨s, by omega, h, rfl⟩)
    · exact Or.inr (Or.inl ⟨h1, nI_ge (a := 20) (by omega) hs⟩)
theorem i_vc_revalue {k : Nat} {u : SX} {v : SY} (I : i_Rel k u v) (hk : k + 4 ≤ 2050) (v1 : Int32) (v2 : Int32) : wpX_revalue (fun r u' => wpY_revalue (fun r' v' => r' = r ∧ i_Rel (k + 4) u' v') v v1 v2) u v1 v2 := by
  refine sr_el (P := fun u v => wpX_revalue (fun r u' => wpY_revalue (fun r' v' => r' = r ∧ i_Rel (k + 4) u' v') v v1 v2) u v1 v2) ?_ I
  intro cap us lo hi rm w o f_lineEnd f_freeSlot f_freeFor f_tableKnown a_used a_first a_last a_worths a_rooms a_seat a_load a_reached a_opener a_line a_savedSeat a_savedLoad a_savedFirst a_savedLast a_table b_rooms a_held a_from a_to a_value a_lo a_hi a_can hF
  obtain ⟨c1, r3, hw, hu, hW, hG, hY, hT⟩ := hF
  have hc := hW.1
  have hB := sr_BD hw hu hW
  have ho := sr_ho hG.1
  by_cases h : ∃ j, us j ∧ v1 = nI j
  · obtain ⟨j, hj, rfl⟩ := h
    have hjc := hu.1 j hj
    have hj7 : j < 7 := by omega
    have ij : vp_in (nI j) 8 := vp_in_nI (by omega) (by decide)
    have i7 : vp_in (nI j) 7 := vp_in_nI hj7 (by decide)
    have ec : (nI j).toNatClampNeg = j := nI_clamp (by omega)
    have es : a_seat (nI j).toNatClampNeg = sx_eO (o j) := by rw [ec]; exact hG.1.2.1.1 j (by omega)
    have ew : a_worths (nI j).toNatClampNeg = nI (w j) := by rw [ec]; exact hw.2 j (by omega)
    have w20 := hw.1 j
    unfold wpX_revalue
    refine sx_holds1 hc hu hj ?_
    refine br_f (by decide) ?_
    rcases sr_worth v2 with g | ⟨g, g2⟩ | ⟨x, x1, x20, rfl⟩
    · refine br_t g ?_
      unfold wpY_revalue
      refine sy_there1 hY.2.1 hj7 hj ?_
      exact br_f (by decide) (br_t g ⟨rfl, sr_in ⟨c1, r3, hw, hu, hW, hG, hY, hT⟩⟩)
    · refine br_f g (br_f g2 ?_)
      unfold wpY_revalue
      refine sy_there1 hY.2.1 hj7 hj ?_
      exact br_f (by decide) (br_f g (br_f g2 ⟨rfl, sr_in ⟨c1, r3, hw, hu, hW, hG, hY, hT⟩⟩))
    · have g1 : ¬ nI x < 1 := nI_nlt (b := 1) x1 (by omega)
      have g2 : nI x ≤ 20 := nI_le (b := 20) x20 (by decide)
      have hw' := sr_WO (j := j) x20 hw
      have c1' : 1 ≤ cap ∧ ∀ i, us i → 1 ≤ sm_up w j x i := ⟨c1.1, fun i z => by
        by_cases e : i = j
        · rw [e, sm_us]; exact x1
        · rw [sm_un e]; exact c1.2 i z⟩
      have hwne : ∀ i, i ≠ j → sm_up w j x i = w i := fun i hi => sm_un hi
      -- what the reference does, for every end of the other
      have KY : ∀ (o' : Nat → Option Nat) (fl fs ff : Int32) (se ld re opn li : Nat → Int32), sx_GD cap lo hi rm (sm_up w j x) us o' se ld →
          wpY_revalue (fun r' v' => r' = 1 ∧ i_Rel (k + 4) (nI cap, fl, fs, ff, 0, a_used, a_first, a_last, upd a_worths j (nI x), a_rooms, se, ld, re, opn, li, a_savedSeat, a_savedLoad, a_savedFirst, a_savedLast, a_table) v') (nI cap, b_rooms, a_held, a_from, a_to, a_value, a_lo, a_hi, a_can) (nI j) (nI x) := by
        intro o' fl fs ff se ld re opn li hG'
        unfold wpY_revalue
        refine sy_there1 hY.2.1 hj7 hj ?_
        refine br_f (by decide) (br_f g1 (br_t g2 ⟨i7, nm_r (e' := upd a_value j (nI x)) (by rw [ec]) ⟨rfl, sr_in ⟨c1', r3, hw', hu, hW, hG', ⟨hY.1, hY.2.1, hY.2.2.1, hY.2.2.2.1, sx_wr hY.2.2.2.2 rfl⟩, Or.inl rfl⟩⟩⟩))
      refine br_f g1 (br_t g2 ⟨ij, nm_r ew ⟨ij, nm_r (e' := upd a_worths j (nI x)) (by rw [ec, sx_by2 (by omega)]) ⟨ij, ?_⟩⟩⟩)
      rw [es]
      by_cases hoj : o j = none
      · refine br_f (sx_eO_n' hoj) ?_
        by_cases hx : x ≤ w j
        · refine br_t (nI_le hx (by omega)) (And.intro ij (br_t (by rw [es]; exact sx_eO_n hoj) (KY o _ _ _ _ _ _ _ _ ⟨hG.1, hG.2.1, sm_low0 hwne (by rw [sm_us]; exact hx) hoj hG.2.2⟩)))
        · refine br_f (nI_ge (by omega) (by omega)) (sx_contest hjc hw' hW hG.1 hoj fun o' fl fs ff se ld re opn li hP' hCo => ?_)
          have hK := KY o' fl fs ff se ld re opn li ⟨hP', sm_Con_us hj hG.2.1 hCo, sm_bring hW.2.2.1 hj7 hG.1.1 hB.1 hG.2.1 (sm_Dom_sub (fun i h => h.1) hG.2.2) hoj (fun _ _ => rfl) (fun _ _ => rfl) hwne hCo⟩
          exact And.intro ij (br_c (fun _ => hK) (fun _ => br_t (nI_le (by omega) (by omega)) hK))
      · obtain ⟨t, et⟩ := sm_some hoj
        have ht := ho j t et
        refine br_t (sx_eO_s' et (by omega)) (And.intro ij (br_f (by rw [es]; exact sx_eO_s et (by omega)) ?_))
        by_cases hx : w j ≤ x
        · exact br_t (nI_le hx (by omega)) (KY o _ _ _ _ _ _ _ _ ⟨hG.1, hG.2.1, sm_raise hj7 hwne (by rw [sm_us]; exact hx) hoj hG.2.2⟩)
        · exact br_f (nI_ge (by omega) (by omega)) (sx_vacate hj7 ho hG.1.2.1 fun se ld hS1 => sx_fill hw' hu hW ⟨sm_Val_out hG.1.1 hj7, hS1, fun i t h => hG.1.2.2 i t (sm_out_some h).1⟩ fun o' fl fs ff se ld re opn li hP' hF => KY o' fl fs ff se ld re opn li ⟨hP', sm_Fil_us (fun i hi => hG.2.1 i (sm_out_none hi).1) hF, sm_lower hW.2.2.1 hj7 hG.1.1 hB.1 hG.2.1 hG.2.2 hoj hwne (by rw [sm_us]; omega) hF⟩)
  · unfold wpX_revalue
    refine sx_holds0 hc hu h ?_
    refine br_t rfl ?_
    unfold wpY_revalue
    refine sy_there0 hY.2.1 h ?_
    exact br_t rfl ⟨rfl, sr_in ⟨c1, r3, hw, hu, hW, hG, hY, hT⟩⟩
end
section
/-! bring -/
theorem sr_US1 {cap : Nat} {us : Nat → Prop} {a : Nat → Int32} {j : Nat} (hj : j < cap) (hu : sx_US cap us a) : sx_US cap (fun i => us i ∨ i = j) (upd a j 1) := by
  refine ⟨fun i h => h.elim (hu.1 i) (fun e => e ▸ hj), fun i hi => ?_⟩
  by_cases e : i = j
  · rw [e, sx_us, sx_bI1 (Or.inr rfl)]
  · rw [sx_un e, hu.2 i hi]; exact sx_bIx ⟨Or.inl, fun z => z.resolve_right e⟩
section
variable {f_capacity f_lineEnd f_freeSlot f_freeFor f_tableKnown : Int32} {a_used a_first a_last a_worths a_rooms a_seat a_load a_reached a_opener a_line a_savedSeat a_savedLoad a_savedFirst a_savedLast a_table : Nat → Int32}
theorem sx_bring31 {post : Int32 → SX → Prop} {cap : Nat} {lo hi rm w : Nat → Nat} {us : Nat → Prop} {o : Nat → Option Nat} {a b x : Nat} (hab : a ≤ b) (hb : b ≤ 11) (hx : x ≤ 20) (hw : sx_WO w a_worths) (hu : sx_US cap us a_used)
    (hW : sx_WA cap lo hi rm a_first a_last a_rooms) (hG : sx_GD cap lo hi rm w us o a_seat a_load)
    (K0 : (∀ i, i < cap → us i) → post (-2) (nI cap, f_lineEnd, f_freeSlot, f_freeFor, f_tableKnown, a_used, a_first, a_last, a_worths, a_rooms, a_seat, a_load, a_reached, a_opener, a_line, a_savedSeat, a_savedLoad, a_savedFirst, a_savedLast, a_table))
    (K1 : ∀ j o' fl fs ff us' fi la wo se ld re opn li, j < cap → ¬ us j → (∀ i, i < j → us i) → sx_US cap (fun i => us i ∨ i = j) us' → sx_WO (sm_up w j x) wo → sx_WA cap (sm_up lo j a) (sm_up hi j b) rm fi la a_rooms →
      sx_GD cap (sm_up lo j a) (sm_up hi j b) rm (sm_up w j x) (fun i => us i ∨ i = j) o' se ld →
      post (nI j) (nI cap, fl, fs, ff, 0, us', fi, la, wo, a_rooms, se, ld, re, opn, li, a_savedSeat, a_savedLoad, a_savedFirst, a_savedLast, a_table)) :
    ∀ d j, j + d = cap → (∀ i, i < j → us i) → wX_bring_31 post (nI a) (nI b) (nI x) (nI cap) f_lineEnd f_freeSlot f_freeFor f_tableKnown a_used a_first a_last a_worths a_rooms a_seat a_load a_reached a_opener a_line a_savedSeat a_savedLoad a_savedFirst a_savedLast a_table (d + 1) (nI j) := by
  have hc := hW.1
  intro d
  induction d with
  | zero =>
    intro j hd hall
    exact br_t (nI_le (by omega) (by omega)) (K0 fun i hi => hall i (by omega))
  | succ d ih =>
    intro j hd hall
    have hj7 : j < 7 := by omega
    have ij : vp_in (nI j) 8 := vp_in_nI (by omega) (by decide)
    have ec : (nI j).toNatClampNeg = j := nI_clamp (by omega)
    have eu : a_used (nI j).toNatClampNeg = sx_bI (us j) := by rw [ec]; exact hu.2 j (by omega)
    refine br_f (nI_ge (by omega) (by omega)) ⟨ij, ?_⟩
    by_cases huj : us j
    · refine br_f (fun z => sx_bI_0.mp (eu.symm.trans z) huj) (nm_r (nI_1 j) (ih (j + 1) (by omega) fun i hi => ?_))
      by_cases e : i = j
      · rw [e]; exact huj
      · exact hall i (by omega)
    · have hoj : o j = none := by
        cases e : o j with
        | none => rfl
        | some t => exact absurd (hG.2.1 j (sm_ns e)) huj
      have hjc : j < cap := by omega
      have hwn := sr_WO (j := j) hx hw
      have hun := sr_US1 hjc hu
      have hWn : sx_WA cap (sm_up lo j a) (sm_up hi j b) rm (upd a_first j (nI a)) (upd a_last j (nI b)) a_rooms := by
        obtain ⟨_, w1, w2, w3, w4, w5, w6⟩ := hW
        refine ⟨hc, fun i => ?_, fun i => ?_, w3, sx_wr w4 rfl, sx_wr w5 rfl, w6⟩
        · by_cases e : i = j
          · rw [e, sm_us, sm_us]; exact hab
          · rw [sm_un e, sm_un e]; exact w1 i
        · by_cases e : i = j
          · rw [e, sm_us]; exact hb
          · rw [sm_un e]; exact w2 i
      have hPn : sx_PL cap (sm_up lo j a) (sm_up hi j b) rm o (upd a_seat j (-1)) a_load := by
        refine ⟨⟨fun i t h => ?_, hG.1.1.2⟩, ⟨fun i hi => ?_, hG.1.2.1.2⟩, hG.1.2.2⟩
        · have e : i ≠ j := fun e => by rw [e, hoj] at h; exact nomatch h
          rw [sm_un e, sm_un e]; exact hG.1.1.1 i t h
        · by_cases e : i = j
          · rw [e, sx_us, hoj]; rfl
          · rw [sx_un e]; exact hG.1.2.1.1 i hi
      refine br_t (eu.trans (sx_bI0 huj)) ⟨ij, nm_r (e' := upd a_used j 1) (by rw [ec]; rfl) ⟨ij, nm_r (e' := upd a_first j (nI a)) (by rw [ec, sx_by2 (by omega)]) ⟨ij, nm_r (e' := upd a_last j (nI b)) (by rw [ec, sx_by2 (by omega)]) ⟨ij, nm_r (e' := upd a_worths j (nI x)) (by rw [ec, sx_by2 (by omega)]) ⟨ij, nm_r (e' := upd a_seat j (-1)) (by rw [ec, sx_bym]) ?_⟩⟩⟩⟩⟩
      refine sx_contest hjc hwn hWn hPn hoj fun o' fl fs ff se ld re opn li hP' hCo => K1 j o' _ _ _ _ _ _ _ _ _ _ _ _ hjc huj hall hun hwn hWn ⟨hP', sm_Con_us (Or.inr rfl) (fun i hi => Or.inl (hG.2.1 i hi)) hCo, ?_⟩
      refine sm_bring (lo := lo) (hi := hi) (w := w) hW.2.2.1 hj7 hG.1.1 (fun i h => by have := hun.1 i h; omega) (fun i hi => Or.inl (hG.2.1 i hi)) (sm_Dom_sub (fun i h => h.1.resolve_right h.2) hG.2.2) hoj (fun i hi => sm_un hi) (fun i hi => sm_un hi) (fun i hi => sm_un hi) hCo
end
section
variable {f_cap : Int32} {a_rooms a_held a_from a_to a_value a_lo a_hi a_can : Nat → Int32}
theorem sy_bring31 {post : Int32 → SY → Prop} {x1 x2 x3 : Int32} {us : Nat → Prop} {j : Nat} (hh : ∀ i, i < 7 → a_held i = sx_bI (us i)) (hall : ∀ i, i < j → us i) (hj : j ≤ 7) (hn : j < 7 → ¬ us j) (K : wY_bring_54 post x1 x2 x3 (nI j) f_cap a_rooms a_held a_from a_to a_value a_lo a_hi a_can) : ∃ n, wY_bring_31 post x1 x2 x3 f_cap a_rooms a_held a_from a_to a_value a_lo a_hi a_can n 0 := by
  have L : ∀ d i, i + d = j → wY_bring_31 post x1 x2 x3 f_cap a_rooms a_held a_from a_to a_value a_lo a_hi a_can (d + 1) (nI i) := by
    intro d
    induction d with
    | zero =>
      intro i hd
      have : i = j := by omega
      subst this
      by_cases h7 : 7 ≤ i
      · exact br_t (nI_le (a := 7) h7 (by omega)) K
      · have e : a_held (nI i).toNatClampNeg = sx_bI (us i) := by rw [nI_clamp (by omega)]; exact hh i (by omega)
        exact br_f (nI_ge (b := 7) (by omega) (by decide)) ⟨vp_in_nI (by omega) (by decide), br_t (e.trans (sx_bI0 (hn (by omega)))) K⟩
    | succ d ih =>
      intro i hd
      have e : a_held (nI i).toNatClampNeg = sx_bI (us i) := by rw [nI_clamp (by omega)]; exact hh i (by omega)
      exact br_f (nI_ge (b := 7) (by omega) (by decide)) ⟨vp_in_nI (by omega) (by decide), br_f (fun z => sx_bI_0.mp (e.symm.trans z) (hall i (by omega))) (nm_r (nI_1 i) (ih (i + 1) (by omega)))⟩
  exact ⟨j + 1, L j 0 (by omega)⟩
end
theorem i_vc_bring {k : Nat} {u : SX} {v : SY} (I : i_Rel k u v) (hk : k + 4 ≤ 2050) (v1 : Int32) (v2 : Int32) (v3 : Int32) : wpX_bring (fun r u' => wpY_bring (fun r' v' => r' = r ∧ i_Rel (k + 4) u' v') v v1 v2 v3) u v1 v2 v3 := by
  refine sr_el (P := fun u v => wpX_bring (fun r u' => wpY_bring (fun r' v' => r' = r ∧ i_Rel (k + 4) u' v') v v1 v2 v3) u v1 v2 v3) ?_ I
  intro cap us lo hi rm w o f_lineEnd f_freeSlot f_freeFor f_tableKnown a_used a_first a_last a_worths a_rooms a_seat a_load a_reached a_opener a_line a_savedSeat a_savedLoad a_savedFirst a_savedLast a_table b_rooms a_held a_from a_to a_value a_lo a_hi a_can hF
  obtain ⟨c1, r3, hw, hu, hW, hG, hY, hT⟩ := hF
  have hc := hW.1
  by_cases h1 : v1 < 0
  · exact br_t h1 (br_t h1 ⟨rfl, sr_in ⟨c1, r3, hw, hu, hW, hG, hY, hT⟩⟩)
  · by_cases h2 : v2 < v1
    · exact br_f h1 (br_t h2 (br_f h1 (br_t h2 ⟨rfl, sr_in ⟨c1, r3, hw, hu, hW, hG, hY, hT⟩⟩)))
    · by_cases h3 : 11 < v2
      · exact br_f h1 (br_f h2 (br_t h3 (br_f h1 (br_f h2 (br_t h3 ⟨rfl, sr_in ⟨c1, r3, hw, hu, hW, hG, hY, hT⟩⟩)))))
      · rcases sr_worth v3 with g | ⟨g, g2⟩ | ⟨x, x1, x20, rfl⟩
        · exact br_f h1 (br_f h2 (br_f h3 (br_t g (br_f h1 (br_f h2 (br_f h3 (br_t g ⟨rfl, sr_in ⟨c1, r3, hw, hu, hW, hG, hY, hT⟩⟩)))))))
        · exact br_f h1 (br_f h2 (br_f h3 (br_f g (br_f g2 (br_f h1 (br_f h2 (br_f h3 (br_f g (br_f g2 ⟨rfl, sr_in ⟨c1, r3, hw, hu, hW, hG, hY, hT⟩⟩)))))))))
        · have g1 : ¬ nI x < 1 := nI_nlt (b := 1) x1 (by omega)
          have g2 : nI x ≤ 20 := nI_le (b := 20) x20 (by decide)
          have h20 : ¬ v2 < 0 := fun z => h2 (Int32.lt_of_lt_of_le z (Int32.not_lt.mp h1))
          obtain ⟨a, ha, rfl⟩ := nI_of h1
          obtain ⟨b, hb, rfl⟩ := nI_of h20
          have hab : a ≤ b := by
            by_cases z : b < a
            · exact absurd (nI_lt z ha) h2
            · omega
          have hb11 : b ≤ 11 := by
            by_cases z : 11 < b
            · exact absurd (nI_lt (a := 11) z hb) h3
            · omega
          refine br_f h1 (br_f h2 (br_f h3 (br_f g1 (br_t g2 ⟨cap + 1, sx_bring31 hab hb11 x20 hw hu hW hG (fun hfull => ?_) (fun j o' fl fs ff us' fi la wo se ld re opn li hjc huj hall hu' hw' hW' hG' => ?_) cap 0 (by omega) fun i hi => absurd hi (Nat.not_lt_zero i)⟩))))
          · refine br_f h1 (br_f h2 (br_f h3 (br_f g1 (br_t g2 ?_))))
            refine sy_bring31 hY.2.1 (us := us) (j := cap) hfull hc (fun _ z => Nat.lt_irrefl cap (hu.1 cap z)) ?_
            unfold wY_bring_54
            refine sy_inUse hY.2.1 ?_
            have e : sm_cn us = cap := by
              rw [sm_cn_eq (Q := fun i => i < cap) fun i _ => ⟨hu.1 i, hfull i⟩, sm_cn_cap cap hc]
            rw [e]
            exact br_t (nI_le (Nat.le_refl _) (by omega)) ⟨rfl, sr_in ⟨c1, r3, hw, hu, hW, hG, hY, hT⟩⟩
          · have hj7 : j < 7 := by omega
            have ij : vp_in (nI j) 7 := vp_in_nI hj7 (by decide)
            have c1' : 1 ≤ cap ∧ ∀ i, (us i ∨ i = j) → 1 ≤ sm_up w j x i := ⟨c1.1, fun i z => by
              by_cases e : i = j
              · rw [e, sm_us]; exact x1
              · rw [sm_un e]; exact c1.2 i (z.resolve_right e)⟩
            have ec : (nI j).toNatClampNeg = j := nI_clamp (by omega)
            refine br_f h1 (br_f h2 (br_f h3 (br_f g1 (br_t g2 ?_))))
            refine sy_bring31 hY.2.1 hall (by omega) (fun _ => huj) ?_
            unfold wY_bring_54
            refine sy_inUse hY.2.1 ?_
            have e : sm_cn us < cap := by
              have e1 := sm_cn_add1 (P := us) (Q := fun i => us i ∨ i = j) hj7 (fun i _ hne => ⟨Or.inl, fun z => z.resolve_right hne⟩) huj (Or.inr rfl)
              have e2 : sm_cn (fun i => us i ∨ i = j) ≤ sm_cn (fun i => i < cap) := sm_cn_le fun i _ z => hu'.1 i z
              rw [sm_cn_cap cap hc] at e2
              omega
            refine br_f (nI_ge e (by omega)) (br_t (nI_lt (b := 7) hj7 (by decide)) ⟨ij, nm_r (e' := upd a_held j 1) (by rw [ec]; rfl) ⟨ij, nm_r (e' := upd a_from j (nI a)) (by rw [ec]) ⟨ij, nm_r (e' := upd a_to j (nI b)) (by rw [ec]) ⟨ij, nm_r (e' := upd a_value j (nI x)) (by rw [ec]) ⟨rfl, sr_in ⟨c1', r3, hw', hu', hW', hG', ⟨hY.1, fun i hi => ?_, sx_wr hY.2.2.1 rfl, sx_wr hY.2.2.2.1 rfl, sx_wr hY.2.2.2.2 rfl⟩, Or.inl rfl⟩⟩⟩⟩⟩⟩)
            by_cases e : i = j
            · rw [e, sx_us, sx_bI1 (Or.inr rfl)]
            · rw [sx_un e, hY.2.1 i hi]; exact sx_bIx ⟨Or.inl, fun z => z.resolve_right e⟩
end
section
/-! fits -/
theorem sr_mask {p : Int32} {jm : Nat} (hj : jm < 128) (h : (p &&& (nI jm ^^^ (-1))) = 0) : ∃ m, m < 128 ∧ p = nI m ∧ ∀ i, sm_bt m i → sm_bt jm i := by
  have hb : ∀ i, i < 32 → p.toBitVec.getLsbD i = true → (nI jm).toBitVec.getLsbD i = true := by
    intro i hi hp
    have h1 : (p &&& (nI jm ^^^ (-1))).toBitVec.getLsbD i = false := by rw [h]; exact BitVec.getLsbD_zero
    rw [Int32.toBitVec_and, BitVec.getLsbD_and, Int32.toBitVec_xor, BitVec.getLsbD_xor, hp, (by decide +kernel : ∀ i, i < 32 → (-1 : Int32).toBitVec.getLsbD i = true) i hi] at h1
    cases e : (nI jm).toBitVec.getLsbD i with
    | true => rfl
    | false => rw [e] at h1; exact absurd h1 (by decide)
  have e1 : p.toBitVec &&& (nI jm).toBitVec = p.toBitVec := by
    refine BitVec.eq_of_getLsbD_eq fun i hi => ?_
    rw [BitVec.getLsbD_and]
    cases e : p.toBitVec.getLsbD i with
    | false => rfl
    | true => rw [hb i hi e]; rfl
  have e2 : (nI jm).toBitVec.toNat = jm := Nat.mod_eq_of_lt (by omega)
  have e3 : p.toBitVec.toNat ≤ jm := by
    have : (p.toBitVec &&& (nI jm).toBitVec).toNat ≤ (nI jm).toBitVec.toNat := by rw [BitVec.toNat_and]; exact Nat.and_le_right
    rw [e1, e2] at this; exact this
  refine ⟨p.toBitVec.toNat, by omega, Int32.toBitVec_inj.mp (by show _ = BitVec.ofNat 32 _; simp), fun i hi => ?_⟩
  have hi7 := sm_bt7 (by omega) hi
  have a : p.toBitVec.getLsbD i = true := by
    rw [← BitVec.testBit_toNat, Nat.testBit_eq_decide_div_mod_eq]; exact decide_eq_true (show p.toBitVec.toNat / 2 ^ i % 2 = 1 from hi)
  have b := hb i (by omega) a
  rw [← BitVec.testBit_toNat, Nat.testBit_eq_decide_div_mod_eq, e2] at b
  have b' : jm / 2 ^ i % 2 = 1 := of_decide_eq_true b
  exact b'
section
variable {f_capacity f_lineEnd f_freeSlot f_freeFor f_tableKnown : Int32} {a_used a_first a_last a_worths a_rooms a_seat a_load a_reached a_opener a_line a_savedSeat a_savedLoad a_savedFirst a_savedLast a_table : Nat → Int32}
theorem sx_fits28 {post : Int32 → SX → Prop} {cap : Nat} {lo hi rm : Nat → Nat} {o : Nat → Option Nat} {al m : Nat} (hm : m < 128) (hmc : ∀ i, sm_bt m i → i < cap) (hma : ∀ i, sm_bt m i → sm_bt al i) (hW : sx_WA cap lo hi rm a_first a_last a_rooms) (ho : ∀ i t, o i = some t → t < 12) (hS : sx_SE o a_savedSeat a_savedLoad)
    (K : ∀ fl fs ff se ld re opn li, sx_SE o se ld → post (sx_bI (sm_Fm lo hi rm al m)) (nI cap, fl, fs, ff, f_tableKnown, a_used, a_first, a_last, a_worths, a_rooms, se, ld, re, opn, li, a_savedSeat, a_savedLoad, a_savedFirst, a_savedLast, a_table)) :
    ∀ d k o1 f_lineEnd f_freeSlot f_freeFor a_seat a_load a_reached a_opener a_line, k + d = cap → sx_PL cap lo hi rm o1 a_seat a_load → (∀ i, o1 i ≠ none ↔ sm_bt m i ∧ i < k) → wX_fits_28 post (nI m) (d + 2) 1 (nI k) (nI cap) f_lineEnd f_freeSlot f_freeFor f_tableKnown a_used a_first a_last a_worths a_rooms a_seat a_load a_reached a_opener a_line a_savedSeat a_savedLoad a_savedFirst a_savedLast a_table := by
  have hc := hW.1
  intro d
  induction d with
  | zero =>
    intro k o1 f_lineEnd f_freeSlot f_freeFor a_seat a_load a_reached a_opener a_line hd hP hpl
    have hT : sm_Fm lo hi rm al m := ⟨hma, o1, hP.1, fun i => (hpl i).trans ⟨fun z => z.1, fun z => ⟨z, by have := hmc i z; omega⟩⟩⟩
    refine br_t (nI_le (by omega) (by omega)) (sx_restore ho hS fun se ld hS1 => ⟨rfl, ?_⟩)
    have := K f_lineEnd f_freeSlot f_freeFor se ld a_reached a_opener a_line hS1
    rw [sx_bI1 hT] at this
    exact this
  | succ d ih =>
    intro k o1 f_lineEnd f_freeSlot f_freeFor a_seat a_load a_reached a_opener a_line hd hP hpl
    have hk7 : k < 7 := by omega
    refine br_f (nI_ge (by omega) (by omega)) (br_f (by decide) ?_)
    by_cases hb : sm_bt m k
    · have h0 : o1 k = none := by
        cases e : o1 k with
        | none => rfl
        | some t => exact absurd ((hpl k).mp (sm_ns e)).2 (Nat.lt_irrefl k)
      refine br_f (fun z => (sx_bit0 hm hk7).mp z hb) (sx_place hk7 hW hP h0 (fun o' fl fs ff se ld re opn li hV' hpl' hS' => nm_r (nI_1 k) (ih (k + 1) o' _ _ _ _ _ _ _ _ (by omega) ⟨hV', hS', fun i t h => ?_⟩ fun i => (hpl' i).trans ⟨fun z => ?_, fun z => ?_⟩)) (fun fl fs ff re opn li _ hCl => nm_r (nI_1 k) ?_))
      · have := (hpl' i).mp (sm_ns h)
        exact this.elim (fun z => by
          have := ((hpl i).mp z).2
          omega) (fun z => by omega)
      · exact z.elim (fun y => ⟨((hpl i).mp y).1, by have := ((hpl i).mp y).2; omega⟩) (fun y => ⟨y ▸ hb, by omega⟩)
      · by_cases e : i = k
        · exact Or.inr e
        · exact Or.inl ((hpl i).mpr ⟨z.1, by omega⟩)
      · have hN : ¬ sm_Fm lo hi rm al m := fun ⟨_, q, hq, hqp⟩ => sm_nofit hk7 h0 hP.1 sm_Rc_0 hCl (fun i h => sm_Rc_pl h) hq fun i hi => (hqp i).mpr (hi.elim (fun z => ((hpl i).mp z).1) (fun z => z ▸ hb))
        have hX : wX_fits_63 post 0 (nI cap) fl fs ff f_tableKnown a_used a_first a_last a_worths a_rooms a_seat a_load re opn li a_savedSeat a_savedLoad a_savedFirst a_savedLast a_table := by
          refine sx_restore ho hS fun se ld hS1 => ⟨rfl, ?_⟩
          have := K fl fs ff se ld re opn li hS1
          rw [sx_bI0 hN] at this
          exact this
        exact br_c (fun _ => hX) (fun _ => br_t rfl hX)
    · refine br_t ((sx_bit0 hm hk7).mpr hb) (nm_r (nI_1 k) (ih (k + 1) o1 _ _ _ _ _ _ _ _ (by omega) hP fun i => (hpl i).trans ⟨fun z => ⟨z.1, by omega⟩, fun z => ⟨z.1, ?_⟩⟩))
      have : i ≠ k := fun e => hb (e ▸ z.1)
      omega
end
theorem i_vc_fits {k : Nat} {u : SX} {v : SY} (I : i_Rel k u v) (hk : k + 4 ≤ 2050) (v1 : Int32) : wpX_fits (fun r u' => wpY_fits (fun r' v' => r' = r ∧ i_Rel (k + 4) u' v') v v1) u v1 := by
  refine sr_el (P := fun u v => wpX_fits (fun r u' => wpY_fits (fun r' v' => r' = r ∧ i_Rel (k + 4) u' v') v v1) u v1) ?_ I
  intro cap us lo hi rm w o f_lineEnd f_freeSlot f_freeFor f_tableKnown a_used a_first a_last a_worths a_rooms a_seat a_load a_reached a_opener a_line a_savedSeat a_savedLoad a_savedFirst a_savedLast a_table b_rooms a_held a_from a_to a_value a_lo a_hi a_can hF
  obtain ⟨c1, r3, hw, hu, hW, hG, hY, hT⟩ := hF
  have hc := hW.1
  have hB := sr_BD hw hu hW
  have ho := sr_ho hG.1
  have hjm := sm_mk128 us
  unfold wpX_fits
  refine sx_jobs hc hu ?_
  by_cases h : (v1 &&& (nI (sm_mk us 7) ^^^ (-1))) = 0
  · obtain ⟨m, hm, rfl, hsub⟩ := sr_mask hjm h
    refine br_t h ?_
    refine sx_save ho hG.1.2.1 fun ss sl hSS => ?_
    refine sx_empty fun se ld hSE => ⟨cap + 2, ?_⟩
    have hmc : ∀ i, sm_bt m i → i < cap := fun i hi => hu.1 i ((sm_mk_bt us (sm_bt7 hm hi)).mp (hsub i hi))
    refine sx_fits28 (al := sm_mk us 7) hm hmc hsub hW ho hSS (fun fl fs ff se ld re opn li hS1 => ?_) cap 0 (fun _ => none) _ _ _ _ _ _ _ _ (by omega) ⟨sm_Val_none _ _ _, hSE, fun i t e => (nomatch e)⟩ fun i => ⟨fun z => absurd rfl z, fun z => absurd z.2 (Nat.not_lt_zero i)⟩
    unfold wpY_fits
    refine sy_jobs hY.2.1 ?_
    refine br_t h ?_
    refine sy_ask hY.2.2.1 hY.2.2.2.1 fun l hh hl hhi => ?_
    refine sy_sweep hY.1 hB.2.2.2.1 hl hhi (fun i => Nat.le_trans (hB.2.1 i) (hB.2.2.1 i)) hB.2.2.1 hjm fun c hc' => ?_
    show vp_in (nI m &&& 127) 128 ∧ (narrow .boolean (.int (c (nI m &&& 127).toNatClampNeg)) = .int (c (nI m &&& 127).toNatClampNeg) ∧ _)
    rw [sx_and127 m hm, nI_clamp (by omega), hc' m hm]
    exact ⟨vp_in_nI hm (by decide), sx_bI_n, rfl, sr_in ⟨c1, r3, hw, hu, hW, ⟨⟨hG.1.1, hS1, hG.1.2.2⟩, hG.2⟩, hY, hT⟩⟩
  · refine br_f h ?_
    unfold wpY_fits
    refine sy_jobs hY.2.1 ?_
    exact br_f h ⟨rfl, sr_in ⟨c1, r3, hw, hu, hW, hG, hY, hT⟩⟩
end
section
/-! price -/
/-- the answer: the least worth with which job j is in the best set -/
def sr_PR (lo hi rm w : Nat → Nat) (us : Nat → Prop) (j ans : Nat) : Prop :=
  1 ≤ ans ∧ ans ≤ 21 ∧ ∀ x, 1 ≤ x → x ≤ 20 → ∃ o, sm_Val lo hi rm o ∧ (∀ i, o i ≠ none → us i) ∧ sm_Dom lo hi rm (sm_up w j x) us (fun i => o i ≠ none) ∧ (o j ≠ none ↔ ans ≤ x)
section
variable {lo hi rm w : Nat → Nat} {us : Nat → Prop} {o : Nat → Option Nat} {j : Nat}
theorem sr_pr1 (hh : ∀ i, hi i ≤ 11) (hj : j < 7) (huj : us j) (hU7 : ∀ i, us i → i < 7) (hV : sm_Val lo hi rm o) (hU : ∀ i, o i ≠ none → us i) (h0 : o j = none) (hD : sm_Dom lo hi rm w (fun i => us i ∧ i ≠ j) (fun i => o i ≠ none))
    {o' : Nat → Option Nat} (hV' : sm_Val lo hi rm o') (hpl : ∀ i, o' i ≠ none ↔ o i ≠ none ∨ i = j) : sr_PR lo hi rm w us j 1 := by
  refine ⟨Nat.le_refl 1, by decide, fun x x1 x20 => ⟨o', hV', fun i hi => ((hpl i).mp hi).elim (hU i) (fun e => e ▸ huj), ?_, fun _ => x1, fun _ => (hpl j).mpr (Or.inr rfl)⟩⟩
  exact sm_bring hh hj hV hU7 hU hD h0 (fun _ _ => rfl) (fun _ _ => rfl) (fun i hi => sm_un hi) (Or.inl hpl)
theorem sr_pr21 (hh : ∀ i, hi i ≤ 11) (hj : j < 7) (hU7 : ∀ i, us i → i < 7) (hV : sm_Val lo hi rm o) (hU : ∀ i, o i ≠ none → us i) (h0 : o j = none) (hD : sm_Dom lo hi rm w (fun i => us i ∧ i ≠ j) (fun i => o i ≠ none))
    (hCl : sm_Cl lo hi rm o (sm_Rc lo hi o j)) (hR : ∀ r, sm_Rc lo hi o j r → r = j) : sr_PR lo hi rm w us j 21 := by
  refine ⟨by decide, by decide, fun x x1 x20 => ⟨o, hV, hU, ?_, fun z => absurd h0 z, fun z => by omega⟩⟩
  exact sm_bring hh hj hV hU7 hU hD h0 (fun _ _ => rfl) (fun _ _ => rfl) (fun i hi => sm_un hi) (Or.inr ⟨sm_Rc lo hi o j, j, sm_Rc_0, hCl, sm_Rc_0, Or.inr rfl, fun r hr => by rw [hR r hr]; exact Nat.le_refl _, fun i => ⟨fun h => ⟨Or.inl h, fun e => h (e ▸ h0)⟩, fun h => h.1.resolve_right h.2⟩⟩)
theorem sr_prv (hh : ∀ i, hi i ≤ 11) (hj : j < 7) (huj : us j) (hU7 : ∀ i, us i → i < 7) (hV : sm_Val lo hi rm o) (hU : ∀ i, o i ≠ none → us i) (h0 : o j = none) (hD : sm_Dom lo hi rm w (fun i => us i ∧ i ≠ j) (fun i => o i ≠ none))
    (hw1 : ∀ i, us i → 1 ≤ w i) (hw20 : ∀ i, w i ≤ 20) (hCl : sm_Cl lo hi rm o (sm_Rc lo hi o j)) {r : Nat} (hr : sm_Rc lo hi o j r) (hrj : r ≠ j) (hmin : ∀ i, sm_Rc lo hi o j i → i ≠ j → sm_kw w r ≤ sm_kw w i) :
    sr_PR lo hi rm w us j (if j < r then w r else w r + 1) := by
  have hro := (sm_Rc_pl hr).resolve_right hrj
  have hur := hU r hro
  have hr7 := hU7 r hur
  have w1 := hw1 r hur
  have w20 := hw20 r
  refine ⟨?_, ?_, fun x x1 x20 => ?_⟩
  · by_cases z : j < r
    · rw [if_pos z]; exact w1
    · rw [if_neg z]; omega
  · by_cases z : j < r
    · rw [if_pos z]; omega
    · rw [if_neg z]; omega
  · have hkw : ∀ i, i ≠ j → sm_kw (sm_up w j x) i = sm_kw w i := fun i hi => by unfold sm_kw; rw [sm_un hi]
    have hlt := sm_kw_lt (w := sm_up w j x) hj hr7
    rw [sm_us, sm_un hrj] at hlt
    have hans : (w r < x ∨ (w r = x ∧ j < r)) ↔ (if j < r then w r else w r + 1) ≤ x := by
      by_cases z : j < r
      · rw [if_pos z]; omega
      · rw [if_neg z]; omega
    by_cases c : sm_kw (sm_up w j x) r < sm_kw (sm_up w j x) j
    · obtain ⟨o', hV', hpl⟩ := sm_swap hh hV hj h0 hr hrj
      refine ⟨o', hV', fun i hi => ((hpl i).mp hi).1.elim (hU i) (fun e => e ▸ huj), ?_, fun _ => hans.mp (hlt.mp c), fun _ => (hpl j).mpr ⟨Or.inr rfl, fun e => hrj e.symm⟩⟩
      refine sm_bring hh hj hV hU7 hU hD h0 (fun _ _ => rfl) (fun _ _ => rfl) (fun i hi => sm_un hi) (Or.inr ⟨sm_Rc lo hi o j, r, sm_Rc_0, hCl, hr, Or.inl hro, fun i hi => ?_, hpl⟩)
      by_cases e : i = j
      · rw [e]; omega
      · rw [hkw i e, hkw r hrj]; exact hmin i hi e
    · refine ⟨o, hV, hU, ?_, fun z => absurd h0 z, fun z => absurd (hlt.mpr (hans.mpr z)) c⟩
      refine sm_bring hh hj hV hU7 hU hD h0 (fun _ _ => rfl) (fun _ _ => rfl) (fun i hi => sm_un hi) (Or.inr ⟨sm_Rc lo hi o j, j, sm_Rc_0, hCl, sm_Rc_0, Or.inr rfl, fun i hi => ?_, fun i => ⟨fun h => ⟨Or.inl h, fun e => h (e ▸ h0)⟩, fun h => h.1.resolve_right h.2⟩⟩)
      by_cases e : i = j
      · rw [e]; exact Nat.le_refl _
      · have := hmin i hi e
        rw [← hkw i e, ← hkw r hrj] at this
        omega
end
section
variable {f_capacity f_lineEnd f_freeSlot f_freeFor f_tableKnown : Int32} {a_used a_first a_last a_worths a_rooms a_seat a_load a_reached a_opener a_line a_savedSeat a_savedLoad a_savedFirst a_savedLast a_table : Nat → Int32}
theorem sx_against {post : Int32 → Prop} {cap : Nat} {w : Nat → Nat} {R : Nat → Prop} {j : Nat} (hc : cap ≤ 7) (hj : j < cap) (hw : sx_WO w a_worths) (hre : ∀ i, i < 8 → a_reached i = sx_bI (R i)) (hRc : ∀ i, R i → i < cap)
    (K0 : (∀ r, R r → r = j) → post (nI 21)) (K1 : ∀ r, R r → r ≠ j → (∀ i, R i → i ≠ j → sm_kw w r ≤ sm_kw w i) → post (nI (if j < r then w r else w r + 1))) : wpX_priceAgainst post (nI cap, f_lineEnd, f_freeSlot, f_freeFor, f_tableKnown, a_used, a_first, a_last, a_worths, a_rooms, a_seat, a_load, a_reached, a_opener, a_line, a_savedSeat, a_savedLoad, a_savedFirst, a_savedLast, a_table) (nI j) := by
  have L : ∀ d i l, i + d = cap → (l = none → ∀ x, x < i → R x → x = j) → (∀ a, l = some a → (R a ∧ a ≠ j) ∧ ∀ x, x < i → R x → x ≠ j → sm_kw w a ≤ sm_kw w x) → wX_priceAgainst_4 post (nI j) (nI cap) f_lineEnd f_freeSlot f_freeFor f_tableKnown a_used a_first a_last a_worths a_rooms a_seat a_load a_reached a_opener a_line a_savedSeat a_savedLoad a_savedFirst a_savedLast a_table (d + 1) (sx_eO l) (nI i) := by
    intro d
    induction d with
    | zero =>
      intro i l hd hn hs
      refine br_t (nI_le (by omega) (by omega)) ?_
      cases l with
      | none => exact br_f sx_m1' (K0 fun r hr => hn rfl r (by have := hRc r hr; omega) hr)
      | some a =>
        have h := hs a rfl
        have ha := hRc a h.1.1
        have w20 := hw.1 a
        have ew : a_worths (sx_eO (some a)).toNatClampNeg = nI (w a) := by
          show a_worths (nI a).toNatClampNeg = nI (w a)
          rw [nI_clamp (by omega)]; exact hw.2 a (by omega)
        have ia : vp_in (nI a) 8 := vp_in_nI (by omega) (by decide)
        have k1 := K1 a h.1.1 h.1.2 fun r hr hne => h.2 r (by have := hRc r hr; omega) hr hne
        refine br_t (nI_pos' (by omega)) ?_
        by_cases z : j < a
        · rw [if_pos z] at k1
          refine br_f (nI_ge z (by omega)) ⟨ia, ?_⟩
          rw [ew]; exact k1
        · rw [if_neg z] at k1
          refine br_t (nI_le (by omega) (by omega)) ⟨ia, ?_⟩
          rw [ew, nI_1]; exact k1
    | succ d ih =>
      intro i l hd hn hs
      have er : a_reached (nI i).toNatClampNeg = sx_bI (R i) := by rw [nI_clamp (by omega)]; exact hre i (by omega)
      have N : (R i → i = j) → wX_priceAgainst_4 post (nI j) (nI cap) f_lineEnd f_freeSlot f_freeFor f_tableKnown a_used a_first a_last a_worths a_rooms a_seat a_load a_reached a_opener a_line a_savedSeat a_savedLoad a_savedFirst a_savedLast a_table (d + 1) (sx_eO l) (nI (i + 1)) := fun hno => by
        refine ih (i + 1) l (by omega) (fun z x hx hR => ?_) fun a ha => ⟨(hs a ha).1, fun x hx hR hne => ?_⟩
        · by_cases e : x = i
          · rw [e] at hR ⊢; exact hno hR
          · exact hn z x (by omega) hR
        · by_cases e : x = i
          · rw [e] at hR hne; exact absurd (hno hR) hne
          · exact (hs a ha).2 x (by omega) hR hne
      refine br_f (nI_ge (by omega) (by omega)) ⟨vp_in_nI (by omega) (by decide), ?_⟩
      by_cases r : R i
      · refine br_f (fun z => sx_bI_0.mp (er.symm.trans z) r) ?_
        by_cases e : i = j
        · exact br_t (by rw [e]) (nm_r (nI_1 i) (N fun _ => e))
        · refine br_f (fun z => e ((nI_eq (by omega) (by omega)).mp z)) ?_
          cases l with
          | none =>
            refine br_t sx_m1 (nm_r (nI_1 i) (ih (i + 1) (some i) (by omega) (fun z => nomatch z) fun a ha => ?_))
            cases ha
            refine ⟨⟨r, e⟩, fun x hx hR hne => ?_⟩
            by_cases ex : x = i
            · rw [ex]; exact Nat.le_refl _
            · exact absurd (hn rfl x (by omega) hR) hne
          | some a =>
            have h := hs a rfl
            have ha := hRc a h.1.1
            refine br_f (nI_pos (by omega)) (sx_before (by omega) (by omega) hw (fun hk => br_f (by decide) (nm_r (nI_1 i) (ih (i + 1) (some i) (by omega) (fun z => nomatch z) fun b hb => ?_))) (fun hk => br_t rfl (nm_r (nI_1 i) (ih (i + 1) (some a) (by omega) (fun z => nomatch z) fun b hb => ?_))))
            · cases hb
              refine ⟨⟨r, e⟩, fun x hx hR hne => ?_⟩
              by_cases ex : x = i
              · rw [ex]; exact Nat.le_refl _
              · have := h.2 x (by omega) hR hne; omega
            · cases hb
              refine ⟨h.1, fun x hx hR hne => ?_⟩
              by_cases ex : x = i
              · rw [ex]; exact hk
              · exact h.2 x (by omega) hR hne
      · exact br_t (er.trans (sx_bI0 r)) (nm_r (nI_1 i) (N fun z => absurd z r))
  exact ⟨cap + 1, L cap 0 none (by omega) (fun _ x hx => absurd hx (Nat.not_lt_zero x)) (fun a z => nomatch z)⟩
theorem sx_price46 {post : Int32 → SX → Prop} {cap : Nat} {lo hi rm w : Nat → Nat} {us : Nat → Prop} {o o0 : Nat → Option Nat} {j : Nat} (huj : us j) (hw : sx_WO w a_worths) (hu : ∀ i, us i → i < cap) (hw1 : ∀ i, us i → 1 ≤ w i)
    (hW : sx_WA cap lo hi rm a_first a_last a_rooms) (hP : sx_PL cap lo hi rm o a_seat a_load) (hU : ∀ i, o i ≠ none → us i) (h0 : o j = none) (hD : sm_Dom lo hi rm w (fun i => us i ∧ i ≠ j) (fun i => o i ≠ none))
    (ho : ∀ i t, o0 i = some t → t < 12) (hS : sx_SE o0 a_savedSeat a_savedLoad)
    (K : ∀ ans fl fs ff se ld re opn li, sr_PR lo hi rm w us j ans → sx_SE o0 se ld → post (nI ans) (nI cap, fl, fs, ff, f_tableKnown, a_used, a_first, a_last, a_worths, a_rooms, se, ld, re, opn, li, a_savedSeat, a_savedLoad, a_savedFirst, a_savedLast, a_table)) :
    wX_price_46 post (nI j) (nI cap) f_lineEnd f_freeSlot f_freeFor f_tableKnown a_used a_first a_last a_worths a_rooms a_seat a_load a_reached a_opener a_line a_savedSeat a_savedLoad a_savedFirst a_savedLast a_table := by
  have hc := hW.1
  have hjc := hu j huj
  have hj7 : j < 7 := by omega
  have hh := hW.2.2.1
  have hU7 : ∀ i, us i → i < 7 := fun i hi => by have := hu i hi; omega
  unfold wX_price_46
  refine sx_place hj7 hW hP h0 (fun o' fl fs ff se ld re opn li hV' hpl hS' => ?_) (fun fl fs ff re opn li hre hCl => ?_)
  · refine br_f (by decide) ?_
    unfold wX_price_65
    refine sx_restore ho hS fun se2 ld2 hS2 => ?_
    exact K 1 _ _ _ _ _ _ _ _ (sr_pr1 hh hj7 huj hU7 hP.1 hU h0 hD hV' hpl) hS2
  · refine br_t rfl ?_
    refine sx_against (R := sm_Rc lo hi o j) hc hjc hw hre (fun i hi => (sm_Rc_pl hi).elim (fun z => hu i (hU i z)) (fun z => z ▸ hjc)) (fun hR => ?_) (fun r hr hrj hmin => ?_)
    · unfold wX_price_65
      refine sx_restore ho hS fun se2 ld2 hS2 => ?_
      exact K 21 _ _ _ _ _ _ _ _ (sr_pr21 hh hj7 hU7 hP.1 hU h0 hD hCl hR) hS2
    · unfold wX_price_65
      refine sx_restore ho hS fun se2 ld2 hS2 => ?_
      exact K _ _ _ _ _ _ _ _ _ (sr_prv hh hj7 huj hU7 hP.1 hU h0 hD hw1 hw.1 hCl hr hrj hmin) hS2
end
section
variable {f_cap : Int32} {a_rooms a_held a_from a_to a_value a_lo a_hi a_can : Nat → Int32}
theorem sy_price {post : Int32 → SY → Prop} {us : Nat → Prop} {lo hi rm w : Nat → Nat} {j ans : Nat} (hY : sy_YA us lo hi rm w a_rooms a_held a_from a_to a_value) (hB : sy_BD us lo hi rm w) (huj : us j) (hA : sr_PR lo hi rm w us j ans)
    (K : ∀ va l h c, sy_WL w va → post (nI ans) (f_cap, a_rooms, a_held, a_from, a_to, va, l, h, c)) : wpY_price post (f_cap, a_rooms, a_held, a_from, a_to, a_value, a_lo, a_hi, a_can) (nI j) := by
  obtain ⟨a1, a21, hA⟩ := hA
  have hj7 := hB.1 j huj
  have ij : vp_in (nI j) 7 := vp_in_nI hj7 (by decide)
  have ec : (nI j).toNatClampNeg = j := nI_clamp (by omega)
  have ev : a_value (nI j).toNatClampNeg = nI (w j) := by rw [ec]; exact hY.2.2.2.2 j hj7
  have L : ∀ x a_value a_lo a_hi a_can, x ≤ 20 → (∀ i, i < 7 → i ≠ j → a_value i = nI (w i)) → wY_price_24 post (nI j) (nI (w j)) (x + 1) (nI (if ans ≤ x + 1 then x + 1 else ans)) (nI x) f_cap a_rooms a_held a_from a_to a_value a_lo a_hi a_can := by
    intro x
    induction x with
    | zero =>
      intro a_value a_lo a_hi a_can _ hv
      refine br_t (by decide) ⟨ij, nm_r (e' := upd a_value j (nI (w j))) (by rw [ec]) ?_⟩
      have e : (if ans ≤ 0 + 1 then 0 + 1 else ans) = ans := by
        by_cases z : ans ≤ 0 + 1
        · rw [if_pos z]; omega
        · rw [if_neg z]
      rw [e]
      refine K _ _ _ _ fun i hi => ?_
      by_cases ei : i = j
      · rw [ei, sx_us]
      · rw [sx_un ei]; exact hv i hi ei
    | succ x ih =>
      intro a_value a_lo a_hi a_can hx hv
      have hv' : sy_WL (sm_up w j (x + 1)) (upd a_value j (nI (x + 1))) := fun i hi => by
        by_cases ei : i = j
        · rw [ei, sx_us, sm_us]
        · rw [sx_un ei, sm_un ei]; exact hv i hi ei
      have hB' : sy_BD us lo hi rm (sm_up w j (x + 1)) := ⟨hB.1, hB.2.1, hB.2.2.1, hB.2.2.2.1, fun i => by
        by_cases ei : i = j
        · rw [ei, sm_us]; exact hx
        · rw [sm_un ei]; exact hB.2.2.2.2 i⟩
      obtain ⟨o, hV, hU, hD, hin⟩ := hA (x + 1) (by omega) hx
      have hm := sm_mk128 (fun i => o i ≠ none)
      refine br_f (nI_nlt (b := 1) (by omega) (by omega)) ⟨ij, nm_r (e' := upd a_value j (nI (x + 1))) (by rw [ec]) ?_⟩
      refine sy_chosen ⟨hY.1, hY.2.1, hY.2.2.1, hY.2.2.2.1, hv'⟩ hB' hV hU hD fun l h c _ _ => ?_
      have hoff : ∀ i, i < 7 → i ≠ j → upd a_value j (nI (x + 1)) i = nI (w i) := fun i hi ei => by rw [sx_un ei]; exact hv i hi ei
      have ih' := ih (upd a_value j (nI (x + 1))) l h c (by omega) hoff
      by_cases z : ans ≤ x + 1
      · rw [if_pos z] at ih'
        exact br_t ((sx_bit1 hm hj7).mpr ((sm_mk_bt (fun i => o i ≠ none) hj7).mpr (hin.mpr z))) (nm_r (sy_m1 x) ih')
      · rw [if_neg z] at ih'
        have e : (if ans ≤ x + 1 + 1 then x + 1 + 1 else ans) = ans := by
          by_cases y : ans ≤ x + 1 + 1
          · rw [if_pos y]; omega
          · rw [if_neg y]
        rw [e]
        exact br_f (fun y => z (hin.mp ((sm_mk_bt (fun i => o i ≠ none) hj7).mp ((sx_bit1 hm hj7).mp y)))) (nm_r (sy_m1 x) ih')
  unfold wpY_price
  refine sy_there1 hY.2.1 hj7 huj ?_
  refine br_f (by decide) ⟨ij, nm_r ev ⟨21, ?_⟩⟩
  have h := L 20 a_value a_lo a_hi a_can (by decide) fun i hi _ => hY.2.2.2.2 i hi
  rw [if_pos (show ans ≤ 20 + 1 from a21)] at h
  exact h
end
theorem i_vc_price {k : Nat} {u : SX} {v : SY} (I : i_Rel k u v) (hk : k + 4 ≤ 2050) (v1 : Int32) : wpX_price (fun r u' => wpY_price (fun r' v' => r' = r ∧ i_Rel (k + 4) u' v') v v1) u v1 := by
  refine sr_el (P := fun u v => wpX_price (fun r u' => wpY_price (fun r' v' => r' = r ∧ i_Rel (k + 4) u' v') v v1) u v1) ?_ I
  intro cap us lo hi rm w o f_lineEnd f_freeSlot f_freeFor f_tableKnown a_used a_first a_last a_worths a_rooms a_seat a_load a_reached a_opener a_line a_savedSeat a_savedLoad a_savedFirst a_savedLast a_table b_rooms a_held a_from a_to a_value a_lo a_hi a_can hF
  obtain ⟨c1, r3, hw, hu, hW, hG, hY, hT⟩ := hF
  have hc := hW.1
  have hB := sr_BD hw hu hW
  have ho := sr_ho hG.1
  by_cases h : ∃ j, us j ∧ v1 = nI j
  · obtain ⟨j, hj, rfl⟩ := h
    have hjc := hu.1 j hj
    have hj7 : j < 7 := by omega
    have ij : vp_in (nI j) 8 := vp_in_nI (by omega) (by decide)
    have ec : (nI j).toNatClampNeg = j := nI_clamp (by omega)
    have es : a_seat (nI j).toNatClampNeg = sx_eO (o j) := by rw [ec]; exact hG.1.2.1.1 j (by omega)
    unfold wpX_price
    refine sx_holds1 hc hu hj ?_
    refine br_f (by decide) ?_
    refine sx_save ho hG.1.2.1 fun ss sl hSS => ⟨ij, ?_⟩
    rw [es]
    by_cases hoj : o j = none
    · refine br_t (sx_eO_n hoj) ?_
      refine sx_price46 hj hw hu.1 c1.2 hW hG.1 hG.2.1 hoj (sm_Dom_sub (fun i h => h.1) hG.2.2) ho hSS fun ans fl fs ff se ld re opn li hA hS1 => ?_
      exact sy_price hY hB hj hA fun va l h c hva => ⟨rfl, sr_in ⟨c1, r3, hw, hu, hW, ⟨⟨hG.1.1, hS1, hG.1.2.2⟩, hG.2⟩, ⟨hY.1, hY.2.1, hY.2.2.1, hY.2.2.2.1, hva⟩, hT⟩⟩
    · obtain ⟨t, et⟩ := sm_some hoj
      have ht := ho j t et
      have hu1 : sx_US cap us (upd (upd a_used j 0) j 1) := ⟨hu.1, fun i hi => by
        by_cases e : i = j
        · rw [e, sx_us, sx_bI1 hj]
        · rw [sx_un e, sx_un e]; exact hu.2 i hi⟩
      refine br_f (sx_eO_s et (by omega)) ?_
      refine sx_vacate hj7 ho hG.1.2.1 fun se ld hS1 => ⟨ij, nm_r (e' := upd a_used j 0) (by rw [ec]; rfl) ?_⟩
      refine sx_fill hw (sr_US0 hu) hW ⟨sm_Val_out hG.1.1 hj7, hS1, fun i t h => hG.1.2.2 i t (sm_out_some h).1⟩ fun o' fl fs ff se ld re opn li hP' hF => ⟨ij, nm_r (e' := upd (upd a_used j 0) j 1) (by rw [ec]; rfl) ?_⟩
      have hU' := sm_Fil_us (us := fun i => us i ∧ i ≠ j) (fun i hi => ⟨hG.2.1 i (sm_out_none hi).1, (sm_out_none hi).2⟩) hF
      have hoj' : o' j = none := by
        cases e : o' j with
        | none => rfl
        | some t => exact absurd rfl (hU' j (sm_ns e)).2
      refine sx_price46 hj hw hu.1 c1.2 hW hP' (fun i hi => (hU' i hi).1) hoj' (sm_take hW.2.2.1 hj7 hG.1.1 hB.1 hG.2.1 hG.2.2 (fun i => Iff.rfl) hF) ho hSS fun ans fl fs ff se ld re opn li hA hS1 => ?_
      exact sy_price hY hB hj hA fun va l h c hva => ⟨rfl, sr_in ⟨c1, r3, hw, hu1, hW, ⟨⟨hG.1.1, hS1, hG.1.2.2⟩, hG.2⟩, ⟨hY.1, hY.2.1, hY.2.2.1, hY.2.2.2.1, hva⟩, hT⟩⟩
  · unfold wpX_price
    refine sx_holds0 hc hu h ?_
    refine br_t rfl ?_
    unfold wpY_price
    refine sy_there0 hY.2.1 h ?_
    exact br_t rfl ⟨rfl, sr_in ⟨c1, r3, hw, hu, hW, hG, hY, hT⟩⟩
end
