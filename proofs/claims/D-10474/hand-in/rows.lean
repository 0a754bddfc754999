section
/-! the pure meaning of bodies: no program in sight -/
abbrev rq_T : Type := Nat × Int32 × Int32
abbrev rq_B : Type := Nat → rq_T
abbrev rq_S : Type := List Int32 × List Nat
/-- inputs, bodies, lengths -/
abbrev rq_E : Type := (Nat → Int32) × (Nat → rq_B) × (Nat → Nat)
def rq_tl (f : Nat → Nat) : Nat → List Nat
  | 0 => []
  | n + 1 => rq_tl f n ++ [f n]
theorem rq_tl_mem {f : Nat → Nat} {d : Nat} {n : Nat} : d ∈ rq_tl f n ↔ ∃ i, i < n ∧ f i = d := by
  induction n with
  | zero => exact ⟨fun h => absurd h List.not_mem_nil, fun ⟨i, h, _⟩ => absurd h (Nat.not_lt_zero i)⟩
  | succ n ih =>
    show d ∈ rq_tl f n ++ [f n] ↔ _
    rw [List.mem_append, ih, List.mem_singleton]
    constructor
    · rintro (⟨i, h, e⟩ | e)
      · exact ⟨i, by omega, e⟩
      · exact ⟨n, by omega, e.symm⟩
    · rintro ⟨i, h, e⟩
      by_cases hi : i < n
      · exact Or.inl ⟨i, hi, e⟩
      · have h2 : i = n := by omega
        subst h2
        exact Or.inr e.symm
theorem rq_tl_len (f : Nat → Nat) (n : Nat) : (rq_tl f n).length = n := by
  induction n with
  | zero => rfl
  | succ n ih =>
    show (rq_tl f n ++ [f n]).length = n + 1
    rw [List.length_append, ih]
    rfl
theorem rq_tl_snoc {f : Nat → Nat} {c : Nat} {l : List Nat} {d : Nat} (h : l ++ [d] = rq_tl f c) : ∃ c', c = c' + 1 ∧ l = rq_tl f c' ∧ d = f c' := by
  cases c with
  | zero => exact absurd (congrArg List.length h) (by simp [rq_tl])
  | succ c =>
    have h2 := List.append_inj' (show l ++ [d] = rq_tl f c ++ [f c] from h) rfl
    exact ⟨c, rfl, h2.1, (List.cons.inj h2.2).1⟩
theorem rq_tl_congr {f g : Nat → Nat} {n : Nat} (h : ∀ i, i < n → f i = g i) : rq_tl f n = rq_tl g n := by
  induction n with
  | zero => rfl
  | succ n ih =>
    show rq_tl f n ++ [f n] = rq_tl g n ++ [g n]
    rw [ih (fun i hi => h i (by omega)), h n (by omega)]
def rq_op (o x y : Int32) : Int32 :=
  if o = 0 then x + y else if o = 1 then x - y else if o = 2 then x * y else if y ≤ x then 0 else 1
/-- the query that a token asks for -/
def rq_dm (t : rq_T) (stk : List Int32) : Option Nat :=
  if t.1 = 2 then some t.2.1.toNatClampNeg
  else if t.1 = 3 then stk.head?.map (fun c => if c = 0 then t.2.2.toNatClampNeg else t.2.1.toNatClampNeg)
  else none
def rq_pop (t : rq_T) (stk : List Int32) : List Int32 := if t.1 = 3 then stk.tail else stk
def rq_st (g : Nat → Int32) (get : Nat → Option Int32) (t : rq_T) (s : rq_S) : Option rq_S :=
  if t.1 = 2 ∨ t.1 = 3 then
    (rq_dm t s.1).bind (fun k => (get k).map (fun v => (v :: rq_pop t s.1, s.2 ++ [6 + k])))
  else if t.1 = 0 then some (t.2.1 :: s.1, s.2)
  else if t.1 = 1 then some (g t.2.1.toNatClampNeg :: s.1, s.2 ++ [t.2.1.toNatClampNeg])
  else match s.1 with
    | y :: x :: r => some (rq_op t.2.1 x y :: r, s.2)
    | _ => none
theorem rq_st_cases {g : Nat → Int32} {get : Nat → Option Int32} {t : rq_T} {s s' : rq_S} (h : rq_st g get t s = some s') :
    (∃ k v, rq_dm t s.1 = some k ∧ get k = some v ∧ (t.1 = 2 ∨ t.1 = 3) ∧ s' = (v :: rq_pop t s.1, s.2 ++ [6 + k]))
    ∨ (t.1 = 0 ∧ s' = (t.2.1 :: s.1, s.2))
    ∨ (t.1 = 1 ∧ s' = (g t.2.1.toNatClampNeg :: s.1, s.2 ++ [t.2.1.toNatClampNeg]))
    ∨ (¬ (t.1 = 2 ∨ t.1 = 3) ∧ t.1 ≠ 0 ∧ t.1 ≠ 1 ∧ ∃ x y r, s.1 = y :: x :: r ∧ s' = (rq_op t.2.1 x y :: r, s.2)) := by
  obtain ⟨s1, s2⟩ := s
  unfold rq_st at h
  by_cases h23 : t.1 = 2 ∨ t.1 = 3
  · rw [if_pos h23] at h
    obtain ⟨k, hk, h⟩ := Option.bind_eq_some_iff.mp h
    obtain ⟨v, hv, h⟩ := Option.map_eq_some_iff.mp h
    exact Or.inl ⟨k, v, hk, hv, h23, h.symm⟩
  · rw [if_neg h23] at h
    by_cases h0 : t.1 = 0
    · rw [if_pos h0] at h
      exact Or.inr (Or.inl ⟨h0, (Option.some.inj h).symm⟩)
    · rw [if_neg h0] at h
      by_cases h1 : t.1 = 1
      · rw [if_pos h1] at h
        exact Or.inr (Or.inr (Or.inl ⟨h1, (Option.some.inj h).symm⟩))
      · rw [if_neg h1] at h
        refine Or.inr (Or.inr (Or.inr ⟨h23, h0, h1, ?_⟩))
        match s1, h with
        | [], h => exact absurd h (by simp)
        | [y], h => exact absurd h (by simp)
        | y :: x :: r, h => exact ⟨x, y, r, rfl, (Option.some.inj h).symm⟩
theorem rq_dm_kind {t : rq_T} {stk : List Int32} {k : Nat} (h : rq_dm t stk = some k) : t.1 = 2 ∨ t.1 = 3 := by
  unfold rq_dm at h
  by_cases h2 : t.1 = 2
  · exact Or.inl h2
  · by_cases h3 : t.1 = 3
    · exact Or.inr h3
    · rw [if_neg h2, if_neg h3] at h
      cases h
theorem rq_st_dm {g : Nat → Int32} {get : Nat → Option Int32} {t : rq_T} {s : rq_S} {k : Nat} {v : Int32} (hk : rq_dm t s.1 = some k) (hv : get k = some v) :
    rq_st g get t s = some (v :: rq_pop t s.1, s.2 ++ [6 + k]) := by
  unfold rq_st
  rw [if_pos (rq_dm_kind hk), hk]
  show (get k).map _ = _
  rw [hv]
  rfl
theorem rq_st_num {g : Nat → Int32} {get : Nat → Option Int32} {t : rq_T} {s : rq_S} (h : t.1 = 0) :
    rq_st g get t s = some (t.2.1 :: s.1, s.2) := by
  unfold rq_st
  rw [if_neg (by omega), if_pos h]
theorem rq_st_inp {g : Nat → Int32} {get : Nat → Option Int32} {t : rq_T} {s : rq_S} (h : t.1 = 1) :
    rq_st g get t s = some (g t.2.1.toNatClampNeg :: s.1, s.2 ++ [t.2.1.toNatClampNeg]) := by
  unfold rq_st
  rw [if_neg (by omega), if_neg (by omega), if_pos h]
theorem rq_st_op {g : Nat → Int32} {get : Nat → Option Int32} {t : rq_T} {s : rq_S} {x y : Int32} {r : List Int32}
    (h23 : ¬ (t.1 = 2 ∨ t.1 = 3)) (h0 : t.1 ≠ 0) (h1 : t.1 ≠ 1) (hs : s.1 = y :: x :: r) :
    rq_st g get t s = some (rq_op t.2.1 x y :: r, s.2) := by
  obtain ⟨s1, s2⟩ := s
  have hs' : s1 = y :: x :: r := hs
  subst hs'
  unfold rq_st
  rw [if_neg h23, if_neg h0, if_neg h1]
/-- pile and needs when the first tokens of a body have been worked off -/
def rq_pre (g : Nat → Int32) (get : Nat → Option Int32) (B : rq_B) : Nat → Option rq_S
  | 0 => some ([], [])
  | p + 1 => (rq_pre g get B p).bind (rq_st g get (B p))
theorem rq_pre_s {g : Nat → Int32} {get : Nat → Option Int32} {B : rq_B} {p : Nat} {s : rq_S} (h : rq_pre g get B (p + 1) = some s) :
    ∃ s0, rq_pre g get B p = some s0 ∧ rq_st g get (B p) s0 = some s := Option.bind_eq_some_iff.mp h
theorem rq_pre_mk {g : Nat → Int32} {get : Nat → Option Int32} {B : rq_B} {p : Nat} {s0 s : rq_S} (h0 : rq_pre g get B p = some s0) (h1 : rq_st g get (B p) s0 = some s) :
    rq_pre g get B (p + 1) = some s := Option.bind_eq_some_iff.mpr ⟨s0, h0, h1⟩
theorem rq_pre_le {g : Nat → Int32} {get : Nat → Option Int32} {B : rq_B} {p : Nat} : ∀ {n : Nat} {s : rq_S}, rq_pre g get B n = some s → p ≤ n → ∃ s', rq_pre g get B p = some s' := by
  intro n
  induction n with
  | zero =>
    intro s h hp
    have e : p = 0 := by omega
    subst e
    exact ⟨s, h⟩
  | succ n ih =>
    intro s h hp
    by_cases e : p = n + 1
    · subst e
      exact ⟨s, h⟩
    · obtain ⟨s0, h0, _⟩ := rq_pre_s h
      exact ih h0 (by omega)
theorem rq_st_sub {g : Nat → Int32} {get : Nat → Option Int32} {t : rq_T} {s s' : rq_S} (h : rq_st g get t s = some s') : ∀ d, d ∈ s.2 → d ∈ s'.2 := by
  intro d hd
  rcases rq_st_cases h with ⟨k, v, _, _, _, e⟩ | ⟨_, e⟩ | ⟨_, e⟩ | ⟨_, _, _, x, y, r, _, e⟩
  · rw [e]
    exact List.mem_append.mpr (Or.inl hd)
  · rw [e]
    exact hd
  · rw [e]
    exact List.mem_append.mpr (Or.inl hd)
  · rw [e]
    exact hd
/-- the run over again, where what was read is the same -/
theorem rq_rep {g g' : Nat → Int32} {get get' : Nat → Option Int32} {B : rq_B} : ∀ {n : Nat} {s : rq_S}, rq_pre g get B n = some s →
    (∀ p, p < n → (B p).1 = 1 → (B p).2.1.toNatClampNeg < 6) → (∀ d, d ∈ s.2 → d < 6 → g d = g' d) →
    (∀ k, 6 + k ∈ s.2 → ∀ w, get k = some w → get' k = some w) → rq_pre g' get' B n = some s := by
  intro n
  induction n with
  | zero =>
    intro s h _ _ _
    exact h
  | succ n ih =>
    intro s h hi hg hk
    obtain ⟨s0, h0, h1⟩ := rq_pre_s h
    have hsub := rq_st_sub h1
    have h0' := ih h0 (fun p hp => hi p (by omega)) (fun d hd => hg d (hsub d hd)) (fun k hk' => hk k (hsub _ hk'))
    refine rq_pre_mk h0' ?_
    rcases rq_st_cases h1 with ⟨k, v, e1, e2, _, e⟩ | ⟨e1, e⟩ | ⟨e1, e⟩ | ⟨e1, e2, e3, x, y, r, e4, e⟩
    · rw [e]
      refine rq_st_dm e1 (hk k ?_ v e2)
      rw [e]
      exact List.mem_append.mpr (Or.inr (List.mem_singleton.mpr rfl))
    · rw [e]
      exact rq_st_num e1
    · rw [e, hg (B n).2.1.toNatClampNeg (by rw [e]; exact List.mem_append.mpr (Or.inr (List.mem_singleton.mpr rfl))) (hi n (by omega) e1)]
      exact rq_st_inp e1
    · rw [e]
      exact rq_st_op e1 e2 e3 e4
theorem rq_mono {g : Nat → Int32} {get get' : Nat → Option Int32} {B : rq_B} (hk : ∀ k w, get k = some w → get' k = some w) :
    ∀ {n : Nat} {s : rq_S}, rq_pre g get B n = some s → rq_pre g get' B n = some s := by
  intro n
  induction n with
  | zero =>
    intro s h
    exact h
  | succ n ih =>
    intro s h
    obtain ⟨s0, h0, h1⟩ := rq_pre_s h
    refine rq_pre_mk (ih h0) ?_
    rcases rq_st_cases h1 with ⟨k, v, e1, e2, _, e⟩ | ⟨e1, e⟩ | ⟨e1, e⟩ | ⟨e1, e2, e3, x, y, r, e4, e⟩
    · rw [e]
      exact rq_st_dm e1 (hk k v e2)
    · rw [e]
      exact rq_st_num e1
    · rw [e]
      exact rq_st_inp e1
    · rw [e]
      exact rq_st_op e1 e2 e3 e4
theorem rq_pre_congr {g : Nat → Int32} {get : Nat → Option Int32} {B B' : rq_B} {n : Nat} (h : ∀ p, p < n → B p = B' p) : rq_pre g get B n = rq_pre g get B' n := by
  induction n with
  | zero => rfl
  | succ n ih =>
    show (rq_pre g get B n).bind (rq_st g get (B n)) = (rq_pre g get B' n).bind (rq_st g get (B' n))
    rw [ih (fun p hp => h p (by omega)), h n (by omega)]
/-- the i-th need was asked for at some token -/
theorem rq_split {g : Nat → Int32} {get : Nat → Option Int32} {B : rq_B} {f : Nat → Nat} : ∀ {n : Nat} {s : rq_S}, rq_pre g get B n = some s →
    (∀ p, p < n → (B p).1 = 1 → (B p).2.1.toNatClampNeg < 6) → ∀ {c : Nat}, s.2 = rq_tl f c → ∀ i, i < c →
    ∃ p s', p < n ∧ rq_pre g get B p = some s' ∧ s'.2 = rq_tl f i ∧ (6 ≤ f i → rq_dm (B p) s'.1 = some (f i - 6)) := by
  intro n
  induction n with
  | zero =>
    intro s h _ c hc i hi
    have e : s = ([], []) := (Option.some.inj h).symm
    rw [e] at hc
    have e2 : ([] : List Nat).length = c := by
      rw [show ([] : List Nat) = rq_tl f c from hc]
      exact rq_tl_len f c
    have e3 : 0 = c := e2
    omega
  | succ n ih =>
    intro s h hin c hc i hi
    obtain ⟨s0, h0, h1⟩ := rq_pre_s h
    have up : ∀ {c' : Nat}, s0.2 = rq_tl f c' → i < c' → ∃ p s', p < n + 1 ∧ rq_pre g get B p = some s' ∧ s'.2 = rq_tl f i ∧ (6 ≤ f i → rq_dm (B p) s'.1 = some (f i - 6)) := by
      intro c' hc' hi'
      obtain ⟨p, s', a1, a2, a3, a4⟩ := ih h0 (fun p hp => hin p (by omega)) hc' i hi'
      exact ⟨p, s', by omega, a2, a3, a4⟩
    rcases rq_st_cases h1 with ⟨k, v, e1, e2, _, e⟩ | ⟨e1, e⟩ | ⟨e1, e⟩ | ⟨e1, e2, e3, x, y, r, e4, e⟩
    · rw [e] at hc
      obtain ⟨c', rfl, hc', hd⟩ := rq_tl_snoc hc
      by_cases hi' : i < c'
      · exact up hc' hi'
      · have ei : i = c' := by omega
        subst ei
        refine ⟨n, s0, by omega, h0, hc', fun _ => ?_⟩
        rw [e1, ← hd]
        congr 1
        omega
    · rw [e] at hc
      exact up hc hi
    · rw [e] at hc
      obtain ⟨c', rfl, hc', hd⟩ := rq_tl_snoc hc
      by_cases hi' : i < c'
      · exact up hc' hi'
      · have ei : i = c' := by omega
        subst ei
        have h6 := hin n (by omega) e1
        exact ⟨n, s0, by omega, h0, hc', fun z => absurd z (by omega)⟩
    · rw [e] at hc
      exact up hc hi
theorem rq_pre_len {g : Nat → Int32} {get : Nat → Option Int32} {B : rq_B} : ∀ {n : Nat} {s : rq_S}, rq_pre g get B n = some s → s.1.length ≤ n ∧ s.2.length ≤ n := by
  intro n
  induction n with
  | zero =>
    intro s h
    have e : s = ([], []) := (Option.some.inj h).symm
    rw [e]
    exact ⟨Nat.le_refl _, Nat.le_refl _⟩
  | succ n ih =>
    intro s h
    obtain ⟨s0, h0, h1⟩ := rq_pre_s h
    obtain ⟨i1, i2⟩ := ih h0
    rcases rq_st_cases h1 with ⟨k, v, e1, e2, _, e⟩ | ⟨e1, e⟩ | ⟨e1, e⟩ | ⟨e1, e2, e3, x, y, r, e4, e⟩
    · rw [e]
      have hp : (rq_pop (B n) s0.1).length ≤ s0.1.length := by
        unfold rq_pop
        split
        · rw [List.length_tail]
          omega
        · exact Nat.le_refl _
      constructor
      · show (rq_pop (B n) s0.1).length + 1 ≤ n + 1
        omega
      · show (s0.2 ++ [6 + k]).length ≤ n + 1
        rw [List.length_append]
        show s0.2.length + 1 ≤ n + 1
        omega
    · rw [e]
      constructor
      · show s0.1.length + 1 ≤ n + 1
        omega
      · show s0.2.length ≤ n + 1
        omega
    · rw [e]
      constructor
      · show s0.1.length + 1 ≤ n + 1
        omega
      · show (s0.2 ++ [(B n).2.1.toNatClampNeg]).length ≤ n + 1
        rw [List.length_append]
        show s0.2.length + 1 ≤ n + 1
        omega
    · rw [e]
      rw [e4] at i1
      have i1' : r.length + 1 + 1 ≤ n := i1
      constructor
      · show r.length + 1 ≤ n + 1
        omega
      · show s0.2.length ≤ n + 1
        omega
/-! heights, well formed bodies -/
def rq_hs (t : rq_T) (h : Nat) : Nat := if t.1 = 3 then h else if t.1 = 4 then h - 1 else h + 1
def rq_ht (B : rq_B) : Nat → Nat
  | 0 => 0
  | p + 1 => rq_hs (B p) (rq_ht B p)
def rq_tk (t : rq_T) (h : Nat) : Prop :=
  t.1 < 5 ∧ (t.1 = 1 → ∃ k, k < 6 ∧ t.2.1 = nI k) ∧ (t.1 = 2 → ∃ k, k < 8 ∧ t.2.1 = nI k) ∧
  (t.1 = 3 → 1 ≤ h ∧ (∃ k, k < 8 ∧ t.2.1 = nI k) ∧ (∃ k, k < 8 ∧ t.2.2 = nI k)) ∧ (t.1 = 4 → 2 ≤ h)
def rq_wf (B : rq_B) (n : Nat) : Prop := ∀ p, p < n → rq_tk (B p) (rq_ht B p)
theorem rq_ht_congr {B B' : rq_B} {n : Nat} (h : ∀ p, p < n → B p = B' p) : rq_ht B n = rq_ht B' n := by
  induction n with
  | zero => rfl
  | succ n ih =>
    show rq_hs (B n) (rq_ht B n) = rq_hs (B' n) (rq_ht B' n)
    rw [ih (fun p hp => h p (by omega)), h n (by omega)]
theorem rq_wf_congr {B B' : rq_B} {n : Nat} (h : ∀ p, p < n → B p = B' p) (hw : rq_wf B n) : rq_wf B' n := by
  intro p hp
  have a := hw p hp
  rw [h p hp, rq_ht_congr (B := B) (B' := B') (fun p' hp' => h p' (by omega))] at a
  exact a
theorem rq_in6 {B : rq_B} {n : Nat} (hw : rq_wf B n) : ∀ p, p < n → (B p).1 = 1 → (B p).2.1.toNatClampNeg < 6 := by
  intro p hp h1
  obtain ⟨k, hk, e⟩ := (hw p hp).2.1 h1
  rw [e, nI_clamp (by omega)]
  exact hk
theorem rq_pre_ht {g : Nat → Int32} {get : Nat → Option Int32} {B : rq_B} {N : Nat} (hw : rq_wf B N) : ∀ {n : Nat} {s : rq_S}, n ≤ N → rq_pre g get B n = some s → s.1.length = rq_ht B n := by
  intro n
  induction n with
  | zero =>
    intro s _ h
    have e : s = ([], []) := (Option.some.inj h).symm
    rw [e]
    rfl
  | succ n ih =>
    intro s hn h
    obtain ⟨s0, h0, h1⟩ := rq_pre_s h
    have i1 := ih (by omega) h0
    have w := hw n (by omega)
    show s.1.length = rq_hs (B n) (rq_ht B n)
    unfold rq_hs
    rcases rq_st_cases h1 with ⟨k, v, e1, e2, e3, e⟩ | ⟨e1, e⟩ | ⟨e1, e⟩ | ⟨e1, e2, e3, x, y, r, e4, e⟩
    · rw [e]
      show (rq_pop (B n) s0.1).length + 1 = _
      unfold rq_pop
      by_cases k3 : (B n).1 = 3
      · have w3 := (w.2.2.2.1 k3).1
        rw [if_pos k3, if_pos k3, List.length_tail]
        omega
      · rw [if_neg k3, if_neg k3, if_neg (by omega)]
        omega
    · rw [e, if_neg (by omega), if_neg (by omega)]
      show s0.1.length + 1 = _
      omega
    · rw [e, if_neg (by omega), if_neg (by omega)]
      show s0.1.length + 1 = _
      omega
    · have w5 := w.1
      rw [e, if_neg (by omega), if_pos (by omega)]
      rw [e4] at i1
      have i1' : r.length + 1 + 1 = rq_ht B n := i1
      show r.length + 1 = _
      omega
theorem rq_dm_ok {t : rq_T} {stk : List Int32} (hw : rq_tk t stk.length) (h : t.1 = 2 ∨ t.1 = 3) : ∃ k, k < 8 ∧ rq_dm t stk = some k := by
  unfold rq_dm
  by_cases h2 : t.1 = 2
  · obtain ⟨k, hk, e⟩ := hw.2.2.1 h2
    rw [if_pos h2, e, nI_clamp (by omega)]
    exact ⟨k, hk, rfl⟩
  · have h3 : t.1 = 3 := by omega
    rw [if_neg h2, if_pos h3]
    obtain ⟨hl, ⟨k, hk, e⟩, ⟨k', hk', e'⟩⟩ := hw.2.2.2.1 h3
    match stk, hl with
    | c :: r, _ =>
      show ∃ j, j < 8 ∧ some (if c = 0 then t.2.2.toNatClampNeg else t.2.1.toNatClampNeg) = some j
      rw [e, e', nI_clamp (by omega), nI_clamp (by omega)]
      by_cases hc : c = 0
      · exact ⟨k', hk', by rw [if_pos hc]⟩
      · exact ⟨k, hk, by rw [if_neg hc]⟩
end
section
/-! the value of a query: the limit over fuel; none: circular -/
def rq_ev (E : rq_E) : Nat → Nat → Option Int32
  | 0 => fun _ => none
  | n + 1 => fun q => (rq_pre E.1 (rq_ev E n) (E.2.1 q) (E.2.2 q)).bind (fun s => s.1.head?)
theorem rq_ev_s {E : rq_E} {n q : Nat} {v : Int32} (h : rq_ev E (n + 1) q = some v) :
    ∃ s, rq_pre E.1 (rq_ev E n) (E.2.1 q) (E.2.2 q) = some s ∧ s.1.head? = some v := Option.bind_eq_some_iff.mp h
theorem rq_ev_mk {E : rq_E} {n q : Nat} {v : Int32} {s : rq_S} (h : rq_pre E.1 (rq_ev E n) (E.2.1 q) (E.2.2 q) = some s) (hv : s.1.head? = some v) :
    rq_ev E (n + 1) q = some v := Option.bind_eq_some_iff.mpr ⟨s, h, hv⟩
theorem rq_ev_mono {E : rq_E} : ∀ (n q : Nat) (v : Int32), rq_ev E n q = some v → rq_ev E (n + 1) q = some v := by
  intro n
  induction n with
  | zero =>
    intro q v h
    exact absurd h (by simp [rq_ev])
  | succ n ih =>
    intro q v h
    obtain ⟨s, h1, h2⟩ := rq_ev_s h
    exact rq_ev_mk (rq_mono (fun k w hk => ih k w hk) h1) h2
theorem rq_ev_le {E : rq_E} {n q : Nat} {v : Int32} (h : rq_ev E n q = some v) : ∀ {n' : Nat}, n ≤ n' → rq_ev E n' q = some v := by
  intro n'
  induction n' with
  | zero =>
    intro hn
    have e : n = 0 := by omega
    rw [e] at h
    exact h
  | succ n' ih =>
    intro hn
    by_cases e : n = n' + 1
    · rw [← e]
      exact h
    · exact rq_ev_mono n' q v (ih (by omega))
noncomputable def rq_V (E : rq_E) (q : Nat) : Option Int32 :=
  @dite (Option Int32) (∃ n v, rq_ev E n q = some v) (Classical.propDecidable _) (fun h => rq_ev E (Classical.choose h) q) (fun _ => none)
theorem rq_V_of {E : rq_E} {n q : Nat} {v : Int32} (e : rq_ev E n q = some v) : rq_V E q = some v := by
  have h : ∃ n v, rq_ev E n q = some v := ⟨n, v, e⟩
  unfold rq_V
  rw [dif_pos h]
  obtain ⟨w, hw⟩ := Classical.choose_spec h
  have a := rq_ev_le e (Nat.le_max_left n (Classical.choose h))
  have b := rq_ev_le hw (Nat.le_max_right n (Classical.choose h))
  rw [hw, ← b, a]
theorem rq_V_ev {E : rq_E} {q : Nat} {v : Int32} (e : rq_V E q = some v) : ∃ n, rq_ev E n q = some v := by
  unfold rq_V at e
  by_cases h : ∃ n v, rq_ev E n q = some v
  · rw [dif_pos h] at e
    exact ⟨_, e⟩
  · rw [dif_neg h] at e
    cases e
theorem rq_V_fuel {E : rq_E} {B : rq_B} : ∀ {p : Nat} {s : rq_S}, rq_pre E.1 (rq_V E) B p = some s → ∃ n, rq_pre E.1 (rq_ev E n) B p = some s := by
  intro p
  induction p with
  | zero =>
    intro s h
    exact ⟨0, h⟩
  | succ p ih =>
    intro s h
    obtain ⟨s0, h0, h1⟩ := rq_pre_s h
    obtain ⟨n, hn⟩ := ih h0
    rcases rq_st_cases h1 with ⟨k, v, e1, e2, _, e⟩ | ⟨e1, e⟩ | ⟨e1, e⟩ | ⟨e1, e2, e3, x, y, r, e4, e⟩
    · obtain ⟨n2, hn2⟩ := rq_V_ev e2
      refine ⟨max n n2, rq_pre_mk (s0 := s0) (rq_mono (fun k w hk => rq_ev_le hk (Nat.le_max_left n n2)) hn) ?_⟩
      rw [e]
      exact rq_st_dm e1 (rq_ev_le hn2 (Nat.le_max_right n n2))
    · refine ⟨n, rq_pre_mk hn ?_⟩
      rw [e]
      exact rq_st_num e1
    · refine ⟨n, rq_pre_mk hn ?_⟩
      rw [e]
      exact rq_st_inp e1
    · refine ⟨n, rq_pre_mk hn ?_⟩
      rw [e]
      exact rq_st_op e1 e2 e3 e4
theorem rq_V_mk {E : rq_E} {q : Nat} {s : rq_S} {v : Int32} (h : rq_pre E.1 (rq_V E) (E.2.1 q) (E.2.2 q) = some s) (hv : s.1.head? = some v) : rq_V E q = some v := by
  obtain ⟨n, hn⟩ := rq_V_fuel h
  exact rq_V_of (rq_ev_mk hn hv)
theorem rq_V_s {E : rq_E} {q : Nat} {v : Int32} (h : rq_V E q = some v) : ∃ s, rq_pre E.1 (rq_V E) (E.2.1 q) (E.2.2 q) = some s ∧ s.1.head? = some v := by
  obtain ⟨n, hn⟩ := rq_V_ev h
  cases n with
  | zero => exact absurd hn (by simp [rq_ev])
  | succ n =>
    obtain ⟨s, h1, h2⟩ := rq_ev_s hn
    exact ⟨s, rq_mono (fun k w hk => rq_V_of hk) h1, h2⟩
/-- q's run comes to a token that asks for k -/
def rq_De (E : rq_E) (q k : Nat) : Prop := ∃ p s, p < E.2.2 q ∧ rq_pre E.1 (rq_V E) (E.2.1 q) p = some s ∧ rq_dm (E.2.1 q p) s.1 = some k
theorem rq_De_ev {E : rq_E} {q k n : Nat} {v : Int32} (hd : rq_De E q k) (h : rq_ev E n q = some v) : ∃ n' w, n' < n ∧ rq_ev E n' k = some w := by
  obtain ⟨p, s, hp, hs, hk⟩ := hd
  cases n with
  | zero => exact absurd h (by simp [rq_ev])
  | succ n =>
    obtain ⟨s1, h1, _⟩ := rq_ev_s h
    obtain ⟨s2, h2⟩ := rq_pre_le (p := p + 1) h1 (by omega)
    obtain ⟨s0, h3, h4⟩ := rq_pre_s h2
    have h5 : rq_pre E.1 (rq_V E) (E.2.1 q) p = some s0 := rq_mono (fun k w hk => rq_V_of hk) h3
    rw [hs] at h5
    have h6 : s = s0 := Option.some.inj h5
    subst h6
    have h23 := rq_dm_kind hk
    rcases rq_st_cases h4 with ⟨k', v', e1, e2, _, e⟩ | ⟨e1, e⟩ | ⟨e1, e⟩ | ⟨e1, e2, e3, x, y, r, e4, e⟩
    · rw [hk] at e1
      have e5 : k = k' := Option.some.inj e1
      subst e5
      exact ⟨n, v', by omega, e2⟩
    · exact absurd h23 (by omega)
    · exact absurd h23 (by omega)
    · exact absurd h23 e1
theorem rq_De_none {E : rq_E} {q k : Nat} (hd : rq_De E q k) (h : rq_V E k = none) : rq_V E q = none := by
  cases hq : rq_V E q with
  | none => rfl
  | some v =>
    obtain ⟨n, hn⟩ := rq_V_ev hq
    obtain ⟨n', w, _, hw⟩ := rq_De_ev hd hn
    rw [rq_V_of hw] at h
    cases h
/-- a chain whose last asks for a circular one -/
theorem rq_chain_none {E : rq_E} {fq : Nat → Nat} {n : Nat} (hc : ∀ i, i + 1 < n → rq_De E (fq i) (fq (i + 1))) (hl : 0 < n → rq_V E (fq (n - 1)) = none) :
    ∀ i, i < n → rq_V E (fq i) = none := by
  have key : ∀ j i, i + j + 1 = n → rq_V E (fq i) = none := by
    intro j
    induction j with
    | zero =>
      intro i hi
      have e : i = n - 1 := by omega
      rw [e]
      exact hl (by omega)
    | succ j ih =>
      intro i hi
      exact rq_De_none (hc i (by omega)) (ih (i + 1) (by omega))
  intro i hi
  exact key (n - 1 - i) i (by omega)
/-- a chain whose last asks for one of the chain -/
theorem rq_chain_cyc {E : rq_E} {fq : Nat → Nat} {n j : Nat} (hc : ∀ i, i + 1 < n → rq_De E (fq i) (fq (i + 1))) (hj : j < n) (hl : rq_De E (fq (n - 1)) (fq j)) :
    rq_V E (fq j) = none := by
  have down : ∀ (d : Nat) (N : Nat) (v : Int32), j + d < n → rq_ev E N (fq j) = some v → ∃ N' w, N' ≤ N ∧ rq_ev E N' (fq (j + d)) = some w := by
    intro d
    induction d with
    | zero =>
      intro N v _ h
      exact ⟨N, v, Nat.le_refl N, h⟩
    | succ d ih =>
      intro N v hd h
      obtain ⟨N1, w1, l1, h1⟩ := ih N v (by omega) h
      obtain ⟨N2, w2, l2, h2⟩ := rq_De_ev (hc (j + d) (by omega)) h1
      exact ⟨N2, w2, by omega, h2⟩
  have no : ∀ (N : Nat) (v : Int32), ¬ rq_ev E N (fq j) = some v := by
    intro N
    induction N using Nat.strongRecOn with
    | ind N ih =>
      intro v h
      obtain ⟨N1, w1, l1, h1⟩ := down (n - 1 - j) N v (by omega) h
      rw [show j + (n - 1 - j) = n - 1 by omega] at h1
      obtain ⟨N2, w2, l2, h2⟩ := rq_De_ev hl h1
      exact ih N2 (by omega) w2 h2
  cases hq : rq_V E (fq j) with
  | none => rfl
  | some v =>
    obtain ⟨N, hN⟩ := rq_V_ev hq
    exact absurd hN (no N v)
/-- other inputs, and a set of queries that read none of what changed -/
theorem rq_V_keep {E E' : rq_E} (hB : E'.2 = E.2) (G : Nat → Prop) (hin : ∀ q, G q → ∀ p, p < E.2.2 q → (E.2.1 q p).1 = 1 → (E.2.1 q p).2.1.toNatClampNeg < 6)
    (hS : ∀ q, G q → ∃ s, rq_pre E.1 (rq_V E) (E.2.1 q) (E.2.2 q) = some s ∧ (∀ d, d ∈ s.2 → d < 6 → E.1 d = E'.1 d) ∧ ∀ k, 6 + k ∈ s.2 → G k) :
    ∀ q v, G q → rq_V E q = some v → rq_V E' q = some v := by
  have key : ∀ n q v, G q → rq_ev E n q = some v → rq_ev E' n q = some v := by
    intro n
    induction n with
    | zero =>
      intro q v _ h
      exact absurd h (by simp [rq_ev])
    | succ n ih =>
      intro q v hq h
      obtain ⟨s, h1, h2⟩ := rq_ev_s h
      obtain ⟨s', a1, a2, a3⟩ := hS q hq
      have h3 : rq_pre E.1 (rq_V E) (E.2.1 q) (E.2.2 q) = some s := rq_mono (fun k w hk => rq_V_of hk) h1
      rw [a1] at h3
      have h4 : s' = s := Option.some.inj h3
      subst h4
      refine rq_ev_mk (s := s') ?_ h2
      rw [hB]
      exact rq_rep h1 (hin q hq) a2 (fun k hk w hw => ih k w (a3 k hk) hw)
  intro q v hq h
  obtain ⟨n, hn⟩ := rq_V_ev h
  exact rq_V_of (key n q v hq hn)
end
section
/-! what is remembered: the invariant, and what each event does to it -/
def rq_up {α : Type} (f : Nat → α) (k : Nat) (v : α) : Nat → α := fun j => if j = k then v else f j
theorem rq_up_s {α : Type} {f : Nat → α} {k : Nat} {v : α} : rq_up f k v k = v := if_pos rfl
theorem rq_up_n {α : Type} {f : Nat → α} {k j : Nat} {v : α} (h : j ≠ k) : rq_up f k v j = f j := if_neg h
theorem rq_up_id {α : Type} {f : Nat → α} {k : Nat} {v : α} (h : f k = v) : rq_up f k v = f := by
  funext j
  by_cases e : j = k
  · rw [e, rq_up_s, h]
  · rw [rq_up_n e]
def rq_ns (nct ned : Nat → Nat) (q : Nat) : List Nat := rq_tl (fun i => ned (q * 10 + i)) (nct q)
theorem rq_ns_n {nct ned : Nat → Nat} {k q c : Nat} (h : q ≠ k) : rq_ns (rq_up nct k c) ned q = rq_ns nct ned q := by
  unfold rq_ns
  rw [rq_up_n h]
def rq_Gd (R S : Nat) (kno sta : Nat → Bool) (vat : Nat → Nat) (std : Nat → Bool) (q : Nat) : Prop :=
  kno q = true ∧ sta q = false ∧ (vat q = R ∨ (std q = true ∧ S ≤ vat q))
def rq_WF (E : rq_E) : Prop := ∀ q, q < 8 → rq_wf (E.2.1 q) (E.2.2 q) ∧ rq_ht (E.2.1 q) (E.2.2 q) = 1 ∧ E.2.2 q ≤ 10
def rq_C1 (E : rq_E) (gat : Nat → Nat) (kno sta : Nat → Bool) (mem : Nat → Int32) (vat cat nct ned : Nat → Nat) : Prop :=
  ∀ q, q < 8 → kno q = true → sta q = false → ∃ (g' : Nat → Int32) (m' : Nat → Int32),
    rq_pre g' (fun k => some (m' k)) (E.2.1 q) (E.2.2 q) = some ([mem q], rq_ns nct ned q) ∧
    (∀ d, d ∈ rq_ns nct ned q → d < 6 → gat d ≤ vat q → E.1 d = g' d) ∧
    (∀ k, 6 + k ∈ rq_ns nct ned q → cat k ≤ vat q → mem k = m' k)
def rq_C2 (E : rq_E) (R S : Nat) (kno sta : Nat → Bool) (mem : Nat → Int32) (vat : Nat → Nat) (std : Nat → Bool) (nct ned : Nat → Nat) : Prop :=
  ∀ q, q < 8 → rq_Gd R S kno sta vat std q →
    rq_pre E.1 (rq_V E) (E.2.1 q) (E.2.2 q) = some ([mem q], rq_ns nct ned q) ∧
    ∀ k, 6 + k ∈ rq_ns nct ned q → rq_Gd R S kno sta vat std k
def rq_C3 (S : Nat) (kno sta : Nat → Bool) (vat : Nat → Nat) (std : Nat → Bool) (nct ned : Nat → Nat) : Prop :=
  ∀ q, q < 8 → kno q = true → sta q = false → std q = true → S ≤ vat q →
    (∀ d, d ∈ rq_ns nct ned q → d < 6 → 3 ≤ d) ∧ ∀ k, 6 + k ∈ rq_ns nct ned q → std k = true ∧ S ≤ vat k
def rq_C4 (E : rq_E) (R : Nat) (cir : Nat → Nat) : Prop := ∀ q, q < 8 → cir q = R → rq_V E q = none
def rq_C5 (R S : Nat) (gat vat cat cir nct ned : Nat → Nat) : Prop :=
  1 ≤ R ∧ S ≤ R ∧ (∀ d, d < 6 → gat d ≤ R) ∧
  ∀ q, q < 8 → vat q ≤ R ∧ cat q ≤ R ∧ cir q ≤ R ∧ nct q ≤ 10 ∧ ∀ i, i < nct q → ned (q * 10 + i) < 14
def rq_CI (E : rq_E) (R S : Nat) (gat : Nat → Nat) (kno sta : Nat → Bool) (mem : Nat → Int32) (vat cat cir : Nat → Nat) (std : Nat → Bool) (nct ned : Nat → Nat) : Prop :=
  rq_WF E ∧ rq_C1 E gat kno sta mem vat cat nct ned ∧ rq_C2 E R S kno sta mem vat std nct ned ∧ rq_C3 S kno sta vat std nct ned ∧
  rq_C4 E R cir ∧ rq_C5 R S gat vat cat cir nct ned
section
variable {E : rq_E} {R S : Nat} {gat vat cat cir nct ned : Nat → Nat} {kno sta std : Nat → Bool} {mem : Nat → Int32}
theorem rq_ns_lt (h : rq_CI E R S gat kno sta mem vat cat cir std nct ned) {q : Nat} (hq : q < 8) {d : Nat} (hd : d ∈ rq_ns nct ned q) : d < 14 := by
  obtain ⟨i, hi, e⟩ := rq_tl_mem.mp hd
  rw [← e]
  exact (h.2.2.2.2.2.2.2.2 q hq).2.2.2.2 i hi
theorem rq_ns_k (h : rq_CI E R S gat kno sta mem vat cat cir std nct ned) {q : Nat} (hq : q < 8) {k : Nat} (hd : 6 + k ∈ rq_ns nct ned q) : k < 8 := by
  have a := rq_ns_lt h hq hd
  omega
theorem rq_Gd_V (h : rq_CI E R S gat kno sta mem vat cat cir std nct ned) {q : Nat} (hq : q < 8) (hg : rq_Gd R S kno sta vat std q) : rq_V E q = some (mem q) :=
  rq_V_mk (h.2.2.1 q hq hg).1 rfl
theorem rq_now (h : rq_CI E R S gat kno sta mem vat cat cir std nct ned) {q : Nat} (hq : q < 8) {v : Int32}
    (hp : rq_pre E.1 (rq_V E) (E.2.1 q) (E.2.2 q) = some ([v], rq_ns nct ned q)) (hn : ∀ k, 6 + k ∈ rq_ns nct ned q → rq_Gd R S kno sta vat std k) :
    rq_pre E.1 (fun k => some (mem k)) (E.2.1 q) (E.2.2 q) = some ([v], rq_ns nct ned q) := by
  refine rq_rep hp (rq_in6 (h.1 q hq).1) (fun d _ _ => rfl) (fun k hk w hw => ?_)
  have a := rq_Gd_V h (rq_ns_k h hq hk) (hn k hk)
  rw [← a]
  exact hw
/-- work begins on k -/
theorem rq_CI_start (h : rq_CI E R S gat kno sta mem vat cat cir std nct ned) {k : Nat} (hg : ¬ rq_Gd R S kno sta vat std k) :
    rq_CI E R S gat kno (rq_up sta k true) mem vat cat cir std (rq_up nct k 0) ned := by
  obtain ⟨hW, h1, h2, h3, h4, h5⟩ := h
  have hs : ∀ q, rq_up sta k true q = false → q ≠ k ∧ sta q = false := by
    intro q hq
    by_cases e : q = k
    · rw [e, rq_up_s] at hq
      cases hq
    · rw [rq_up_n e] at hq
      exact ⟨e, hq⟩
  have hG' : ∀ q, rq_Gd R S kno sta vat std q → rq_Gd R S kno (rq_up sta k true) vat std q := by
    intro q hq
    have e : q ≠ k := fun e => hg (e ▸ hq)
    exact ⟨hq.1, by rw [rq_up_n e]; exact hq.2.1, hq.2.2⟩
  refine ⟨hW, ?_, ?_, ?_, h4, ?_⟩
  · intro q hq a1 a2
    obtain ⟨e, a2⟩ := hs q a2
    rw [rq_ns_n e]
    exact h1 q hq a1 a2
  · intro q hq hgq
    obtain ⟨e, a2⟩ := hs q hgq.2.1
    rw [rq_ns_n e]
    obtain ⟨b1, b2⟩ := h2 q hq ⟨hgq.1, a2, hgq.2.2⟩
    exact ⟨b1, fun k' hk' => hG' k' (b2 k' hk')⟩
  · intro q hq a1 a2 a3 a4
    obtain ⟨e, a2⟩ := hs q a2
    rw [rq_ns_n e]
    exact h3 q hq a1 a2 a3 a4
  · refine ⟨h5.1, h5.2.1, h5.2.2.1, fun q hq => ?_⟩
    obtain ⟨b1, b2, b3, b4, b5⟩ := h5.2.2.2 q hq
    by_cases e : q = k
    · refine ⟨b1, b2, b3, ?_, ?_⟩
      · rw [e, rq_up_s]
        omega
      · intro i hi
        rw [e, rq_up_s] at hi
        omega
    · rw [rq_up_n e]
      exact ⟨b1, b2, b3, b4, b5⟩
/-- nothing that seldom changes has changed: k is valid still -/
theorem rq_CI_short (h : rq_CI E R S gat kno sta mem vat cat cir std nct ned) {k : Nat} (a1 : kno k = true) (a2 : sta k = false) (a3 : std k = true) (a4 : S ≤ vat k) :
    rq_CI E R S gat kno sta mem (rq_up vat k R) cat cir std nct ned := by
  have hh := h
  obtain ⟨hW, h1, h2, h3, h4, h5⟩ := h
  have gk : rq_Gd R S kno sta vat std k := ⟨a1, a2, Or.inr ⟨a3, a4⟩⟩
  have hG : ∀ q, rq_Gd R S kno sta (rq_up vat k R) std q → rq_Gd R S kno sta vat std q := by
    intro q hq
    by_cases e : q = k
    · rw [e]
      exact gk
    · obtain ⟨b1, b2, b3⟩ := hq
      rw [rq_up_n e] at b3
      exact ⟨b1, b2, b3⟩
  have hG' : ∀ q, rq_Gd R S kno sta vat std q → rq_Gd R S kno sta (rq_up vat k R) std q := by
    intro q hq
    by_cases e : q = k
    · rw [e]
      exact ⟨a1, a2, Or.inl rq_up_s⟩
    · refine ⟨hq.1, hq.2.1, ?_⟩
      rw [rq_up_n e]
      exact hq.2.2
  have hv : ∀ q, S ≤ vat q → S ≤ rq_up vat k R q := by
    intro q hq
    by_cases e : q = k
    · rw [e, rq_up_s]
      exact h5.2.1
    · rw [rq_up_n e]
      exact hq
  refine ⟨hW, ?_, ?_, ?_, h4, ?_⟩
  · intro q hq b1 b2
    by_cases e : q = k
    · rw [e] at hq
      obtain ⟨c1, c2⟩ := h2 k hq gk
      rw [e]
      exact ⟨E.1, mem, rq_now hh hq c1 c2, fun _ _ _ _ => rfl, fun _ _ _ => rfl⟩
    · rw [rq_up_n e]
      exact h1 q hq b1 b2
  · intro q hq hgq
    obtain ⟨b1, b2⟩ := h2 q hq (hG q hgq)
    exact ⟨b1, fun k' hk' => hG' k' (b2 k' hk')⟩
  · intro q hq b1 b2 b3 b4
    have b4' : S ≤ vat q := by
      by_cases e : q = k
      · rw [e]
        exact a4
      · rw [rq_up_n e] at b4
        exact b4
    obtain ⟨c1, c2⟩ := h3 q hq b1 b2 b3 b4'
    exact ⟨c1, fun k' hk' => ⟨(c2 k' hk').1, hv k' (c2 k' hk').2⟩⟩
  · refine ⟨h5.1, h5.2.1, h5.2.2.1, fun q hq => ?_⟩
    obtain ⟨b1, b2⟩ := h5.2.2.2 q hq
    refine ⟨?_, b2⟩
    by_cases e : q = k
    · rw [e, rq_up_s]
      exact Nat.le_refl R
    · rw [rq_up_n e]
      exact b1
/-- q has been checked or worked off -/
theorem rq_CI_done (h : rq_CI E R S gat kno sta mem vat cat cir std nct ned) {q : Nat} {v : Int32} {st : Bool} {c : Nat} (hq : q < 8)
    (hg : ¬ rq_Gd R S kno sta vat std q) (hp : rq_pre E.1 (rq_V E) (E.2.1 q) (E.2.2 q) = some ([v], rq_ns nct ned q))
    (hn : ∀ k, 6 + k ∈ rq_ns nct ned q → rq_Gd R S kno sta vat std k)
    (hst : st = true → (∀ d, d ∈ rq_ns nct ned q → d < 6 → 3 ≤ d) ∧ ∀ k, 6 + k ∈ rq_ns nct ned q → std k = true)
    (hc : c = R ∨ (c = cat q ∧ v = mem q)) :
    rq_CI E R S gat (rq_up kno q true) (rq_up sta q false) (rq_up mem q v) (rq_up vat q R) (rq_up cat q c) cir (rq_up std q st) nct ned ∧
    (∀ p, rq_Gd R S kno sta vat std p → p ≠ q ∧ rq_Gd R S (rq_up kno q true) (rq_up sta q false) (rq_up vat q R) (rq_up std q st) p) ∧
    (∀ p, p ≠ q → ¬ rq_Gd R S kno sta vat std p → ¬ rq_Gd R S (rq_up kno q true) (rq_up sta q false) (rq_up vat q R) (rq_up std q st) p) := by
  have hh := h
  obtain ⟨hW, h1, h2, h3, h4, h5⟩ := h
  have hne : ∀ p, rq_Gd R S kno sta vat std p → p ≠ q := fun p hp' e => hg (e ▸ hp')
  have hGn : ∀ p, p ≠ q → (rq_Gd R S (rq_up kno q true) (rq_up sta q false) (rq_up vat q R) (rq_up std q st) p ↔ rq_Gd R S kno sta vat std p) := by
    intro p e
    unfold rq_Gd
    rw [rq_up_n e, rq_up_n e, rq_up_n e, rq_up_n e]
  have hGq : rq_Gd R S (rq_up kno q true) (rq_up sta q false) (rq_up vat q R) (rq_up std q st) q := ⟨rq_up_s, rq_up_s, Or.inl rq_up_s⟩
  have hG' : ∀ p, rq_Gd R S kno sta vat std p → rq_Gd R S (rq_up kno q true) (rq_up sta q false) (rq_up vat q R) (rq_up std q st) p := fun p hp' => (hGn p (hne p hp')).mpr hp'
  refine ⟨⟨hW, ?_, ?_, ?_, h4, ?_⟩, fun p hp' => ⟨hne p hp', hG' p hp'⟩, fun p e hn' hp' => hn' ((hGn p e).mp hp')⟩
  · intro p hp8 b1 b2
    by_cases e : p = q
    · rw [e, rq_up_s]
      refine ⟨E.1, mem, rq_now hh hq hp hn, fun _ _ _ _ => rfl, fun k hk _ => ?_⟩
      rw [rq_up_n (hne k (hn k hk))]
    · rw [rq_up_n e] at b1 b2
      rw [rq_up_n e, rq_up_n e]
      obtain ⟨g', m', c1, c2, c3⟩ := h1 p hp8 b1 b2
      refine ⟨g', m', c1, c2, fun k hk hcv => ?_⟩
      by_cases ek : k = q
      · rw [ek, rq_up_s] at hcv
        rw [ek] at hk
        rw [ek, rq_up_s]
        rcases hc with hc | ⟨hc1, hc2⟩
        · rw [hc] at hcv
          have hv := (h5.2.2.2 p hp8).1
          have gp : rq_Gd R S kno sta vat std p := ⟨b1, b2, Or.inl (by omega)⟩
          exact absurd ((h2 p hp8 gp).2 q hk) hg
        · rw [hc2]
          rw [hc1] at hcv
          exact c3 q hk hcv
      · rw [rq_up_n ek]
        rw [rq_up_n ek] at hcv
        exact c3 k hk hcv
  · intro p hp8 hgp
    by_cases e : p = q
    · rw [e, rq_up_s]
      exact ⟨hp, fun k hk => hG' k (hn k hk)⟩
    · rw [rq_up_n e]
      obtain ⟨c1, c2⟩ := h2 p hp8 ((hGn p e).mp hgp)
      exact ⟨c1, fun k hk => hG' k (c2 k hk)⟩
  · intro p hp8 b1 b2 b3 b4
    by_cases e : p = q
    · rw [e, rq_up_s] at b3
      obtain ⟨c1, c2⟩ := hst b3
      rw [e]
      refine ⟨c1, fun k hk => ?_⟩
      have gk := hn k hk
      have sk := c2 k hk
      rw [rq_up_n (hne k gk), rq_up_n (hne k gk)]
      refine ⟨sk, ?_⟩
      rcases gk.2.2 with z | z
      · rw [z]
        exact h5.2.1
      · exact z.2
    · rw [rq_up_n e] at b1 b2 b3 b4
      obtain ⟨c1, c2⟩ := h3 p hp8 b1 b2 b3 b4
      refine ⟨c1, fun k hk => ?_⟩
      have gk := (h2 p hp8 ⟨b1, b2, Or.inr ⟨b3, b4⟩⟩).2 k hk
      rw [rq_up_n (hne k gk), rq_up_n (hne k gk)]
      exact c2 k hk
  · refine ⟨h5.1, h5.2.1, h5.2.2.1, fun p hp8 => ?_⟩
    obtain ⟨b1, b2, b3⟩ := h5.2.2.2 p hp8
    by_cases e : p = q
    · rw [e] at b2 b3
      rw [e, rq_up_s, rq_up_s]
      refine ⟨Nat.le_refl R, ?_, b3⟩
      rcases hc with hc | ⟨hc, _⟩
      · omega
      · omega
    · rw [rq_up_n e, rq_up_n e]
      exact ⟨b1, b2, b3⟩
/-- work on q notes a need -/
theorem rq_ns_note {q d : Nat} : rq_ns (rq_up nct q (nct q + 1)) (rq_up ned (q * 10 + nct q) d) q = rq_ns nct ned q ++ [d] := by
  unfold rq_ns
  rw [rq_up_s]
  show rq_tl _ (nct q) ++ [rq_up ned (q * 10 + nct q) d (q * 10 + nct q)] = _
  rw [rq_up_s]
  congr 1
  exact rq_tl_congr (fun i hi => rq_up_n (by omega))
theorem rq_ned_note {p q i d : Nat} (hc : nct q < 10) (hi : i < 10) (hpq : p ≠ q) : rq_up ned (q * 10 + nct q) d (p * 10 + i) = ned (p * 10 + i) :=
  rq_up_n (by omega)
theorem rq_CI_note (h : rq_CI E R S gat kno sta mem vat cat cir std nct ned) {q d : Nat} (hs : sta q = true) (hc : nct q < 10) (hd : d < 14) :
    rq_CI E R S gat kno sta mem vat cat cir std (rq_up nct q (nct q + 1)) (rq_up ned (q * 10 + nct q) d) := by
  obtain ⟨hW, h1, h2, h3, h4, h5⟩ := h
  have hne : ∀ p, sta p = false → p ≠ q := by
    intro p hp e
    rw [e, hs] at hp
    cases hp
  have hns : ∀ p, p < 8 → p ≠ q → rq_ns (rq_up nct q (nct q + 1)) (rq_up ned (q * 10 + nct q) d) p = rq_ns nct ned p := by
    intro p hp e
    rw [rq_ns_n e]
    have b := (h5.2.2.2 p hp).2.2.2.1
    exact rq_tl_congr (fun i hi => rq_ned_note hc (by omega) e)
  refine ⟨hW, ?_, ?_, ?_, h4, ?_⟩
  · intro p hp a1 a2
    rw [hns p hp (hne p a2)]
    exact h1 p hp a1 a2
  · intro p hp hg
    rw [hns p hp (hne p hg.2.1)]
    exact h2 p hp hg
  · intro p hp a1 a2 a3 a4
    rw [hns p hp (hne p a2)]
    exact h3 p hp a1 a2 a3 a4
  · refine ⟨h5.1, h5.2.1, h5.2.2.1, fun p hp => ?_⟩
    obtain ⟨b1, b2, b3, b4, b5⟩ := h5.2.2.2 p hp
    refine ⟨b1, b2, b3, ?_, ?_⟩
    · by_cases e : p = q
      · rw [e, rq_up_s]
        omega
      · rw [rq_up_n e]
        exact b4
    · intro i hi
      by_cases e : p = q
      · rw [e, rq_up_s] at hi
        rw [e]
        rw [e] at b5
        by_cases ei : i = nct q
        · rw [ei, rq_up_s]
          exact hd
        · rw [rq_up_n (by omega)]
          exact b5 i (by omega)
      · rw [rq_up_n e] at hi
        rw [rq_ned_note hc (by omega) e]
        exact b5 i hi
/-- q is found circular -/
theorem rq_CI_circ (h : rq_CI E R S gat kno sta mem vat cat cir std nct ned) {q : Nat} (hv : rq_V E q = none) :
    rq_CI E R S gat kno sta mem vat cat (rq_up cir q R) std nct ned := by
  obtain ⟨hW, h1, h2, h3, h4, h5⟩ := h
  refine ⟨hW, h1, h2, h3, ?_, h5.1, h5.2.1, h5.2.2.1, fun p hp => ?_⟩
  · intro p hp e
    by_cases ep : p = q
    · rw [ep]
      exact hv
    · rw [rq_up_n ep] at e
      exact h4 p hp e
  · obtain ⟨b1, b2, b3, b4⟩ := h5.2.2.2 p hp
    refine ⟨b1, b2, ?_, b4⟩
    by_cases ep : p = q
    · rw [ep, rq_up_s]
      exact Nat.le_refl R
    · rw [rq_up_n ep]
      exact b3
/-- an input changes -/
theorem rq_CI_set (h : rq_CI E R S gat kno sta mem vat cat cir std nct ned) {i : Nat} {v : Int32} {S' : Nat} (hS : (i < 3 ∧ S' = S) ∨ S' = R + 1) :
    rq_CI (rq_up E.1 i v, E.2) (R + 1) S' (rq_up gat i (R + 1)) kno sta mem vat cat cir std nct ned := by
  have hh := h
  obtain ⟨hW, h1, h2, h3, h4, h5⟩ := h
  have hS3 : ∀ q, q < 8 → S' ≤ vat q → i < 3 ∧ S' = S := by
    intro q hq hv
    rcases hS with z | z
    · exact z
    · have b := (h5.2.2.2 q hq).1
      omega
  have hG : ∀ q, q < 8 → rq_Gd (R + 1) S' kno sta vat std q → (i < 3 ∧ S' = S) ∧ kno q = true ∧ sta q = false ∧ std q = true ∧ S ≤ vat q := by
    intro q hq hg
    have b := (h5.2.2.2 q hq).1
    rcases hg.2.2 with z | z
    · omega
    · have c := hS3 q hq z.2
      refine ⟨c, hg.1, hg.2.1, z.1, ?_⟩
      rw [← c.2]
      exact z.2
  have hneed : ∀ q, (q < 8 ∧ kno q = true ∧ sta q = false ∧ std q = true ∧ S ≤ vat q) → ∀ k, 6 + k ∈ rq_ns nct ned q →
      (k < 8 ∧ kno k = true ∧ sta k = false ∧ std k = true ∧ S ≤ vat k) := by
    intro q ⟨a0, a1, a2, a3, a4⟩ k hk
    have gk := (h2 q a0 ⟨a1, a2, Or.inr ⟨a3, a4⟩⟩).2 k hk
    exact ⟨rq_ns_k hh a0 hk, gk.1, gk.2.1, ((h3 q a0 a1 a2 a3 a4).2 k hk).1, ((h3 q a0 a1 a2 a3 a4).2 k hk).2⟩
  have hinp : i < 3 → ∀ q, (q < 8 ∧ kno q = true ∧ sta q = false ∧ std q = true ∧ S ≤ vat q) → ∀ d, d ∈ rq_ns nct ned q → d < 6 → E.1 d = rq_up E.1 i v d := by
    intro hi q ⟨a0, a1, a2, a3, a4⟩ d hd h6
    have b := (h3 q a0 a1 a2 a3 a4).1 d hd h6
    rw [rq_up_n (by omega)]
  have hV : i < 3 → ∀ q w, (q < 8 ∧ kno q = true ∧ sta q = false ∧ std q = true ∧ S ≤ vat q) → rq_V E q = some w → rq_V (rq_up E.1 i v, E.2) q = some w := by
    intro hi
    refine rq_V_keep (E := E) (E' := (rq_up E.1 i v, E.2)) rfl (fun q => q < 8 ∧ kno q = true ∧ sta q = false ∧ std q = true ∧ S ≤ vat q) ?_ ?_
    · intro q hq
      exact rq_in6 (hW q hq.1).1
    · intro q hq
      exact ⟨_, (h2 q hq.1 ⟨hq.2.1, hq.2.2.1, Or.inr hq.2.2.2⟩).1, hinp hi q hq, hneed q hq⟩
  refine ⟨hW, ?_, ?_, ?_, ?_, ?_⟩
  · intro q hq a1 a2
    obtain ⟨g', m', c1, c2, c3⟩ := h1 q hq a1 a2
    refine ⟨g', m', c1, fun d hd h6 hv => ?_, c3⟩
    have b := (h5.2.2.2 q hq).1
    by_cases e : d = i
    · rw [e, rq_up_s] at hv
      omega
    · rw [rq_up_n e] at hv
      show rq_up E.1 i v d = g' d
      rw [rq_up_n e]
      exact c2 d hd h6 hv
  · intro q hq hg
    obtain ⟨⟨hi, eS⟩, b⟩ := hG q hq hg
    have gq : (q < 8 ∧ kno q = true ∧ sta q = false ∧ std q = true ∧ S ≤ vat q) := ⟨hq, b⟩
    obtain ⟨c1, _⟩ := h2 q hq ⟨b.1, b.2.1, Or.inr b.2.2⟩
    refine ⟨rq_rep c1 (rq_in6 (hW q hq).1) (hinp hi q gq) (fun k hk w hw => hV hi k w (hneed q gq k hk) hw), fun k hk => ?_⟩
    have gk := hneed q gq k hk
    rw [eS]
    exact ⟨gk.2.1, gk.2.2.1, Or.inr gk.2.2.2⟩
  · intro q hq a1 a2 a3 a4
    obtain ⟨hi, eS⟩ := hS3 q hq a4
    rw [eS]
    rw [eS] at a4
    exact h3 q hq a1 a2 a3 a4
  · intro q hq e
    have b := (h5.2.2.2 q hq).2.2.1
    omega
  · refine ⟨by omega, ?_, ?_, fun q hq => ?_⟩
    · have b := h5.2.1
      rcases hS with z | z
      · omega
      · omega
    · intro d hd
      by_cases e : d = i
      · rw [e, rq_up_s]
        exact Nat.le_refl _
      · rw [rq_up_n e]
        have b := h5.2.2.1 d hd
        omega
    · obtain ⟨b1, b2, b3, b4⟩ := h5.2.2.2 q hq
      exact ⟨by omega, by omega, by omega, b4⟩
/-- a body changes -/
theorem rq_CI_fin (h : rq_CI E R S gat kno sta mem vat cat cir std nct ned) {q : Nat} {E' : rq_E} (hg : E'.1 = E.1) (hW' : rq_WF E')
    (hB : ∀ p, p < 8 → p ≠ q → E'.2.2 p = E.2.2 p ∧ ∀ i, i < 10 → E.2.1 p i = E'.2.1 p i) :
    rq_CI E' (R + 1) (R + 1) gat kno (rq_up sta q true) mem vat cat cir std nct ned := by
  obtain ⟨hW, h1, h2, h3, h4, h5⟩ := h
  refine ⟨hW', ?_, ?_, ?_, ?_, ?_⟩
  · intro p hp a1 a2
    by_cases e : p = q
    · rw [e, rq_up_s] at a2
      cases a2
    · rw [rq_up_n e] at a2
      obtain ⟨g', m', c1, c2, c3⟩ := h1 p hp a1 a2
      obtain ⟨e1, e2⟩ := hB p hp e
      refine ⟨g', m', ?_, ?_, c3⟩
      · rw [e1, ← c1]
        have b := (hW p hp).2.2
        exact rq_pre_congr (fun i hi => (e2 i (by omega)).symm)
      · rw [hg]
        exact c2
  · intro p hp hgp
    have b := (h5.2.2.2 p hp).1
    rcases hgp.2.2 with z | z
    · omega
    · have z2 := z.2
      omega
  · intro p hp _ _ _ a4
    have b := (h5.2.2.2 p hp).1
    omega
  · intro p hp e
    have b := (h5.2.2.2 p hp).2.2.1
    omega
  · refine ⟨by omega, by omega, fun d hd => ?_, fun p hp => ?_⟩
    · have b := h5.2.2.1 d hd
      omega
    · obtain ⟨b1, b2, b3, b4⟩ := h5.2.2.2 p hp
      exact ⟨by omega, by omega, by omega, b4⟩
end
end
section
/-! work under way: the frames -/
def rq_seg (pil : Nat → Int32) (lo : Nat) : Nat → List Int32
  | 0 => []
  | h + 1 => pil (lo + h) :: rq_seg pil lo h
theorem rq_seg_len (pil : Nat → Int32) (lo h : Nat) : (rq_seg pil lo h).length = h := by
  induction h with
  | zero => rfl
  | succ h ih =>
    show (rq_seg pil lo h).length + 1 = h + 1
    rw [ih]
theorem rq_seg_congr {pil pil' : Nat → Int32} {lo h : Nat} (hp : ∀ i, lo ≤ i → i < lo + h → pil' i = pil i) : rq_seg pil' lo h = rq_seg pil lo h := by
  induction h with
  | zero => rfl
  | succ h ih =>
    show pil' (lo + h) :: rq_seg pil' lo h = pil (lo + h) :: rq_seg pil lo h
    rw [ih (fun i h1 h2 => hp i h1 (by omega)), hp (lo + h) (by omega) (by omega)]
def rq_Fr (E : rq_E) (R S : Nat) (gat : Nat → Nat) (kno sta : Nat → Bool) (vat cat : Nat → Nat) (std : Nat → Bool) (nct ned : Nat → Nat) (pil : Nat → Int32) (q : Nat) (wk : Bool) (ps lo hi : Nat) : Prop :=
  lo ≤ hi ∧
  (wk = true → ps ≤ E.2.2 q ∧ sta q = true ∧ rq_pre E.1 (rq_V E) (E.2.1 q) ps = some (rq_seg pil lo (hi - lo), rq_ns nct ned q) ∧
    ∀ k, 6 + k ∈ rq_ns nct ned q → rq_Gd R S kno sta vat std k) ∧
  (wk = false → hi = lo ∧ kno q = true ∧ sta q = false ∧ ps ≤ nct q ∧
    ∀ j, j < ps → (ned (q * 10 + j) < 6 → gat (ned (q * 10 + j)) ≤ vat q) ∧ ∀ k, ned (q * 10 + j) = 6 + k → rq_Gd R S kno sta vat std k ∧ cat k ≤ vat q)
def rq_FI (E : rq_E) (R S : Nat) (gat : Nat → Nat) (kno sta : Nat → Bool) (vat cat : Nat → Nat) (std : Nat → Bool) (nct ned : Nat → Nat) (pil : Nat → Int32) (n : Nat) (fqu : Nat → Nat) (fwk : Nat → Bool) (fps : Nat → Nat) (top : Nat) (b : Nat → Nat) : Prop :=
  (∀ i, i < n → fqu i < 8 ∧ ¬ rq_Gd R S kno sta vat std (fqu i)) ∧ (∀ i j, i < j → j < n → fqu i ≠ fqu j) ∧
  (∀ i, i + 1 < n → rq_De E (fqu i) (fqu (i + 1))) ∧ b 0 = 0 ∧ b n = top ∧
  ∀ i, i < n → rq_Fr E R S gat kno sta vat cat std nct ned pil (fqu i) (fwk i) (fps i) (b i) (b (i + 1))
section
variable {E : rq_E} {R S : Nat} {gat vat cat cir nct ned vat' cat' nct' ned' : Nat → Nat} {kno sta std kno' sta' std' : Nat → Bool} {mem : Nat → Int32}
variable {pil pil' : Nat → Int32} {fqu fps fqu' fps' b : Nat → Nat} {fwk fwk' : Nat → Bool} {n top : Nat}
theorem rq_Fr_keep {q ps lo hi : Nat} {wk : Bool} (h : rq_Fr E R S gat kno sta vat cat std nct ned pil q wk ps lo hi)
    (e1 : kno' q = kno q) (e2 : sta' q = sta q) (e3 : vat' q = vat q) (e4 : nct' q = nct q) (e5 : ∀ i, i < nct q → ned' (q * 10 + i) = ned (q * 10 + i))
    (hG : ∀ k, rq_Gd R S kno sta vat std k → rq_Gd R S kno' sta' vat' std' k) (hc : ∀ k, rq_Gd R S kno sta vat std k → cat' k = cat k)
    (hp : ∀ i, lo ≤ i → i < hi → pil' i = pil i) :
    rq_Fr E R S gat kno' sta' vat' cat' std' nct' ned' pil' q wk ps lo hi := by
  obtain ⟨h0, h1, h2⟩ := h
  have hns : rq_ns nct' ned' q = rq_ns nct ned q := by
    unfold rq_ns
    rw [e4]
    exact rq_tl_congr e5
  refine ⟨h0, fun hw => ?_, fun hw => ?_⟩
  · obtain ⟨a1, a2, a3, a4⟩ := h1 hw
    rw [hns, e2, rq_seg_congr (pil := pil) (fun i g1 g2 => hp i g1 (by omega))]
    exact ⟨a1, a2, a3, fun k hk => hG k (a4 k hk)⟩
  · obtain ⟨a1, a2, a3, a4, a5⟩ := h2 hw
    rw [e1, e2, e3, e4]
    refine ⟨a1, a2, a3, a4, fun j hj => ?_⟩
    rw [e5 j (by omega)]
    obtain ⟨b1, b2⟩ := a5 j hj
    refine ⟨b1, fun k hk => ?_⟩
    obtain ⟨c1, c2⟩ := b2 k hk
    rw [hc k c1]
    exact ⟨hG k c1, c2⟩
theorem rq_FI_drop (h : rq_FI E R S gat kno sta vat cat std nct ned pil (n + 1) fqu fwk fps top b) :
    rq_FI E R S gat kno sta vat cat std nct ned pil n fqu fwk fps (b n) b := by
  obtain ⟨h1, h2, h3, h4, h5, h6⟩ := h
  exact ⟨fun i hi => h1 i (by omega), fun i j hi hj => h2 i j hi (by omega), fun i hi => h3 i (by omega), h4, rfl, fun i hi => h6 i (by omega)⟩
theorem rq_FI_b (h : rq_FI E R S gat kno sta vat cat std nct ned pil n fqu fwk fps top b) : ∀ i, i ≤ n → b i ≤ top := by
  have key : ∀ j i, i + j = n → b i ≤ top := by
    intro j
    induction j with
    | zero =>
      intro i hi
      have e : i = n := by omega
      rw [e, h.2.2.2.2.1]
      exact Nat.le_refl top
    | succ j ih =>
      intro i hi
      have a := ih (i + 1) (by omega)
      have c := (h.2.2.2.2.2 i (by omega)).1
      omega
  intro i hi
  exact key (n - i) i (by omega)
theorem rq_FI_b10 (hW : rq_WF E) (h : rq_FI E R S gat kno sta vat cat std nct ned pil n fqu fwk fps top b) : ∀ i, i ≤ n → b i ≤ 10 * i := by
  intro i
  induction i with
  | zero =>
    intro _
    rw [h.2.2.2.1]
    omega
  | succ i ih =>
    intro hi
    have a := ih (by omega)
    obtain ⟨c0, c1, c2⟩ := h.2.2.2.2.2 i (by omega)
    have hq := (h.1 i (by omega)).1
    cases hw : fwk i with
    | true =>
      obtain ⟨d1, _, d3, _⟩ := c1 hw
      have l := (rq_pre_len d3).1
      have l' : b (i + 1) - b i ≤ fps i := by
        rw [← rq_seg_len pil (b i) (b (i + 1) - b i)]
        exact l
      have l10 := (hW _ hq).2.2
      omega
    | false =>
      have d1 := (c2 hw).1
      omega
theorem rq_FI_keep (h : rq_FI E R S gat kno sta vat cat std nct ned pil n fqu fwk fps top b)
    (hq : ∀ i, i < n → kno' (fqu i) = kno (fqu i) ∧ sta' (fqu i) = sta (fqu i) ∧ vat' (fqu i) = vat (fqu i) ∧ nct' (fqu i) = nct (fqu i) ∧
      (∀ j, j < nct (fqu i) → ned' (fqu i * 10 + j) = ned (fqu i * 10 + j)) ∧ ¬ rq_Gd R S kno' sta' vat' std' (fqu i))
    (hG : ∀ k, rq_Gd R S kno sta vat std k → rq_Gd R S kno' sta' vat' std' k) (hc : ∀ k, rq_Gd R S kno sta vat std k → cat' k = cat k)
    (hp : ∀ i, i < top → pil' i = pil i) (hf : ∀ i, i < n → fqu' i = fqu i ∧ fwk' i = fwk i ∧ fps' i = fps i) :
    rq_FI E R S gat kno' sta' vat' cat' std' nct' ned' pil' n fqu' fwk' fps' top b := by
  have hb := rq_FI_b h
  obtain ⟨h1, h2, h3, h4, h5, h6⟩ := h
  refine ⟨fun i hi => ?_, fun i j hi hj => ?_, fun i hi => ?_, h4, h5, fun i hi => ?_⟩
  · rw [(hf i hi).1]
    exact ⟨(h1 i hi).1, (hq i hi).2.2.2.2.2⟩
  · rw [(hf i (by omega)).1, (hf j hj).1]
    exact h2 i j hi hj
  · rw [(hf i (by omega)).1, (hf (i + 1) hi).1]
    exact h3 i hi
  · obtain ⟨f1, f2, f3⟩ := hf i hi
    obtain ⟨q1, q2, q3, q4, q5, _⟩ := hq i hi
    rw [f1, f2, f3]
    exact rq_Fr_keep (h6 i hi) q1 q2 q3 q4 q5 hG hc (fun j _ g2 => hp j (Nat.lt_of_lt_of_le g2 (hb (i + 1) hi)))
theorem rq_FI_push (h : rq_FI E R S gat kno sta vat cat std nct ned pil n fqu fwk fps top b) {k hi : Nat} (hk : k < 8)
    (hg : ¬ rq_Gd R S kno sta vat std k) (hd : ∀ i, i < n → fqu i ≠ k) (hD : 0 < n → rq_De E (fqu (n - 1)) k)
    (hf : ∀ i, i < n → fqu' i = fqu i ∧ fwk' i = fwk i ∧ fps' i = fps i) (ek : fqu' n = k)
    (hF : rq_Fr E R S gat kno sta vat cat std nct ned pil k (fwk' n) (fps' n) top hi) :
    rq_FI E R S gat kno sta vat cat std nct ned pil (n + 1) fqu' fwk' fps' hi (rq_up b (n + 1) hi) := by
  obtain ⟨h1, h2, h3, h4, h5, h6⟩ := h
  refine ⟨fun i hi' => ?_, fun i j hi' hj => ?_, fun i hi' => ?_, ?_, rq_up_s, fun i hi' => ?_⟩
  · by_cases e : i = n
    · rw [e, ek]
      exact ⟨hk, hg⟩
    · rw [(hf i (by omega)).1]
      exact h1 i (by omega)
  · by_cases e : j = n
    · rw [e, ek, (hf i (by omega)).1]
      exact hd i (by omega)
    · rw [(hf i (by omega)).1, (hf j (by omega)).1]
      exact h2 i j hi' (by omega)
  · by_cases e : i + 1 = n
    · rw [e, ek, (hf i (by omega)).1]
      have a := hD (by omega)
      rw [show n - 1 = i by omega] at a
      exact a
    · rw [(hf i (by omega)).1, (hf (i + 1) (by omega)).1]
      exact h3 i (by omega)
  · rw [rq_up_n (by omega)]
    exact h4
  · by_cases e : i = n
    · rw [e, ek, rq_up_s, rq_up_n (by omega), h5]
      exact hF
    · rw [(hf i (by omega)).1, (hf i (by omega)).2.1, (hf i (by omega)).2.2, rq_up_n (by omega), rq_up_n (by omega)]
      exact h6 i (by omega)
end
/-! counting -/
def rq_cnt (P : Nat → Bool) : Nat → Nat
  | 0 => 0
  | n + 1 => rq_cnt P n + (if P n = true then 1 else 0)
theorem rq_cnt_le (P : Nat → Bool) (n : Nat) : rq_cnt P n ≤ n := by
  induction n with
  | zero => exact Nat.le_refl 0
  | succ n ih =>
    show rq_cnt P n + (if P n = true then 1 else 0) ≤ n + 1
    split
    · omega
    · omega
theorem rq_cnt_congr {P P' : Nat → Bool} {n : Nat} (h : ∀ i, i < n → P' i = P i) : rq_cnt P' n = rq_cnt P n := by
  induction n with
  | zero => rfl
  | succ n ih =>
    show rq_cnt P' n + (if P' n = true then 1 else 0) = rq_cnt P n + (if P n = true then 1 else 0)
    rw [ih (fun i hi => h i (by omega)), h n (by omega)]
theorem rq_cnt_up {P : Nat → Bool} {k : Nat} (hp : P k = false) : ∀ {n : Nat}, k < n → rq_cnt (rq_up P k true) n = rq_cnt P n + 1 := by
  intro n
  induction n with
  | zero =>
    intro h
    omega
  | succ n ih =>
    intro h
    show rq_cnt (rq_up P k true) n + (if rq_up P k true n = true then 1 else 0) = rq_cnt P n + (if P n = true then 1 else 0) + 1
    by_cases e : k = n
    · rw [← e, rq_up_s, hp, rq_cnt_congr (P := P) (fun i hi => rq_up_n (by omega))]
      rfl
    · rw [ih (by omega), rq_up_n (show n ≠ k by omega)]
      omega
theorem rq_pig {N : Nat} {fq : Nat → Nat} : ∀ (n : Nat) (P : Nat → Bool), (∀ i, i < n → fq i < N ∧ P (fq i) = false) → (∀ i j, i < j → j < n → fq i ≠ fq j) → n + rq_cnt P N ≤ N := by
  intro n
  induction n with
  | zero =>
    intro P _ _
    have a := rq_cnt_le P N
    omega
  | succ n ih =>
    intro P h1 h2
    have a := ih (rq_up P (fq n) true) (fun i hi => ⟨(h1 i (by omega)).1, by rw [rq_up_n (h2 i n hi (by omega))]; exact (h1 i (by omega)).2⟩) (fun i j hi hj => h2 i j hi (by omega))
    rw [rq_cnt_up (h1 n (by omega)).2 (h1 n (by omega)).1] at a
    omega
def rq_sum (f : Nat → Nat) : Nat → Nat
  | 0 => 0
  | n + 1 => rq_sum f n + f n
theorem rq_sum_congr {f f' : Nat → Nat} {n : Nat} (h : ∀ i, i < n → f' i = f i) : rq_sum f' n = rq_sum f n := by
  induction n with
  | zero => rfl
  | succ n ih =>
    show rq_sum f' n + f' n = rq_sum f n + f n
    rw [ih (fun i hi => h i (by omega)), h n (by omega)]
def rq_rem (ln nct fqu : Nat → Nat) (fwk : Nat → Bool) (fps : Nat → Nat) (i : Nat) : Nat :=
  if fwk i = true then 1 + (ln (fqu i) - fps i) else 12 + (nct (fqu i) - fps i)
theorem rq_rem_congr {ln nct nct' fqu fqu' fps fps' : Nat → Nat} {fwk fwk' : Nat → Bool} {i : Nat} (h1 : fqu' i = fqu i) (h2 : fwk' i = fwk i) (h3 : fps' i = fps i) (h4 : nct' (fqu i) = nct (fqu i)) :
    rq_rem ln nct' fqu' fwk' fps' i = rq_rem ln nct fqu fwk fps i := by
  unfold rq_rem
  rw [h1, h2, h3, h4]
def rq_mu (c n : Nat) (rem : Nat → Nat) : Nat := 25 * (8 - c) + 25 * (8 - c - n) + rq_sum rem n
theorem rq_mu_push {c n : Nat} {rem rem' : Nat → Nat} (h : ∀ i, i < n → rem' i = rem i) (h1 : rem' n ≤ 24) (h2 : n + 1 + c ≤ 8) : rq_mu c (n + 1) rem' < rq_mu c n rem := by
  unfold rq_mu
  show 25 * (8 - c) + 25 * (8 - c - (n + 1)) + (rq_sum rem' n + rem' n) < _
  rw [rq_sum_congr h]
  omega
theorem rq_mu_adv {c n : Nat} {rem rem' : Nat → Nat} (h : ∀ i, i < n → rem' i = rem i) (h1 : rem' n < rem n) : rq_mu c (n + 1) rem' < rq_mu c (n + 1) rem := by
  unfold rq_mu
  show 25 * (8 - c) + 25 * (8 - c - (n + 1)) + (rq_sum rem' n + rem' n) < 25 * (8 - c) + 25 * (8 - c - (n + 1)) + (rq_sum rem n + rem n)
  rw [rq_sum_congr h]
  omega
theorem rq_mu_done {c n : Nat} {rem rem' : Nat → Nat} (h : ∀ i, i < n → rem' i = rem i) (h2 : n + 1 + c ≤ 8) : rq_mu (c + 1) n rem' < rq_mu c (n + 1) rem := by
  unfold rq_mu
  show _ < 25 * (8 - c) + 25 * (8 - c - (n + 1)) + (rq_sum rem n + rem n)
  rw [rq_sum_congr h]
  omega
theorem rq_mu_short {c n : Nat} {rem rem' : Nat → Nat} (h : ∀ i, i < n → rem' i = rem i) (h2 : n + 1 + c ≤ 8) : rq_mu (c + 1) n rem' < rq_mu c n rem := by
  unfold rq_mu
  rw [rq_sum_congr h]
  omega
theorem rq_mu_le {c : Nat} {rem : Nat → Nat} : rq_mu c 0 rem ≤ 400 := by
  unfold rq_mu
  show 25 * (8 - c) + 25 * (8 - c - 0) + 0 ≤ 400
  omega
end
section
/-! the state of an object: 27 places (this part is printed by gen/gen05.py) -/
def rq_bI : Bool → Int32
  | true => 1
  | false => 0
def rq_bA (f : Nat → Bool) : Nat → Int32 := fun i => rq_bI (f i)
def rq_nA (f : Nat → Nat) : Nat → Int32 := fun i => nI (f i)
def rq_as (std : Nat → Bool) (f : Nat → Nat) : Nat → Bool
  | 0 => true
  | i + 1 => rq_as std f i && (if f i < 6 then decide (3 ≤ f i) else std (f i - 6))
def rq_cp {α : Type} (f : Nat → α) (q : Nat) : Nat → Nat → α
  | 0 => f
  | i + 1 => rq_up (rq_cp f q i) (q * 10 + i) (rq_cp f q i (80 + i))
abbrev rq_M : Type := Nat × Nat × Nat × Nat × Nat × Bool × (Nat → Nat) × (Nat → Nat) × (Nat → Int32) × (Nat → Int32) × (Nat → Int32) × (Nat → Nat) × (Nat → Bool) × (Nat → Bool) × (Nat → Int32) × (Nat → Nat) × (Nat → Nat) × (Nat → Nat) × (Nat → Bool) × (Nat → Nat) × (Nat → Nat) × (Nat → Nat) × (Nat → Bool) × (Nat → Nat) × (Nat → Int32) × (Nat → Int32) × (Nat → Bool)
def rq_hgt (m : rq_M) : Nat := m.1
def rq_rev (m : rq_M) : Nat := m.2.1
def rq_sch (m : rq_M) : Nat := m.2.2.1
def rq_frm (m : rq_M) : Nat := m.2.2.2.1
def rq_top (m : rq_M) : Nat := m.2.2.2.2.1
def rq_fai (m : rq_M) : Bool := m.2.2.2.2.2.1
def rq_len (m : rq_M) : (Nat → Nat) := m.2.2.2.2.2.2.1
def rq_tok (m : rq_M) : (Nat → Nat) := m.2.2.2.2.2.2.2.1
def rq_fst (m : rq_M) : (Nat → Int32) := m.2.2.2.2.2.2.2.2.1
def rq_sec (m : rq_M) : (Nat → Int32) := m.2.2.2.2.2.2.2.2.2.1
def rq_giv (m : rq_M) : (Nat → Int32) := m.2.2.2.2.2.2.2.2.2.2.1
def rq_gat (m : rq_M) : (Nat → Nat) := m.2.2.2.2.2.2.2.2.2.2.2.1
def rq_kno (m : rq_M) : (Nat → Bool) := m.2.2.2.2.2.2.2.2.2.2.2.2.1
def rq_sta (m : rq_M) : (Nat → Bool) := m.2.2.2.2.2.2.2.2.2.2.2.2.2.1
def rq_mem (m : rq_M) : (Nat → Int32) := m.2.2.2.2.2.2.2.2.2.2.2.2.2.2.1
def rq_vat (m : rq_M) : (Nat → Nat) := m.2.2.2.2.2.2.2.2.2.2.2.2.2.2.2.1
def rq_cat (m : rq_M) : (Nat → Nat) := m.2.2.2.2.2.2.2.2.2.2.2.2.2.2.2.2.1
def rq_cir (m : rq_M) : (Nat → Nat) := m.2.2.2.2.2.2.2.2.2.2.2.2.2.2.2.2.2.1
def rq_std (m : rq_M) : (Nat → Bool) := m.2.2.2.2.2.2.2.2.2.2.2.2.2.2.2.2.2.2.1
def rq_nct (m : rq_M) : (Nat → Nat) := m.2.2.2.2.2.2.2.2.2.2.2.2.2.2.2.2.2.2.2.1
def rq_ned (m : rq_M) : (Nat → Nat) := m.2.2.2.2.2.2.2.2.2.2.2.2.2.2.2.2.2.2.2.2.1
def rq_fqu (m : rq_M) : (Nat → Nat) := m.2.2.2.2.2.2.2.2.2.2.2.2.2.2.2.2.2.2.2.2.2.1
def rq_fwk (m : rq_M) : (Nat → Bool) := m.2.2.2.2.2.2.2.2.2.2.2.2.2.2.2.2.2.2.2.2.2.2.1
def rq_fps (m : rq_M) : (Nat → Nat) := m.2.2.2.2.2.2.2.2.2.2.2.2.2.2.2.2.2.2.2.2.2.2.2.1
def rq_pil (m : rq_M) : (Nat → Int32) := m.2.2.2.2.2.2.2.2.2.2.2.2.2.2.2.2.2.2.2.2.2.2.2.2.1
def rq_wva (m : rq_M) : (Nat → Int32) := m.2.2.2.2.2.2.2.2.2.2.2.2.2.2.2.2.2.2.2.2.2.2.2.2.2.1
def rq_wci (m : rq_M) : (Nat → Bool) := m.2.2.2.2.2.2.2.2.2.2.2.2.2.2.2.2.2.2.2.2.2.2.2.2.2.2
def rq_w_hgt (m : rq_M) (x : Nat) : rq_M := (x, rq_rev m, rq_sch m, rq_frm m, rq_top m, rq_fai m, rq_len m, rq_tok m, rq_fst m, rq_sec m, rq_giv m, rq_gat m, rq_kno m, rq_sta m, rq_mem m, rq_vat m, rq_cat m, rq_cir m, rq_std m, rq_nct m, rq_ned m, rq_fqu m, rq_fwk m, rq_fps m, rq_pil m, rq_wva m, rq_wci m)
theorem rq_g_hgt (m : rq_M) (x : Nat) : rq_hgt (rq_w_hgt m x) = x ∧ rq_rev (rq_w_hgt m x) = rq_rev m ∧ rq_sch (rq_w_hgt m x) = rq_sch m ∧ rq_frm (rq_w_hgt m x) = rq_frm m ∧ rq_top (rq_w_hgt m x) = rq_top m ∧ rq_fai (rq_w_hgt m x) = rq_fai m ∧ rq_len (rq_w_hgt m x) = rq_len m ∧ rq_tok (rq_w_hgt m x) = rq_tok m ∧ rq_fst (rq_w_hgt m x) = rq_fst m ∧ rq_sec (rq_w_hgt m x) = rq_sec m ∧ rq_giv (rq_w_hgt m x) = rq_giv m ∧ rq_gat (rq_w_hgt m x) = rq_gat m ∧ rq_kno (rq_w_hgt m x) = rq_kno m ∧ rq_sta (rq_w_hgt m x) = rq_sta m ∧ rq_mem (rq_w_hgt m x) = rq_mem m ∧ rq_vat (rq_w_hgt m x) = rq_vat m ∧ rq_cat (rq_w_hgt m x) = rq_cat m ∧ rq_cir (rq_w_hgt m x) = rq_cir m ∧ rq_std (rq_w_hgt m x) = rq_std m ∧ rq_nct (rq_w_hgt m x) = rq_nct m ∧ rq_ned (rq_w_hgt m x) = rq_ned m ∧ rq_fqu (rq_w_hgt m x) = rq_fqu m ∧ rq_fwk (rq_w_hgt m x) = rq_fwk m ∧ rq_fps (rq_w_hgt m x) = rq_fps m ∧ rq_pil (rq_w_hgt m x) = rq_pil m ∧ rq_wva (rq_w_hgt m x) = rq_wva m ∧ rq_wci (rq_w_hgt m x) = rq_wci m := ⟨rfl, rfl, rfl, rfl, rfl, rfl, rfl, rfl, rfl, rfl, rfl, rfl, rfl, rfl, rfl, rfl, rfl, rfl, rfl, rfl, rfl, rfl, rfl, rfl, rfl, rfl, rfl⟩
def rq_w_rev (m : rq_M) (x : Nat) : rq_M := (rq_hgt m, x, rq_sch m, rq_frm m, rq_top m, rq_fai m, rq_len m, rq_tok m, rq_fst m, rq_sec m, rq_giv m, rq_gat m, rq_kno m, rq_sta m, rq_mem m, rq_vat m, rq_cat m, rq_cir m, rq_std m, rq_nct m, rq_ned m, rq_fqu m, rq_fwk m, rq_fps m, rq_pil m, rq_wva m, rq_wci m)
theorem rq_g_rev (m : rq_M) (x : Nat) : rq_hgt (rq_w_rev m x) = rq_hgt m ∧ rq_rev (rq_w_rev m x) = x ∧ rq_sch (rq_w_rev m x) = rq_sch m ∧ rq_frm (rq_w_rev m x) = rq_frm m ∧ rq_top (rq_w_rev m x) = rq_top m ∧ rq_fai (rq_w_rev m x) = rq_fai m ∧ rq_len (rq_w_rev m x) = rq_len m ∧ rq_tok (rq_w_rev m x) = rq_tok m ∧ rq_fst (rq_w_rev m x) = rq_fst m ∧ rq_sec (rq_w_rev m x) = rq_sec m ∧ rq_giv (rq_w_rev m x) = rq_giv m ∧ rq_gat (rq_w_rev m x) = rq_gat m ∧ rq_kno (rq_w_rev m x) = rq_kno m ∧ rq_sta (rq_w_rev m x) = rq_sta m ∧ rq_mem (rq_w_rev m x) = rq_mem m ∧ rq_vat (rq_w_rev m x) = rq_vat m ∧ rq_cat (rq_w_rev m x) = rq_cat m ∧ rq_cir (rq_w_rev m x) = rq_cir m ∧ rq_std (rq_w_rev m x) = rq_std m ∧ rq_nct (rq_w_rev m x) = rq_nct m ∧ rq_ned (rq_w_rev m x) = rq_ned m ∧ rq_fqu (rq_w_rev m x) = rq_fqu m ∧ rq_fwk (rq_w_rev m x) = rq_fwk m ∧ rq_fps (rq_w_rev m x) = rq_fps m ∧ rq_pil (rq_w_rev m x) = rq_pil m ∧ rq_wva (rq_w_rev m x) = rq_wva m ∧ rq_wci (rq_w_rev m x) = rq_wci m := ⟨rfl, rfl, rfl, rfl, rfl, rfl, rfl, rfl, rfl, rfl, rfl, rfl, rfl, rfl, rfl, rfl, rfl, rfl, rfl, rfl, rfl, rfl, rfl, rfl, rfl, rfl, rfl⟩
def rq_w_sch (m : rq_M) (x : Nat) : rq_M := (rq_hgt m, rq_rev m, x, rq_frm m, rq_top m, rq_fai m, rq_len m, rq_tok m, rq_fst m, rq_sec m, rq_giv m, rq_gat m, rq_kno m, rq_sta m, rq_mem m, rq_vat m, rq_cat m, rq_cir m, rq_std m, rq_nct m, rq_ned m, rq_fqu m, rq_fwk m, rq_fps m, rq_pil m, rq_wva m, rq_wci m)
theorem rq_g_sch (m : rq_M) (x : Nat) : rq_hgt (rq_w_sch m x) = rq_hgt m ∧ rq_rev (rq_w_sch m x) = rq_rev m ∧ rq_sch (rq_w_sch m x) = x ∧ rq_frm (rq_w_sch m x) = rq_frm m ∧ rq_top (rq_w_sch m x) = rq_top m ∧ rq_fai (rq_w_sch m x) = rq_fai m ∧ rq_len (rq_w_sch m x) = rq_len m ∧ rq_tok (rq_w_sch m x) = rq_tok m ∧ rq_fst (rq_w_sch m x) = rq_fst m ∧ rq_sec (rq_w_sch m x) = rq_sec m ∧ rq_giv (rq_w_sch m x) = rq_giv m ∧ rq_gat (rq_w_sch m x) = rq_gat m ∧ rq_kno (rq_w_sch m x) = rq_kno m ∧ rq_sta (rq_w_sch m x) = rq_sta m ∧ rq_mem (rq_w_sch m x) = rq_mem m ∧ rq_vat (rq_w_sch m x) = rq_vat m ∧ rq_cat (rq_w_sch m x) = rq_cat m ∧ rq_cir (rq_w_sch m x) = rq_cir m ∧ rq_std (rq_w_sch m x) = rq_std m ∧ rq_nct (rq_w_sch m x) = rq_nct m ∧ rq_ned (rq_w_sch m x) = rq_ned m ∧ rq_fqu (rq_w_sch m x) = rq_fqu m ∧ rq_fwk (rq_w_sch m x) = rq_fwk m ∧ rq_fps (rq_w_sch m x) = rq_fps m ∧ rq_pil (rq_w_sch m x) = rq_pil m ∧ rq_wva (rq_w_sch m x) = rq_wva m ∧ rq_wci (rq_w_sch m x) = rq_wci m := ⟨rfl, rfl, rfl, rfl, rfl, rfl, rfl, rfl, rfl, rfl, rfl, rfl, rfl, rfl, rfl, rfl, rfl, rfl, rfl, rfl, rfl, rfl, rfl, rfl, rfl, rfl, rfl⟩
def rq_w_frm (m : rq_M) (x : Nat) : rq_M := (rq_hgt m, rq_rev m, rq_sch m, x, rq_top m, rq_fai m, rq_len m, rq_tok m, rq_fst m, rq_sec m, rq_giv m, rq_gat m, rq_kno m, rq_sta m, rq_mem m, rq_vat m, rq_cat m, rq_cir m, rq_std m, rq_nct m, rq_ned m, rq_fqu m, rq_fwk m, rq_fps m, rq_pil m, rq_wva m, rq_wci m)
theorem rq_g_frm (m : rq_M) (x : Nat) : rq_hgt (rq_w_frm m x) = rq_hgt m ∧ rq_rev (rq_w_frm m x) = rq_rev m ∧ rq_sch (rq_w_frm m x) = rq_sch m ∧ rq_frm (rq_w_frm m x) = x ∧ rq_top (rq_w_frm m x) = rq_top m ∧ rq_fai (rq_w_frm m x) = rq_fai m ∧ rq_len (rq_w_frm m x) = rq_len m ∧ rq_tok (rq_w_frm m x) = rq_tok m ∧ rq_fst (rq_w_frm m x) = rq_fst m ∧ rq_sec (rq_w_frm m x) = rq_sec m ∧ rq_giv (rq_w_frm m x) = rq_giv m ∧ rq_gat (rq_w_frm m x) = rq_gat m ∧ rq_kno (rq_w_frm m x) = rq_kno m ∧ rq_sta (rq_w_frm m x) = rq_sta m ∧ rq_mem (rq_w_frm m x) = rq_mem m ∧ rq_vat (rq_w_frm m x) = rq_vat m ∧ rq_cat (rq_w_frm m x) = rq_cat m ∧ rq_cir (rq_w_frm m x) = rq_cir m ∧ rq_std (rq_w_frm m x) = rq_std m ∧ rq_nct (rq_w_frm m x) = rq_nct m ∧ rq_ned (rq_w_frm m x) = rq_ned m ∧ rq_fqu (rq_w_frm m x) = rq_fqu m ∧ rq_fwk (rq_w_frm m x) = rq_fwk m ∧ rq_fps (rq_w_frm m x) = rq_fps m ∧ rq_pil (rq_w_frm m x) = rq_pil m ∧ rq_wva (rq_w_frm m x) = rq_wva m ∧ rq_wci (rq_w_frm m x) = rq_wci m := ⟨rfl, rfl, rfl, rfl, rfl, rfl, rfl, rfl, rfl, rfl, rfl, rfl, rfl, rfl, rfl, rfl, rfl, rfl, rfl, rfl, rfl, rfl, rfl, rfl, rfl, rfl, rfl⟩
def rq_w_top (m : rq_M) (x : Nat) : rq_M := (rq_hgt m, rq_rev m, rq_sch m, rq_frm m, x, rq_fai m, rq_len m, rq_tok m, rq_fst m, rq_sec m, rq_giv m, rq_gat m, rq_kno m, rq_sta m, rq_mem m, rq_vat m, rq_cat m, rq_cir m, rq_std m, rq_nct m, rq_ned m, rq_fqu m, rq_fwk m, rq_fps m, rq_pil m, rq_wva m, rq_wci m)
theorem rq_g_top (m : rq_M) (x : Nat) : rq_hgt (rq_w_top m x) = rq_hgt m ∧ rq_rev (rq_w_top m x) = rq_rev m ∧ rq_sch (rq_w_top m x) = rq_sch m ∧ rq_frm (rq_w_top m x) = rq_frm m ∧ rq_top (rq_w_top m x) = x ∧ rq_fai (rq_w_top m x) = rq_fai m ∧ rq_len (rq_w_top m x) = rq_len m ∧ rq_tok (rq_w_top m x) = rq_tok m ∧ rq_fst (rq_w_top m x) = rq_fst m ∧ rq_sec (rq_w_top m x) = rq_sec m ∧ rq_giv (rq_w_top m x) = rq_giv m ∧ rq_gat (rq_w_top m x) = rq_gat m ∧ rq_kno (rq_w_top m x) = rq_kno m ∧ rq_sta (rq_w_top m x) = rq_sta m ∧ rq_mem (rq_w_top m x) = rq_mem m ∧ rq_vat (rq_w_top m x) = rq_vat m ∧ rq_cat (rq_w_top m x) = rq_cat m ∧ rq_cir (rq_w_top m x) = rq_cir m ∧ rq_std (rq_w_top m x) = rq_std m ∧ rq_nct (rq_w_top m x) = rq_nct m ∧ rq_ned (rq_w_top m x) = rq_ned m ∧ rq_fqu (rq_w_top m x) = rq_fqu m ∧ rq_fwk (rq_w_top m x) = rq_fwk m ∧ rq_fps (rq_w_top m x) = rq_fps m ∧ rq_pil (rq_w_top m x) = rq_pil m ∧ rq_wva (rq_w_top m x) = rq_wva m ∧ rq_wci (rq_w_top m x) = rq_wci m := ⟨rfl, rfl, rfl, rfl, rfl, rfl, rfl, rfl, rfl, rfl, rfl, rfl, rfl, rfl, rfl, rfl, rfl, rfl, rfl, rfl, rfl, rfl, rfl, rfl, rfl, rfl, rfl⟩
def rq_w_fai (m : rq_M) (x : Bool) : rq_M := (rq_hgt m, rq_rev m, rq_sch m, rq_frm m, rq_top m, x, rq_len m, rq_tok m, rq_fst m, rq_sec m, rq_giv m, rq_gat m, rq_kno m, rq_sta m, rq_mem m, rq_vat m, rq_cat m, rq_cir m, rq_std m, rq_nct m, rq_ned m, rq_fqu m, rq_fwk m, rq_fps m, rq_pil m, rq_wva m, rq_wci m)
theorem rq_g_fai (m : rq_M) (x : Bool) : rq_hgt (rq_w_fai m x) = rq_hgt m ∧ rq_rev (rq_w_fai m x) = rq_rev m ∧ rq_sch (rq_w_fai m x) = rq_sch m ∧ rq_frm (rq_w_fai m x) = rq_frm m ∧ rq_top (rq_w_fai m x) = rq_top m ∧ rq_fai (rq_w_fai m x) = x ∧ rq_len (rq_w_fai m x) = rq_len m ∧ rq_tok (rq_w_fai m x) = rq_tok m ∧ rq_fst (rq_w_fai m x) = rq_fst m ∧ rq_sec (rq_w_fai m x) = rq_sec m ∧ rq_giv (rq_w_fai m x) = rq_giv m ∧ rq_gat (rq_w_fai m x) = rq_gat m ∧ rq_kno (rq_w_fai m x) = rq_kno m ∧ rq_sta (rq_w_fai m x) = rq_sta m ∧ rq_mem (rq_w_fai m x) = rq_mem m ∧ rq_vat (rq_w_fai m x) = rq_vat m ∧ rq_cat (rq_w_fai m x) = rq_cat m ∧ rq_cir (rq_w_fai m x) = rq_cir m ∧ rq_std (rq_w_fai m x) = rq_std m ∧ rq_nct (rq_w_fai m x) = rq_nct m ∧ rq_ned (rq_w_fai m x) = rq_ned m ∧ rq_fqu (rq_w_fai m x) = rq_fqu m ∧ rq_fwk (rq_w_fai m x) = rq_fwk m ∧ rq_fps (rq_w_fai m x) = rq_fps m ∧ rq_pil (rq_w_fai m x) = rq_pil m ∧ rq_wva (rq_w_fai m x) = rq_wva m ∧ rq_wci (rq_w_fai m x) = rq_wci m := ⟨rfl, rfl, rfl, rfl, rfl, rfl, rfl, rfl, rfl, rfl, rfl, rfl, rfl, rfl, rfl, rfl, rfl, rfl, rfl, rfl, rfl, rfl, rfl, rfl, rfl, rfl, rfl⟩
def rq_w_len (m : rq_M) (x : (Nat → Nat)) : rq_M := (rq_hgt m, rq_rev m, rq_sch m, rq_frm m, rq_top m, rq_fai m, x, rq_tok m, rq_fst m, rq_sec m, rq_giv m, rq_gat m, rq_kno m, rq_sta m, rq_mem m, rq_vat m, rq_cat m, rq_cir m, rq_std m, rq_nct m, rq_ned m, rq_fqu m, rq_fwk m, rq_fps m, rq_pil m, rq_wva m, rq_wci m)
theorem rq_g_len (m : rq_M) (x : (Nat → Nat)) : rq_hgt (rq_w_len m x) = rq_hgt m ∧ rq_rev (rq_w_len m x) = rq_rev m ∧ rq_sch (rq_w_len m x) = rq_sch m ∧ rq_frm (rq_w_len m x) = rq_frm m ∧ rq_top (rq_w_len m x) = rq_top m ∧ rq_fai (rq_w_len m x) = rq_fai m ∧ rq_len (rq_w_len m x) = x ∧ rq_tok (rq_w_len m x) = rq_tok m ∧ rq_fst (rq_w_len m x) = rq_fst m ∧ rq_sec (rq_w_len m x) = rq_sec m ∧ rq_giv (rq_w_len m x) = rq_giv m ∧ rq_gat (rq_w_len m x) = rq_gat m ∧ rq_kno (rq_w_len m x) = rq_kno m ∧ rq_sta (rq_w_len m x) = rq_sta m ∧ rq_mem (rq_w_len m x) = rq_mem m ∧ rq_vat (rq_w_len m x) = rq_vat m ∧ rq_cat (rq_w_len m x) = rq_cat m ∧ rq_cir (rq_w_len m x) = rq_cir m ∧ rq_std (rq_w_len m x) = rq_std m ∧ rq_nct (rq_w_len m x) = rq_nct m ∧ rq_ned (rq_w_len m x) = rq_ned m ∧ rq_fqu (rq_w_len m x) = rq_fqu m ∧ rq_fwk (rq_w_len m x) = rq_fwk m ∧ rq_fps (rq_w_len m x) = rq_fps m ∧ rq_pil (rq_w_len m x) = rq_pil m ∧ rq_wva (rq_w_len m x) = rq_wva m ∧ rq_wci (rq_w_len m x) = rq_wci m := ⟨rfl, rfl, rfl, rfl, rfl, rfl, rfl, rfl, rfl, rfl, rfl, rfl, rfl, rfl, rfl, rfl, rfl, rfl, rfl, rfl, rfl, rfl, rfl, rfl, rfl, rfl, rfl⟩
def rq_w_tok (m : rq_M) (x : (Nat → Nat)) : rq_M := (rq_hgt m, rq_rev m, rq_sch m, rq_frm m, rq_top m, rq_fai m, rq_len m, x, rq_fst m, rq_sec m, rq_giv m, rq_gat m, rq_kno m, rq_sta m, rq_mem m, rq_vat m, rq_cat m, rq_cir m, rq_std m, rq_nct m, rq_ned m, rq_fqu m, rq_fwk m, rq_fps m, rq_pil m, rq_wva m, rq_wci m)
theorem rq_g_tok (m : rq_M) (x : (Nat → Nat)) : rq_hgt (rq_w_tok m x) = rq_hgt m ∧ rq_rev (rq_w_tok m x) = rq_rev m ∧ rq_sch (rq_w_tok m x) = rq_sch m ∧ rq_frm (rq_w_tok m x) = rq_frm m ∧ rq_top (rq_w_tok m x) = rq_top m ∧ rq_fai (rq_w_tok m x) = rq_fai m ∧ rq_len (rq_w_tok m x) = rq_len m ∧ rq_tok (rq_w_tok m x) = x ∧ rq_fst (rq_w_tok m x) = rq_fst m ∧ rq_sec (rq_w_tok m x) = rq_sec m ∧ rq_giv (rq_w_tok m x) = rq_giv m ∧ rq_gat (rq_w_tok m x) = rq_gat m ∧ rq_kno (rq_w_tok m x) = rq_kno m ∧ rq_sta (rq_w_tok m x) = rq_sta m ∧ rq_mem (rq_w_tok m x) = rq_mem m ∧ rq_vat (rq_w_tok m x) = rq_vat m ∧ rq_cat (rq_w_tok m x) = rq_cat m ∧ rq_cir (rq_w_tok m x) = rq_cir m ∧ rq_std (rq_w_tok m x) = rq_std m ∧ rq_nct (rq_w_tok m x) = rq_nct m ∧ rq_ned (rq_w_tok m x) = rq_ned m ∧ rq_fqu (rq_w_tok m x) = rq_fqu m ∧ rq_fwk (rq_w_tok m x) = rq_fwk m ∧ rq_fps (rq_w_tok m x) = rq_fps m ∧ rq_pil (rq_w_tok m x) = rq_pil m ∧ rq_wva (rq_w_tok m x) = rq_wva m ∧ rq_wci (rq_w_tok m x) = rq_wci m := ⟨rfl, rfl, rfl, rfl, rfl, rfl, rfl, rfl, rfl, rfl, rfl, rfl, rfl, rfl, rfl, rfl, rfl, rfl, rfl, rfl, rfl, rfl, rfl, rfl, rfl, rfl, rfl⟩
def rq_w_fst (m : rq_M) (x : (Nat → Int32)) : rq_M := (rq_hgt m, rq_rev m, rq_sch m, rq_frm m, rq_top m, rq_fai m, rq_len m, rq_tok m, x, rq_sec m, rq_giv m, rq_gat m, rq_kno m, rq_sta m, rq_mem m, rq_vat m, rq_cat m, rq_cir m, rq_std m, rq_nct m, rq_ned m, rq_fqu m, rq_fwk m, rq_fps m, rq_pil m, rq_wva m, rq_wci m)
theorem rq_g_fst (m : rq_M) (x : (Nat → Int32)) : rq_hgt (rq_w_fst m x) = rq_hgt m ∧ rq_rev (rq_w_fst m x) = rq_rev m ∧ rq_sch (rq_w_fst m x) = rq_sch m ∧ rq_frm (rq_w_fst m x) = rq_frm m ∧ rq_top (rq_w_fst m x) = rq_top m ∧ rq_fai (rq_w_fst m x) = rq_fai m ∧ rq_len (rq_w_fst m x) = rq_len m ∧ rq_tok (rq_w_fst m x) = rq_tok m ∧ rq_fst (rq_w_fst m x) = x ∧ rq_sec (rq_w_fst m x) = rq_sec m ∧ rq_giv (rq_w_fst m x) = rq_giv m ∧ rq_gat (rq_w_fst m x) = rq_gat m ∧ rq_kno (rq_w_fst m x) = rq_kno m ∧ rq_sta (rq_w_fst m x) = rq_sta m ∧ rq_mem (rq_w_fst m x) = rq_mem m ∧ rq_vat (rq_w_fst m x) = rq_vat m ∧ rq_cat (rq_w_fst m x) = rq_cat m ∧ rq_cir (rq_w_fst m x) = rq_cir m ∧ rq_std (rq_w_fst m x) = rq_std m ∧ rq_nct (rq_w_fst m x) = rq_nct m ∧ rq_ned (rq_w_fst m x) = rq_ned m ∧ rq_fqu (rq_w_fst m x) = rq_fqu m ∧ rq_fwk (rq_w_fst m x) = rq_fwk m ∧ rq_fps (rq_w_fst m x) = rq_fps m ∧ rq_pil (rq_w_fst m x) = rq_pil m ∧ rq_wva (rq_w_fst m x) = rq_wva m ∧ rq_wci (rq_w_fst m x) = rq_wci m := ⟨rfl, rfl, rfl, rfl, rfl, rfl, rfl, rfl, rfl, rfl, rfl, rfl, rfl, rfl, rfl, rfl, rfl, rfl, rfl, rfl, rfl, rfl, rfl, rfl, rfl, rfl, rfl⟩
def rq_w_sec (m : rq_M) (x : (Nat → Int32)) : rq_M := (rq_hgt m, rq_rev m, rq_sch m, rq_frm m, rq_top m, rq_fai m, rq_len m, rq_tok m, rq_fst m, x, rq_giv m, rq_gat m, rq_kno m, rq_sta m, rq_mem m, rq_vat m, rq_cat m, rq_cir m, rq_std m, rq_nct m, rq_ned m, rq_fqu m, rq_fwk m, rq_fps m, rq_pil m, rq_wva m, rq_wci m)
theorem rq_g_sec (m : rq_M) (x : (Nat → Int32)) : rq_hgt (rq_w_sec m x) = rq_hgt m ∧ rq_rev (rq_w_sec m x) = rq_rev m ∧ rq_sch (rq_w_sec m x) = rq_sch m ∧ rq_frm (rq_w_sec m x) = rq_frm m ∧ rq_top (rq_w_sec m x) = rq_top m ∧ rq_fai (rq_w_sec m x) = rq_fai m ∧ rq_len (rq_w_sec m x) = rq_len m ∧ rq_tok (rq_w_sec m x) = rq_tok m ∧ rq_fst (rq_w_sec m x) = rq_fst m ∧ rq_sec (rq_w_sec m x) = x ∧ rq_giv (rq_w_sec m x) = rq_giv m ∧ rq_gat (rq_w_sec m x) = rq_gat m ∧ rq_kno (rq_w_sec m x) = rq_kno m ∧ rq_sta (rq_w_sec m x) = rq_sta m ∧ rq_mem (rq_w_sec m x) = rq_mem m ∧ rq_vat (rq_w_sec m x) = rq_vat m ∧ rq_cat (rq_w_sec m x) = rq_cat m ∧ rq_cir (rq_w_sec m x) = rq_cir m ∧ rq_std (rq_w_sec m x) = rq_std m ∧ rq_nct (rq_w_sec m x) = rq_nct m ∧ rq_ned (rq_w_sec m x) = rq_ned m ∧ rq_fqu (rq_w_sec m x) = rq_fqu m ∧ rq_fwk (rq_w_sec m x) = rq_fwk m ∧ rq_fps (rq_w_sec m x) = rq_fps m ∧ rq_pil (rq_w_sec m x) = rq_pil m ∧ rq_wva (rq_w_sec m x) = rq_wva m ∧ rq_wci (rq_w_sec m x) = rq_wci m := ⟨rfl, rfl, rfl, rfl, rfl, rfl, rfl, rfl, rfl, rfl, rfl, rfl, rfl, rfl, rfl, rfl, rfl, rfl, rfl, rfl, rfl, rfl, rfl, rfl, rfl, rfl, rfl⟩
def rq_w_giv (m : rq_M) (x : (Nat → Int32)) : rq_M := (rq_hgt m, rq_rev m, rq_sch m, rq_frm m, rq_top m, rq_fai m, rq_len m, rq_tok m, rq_fst m, rq_sec m, x, rq_gat m, rq_kno m, rq_sta m, rq_mem m, rq_vat m, rq_cat m, rq_cir m, rq_std m, rq_nct m, rq_ned m, rq_fqu m, rq_fwk m, rq_fps m, rq_pil m, rq_wva m, rq_wci m)
theorem rq_g_giv (m : rq_M) (x : (Nat → Int32)) : rq_hgt (rq_w_giv m x) = rq_hgt m ∧ rq_rev (rq_w_giv m x) = rq_rev m ∧ rq_sch (rq_w_giv m x) = rq_sch m ∧ rq_frm (rq_w_giv m x) = rq_frm m ∧ rq_top (rq_w_giv m x) = rq_top m ∧ rq_fai (rq_w_giv m x) = rq_fai m ∧ rq_len (rq_w_giv m x) = rq_len m ∧ rq_tok (rq_w_giv m x) = rq_tok m ∧ rq_fst (rq_w_giv m x) = rq_fst m ∧ rq_sec (rq_w_giv m x) = rq_sec m ∧ rq_giv (rq_w_giv m x) = x ∧ rq_gat (rq_w_giv m x) = rq_gat m ∧ rq_kno (rq_w_giv m x) = rq_kno m ∧ rq_sta (rq_w_giv m x) = rq_sta m ∧ rq_mem (rq_w_giv m x) = rq_mem m ∧ rq_vat (rq_w_giv m x) = rq_vat m ∧ rq_cat (rq_w_giv m x) = rq_cat m ∧ rq_cir (rq_w_giv m x) = rq_cir m ∧ rq_std (rq_w_giv m x) = rq_std m ∧ rq_nct (rq_w_giv m x) = rq_nct m ∧ rq_ned (rq_w_giv m x) = rq_ned m ∧ rq_fqu (rq_w_giv m x) = rq_fqu m ∧ rq_fwk (rq_w_giv m x) = rq_fwk m ∧ rq_fps (rq_w_giv m x) = rq_fps m ∧ rq_pil (rq_w_giv m x) = rq_pil m ∧ rq_wva (rq_w_giv m x) = rq_wva m ∧ rq_wci (rq_w_giv m x) = rq_wci m := ⟨rfl, rfl, rfl, rfl, rfl, rfl, rfl, rfl, rfl, rfl, rfl, rfl, rfl, rfl, rfl, rfl, rfl, rfl, rfl, rfl, rfl, rfl, rfl, rfl, rfl, rfl, rfl⟩
def rq_w_gat (m : rq_M) (x : (Nat → Nat)) : rq_M := (rq_hgt m, rq_rev m, rq_sch m, rq_frm m, rq_top m, rq_fai m, rq_len m, rq_tok m, rq_fst m, rq_sec m, rq_giv m, x, rq_kno m, rq_sta m, rq_mem m, rq_vat m, rq_cat m, rq_cir m, rq_std m, rq_nct m, rq_ned m, rq_fqu m, rq_fwk m, rq_fps m, rq_pil m, rq_wva m, rq_wci m)
theorem rq_g_gat (m : rq_M) (x : (Nat → Nat)) : rq_hgt (rq_w_gat m x) = rq_hgt m ∧ rq_rev (rq_w_gat m x) = rq_rev m ∧ rq_sch (rq_w_gat m x) = rq_sch m ∧ rq_frm (rq_w_gat m x) = rq_frm m ∧ rq_top (rq_w_gat m x) = rq_top m ∧ rq_fai (rq_w_gat m x) = rq_fai m ∧ rq_len (rq_w_gat m x) = rq_len m ∧ rq_tok (rq_w_gat m x) = rq_tok m ∧ rq_fst (rq_w_gat m x) = rq_fst m ∧ rq_sec (rq_w_gat m x) = rq_sec m ∧ rq_giv (rq_w_gat m x) = rq_giv m ∧ rq_gat (rq_w_gat m x) = x ∧ rq_kno (rq_w_gat m x) = rq_kno m ∧ rq_sta (rq_w_gat m x) = rq_sta m ∧ rq_mem (rq_w_gat m x) = rq_mem m ∧ rq_vat (rq_w_gat m x) = rq_vat m ∧ rq_cat (rq_w_gat m x) = rq_cat m ∧ rq_cir (rq_w_gat m x) = rq_cir m ∧ rq_std (rq_w_gat m x) = rq_std m ∧ rq_nct (rq_w_gat m x) = rq_nct m ∧ rq_ned (rq_w_gat m x) = rq_ned m ∧ rq_fqu (rq_w_gat m x) = rq_fqu m ∧ rq_fwk (rq_w_gat m x) = rq_fwk m ∧ rq_fps (rq_w_gat m x) = rq_fps m ∧ rq_pil (rq_w_gat m x) = rq_pil m ∧ rq_wva (rq_w_gat m x) = rq_wva m ∧ rq_wci (rq_w_gat m x) = rq_wci m := ⟨rfl, rfl, rfl, rfl, rfl, rfl, rfl, rfl, rfl, rfl, rfl, rfl, rfl, rfl, rfl, rfl, rfl, rfl, rfl, rfl, rfl, rfl, rfl, rfl, rfl, rfl, rfl⟩
def rq_w_kno (m : rq_M) (x : (Nat → Bool)) : rq_M := (rq_hgt m, rq_rev m, rq_sch m, rq_frm m, rq_top m, rq_fai m, rq_len m, rq_tok m, rq_fst m, rq_sec m, rq_giv m, rq_gat m, x, rq_sta m, rq_mem m, rq_vat m, rq_cat m, rq_cir m, rq_std m, rq_nct m, rq_ned m, rq_fqu m, rq_fwk m, rq_fps m, rq_pil m, rq_wva m, rq_wci m)
theorem rq_g_kno (m : rq_M) (x : (Nat → Bool)) : rq_hgt (rq_w_kno m x) = rq_hgt m ∧ rq_rev (rq_w_kno m x) = rq_rev m ∧ rq_sch (rq_w_kno m x) = rq_sch m ∧ rq_frm (rq_w_kno m x) = rq_frm m ∧ rq_top (rq_w_kno m x) = rq_top m ∧ rq_fai (rq_w_kno m x) = rq_fai m ∧ rq_len (rq_w_kno m x) = rq_len m ∧ rq_tok (rq_w_kno m x) = rq_tok m ∧ rq_fst (rq_w_kno m x) = rq_fst m ∧ rq_sec (rq_w_kno m x) = rq_sec m ∧ rq_giv (rq_w_kno m x) = rq_giv m ∧ rq_gat (rq_w_kno m x) = rq_gat m ∧ rq_kno (rq_w_kno m x) = x ∧ rq_sta (rq_w_kno m x) = rq_sta m ∧ rq_mem (rq_w_kno m x) = rq_mem m ∧ rq_vat (rq_w_kno m x) = rq_vat m ∧ rq_cat (rq_w_kno m x) = rq_cat m ∧ rq_cir (rq_w_kno m x) = rq_cir m ∧ rq_std (rq_w_kno m x) = rq_std m ∧ rq_nct (rq_w_kno m x) = rq_nct m ∧ rq_ned (rq_w_kno m x) = rq_ned m ∧ rq_fqu (rq_w_kno m x) = rq_fqu m ∧ rq_fwk (rq_w_kno m x) = rq_fwk m ∧ rq_fps (rq_w_kno m x) = rq_fps m ∧ rq_pil (rq_w_kno m x) = rq_pil m ∧ rq_wva (rq_w_kno m x) = rq_wva m ∧ rq_wci (rq_w_kno m x) = rq_wci m := ⟨rfl, rfl, rfl, rfl, rfl, rfl, rfl, rfl, rfl, rfl, rfl, rfl, rfl, rfl, rfl, rfl, rfl, rfl, rfl, rfl, rfl, rfl, rfl, rfl, rfl, rfl, rfl⟩
def rq_w_sta (m : rq_M) (x : (Nat → Bool)) : rq_M := (rq_hgt m, rq_rev m, rq_sch m, rq_frm m, rq_top m, rq_fai m, rq_len m, rq_tok m, rq_fst m, rq_sec m, rq_giv m, rq_gat m, rq_kno m, x, rq_mem m, rq_vat m, rq_cat m, rq_cir m, rq_std m, rq_nct m, rq_ned m, rq_fqu m, rq_fwk m, rq_fps m, rq_pil m, rq_wva m, rq_wci m)
theorem rq_g_sta (m : rq_M) (x : (Nat → Bool)) : rq_hgt (rq_w_sta m x) = rq_hgt m ∧ rq_rev (rq_w_sta m x) = rq_rev m ∧ rq_sch (rq_w_sta m x) = rq_sch m ∧ rq_frm (rq_w_sta m x) = rq_frm m ∧ rq_top (rq_w_sta m x) = rq_top m ∧ rq_fai (rq_w_sta m x) = rq_fai m ∧ rq_len (rq_w_sta m x) = rq_len m ∧ rq_tok (rq_w_sta m x) = rq_tok m ∧ rq_fst (rq_w_sta m x) = rq_fst m ∧ rq_sec (rq_w_sta m x) = rq_sec m ∧ rq_giv (rq_w_sta m x) = rq_giv m ∧ rq_gat (rq_w_sta m x) = rq_gat m ∧ rq_kno (rq_w_sta m x) = rq_kno m ∧ rq_sta (rq_w_sta m x) = x ∧ rq_mem (rq_w_sta m x) = rq_mem m ∧ rq_vat (rq_w_sta m x) = rq_vat m ∧ rq_cat (rq_w_sta m x) = rq_cat m ∧ rq_cir (rq_w_sta m x) = rq_cir m ∧ rq_std (rq_w_sta m x) = rq_std m ∧ rq_nct (rq_w_sta m x) = rq_nct m ∧ rq_ned (rq_w_sta m x) = rq_ned m ∧ rq_fqu (rq_w_sta m x) = rq_fqu m ∧ rq_fwk (rq_w_sta m x) = rq_fwk m ∧ rq_fps (rq_w_sta m x) = rq_fps m ∧ rq_pil (rq_w_sta m x) = rq_pil m ∧ rq_wva (rq_w_sta m x) = rq_wva m ∧ rq_wci (rq_w_sta m x) = rq_wci m := ⟨rfl, rfl, rfl, rfl, rfl, rfl, rfl, rfl, rfl, rfl, rfl, rfl, rfl, rfl, rfl, rfl, rfl, rfl, rfl, rfl, rfl, rfl, rfl, rfl, rfl, rfl, rfl⟩
def rq_w_mem (m : rq_M) (x : (Nat → Int32)) : rq_M := (rq_hgt m, rq_rev m, rq_sch m, rq_frm m, rq_top m, rq_fai m, rq_len m, rq_tok m, rq_fst m, rq_sec m, rq_giv m, rq_gat m, rq_kno m, rq_sta m, x, rq_vat m, rq_cat m, rq_cir m, rq_std m, rq_nct m, rq_ned m, rq_fqu m, rq_fwk m, rq_fps m, rq_pil m, rq_wva m, rq_wci m)
theorem rq_g_mem (m : rq_M) (x : (Nat → Int32)) : rq_hgt (rq_w_mem m x) = rq_hgt m ∧ rq_rev (rq_w_mem m x) = rq_rev m ∧ rq_sch (rq_w_mem m x) = rq_sch m ∧ rq_frm (rq_w_mem m x) = rq_frm m ∧ rq_top (rq_w_mem m x) = rq_top m ∧ rq_fai (rq_w_mem m x) = rq_fai m ∧ rq_len (rq_w_mem m x) = rq_len m ∧ rq_tok (rq_w_mem m x) = rq_tok m ∧ rq_fst (rq_w_mem m x) = rq_fst m ∧ rq_sec (rq_w_mem m x) = rq_sec m ∧ rq_giv (rq_w_mem m x) = rq_giv m ∧ rq_gat (rq_w_mem m x) = rq_gat m ∧ rq_kno (rq_w_mem m x) = rq_kno m ∧ rq_sta (rq_w_mem m x) = rq_sta m ∧ rq_mem (rq_w_mem m x) = x ∧ rq_vat (rq_w_mem m x) = rq_vat m ∧ rq_cat (rq_w_mem m x) = rq_cat m ∧ rq_cir (rq_w_mem m x) = rq_cir m ∧ rq_std (rq_w_mem m x) = rq_std m ∧ rq_nct (rq_w_mem m x) = rq_nct m ∧ rq_ned (rq_w_mem m x) = rq_ned m ∧ rq_fqu (rq_w_mem m x) = rq_fqu m ∧ rq_fwk (rq_w_mem m x) = rq_fwk m ∧ rq_fps (rq_w_mem m x) = rq_fps m ∧ rq_pil (rq_w_mem m x) = rq_pil m ∧ rq_wva (rq_w_mem m x) = rq_wva m ∧ rq_wci (rq_w_mem m x) = rq_wci m := ⟨rfl, rfl, rfl, rfl, rfl, rfl, rfl, rfl, rfl, rfl, rfl, rfl, rfl, rfl, rfl, rfl, rfl, rfl, rfl, rfl, rfl, rfl, rfl, rfl, rfl, rfl, rfl⟩
def rq_w_vat (m : rq_M) (x : (Nat → Nat)) : rq_M := (rq_hgt m, rq_rev m, rq_sch m, rq_frm m, rq_top m, rq_fai m, rq_len m, rq_tok m, rq_fst m, rq_sec m, rq_giv m, rq_gat m, rq_kno m, rq_sta m, rq_mem m, x, rq_cat m, rq_cir m, rq_std m, rq_nct m, rq_ned m, rq_fqu m, rq_fwk m, rq_fps m, rq_pil m, rq_wva m, rq_wci m)
theorem rq_g_vat (m : rq_M) (x : (Nat → Nat)) : rq_hgt (rq_w_vat m x) = rq_hgt m ∧ rq_rev (rq_w_vat m x) = rq_rev m ∧ rq_sch (rq_w_vat m x) = rq_sch m ∧ rq_frm (rq_w_vat m x) = rq_frm m ∧ rq_top (rq_w_vat m x) = rq_top m ∧ rq_fai (rq_w_vat m x) = rq_fai m ∧ rq_len (rq_w_vat m x) = rq_len m ∧ rq_tok (rq_w_vat m x) = rq_tok m ∧ rq_fst (rq_w_vat m x) = rq_fst m ∧ rq_sec (rq_w_vat m x) = rq_sec m ∧ rq_giv (rq_w_vat m x) = rq_giv m ∧ rq_gat (rq_w_vat m x) = rq_gat m ∧ rq_kno (rq_w_vat m x) = rq_kno m ∧ rq_sta (rq_w_vat m x) = rq_sta m ∧ rq_mem (rq_w_vat m x) = rq_mem m ∧ rq_vat (rq_w_vat m x) = x ∧ rq_cat (rq_w_vat m x) = rq_cat m ∧ rq_cir (rq_w_vat m x) = rq_cir m ∧ rq_std (rq_w_vat m x) = rq_std m ∧ rq_nct (rq_w_vat m x) = rq_nct m ∧ rq_ned (rq_w_vat m x) = rq_ned m ∧ rq_fqu (rq_w_vat m x) = rq_fqu m ∧ rq_fwk (rq_w_vat m x) = rq_fwk m ∧ rq_fps (rq_w_vat m x) = rq_fps m ∧ rq_pil (rq_w_vat m x) = rq_pil m ∧ rq_wva (rq_w_vat m x) = rq_wva m ∧ rq_wci (rq_w_vat m x) = rq_wci m := ⟨rfl, rfl, rfl, rfl, rfl, rfl, rfl, rfl, rfl, rfl, rfl, rfl, rfl, rfl, rfl, rfl, rfl, rfl, rfl, rfl, rfl, rfl, rfl, rfl, rfl, rfl, rfl⟩
def rq_w_cat (m : rq_M) (x : (Nat → Nat)) : rq_M := (rq_hgt m, rq_rev m, rq_sch m, rq_frm m, rq_top m, rq_fai m, rq_len m, rq_tok m, rq_fst m, rq_sec m, rq_giv m, rq_gat m, rq_kno m, rq_sta m, rq_mem m, rq_vat m, x, rq_cir m, rq_std m, rq_nct m, rq_ned m, rq_fqu m, rq_fwk m, rq_fps m, rq_pil m, rq_wva m, rq_wci m)
theorem rq_g_cat (m : rq_M) (x : (Nat → Nat)) : rq_hgt (rq_w_cat m x) = rq_hgt m ∧ rq_rev (rq_w_cat m x) = rq_rev m ∧ rq_sch (rq_w_cat m x) = rq_sch m ∧ rq_frm (rq_w_cat m x) = rq_frm m ∧ rq_top (rq_w_cat m x) = rq_top m ∧ rq_fai (rq_w_cat m x) = rq_fai m ∧ rq_len (rq_w_cat m x) = rq_len m ∧ rq_tok (rq_w_cat m x) = rq_tok m ∧ rq_fst (rq_w_cat m x) = rq_fst m ∧ rq_sec (rq_w_cat m x) = rq_sec m ∧ rq_giv (rq_w_cat m x) = rq_giv m ∧ rq_gat (rq_w_cat m x) = rq_gat m ∧ rq_kno (rq_w_cat m x) = rq_kno m ∧ rq_sta (rq_w_cat m x) = rq_sta m ∧ rq_mem (rq_w_cat m x) = rq_mem m ∧ rq_vat (rq_w_cat m x) = rq_vat m ∧ rq_cat (rq_w_cat m x) = x ∧ rq_cir (rq_w_cat m x) = rq_cir m ∧ rq_std (rq_w_cat m x) = rq_std m ∧ rq_nct (rq_w_cat m x) = rq_nct m ∧ rq_ned (rq_w_cat m x) = rq_ned m ∧ rq_fqu (rq_w_cat m x) = rq_fqu m ∧ rq_fwk (rq_w_cat m x) = rq_fwk m ∧ rq_fps (rq_w_cat m x) = rq_fps m ∧ rq_pil (rq_w_cat m x) = rq_pil m ∧ rq_wva (rq_w_cat m x) = rq_wva m ∧ rq_wci (rq_w_cat m x) = rq_wci m := ⟨rfl, rfl, rfl, rfl, rfl, rfl, rfl, rfl, rfl, rfl, rfl, rfl, rfl, rfl, rfl, rfl, rfl, rfl, rfl, rfl, rfl, rfl, rfl, rfl, rfl, rfl, rfl⟩
def rq_w_cir (m : rq_M) (x : (Nat → Nat)) : rq_M := (rq_hgt m, rq_rev m, rq_sch m, rq_frm m, rq_top m, rq_fai m, rq_len m, rq_tok m, rq_fst m, rq_sec m, rq_giv m, rq_gat m, rq_kno m, rq_sta m, rq_mem m, rq_vat m, rq_cat m, x, rq_std m, rq_nct m, rq_ned m, rq_fqu m, rq_fwk m, rq_fps m, rq_pil m, rq_wva m, rq_wci m)
theorem rq_g_cir (m : rq_M) (x : (Nat → Nat)) : rq_hgt (rq_w_cir m x) = rq_hgt m ∧ rq_rev (rq_w_cir m x) = rq_rev m ∧ rq_sch (rq_w_cir m x) = rq_sch m ∧ rq_frm (rq_w_cir m x) = rq_frm m ∧ rq_top (rq_w_cir m x) = rq_top m ∧ rq_fai (rq_w_cir m x) = rq_fai m ∧ rq_len (rq_w_cir m x) = rq_len m ∧ rq_tok (rq_w_cir m x) = rq_tok m ∧ rq_fst (rq_w_cir m x) = rq_fst m ∧ rq_sec (rq_w_cir m x) = rq_sec m ∧ rq_giv (rq_w_cir m x) = rq_giv m ∧ rq_gat (rq_w_cir m x) = rq_gat m ∧ rq_kno (rq_w_cir m x) = rq_kno m ∧ rq_sta (rq_w_cir m x) = rq_sta m ∧ rq_mem (rq_w_cir m x) = rq_mem m ∧ rq_vat (rq_w_cir m x) = rq_vat m ∧ rq_cat (rq_w_cir m x) = rq_cat m ∧ rq_cir (rq_w_cir m x) = x ∧ rq_std (rq_w_cir m x) = rq_std m ∧ rq_nct (rq_w_cir m x) = rq_nct m ∧ rq_ned (rq_w_cir m x) = rq_ned m ∧ rq_fqu (rq_w_cir m x) = rq_fqu m ∧ rq_fwk (rq_w_cir m x) = rq_fwk m ∧ rq_fps (rq_w_cir m x) = rq_fps m ∧ rq_pil (rq_w_cir m x) = rq_pil m ∧ rq_wva (rq_w_cir m x) = rq_wva m ∧ rq_wci (rq_w_cir m x) = rq_wci m := ⟨rfl, rfl, rfl, rfl, rfl, rfl, rfl, rfl, rfl, rfl, rfl, rfl, rfl, rfl, rfl, rfl, rfl, rfl, rfl, rfl, rfl, rfl, rfl, rfl, rfl, rfl, rfl⟩
def rq_w_std (m : rq_M) (x : (Nat → Bool)) : rq_M := (rq_hgt m, rq_rev m, rq_sch m, rq_frm m, rq_top m, rq_fai m, rq_len m, rq_tok m, rq_fst m, rq_sec m, rq_giv m, rq_gat m, rq_kno m, rq_sta m, rq_mem m, rq_vat m, rq_cat m, rq_cir m, x, rq_nct m, rq_ned m, rq_fqu m, rq_fwk m, rq_fps m, rq_pil m, rq_wva m, rq_wci m)
theorem rq_g_std (m : rq_M) (x : (Nat → Bool)) : rq_hgt (rq_w_std m x) = rq_hgt m ∧ rq_rev (rq_w_std m x) = rq_rev m ∧ rq_sch (rq_w_std m x) = rq_sch m ∧ rq_frm (rq_w_std m x) = rq_frm m ∧ rq_top (rq_w_std m x) = rq_top m ∧ rq_fai (rq_w_std m x) = rq_fai m ∧ rq_len (rq_w_std m x) = rq_len m ∧ rq_tok (rq_w_std m x) = rq_tok m ∧ rq_fst (rq_w_std m x) = rq_fst m ∧ rq_sec (rq_w_std m x) = rq_sec m ∧ rq_giv (rq_w_std m x) = rq_giv m ∧ rq_gat (rq_w_std m x) = rq_gat m ∧ rq_kno (rq_w_std m x) = rq_kno m ∧ rq_sta (rq_w_std m x) = rq_sta m ∧ rq_mem (rq_w_std m x) = rq_mem m ∧ rq_vat (rq_w_std m x) = rq_vat m ∧ rq_cat (rq_w_std m x) = rq_cat m ∧ rq_cir (rq_w_std m x) = rq_cir m ∧ rq_std (rq_w_std m x) = x ∧ rq_nct (rq_w_std m x) = rq_nct m ∧ rq_ned (rq_w_std m x) = rq_ned m ∧ rq_fqu (rq_w_std m x) = rq_fqu m ∧ rq_fwk (rq_w_std m x) = rq_fwk m ∧ rq_fps (rq_w_std m x) = rq_fps m ∧ rq_pil (rq_w_std m x) = rq_pil m ∧ rq_wva (rq_w_std m x) = rq_wva m ∧ rq_wci (rq_w_std m x) = rq_wci m := ⟨rfl, rfl, rfl, rfl, rfl, rfl, rfl, rfl, rfl, rfl, rfl, rfl, rfl, rfl, rfl, rfl, rfl, rfl, rfl, rfl, rfl, rfl, rfl, rfl, rfl, rfl, rfl⟩
def rq_w_nct (m : rq_M) (x : (Nat → Nat)) : rq_M := (rq_hgt m, rq_rev m, rq_sch m, rq_frm m, rq_top m, rq_fai m, rq_len m, rq_tok m, rq_fst m, rq_sec m, rq_giv m, rq_gat m, rq_kno m, rq_sta m, rq_mem m, rq_vat m, rq_cat m, rq_cir m, rq_std m, x, rq_ned m, rq_fqu m, rq_fwk m, rq_fps m, rq_pil m, rq_wva m, rq_wci m)
theorem rq_g_nct (m : rq_M) (x : (Nat → Nat)) : rq_hgt (rq_w_nct m x) = rq_hgt m ∧ rq_rev (rq_w_nct m x) = rq_rev m ∧ rq_sch (rq_w_nct m x) = rq_sch m ∧ rq_frm (rq_w_nct m x) = rq_frm m ∧ rq_top (rq_w_nct m x) = rq_top m ∧ rq_fai (rq_w_nct m x) = rq_fai m ∧ rq_len (rq_w_nct m x) = rq_len m ∧ rq_tok (rq_w_nct m x) = rq_tok m ∧ rq_fst (rq_w_nct m x) = rq_fst m ∧ rq_sec (rq_w_nct m x) = rq_sec m ∧ rq_giv (rq_w_nct m x) = rq_giv m ∧ rq_gat (rq_w_nct m x) = rq_gat m ∧ rq_kno (rq_w_nct m x) = rq_kno m ∧ rq_sta (rq_w_nct m x) = rq_sta m ∧ rq_mem (rq_w_nct m x) = rq_mem m ∧ rq_vat (rq_w_nct m x) = rq_vat m ∧ rq_cat (rq_w_nct m x) = rq_cat m ∧ rq_cir (rq_w_nct m x) = rq_cir m ∧ rq_std (rq_w_nct m x) = rq_std m ∧ rq_nct (rq_w_nct m x) = x ∧ rq_ned (rq_w_nct m x) = rq_ned m ∧ rq_fqu (rq_w_nct m x) = rq_fqu m ∧ rq_fwk (rq_w_nct m x) = rq_fwk m ∧ rq_fps (rq_w_nct m x) = rq_fps m ∧ rq_pil (rq_w_nct m x) = rq_pil m ∧ rq_wva (rq_w_nct m x) = rq_wva m ∧ rq_wci (rq_w_nct m x) = rq_wci m := ⟨rfl, rfl, rfl, rfl, rfl, rfl, rfl, rfl, rfl, rfl, rfl, rfl, rfl, rfl, rfl, rfl, rfl, rfl, rfl, rfl, rfl, rfl, rfl, rfl, rfl, rfl, rfl⟩
def rq_w_ned (m : rq_M) (x : (Nat → Nat)) : rq_M := (rq_hgt m, rq_rev m, rq_sch m, rq_frm m, rq_top m, rq_fai m, rq_len m, rq_tok m, rq_fst m, rq_sec m, rq_giv m, rq_gat m, rq_kno m, rq_sta m, rq_mem m, rq_vat m, rq_cat m, rq_cir m, rq_std m, rq_nct m, x, rq_fqu m, rq_fwk m, rq_fps m, rq_pil m, rq_wva m, rq_wci m)
theorem rq_g_ned (m : rq_M) (x : (Nat → Nat)) : rq_hgt (rq_w_ned m x) = rq_hgt m ∧ rq_rev (rq_w_ned m x) = rq_rev m ∧ rq_sch (rq_w_ned m x) = rq_sch m ∧ rq_frm (rq_w_ned m x) = rq_frm m ∧ rq_top (rq_w_ned m x) = rq_top m ∧ rq_fai (rq_w_ned m x) = rq_fai m ∧ rq_len (rq_w_ned m x) = rq_len m ∧ rq_tok (rq_w_ned m x) = rq_tok m ∧ rq_fst (rq_w_ned m x) = rq_fst m ∧ rq_sec (rq_w_ned m x) = rq_sec m ∧ rq_giv (rq_w_ned m x) = rq_giv m ∧ rq_gat (rq_w_ned m x) = rq_gat m ∧ rq_kno (rq_w_ned m x) = rq_kno m ∧ rq_sta (rq_w_ned m x) = rq_sta m ∧ rq_mem (rq_w_ned m x) = rq_mem m ∧ rq_vat (rq_w_ned m x) = rq_vat m ∧ rq_cat (rq_w_ned m x) = rq_cat m ∧ rq_cir (rq_w_ned m x) = rq_cir m ∧ rq_std (rq_w_ned m x) = rq_std m ∧ rq_nct (rq_w_ned m x) = rq_nct m ∧ rq_ned (rq_w_ned m x) = x ∧ rq_fqu (rq_w_ned m x) = rq_fqu m ∧ rq_fwk (rq_w_ned m x) = rq_fwk m ∧ rq_fps (rq_w_ned m x) = rq_fps m ∧ rq_pil (rq_w_ned m x) = rq_pil m ∧ rq_wva (rq_w_ned m x) = rq_wva m ∧ rq_wci (rq_w_ned m x) = rq_wci m := ⟨rfl, rfl, rfl, rfl, rfl, rfl, rfl, rfl, rfl, rfl, rfl, rfl, rfl, rfl, rfl, rfl, rfl, rfl, rfl, rfl, rfl, rfl, rfl, rfl, rfl, rfl, rfl⟩
def rq_w_fqu (m : rq_M) (x : (Nat → Nat)) : rq_M := (rq_hgt m, rq_rev m, rq_sch m, rq_frm m, rq_top m, rq_fai m, rq_len m, rq_tok m, rq_fst m, rq_sec m, rq_giv m, rq_gat m, rq_kno m, rq_sta m, rq_mem m, rq_vat m, rq_cat m, rq_cir m, rq_std m, rq_nct m, rq_ned m, x, rq_fwk m, rq_fps m, rq_pil m, rq_wva m, rq_wci m)
theorem rq_g_fqu (m : rq_M) (x : (Nat → Nat)) : rq_hgt (rq_w_fqu m x) = rq_hgt m ∧ rq_rev (rq_w_fqu m x) = rq_rev m ∧ rq_sch (rq_w_fqu m x) = rq_sch m ∧ rq_frm (rq_w_fqu m x) = rq_frm m ∧ rq_top (rq_w_fqu m x) = rq_top m ∧ rq_fai (rq_w_fqu m x) = rq_fai m ∧ rq_len (rq_w_fqu m x) = rq_len m ∧ rq_tok (rq_w_fqu m x) = rq_tok m ∧ rq_fst (rq_w_fqu m x) = rq_fst m ∧ rq_sec (rq_w_fqu m x) = rq_sec m ∧ rq_giv (rq_w_fqu m x) = rq_giv m ∧ rq_gat (rq_w_fqu m x) = rq_gat m ∧ rq_kno (rq_w_fqu m x) = rq_kno m ∧ rq_sta (rq_w_fqu m x) = rq_sta m ∧ rq_mem (rq_w_fqu m x) = rq_mem m ∧ rq_vat (rq_w_fqu m x) = rq_vat m ∧ rq_cat (rq_w_fqu m x) = rq_cat m ∧ rq_cir (rq_w_fqu m x) = rq_cir m ∧ rq_std (rq_w_fqu m x) = rq_std m ∧ rq_nct (rq_w_fqu m x) = rq_nct m ∧ rq_ned (rq_w_fqu m x) = rq_ned m ∧ rq_fqu (rq_w_fqu m x) = x ∧ rq_fwk (rq_w_fqu m x) = rq_fwk m ∧ rq_fps (rq_w_fqu m x) = rq_fps m ∧ rq_pil (rq_w_fqu m x) = rq_pil m ∧ rq_wva (rq_w_fqu m x) = rq_wva m ∧ rq_wci (rq_w_fqu m x) = rq_wci m := ⟨rfl, rfl, rfl, rfl, rfl, rfl, rfl, rfl, rfl, rfl, rfl, rfl, rfl, rfl, rfl, rfl, rfl, rfl, rfl, rfl, rfl, rfl, rfl, rfl, rfl, rfl, rfl⟩
def rq_w_fwk (m : rq_M) (x : (Nat → Bool)) : rq_M := (rq_hgt m, rq_rev m, rq_sch m, rq_frm m, rq_top m, rq_fai m, rq_len m, rq_tok m, rq_fst m, rq_sec m, rq_giv m, rq_gat m, rq_kno m, rq_sta m, rq_mem m, rq_vat m, rq_cat m, rq_cir m, rq_std m, rq_nct m, rq_ned m, rq_fqu m, x, rq_fps m, rq_pil m, rq_wva m, rq_wci m)
theorem rq_g_fwk (m : rq_M) (x : (Nat → Bool)) : rq_hgt (rq_w_fwk m x) = rq_hgt m ∧ rq_rev (rq_w_fwk m x) = rq_rev m ∧ rq_sch (rq_w_fwk m x) = rq_sch m ∧ rq_frm (rq_w_fwk m x) = rq_frm m ∧ rq_top (rq_w_fwk m x) = rq_top m ∧ rq_fai (rq_w_fwk m x) = rq_fai m ∧ rq_len (rq_w_fwk m x) = rq_len m ∧ rq_tok (rq_w_fwk m x) = rq_tok m ∧ rq_fst (rq_w_fwk m x) = rq_fst m ∧ rq_sec (rq_w_fwk m x) = rq_sec m ∧ rq_giv (rq_w_fwk m x) = rq_giv m ∧ rq_gat (rq_w_fwk m x) = rq_gat m ∧ rq_kno (rq_w_fwk m x) = rq_kno m ∧ rq_sta (rq_w_fwk m x) = rq_sta m ∧ rq_mem (rq_w_fwk m x) = rq_mem m ∧ rq_vat (rq_w_fwk m x) = rq_vat m ∧ rq_cat (rq_w_fwk m x) = rq_cat m ∧ rq_cir (rq_w_fwk m x) = rq_cir m ∧ rq_std (rq_w_fwk m x) = rq_std m ∧ rq_nct (rq_w_fwk m x) = rq_nct m ∧ rq_ned (rq_w_fwk m x) = rq_ned m ∧ rq_fqu (rq_w_fwk m x) = rq_fqu m ∧ rq_fwk (rq_w_fwk m x) = x ∧ rq_fps (rq_w_fwk m x) = rq_fps m ∧ rq_pil (rq_w_fwk m x) = rq_pil m ∧ rq_wva (rq_w_fwk m x) = rq_wva m ∧ rq_wci (rq_w_fwk m x) = rq_wci m := ⟨rfl, rfl, rfl, rfl, rfl, rfl, rfl, rfl, rfl, rfl, rfl, rfl, rfl, rfl, rfl, rfl, rfl, rfl, rfl, rfl, rfl, rfl, rfl, rfl, rfl, rfl, rfl⟩
def rq_w_fps (m : rq_M) (x : (Nat → Nat)) : rq_M := (rq_hgt m, rq_rev m, rq_sch m, rq_frm m, rq_top m, rq_fai m, rq_len m, rq_tok m, rq_fst m, rq_sec m, rq_giv m, rq_gat m, rq_kno m, rq_sta m, rq_mem m, rq_vat m, rq_cat m, rq_cir m, rq_std m, rq_nct m, rq_ned m, rq_fqu m, rq_fwk m, x, rq_pil m, rq_wva m, rq_wci m)
theorem rq_g_fps (m : rq_M) (x : (Nat → Nat)) : rq_hgt (rq_w_fps m x) = rq_hgt m ∧ rq_rev (rq_w_fps m x) = rq_rev m ∧ rq_sch (rq_w_fps m x) = rq_sch m ∧ rq_frm (rq_w_fps m x) = rq_frm m ∧ rq_top (rq_w_fps m x) = rq_top m ∧ rq_fai (rq_w_fps m x) = rq_fai m ∧ rq_len (rq_w_fps m x) = rq_len m ∧ rq_tok (rq_w_fps m x) = rq_tok m ∧ rq_fst (rq_w_fps m x) = rq_fst m ∧ rq_sec (rq_w_fps m x) = rq_sec m ∧ rq_giv (rq_w_fps m x) = rq_giv m ∧ rq_gat (rq_w_fps m x) = rq_gat m ∧ rq_kno (rq_w_fps m x) = rq_kno m ∧ rq_sta (rq_w_fps m x) = rq_sta m ∧ rq_mem (rq_w_fps m x) = rq_mem m ∧ rq_vat (rq_w_fps m x) = rq_vat m ∧ rq_cat (rq_w_fps m x) = rq_cat m ∧ rq_cir (rq_w_fps m x) = rq_cir m ∧ rq_std (rq_w_fps m x) = rq_std m ∧ rq_nct (rq_w_fps m x) = rq_nct m ∧ rq_ned (rq_w_fps m x) = rq_ned m ∧ rq_fqu (rq_w_fps m x) = rq_fqu m ∧ rq_fwk (rq_w_fps m x) = rq_fwk m ∧ rq_fps (rq_w_fps m x) = x ∧ rq_pil (rq_w_fps m x) = rq_pil m ∧ rq_wva (rq_w_fps m x) = rq_wva m ∧ rq_wci (rq_w_fps m x) = rq_wci m := ⟨rfl, rfl, rfl, rfl, rfl, rfl, rfl, rfl, rfl, rfl, rfl, rfl, rfl, rfl, rfl, rfl, rfl, rfl, rfl, rfl, rfl, rfl, rfl, rfl, rfl, rfl, rfl⟩
def rq_w_pil (m : rq_M) (x : (Nat → Int32)) : rq_M := (rq_hgt m, rq_rev m, rq_sch m, rq_frm m, rq_top m, rq_fai m, rq_len m, rq_tok m, rq_fst m, rq_sec m, rq_giv m, rq_gat m, rq_kno m, rq_sta m, rq_mem m, rq_vat m, rq_cat m, rq_cir m, rq_std m, rq_nct m, rq_ned m, rq_fqu m, rq_fwk m, rq_fps m, x, rq_wva m, rq_wci m)
theorem rq_g_pil (m : rq_M) (x : (Nat → Int32)) : rq_hgt (rq_w_pil m x) = rq_hgt m ∧ rq_rev (rq_w_pil m x) = rq_rev m ∧ rq_sch (rq_w_pil m x) = rq_sch m ∧ rq_frm (rq_w_pil m x) = rq_frm m ∧ rq_top (rq_w_pil m x) = rq_top m ∧ rq_fai (rq_w_pil m x) = rq_fai m ∧ rq_len (rq_w_pil m x) = rq_len m ∧ rq_tok (rq_w_pil m x) = rq_tok m ∧ rq_fst (rq_w_pil m x) = rq_fst m ∧ rq_sec (rq_w_pil m x) = rq_sec m ∧ rq_giv (rq_w_pil m x) = rq_giv m ∧ rq_gat (rq_w_pil m x) = rq_gat m ∧ rq_kno (rq_w_pil m x) = rq_kno m ∧ rq_sta (rq_w_pil m x) = rq_sta m ∧ rq_mem (rq_w_pil m x) = rq_mem m ∧ rq_vat (rq_w_pil m x) = rq_vat m ∧ rq_cat (rq_w_pil m x) = rq_cat m ∧ rq_cir (rq_w_pil m x) = rq_cir m ∧ rq_std (rq_w_pil m x) = rq_std m ∧ rq_nct (rq_w_pil m x) = rq_nct m ∧ rq_ned (rq_w_pil m x) = rq_ned m ∧ rq_fqu (rq_w_pil m x) = rq_fqu m ∧ rq_fwk (rq_w_pil m x) = rq_fwk m ∧ rq_fps (rq_w_pil m x) = rq_fps m ∧ rq_pil (rq_w_pil m x) = x ∧ rq_wva (rq_w_pil m x) = rq_wva m ∧ rq_wci (rq_w_pil m x) = rq_wci m := ⟨rfl, rfl, rfl, rfl, rfl, rfl, rfl, rfl, rfl, rfl, rfl, rfl, rfl, rfl, rfl, rfl, rfl, rfl, rfl, rfl, rfl, rfl, rfl, rfl, rfl, rfl, rfl⟩
def rq_w_wva (m : rq_M) (x : (Nat → Int32)) : rq_M := (rq_hgt m, rq_rev m, rq_sch m, rq_frm m, rq_top m, rq_fai m, rq_len m, rq_tok m, rq_fst m, rq_sec m, rq_giv m, rq_gat m, rq_kno m, rq_sta m, rq_mem m, rq_vat m, rq_cat m, rq_cir m, rq_std m, rq_nct m, rq_ned m, rq_fqu m, rq_fwk m, rq_fps m, rq_pil m, x, rq_wci m)
theorem rq_g_wva (m : rq_M) (x : (Nat → Int32)) : rq_hgt (rq_w_wva m x) = rq_hgt m ∧ rq_rev (rq_w_wva m x) = rq_rev m ∧ rq_sch (rq_w_wva m x) = rq_sch m ∧ rq_frm (rq_w_wva m x) = rq_frm m ∧ rq_top (rq_w_wva m x) = rq_top m ∧ rq_fai (rq_w_wva m x) = rq_fai m ∧ rq_len (rq_w_wva m x) = rq_len m ∧ rq_tok (rq_w_wva m x) = rq_tok m ∧ rq_fst (rq_w_wva m x) = rq_fst m ∧ rq_sec (rq_w_wva m x) = rq_sec m ∧ rq_giv (rq_w_wva m x) = rq_giv m ∧ rq_gat (rq_w_wva m x) = rq_gat m ∧ rq_kno (rq_w_wva m x) = rq_kno m ∧ rq_sta (rq_w_wva m x) = rq_sta m ∧ rq_mem (rq_w_wva m x) = rq_mem m ∧ rq_vat (rq_w_wva m x) = rq_vat m ∧ rq_cat (rq_w_wva m x) = rq_cat m ∧ rq_cir (rq_w_wva m x) = rq_cir m ∧ rq_std (rq_w_wva m x) = rq_std m ∧ rq_nct (rq_w_wva m x) = rq_nct m ∧ rq_ned (rq_w_wva m x) = rq_ned m ∧ rq_fqu (rq_w_wva m x) = rq_fqu m ∧ rq_fwk (rq_w_wva m x) = rq_fwk m ∧ rq_fps (rq_w_wva m x) = rq_fps m ∧ rq_pil (rq_w_wva m x) = rq_pil m ∧ rq_wva (rq_w_wva m x) = x ∧ rq_wci (rq_w_wva m x) = rq_wci m := ⟨rfl, rfl, rfl, rfl, rfl, rfl, rfl, rfl, rfl, rfl, rfl, rfl, rfl, rfl, rfl, rfl, rfl, rfl, rfl, rfl, rfl, rfl, rfl, rfl, rfl, rfl, rfl⟩
def rq_w_wci (m : rq_M) (x : (Nat → Bool)) : rq_M := (rq_hgt m, rq_rev m, rq_sch m, rq_frm m, rq_top m, rq_fai m, rq_len m, rq_tok m, rq_fst m, rq_sec m, rq_giv m, rq_gat m, rq_kno m, rq_sta m, rq_mem m, rq_vat m, rq_cat m, rq_cir m, rq_std m, rq_nct m, rq_ned m, rq_fqu m, rq_fwk m, rq_fps m, rq_pil m, rq_wva m, x)
theorem rq_g_wci (m : rq_M) (x : (Nat → Bool)) : rq_hgt (rq_w_wci m x) = rq_hgt m ∧ rq_rev (rq_w_wci m x) = rq_rev m ∧ rq_sch (rq_w_wci m x) = rq_sch m ∧ rq_frm (rq_w_wci m x) = rq_frm m ∧ rq_top (rq_w_wci m x) = rq_top m ∧ rq_fai (rq_w_wci m x) = rq_fai m ∧ rq_len (rq_w_wci m x) = rq_len m ∧ rq_tok (rq_w_wci m x) = rq_tok m ∧ rq_fst (rq_w_wci m x) = rq_fst m ∧ rq_sec (rq_w_wci m x) = rq_sec m ∧ rq_giv (rq_w_wci m x) = rq_giv m ∧ rq_gat (rq_w_wci m x) = rq_gat m ∧ rq_kno (rq_w_wci m x) = rq_kno m ∧ rq_sta (rq_w_wci m x) = rq_sta m ∧ rq_mem (rq_w_wci m x) = rq_mem m ∧ rq_vat (rq_w_wci m x) = rq_vat m ∧ rq_cat (rq_w_wci m x) = rq_cat m ∧ rq_cir (rq_w_wci m x) = rq_cir m ∧ rq_std (rq_w_wci m x) = rq_std m ∧ rq_nct (rq_w_wci m x) = rq_nct m ∧ rq_ned (rq_w_wci m x) = rq_ned m ∧ rq_fqu (rq_w_wci m x) = rq_fqu m ∧ rq_fwk (rq_w_wci m x) = rq_fwk m ∧ rq_fps (rq_w_wci m x) = rq_fps m ∧ rq_pil (rq_w_wci m x) = rq_pil m ∧ rq_wva (rq_w_wci m x) = rq_wva m ∧ rq_wci (rq_w_wci m x) = x := ⟨rfl, rfl, rfl, rfl, rfl, rfl, rfl, rfl, rfl, rfl, rfl, rfl, rfl, rfl, rfl, rfl, rfl, rfl, rfl, rfl, rfl, rfl, rfl, rfl, rfl, rfl, rfl⟩
def rq_startW (m : rq_M) (f : Nat) : rq_M := (rq_hgt m, rq_rev m, rq_sch m, rq_frm m, rq_top m, rq_fai m, rq_len m, rq_tok m, rq_fst m, rq_sec m, rq_giv m, rq_gat m, rq_kno m, rq_up (rq_sta m) (rq_fqu m f) true, rq_mem m, rq_vat m, rq_cat m, rq_cir m, rq_std m, rq_up (rq_nct m) (rq_fqu m f) 0, rq_ned m, rq_fqu m, rq_up (rq_fwk m) f true, rq_up (rq_fps m) f 0, rq_pil m, rq_wva m, rq_wci m)
theorem rq_g_startW (m : rq_M) (f : Nat) : rq_hgt (rq_startW m f) = rq_hgt m ∧ rq_rev (rq_startW m f) = rq_rev m ∧ rq_sch (rq_startW m f) = rq_sch m ∧ rq_frm (rq_startW m f) = rq_frm m ∧ rq_top (rq_startW m f) = rq_top m ∧ rq_fai (rq_startW m f) = rq_fai m ∧ rq_len (rq_startW m f) = rq_len m ∧ rq_tok (rq_startW m f) = rq_tok m ∧ rq_fst (rq_startW m f) = rq_fst m ∧ rq_sec (rq_startW m f) = rq_sec m ∧ rq_giv (rq_startW m f) = rq_giv m ∧ rq_gat (rq_startW m f) = rq_gat m ∧ rq_kno (rq_startW m f) = rq_kno m ∧ rq_sta (rq_startW m f) = rq_up (rq_sta m) (rq_fqu m f) true ∧ rq_mem (rq_startW m f) = rq_mem m ∧ rq_vat (rq_startW m f) = rq_vat m ∧ rq_cat (rq_startW m f) = rq_cat m ∧ rq_cir (rq_startW m f) = rq_cir m ∧ rq_std (rq_startW m f) = rq_std m ∧ rq_nct (rq_startW m f) = rq_up (rq_nct m) (rq_fqu m f) 0 ∧ rq_ned (rq_startW m f) = rq_ned m ∧ rq_fqu (rq_startW m f) = rq_fqu m ∧ rq_fwk (rq_startW m f) = rq_up (rq_fwk m) f true ∧ rq_fps (rq_startW m f) = rq_up (rq_fps m) f 0 ∧ rq_pil (rq_startW m f) = rq_pil m ∧ rq_wva (rq_startW m f) = rq_wva m ∧ rq_wci (rq_startW m f) = rq_wci m := ⟨rfl, rfl, rfl, rfl, rfl, rfl, rfl, rfl, rfl, rfl, rfl, rfl, rfl, rfl, rfl, rfl, rfl, rfl, rfl, rfl, rfl, rfl, rfl, rfl, rfl, rfl, rfl⟩
def rq_pushF (m : rq_M) (k : Nat) : rq_M := (rq_hgt m, rq_rev m, rq_sch m, rq_frm m + 1, rq_top m, rq_fai m, rq_len m, rq_tok m, rq_fst m, rq_sec m, rq_giv m, rq_gat m, rq_kno m, rq_sta m, rq_mem m, rq_vat m, rq_cat m, rq_cir m, rq_std m, rq_nct m, rq_ned m, rq_up (rq_fqu m) (rq_frm m) k, rq_up (rq_fwk m) (rq_frm m) false, rq_up (rq_fps m) (rq_frm m) 0, rq_pil m, rq_wva m, rq_wci m)
theorem rq_g_pushF (m : rq_M) (k : Nat) : rq_hgt (rq_pushF m k) = rq_hgt m ∧ rq_rev (rq_pushF m k) = rq_rev m ∧ rq_sch (rq_pushF m k) = rq_sch m ∧ rq_frm (rq_pushF m k) = rq_frm m + 1 ∧ rq_top (rq_pushF m k) = rq_top m ∧ rq_fai (rq_pushF m k) = rq_fai m ∧ rq_len (rq_pushF m k) = rq_len m ∧ rq_tok (rq_pushF m k) = rq_tok m ∧ rq_fst (rq_pushF m k) = rq_fst m ∧ rq_sec (rq_pushF m k) = rq_sec m ∧ rq_giv (rq_pushF m k) = rq_giv m ∧ rq_gat (rq_pushF m k) = rq_gat m ∧ rq_kno (rq_pushF m k) = rq_kno m ∧ rq_sta (rq_pushF m k) = rq_sta m ∧ rq_mem (rq_pushF m k) = rq_mem m ∧ rq_vat (rq_pushF m k) = rq_vat m ∧ rq_cat (rq_pushF m k) = rq_cat m ∧ rq_cir (rq_pushF m k) = rq_cir m ∧ rq_std (rq_pushF m k) = rq_std m ∧ rq_nct (rq_pushF m k) = rq_nct m ∧ rq_ned (rq_pushF m k) = rq_ned m ∧ rq_fqu (rq_pushF m k) = rq_up (rq_fqu m) (rq_frm m) k ∧ rq_fwk (rq_pushF m k) = rq_up (rq_fwk m) (rq_frm m) false ∧ rq_fps (rq_pushF m k) = rq_up (rq_fps m) (rq_frm m) 0 ∧ rq_pil (rq_pushF m k) = rq_pil m ∧ rq_wva (rq_pushF m k) = rq_wva m ∧ rq_wci (rq_pushF m k) = rq_wci m := ⟨rfl, rfl, rfl, rfl, rfl, rfl, rfl, rfl, rfl, rfl, rfl, rfl, rfl, rfl, rfl, rfl, rfl, rfl, rfl, rfl, rfl, rfl, rfl, rfl, rfl, rfl, rfl⟩
def rq_pushW (m : rq_M) (k : Nat) : rq_M := (rq_hgt m, rq_rev m, rq_sch m, rq_frm m + 1, rq_top m, rq_fai m, rq_len m, rq_tok m, rq_fst m, rq_sec m, rq_giv m, rq_gat m, rq_kno m, rq_up (rq_sta m) k true, rq_mem m, rq_vat m, rq_cat m, rq_cir m, rq_std m, rq_up (rq_nct m) k 0, rq_ned m, rq_up (rq_fqu m) (rq_frm m) k, rq_up (rq_fwk m) (rq_frm m) true, rq_up (rq_fps m) (rq_frm m) 0, rq_pil m, rq_wva m, rq_wci m)
theorem rq_g_pushW (m : rq_M) (k : Nat) : rq_hgt (rq_pushW m k) = rq_hgt m ∧ rq_rev (rq_pushW m k) = rq_rev m ∧ rq_sch (rq_pushW m k) = rq_sch m ∧ rq_frm (rq_pushW m k) = rq_frm m + 1 ∧ rq_top (rq_pushW m k) = rq_top m ∧ rq_fai (rq_pushW m k) = rq_fai m ∧ rq_len (rq_pushW m k) = rq_len m ∧ rq_tok (rq_pushW m k) = rq_tok m ∧ rq_fst (rq_pushW m k) = rq_fst m ∧ rq_sec (rq_pushW m k) = rq_sec m ∧ rq_giv (rq_pushW m k) = rq_giv m ∧ rq_gat (rq_pushW m k) = rq_gat m ∧ rq_kno (rq_pushW m k) = rq_kno m ∧ rq_sta (rq_pushW m k) = rq_up (rq_sta m) k true ∧ rq_mem (rq_pushW m k) = rq_mem m ∧ rq_vat (rq_pushW m k) = rq_vat m ∧ rq_cat (rq_pushW m k) = rq_cat m ∧ rq_cir (rq_pushW m k) = rq_cir m ∧ rq_std (rq_pushW m k) = rq_std m ∧ rq_nct (rq_pushW m k) = rq_up (rq_nct m) k 0 ∧ rq_ned (rq_pushW m k) = rq_ned m ∧ rq_fqu (rq_pushW m k) = rq_up (rq_fqu m) (rq_frm m) k ∧ rq_fwk (rq_pushW m k) = rq_up (rq_fwk m) (rq_frm m) true ∧ rq_fps (rq_pushW m k) = rq_up (rq_fps m) (rq_frm m) 0 ∧ rq_pil (rq_pushW m k) = rq_pil m ∧ rq_wva (rq_pushW m k) = rq_wva m ∧ rq_wci (rq_pushW m k) = rq_wci m := ⟨rfl, rfl, rfl, rfl, rfl, rfl, rfl, rfl, rfl, rfl, rfl, rfl, rfl, rfl, rfl, rfl, rfl, rfl, rfl, rfl, rfl, rfl, rfl, rfl, rfl, rfl, rfl⟩
def rq_doneC (m : rq_M) (q : Nat) : rq_M := (rq_hgt m, rq_rev m, rq_sch m, rq_frm m - 1, rq_top m, rq_fai m, rq_len m, rq_tok m, rq_fst m, rq_sec m, rq_giv m, rq_gat m, rq_kno m, rq_sta m, rq_mem m, rq_up (rq_vat m) q (rq_rev m), rq_cat m, rq_cir m, rq_up (rq_std m) q (rq_as (rq_std m) (fun i => rq_ned m (q * 10 + i)) (rq_nct m q)), rq_nct m, rq_ned m, rq_fqu m, rq_fwk m, rq_fps m, rq_pil m, rq_wva m, rq_wci m)
theorem rq_g_doneC (m : rq_M) (q : Nat) : rq_hgt (rq_doneC m q) = rq_hgt m ∧ rq_rev (rq_doneC m q) = rq_rev m ∧ rq_sch (rq_doneC m q) = rq_sch m ∧ rq_frm (rq_doneC m q) = rq_frm m - 1 ∧ rq_top (rq_doneC m q) = rq_top m ∧ rq_fai (rq_doneC m q) = rq_fai m ∧ rq_len (rq_doneC m q) = rq_len m ∧ rq_tok (rq_doneC m q) = rq_tok m ∧ rq_fst (rq_doneC m q) = rq_fst m ∧ rq_sec (rq_doneC m q) = rq_sec m ∧ rq_giv (rq_doneC m q) = rq_giv m ∧ rq_gat (rq_doneC m q) = rq_gat m ∧ rq_kno (rq_doneC m q) = rq_kno m ∧ rq_sta (rq_doneC m q) = rq_sta m ∧ rq_mem (rq_doneC m q) = rq_mem m ∧ rq_vat (rq_doneC m q) = rq_up (rq_vat m) q (rq_rev m) ∧ rq_cat (rq_doneC m q) = rq_cat m ∧ rq_cir (rq_doneC m q) = rq_cir m ∧ rq_std (rq_doneC m q) = rq_up (rq_std m) q (rq_as (rq_std m) (fun i => rq_ned m (q * 10 + i)) (rq_nct m q)) ∧ rq_nct (rq_doneC m q) = rq_nct m ∧ rq_ned (rq_doneC m q) = rq_ned m ∧ rq_fqu (rq_doneC m q) = rq_fqu m ∧ rq_fwk (rq_doneC m q) = rq_fwk m ∧ rq_fps (rq_doneC m q) = rq_fps m ∧ rq_pil (rq_doneC m q) = rq_pil m ∧ rq_wva (rq_doneC m q) = rq_wva m ∧ rq_wci (rq_doneC m q) = rq_wci m := ⟨rfl, rfl, rfl, rfl, rfl, rfl, rfl, rfl, rfl, rfl, rfl, rfl, rfl, rfl, rfl, rfl, rfl, rfl, rfl, rfl, rfl, rfl, rfl, rfl, rfl, rfl, rfl⟩
def rq_adv (m : rq_M) (f : Nat) : rq_M := (rq_hgt m, rq_rev m, rq_sch m, rq_frm m, rq_top m, rq_fai m, rq_len m, rq_tok m, rq_fst m, rq_sec m, rq_giv m, rq_gat m, rq_kno m, rq_sta m, rq_mem m, rq_vat m, rq_cat m, rq_cir m, rq_std m, rq_nct m, rq_ned m, rq_fqu m, rq_fwk m, rq_up (rq_fps m) f (rq_fps m f + 1), rq_pil m, rq_wva m, rq_wci m)
theorem rq_g_adv (m : rq_M) (f : Nat) : rq_hgt (rq_adv m f) = rq_hgt m ∧ rq_rev (rq_adv m f) = rq_rev m ∧ rq_sch (rq_adv m f) = rq_sch m ∧ rq_frm (rq_adv m f) = rq_frm m ∧ rq_top (rq_adv m f) = rq_top m ∧ rq_fai (rq_adv m f) = rq_fai m ∧ rq_len (rq_adv m f) = rq_len m ∧ rq_tok (rq_adv m f) = rq_tok m ∧ rq_fst (rq_adv m f) = rq_fst m ∧ rq_sec (rq_adv m f) = rq_sec m ∧ rq_giv (rq_adv m f) = rq_giv m ∧ rq_gat (rq_adv m f) = rq_gat m ∧ rq_kno (rq_adv m f) = rq_kno m ∧ rq_sta (rq_adv m f) = rq_sta m ∧ rq_mem (rq_adv m f) = rq_mem m ∧ rq_vat (rq_adv m f) = rq_vat m ∧ rq_cat (rq_adv m f) = rq_cat m ∧ rq_cir (rq_adv m f) = rq_cir m ∧ rq_std (rq_adv m f) = rq_std m ∧ rq_nct (rq_adv m f) = rq_nct m ∧ rq_ned (rq_adv m f) = rq_ned m ∧ rq_fqu (rq_adv m f) = rq_fqu m ∧ rq_fwk (rq_adv m f) = rq_fwk m ∧ rq_fps (rq_adv m f) = rq_up (rq_fps m) f (rq_fps m f + 1) ∧ rq_pil (rq_adv m f) = rq_pil m ∧ rq_wva (rq_adv m f) = rq_wva m ∧ rq_wci (rq_adv m f) = rq_wci m := ⟨rfl, rfl, rfl, rfl, rfl, rfl, rfl, rfl, rfl, rfl, rfl, rfl, rfl, rfl, rfl, rfl, rfl, rfl, rfl, rfl, rfl, rfl, rfl, rfl, rfl, rfl, rfl⟩
def rq_note (m : rq_M) (q d : Nat) : rq_M := (rq_hgt m, rq_rev m, rq_sch m, rq_frm m, rq_top m, rq_fai m, rq_len m, rq_tok m, rq_fst m, rq_sec m, rq_giv m, rq_gat m, rq_kno m, rq_sta m, rq_mem m, rq_vat m, rq_cat m, rq_cir m, rq_std m, rq_up (rq_nct m) q (rq_nct m q + 1), rq_up (rq_ned m) (q * 10 + rq_nct m q) d, rq_fqu m, rq_fwk m, rq_fps m, rq_pil m, rq_wva m, rq_wci m)
theorem rq_g_note (m : rq_M) (q d : Nat) : rq_hgt (rq_note m q d) = rq_hgt m ∧ rq_rev (rq_note m q d) = rq_rev m ∧ rq_sch (rq_note m q d) = rq_sch m ∧ rq_frm (rq_note m q d) = rq_frm m ∧ rq_top (rq_note m q d) = rq_top m ∧ rq_fai (rq_note m q d) = rq_fai m ∧ rq_len (rq_note m q d) = rq_len m ∧ rq_tok (rq_note m q d) = rq_tok m ∧ rq_fst (rq_note m q d) = rq_fst m ∧ rq_sec (rq_note m q d) = rq_sec m ∧ rq_giv (rq_note m q d) = rq_giv m ∧ rq_gat (rq_note m q d) = rq_gat m ∧ rq_kno (rq_note m q d) = rq_kno m ∧ rq_sta (rq_note m q d) = rq_sta m ∧ rq_mem (rq_note m q d) = rq_mem m ∧ rq_vat (rq_note m q d) = rq_vat m ∧ rq_cat (rq_note m q d) = rq_cat m ∧ rq_cir (rq_note m q d) = rq_cir m ∧ rq_std (rq_note m q d) = rq_std m ∧ rq_nct (rq_note m q d) = rq_up (rq_nct m) q (rq_nct m q + 1) ∧ rq_ned (rq_note m q d) = rq_up (rq_ned m) (q * 10 + rq_nct m q) d ∧ rq_fqu (rq_note m q d) = rq_fqu m ∧ rq_fwk (rq_note m q d) = rq_fwk m ∧ rq_fps (rq_note m q d) = rq_fps m ∧ rq_pil (rq_note m q d) = rq_pil m ∧ rq_wva (rq_note m q d) = rq_wva m ∧ rq_wci (rq_note m q d) = rq_wci m := ⟨rfl, rfl, rfl, rfl, rfl, rfl, rfl, rfl, rfl, rfl, rfl, rfl, rfl, rfl, rfl, rfl, rfl, rfl, rfl, rfl, rfl, rfl, rfl, rfl, rfl, rfl, rfl⟩
def rq_psh (m : rq_M) (y : Int32) : rq_M := (rq_hgt m, rq_rev m, rq_sch m, rq_frm m, rq_top m + 1, rq_fai m, rq_len m, rq_tok m, rq_fst m, rq_sec m, rq_giv m, rq_gat m, rq_kno m, rq_sta m, rq_mem m, rq_vat m, rq_cat m, rq_cir m, rq_std m, rq_nct m, rq_ned m, rq_fqu m, rq_fwk m, rq_fps m, rq_up (rq_pil m) (rq_top m) y, rq_wva m, rq_wci m)
theorem rq_g_psh (m : rq_M) (y : Int32) : rq_hgt (rq_psh m y) = rq_hgt m ∧ rq_rev (rq_psh m y) = rq_rev m ∧ rq_sch (rq_psh m y) = rq_sch m ∧ rq_frm (rq_psh m y) = rq_frm m ∧ rq_top (rq_psh m y) = rq_top m + 1 ∧ rq_fai (rq_psh m y) = rq_fai m ∧ rq_len (rq_psh m y) = rq_len m ∧ rq_tok (rq_psh m y) = rq_tok m ∧ rq_fst (rq_psh m y) = rq_fst m ∧ rq_sec (rq_psh m y) = rq_sec m ∧ rq_giv (rq_psh m y) = rq_giv m ∧ rq_gat (rq_psh m y) = rq_gat m ∧ rq_kno (rq_psh m y) = rq_kno m ∧ rq_sta (rq_psh m y) = rq_sta m ∧ rq_mem (rq_psh m y) = rq_mem m ∧ rq_vat (rq_psh m y) = rq_vat m ∧ rq_cat (rq_psh m y) = rq_cat m ∧ rq_cir (rq_psh m y) = rq_cir m ∧ rq_std (rq_psh m y) = rq_std m ∧ rq_nct (rq_psh m y) = rq_nct m ∧ rq_ned (rq_psh m y) = rq_ned m ∧ rq_fqu (rq_psh m y) = rq_fqu m ∧ rq_fwk (rq_psh m y) = rq_fwk m ∧ rq_fps (rq_psh m y) = rq_fps m ∧ rq_pil (rq_psh m y) = rq_up (rq_pil m) (rq_top m) y ∧ rq_wva (rq_psh m y) = rq_wva m ∧ rq_wci (rq_psh m y) = rq_wci m := ⟨rfl, rfl, rfl, rfl, rfl, rfl, rfl, rfl, rfl, rfl, rfl, rfl, rfl, rfl, rfl, rfl, rfl, rfl, rfl, rfl, rfl, rfl, rfl, rfl, rfl, rfl, rfl⟩
def rq_end48 (m : rq_M) (q : Nat) (v : Int32) : rq_M := (rq_hgt m, rq_rev m, rq_sch m, rq_frm m, rq_top m, rq_fai m, rq_len m, rq_tok m, rq_fst m, rq_sec m, rq_giv m, rq_gat m, rq_up (rq_kno m) q true, rq_up (rq_sta m) q false, rq_up (rq_mem m) q v, rq_up (rq_vat m) q (rq_rev m), rq_cat m, rq_cir m, rq_std m, rq_nct m, rq_ned m, rq_fqu m, rq_fwk m, rq_fps m, rq_pil m, rq_wva m, rq_wci m)
theorem rq_g_end48 (m : rq_M) (q : Nat) (v : Int32) : rq_hgt (rq_end48 m q v) = rq_hgt m ∧ rq_rev (rq_end48 m q v) = rq_rev m ∧ rq_sch (rq_end48 m q v) = rq_sch m ∧ rq_frm (rq_end48 m q v) = rq_frm m ∧ rq_top (rq_end48 m q v) = rq_top m ∧ rq_fai (rq_end48 m q v) = rq_fai m ∧ rq_len (rq_end48 m q v) = rq_len m ∧ rq_tok (rq_end48 m q v) = rq_tok m ∧ rq_fst (rq_end48 m q v) = rq_fst m ∧ rq_sec (rq_end48 m q v) = rq_sec m ∧ rq_giv (rq_end48 m q v) = rq_giv m ∧ rq_gat (rq_end48 m q v) = rq_gat m ∧ rq_kno (rq_end48 m q v) = rq_up (rq_kno m) q true ∧ rq_sta (rq_end48 m q v) = rq_up (rq_sta m) q false ∧ rq_mem (rq_end48 m q v) = rq_up (rq_mem m) q v ∧ rq_vat (rq_end48 m q v) = rq_up (rq_vat m) q (rq_rev m) ∧ rq_cat (rq_end48 m q v) = rq_cat m ∧ rq_cir (rq_end48 m q v) = rq_cir m ∧ rq_std (rq_end48 m q v) = rq_std m ∧ rq_nct (rq_end48 m q v) = rq_nct m ∧ rq_ned (rq_end48 m q v) = rq_ned m ∧ rq_fqu (rq_end48 m q v) = rq_fqu m ∧ rq_fwk (rq_end48 m q v) = rq_fwk m ∧ rq_fps (rq_end48 m q v) = rq_fps m ∧ rq_pil (rq_end48 m q v) = rq_pil m ∧ rq_wva (rq_end48 m q v) = rq_wva m ∧ rq_wci (rq_end48 m q v) = rq_wci m := ⟨rfl, rfl, rfl, rfl, rfl, rfl, rfl, rfl, rfl, rfl, rfl, rfl, rfl, rfl, rfl, rfl, rfl, rfl, rfl, rfl, rfl, rfl, rfl, rfl, rfl, rfl, rfl⟩
def rq_end49 (m : rq_M) (q : Nat) (v : Int32) : rq_M := (rq_hgt m, rq_rev m, rq_sch m, rq_frm m - 1, rq_top m, rq_fai m, rq_len m, rq_tok m, rq_fst m, rq_sec m, rq_giv m, rq_gat m, rq_up (rq_kno m) q true, rq_up (rq_sta m) q false, rq_up (rq_mem m) q v, rq_up (rq_vat m) q (rq_rev m), rq_cat m, rq_cir m, rq_up (rq_std m) q (rq_as (rq_std m) (fun i => rq_ned m (q * 10 + i)) (rq_nct m q)), rq_nct m, rq_ned m, rq_fqu m, rq_fwk m, rq_fps m, rq_pil m, rq_wva m, rq_wci m)
theorem rq_g_end49 (m : rq_M) (q : Nat) (v : Int32) : rq_hgt (rq_end49 m q v) = rq_hgt m ∧ rq_rev (rq_end49 m q v) = rq_rev m ∧ rq_sch (rq_end49 m q v) = rq_sch m ∧ rq_frm (rq_end49 m q v) = rq_frm m - 1 ∧ rq_top (rq_end49 m q v) = rq_top m ∧ rq_fai (rq_end49 m q v) = rq_fai m ∧ rq_len (rq_end49 m q v) = rq_len m ∧ rq_tok (rq_end49 m q v) = rq_tok m ∧ rq_fst (rq_end49 m q v) = rq_fst m ∧ rq_sec (rq_end49 m q v) = rq_sec m ∧ rq_giv (rq_end49 m q v) = rq_giv m ∧ rq_gat (rq_end49 m q v) = rq_gat m ∧ rq_kno (rq_end49 m q v) = rq_up (rq_kno m) q true ∧ rq_sta (rq_end49 m q v) = rq_up (rq_sta m) q false ∧ rq_mem (rq_end49 m q v) = rq_up (rq_mem m) q v ∧ rq_vat (rq_end49 m q v) = rq_up (rq_vat m) q (rq_rev m) ∧ rq_cat (rq_end49 m q v) = rq_cat m ∧ rq_cir (rq_end49 m q v) = rq_cir m ∧ rq_std (rq_end49 m q v) = rq_up (rq_std m) q (rq_as (rq_std m) (fun i => rq_ned m (q * 10 + i)) (rq_nct m q)) ∧ rq_nct (rq_end49 m q v) = rq_nct m ∧ rq_ned (rq_end49 m q v) = rq_ned m ∧ rq_fqu (rq_end49 m q v) = rq_fqu m ∧ rq_fwk (rq_end49 m q v) = rq_fwk m ∧ rq_fps (rq_end49 m q v) = rq_fps m ∧ rq_pil (rq_end49 m q v) = rq_pil m ∧ rq_wva (rq_end49 m q v) = rq_wva m ∧ rq_wci (rq_end49 m q v) = rq_wci m := ⟨rfl, rfl, rfl, rfl, rfl, rfl, rfl, rfl, rfl, rfl, rfl, rfl, rfl, rfl, rfl, rfl, rfl, rfl, rfl, rfl, rfl, rfl, rfl, rfl, rfl, rfl, rfl⟩
def rq_endS (m : rq_M) (q : Nat) (v : Int32) (c : Nat) : rq_M := (rq_hgt m, rq_rev m, rq_sch m, rq_frm m - 1, rq_top m - 1, rq_fai m, rq_len m, rq_tok m, rq_fst m, rq_sec m, rq_giv m, rq_gat m, rq_up (rq_kno m) q true, rq_up (rq_sta m) q false, rq_up (rq_mem m) q v, rq_up (rq_vat m) q (rq_rev m), rq_up (rq_cat m) q c, rq_cir m, rq_up (rq_std m) q (rq_as (rq_std m) (fun i => rq_ned m (q * 10 + i)) (rq_nct m q)), rq_nct m, rq_ned m, rq_fqu m, rq_fwk m, rq_fps m, rq_pil m, rq_wva m, rq_wci m)
theorem rq_g_endS (m : rq_M) (q : Nat) (v : Int32) (c : Nat) : rq_hgt (rq_endS m q v c) = rq_hgt m ∧ rq_rev (rq_endS m q v c) = rq_rev m ∧ rq_sch (rq_endS m q v c) = rq_sch m ∧ rq_frm (rq_endS m q v c) = rq_frm m - 1 ∧ rq_top (rq_endS m q v c) = rq_top m - 1 ∧ rq_fai (rq_endS m q v c) = rq_fai m ∧ rq_len (rq_endS m q v c) = rq_len m ∧ rq_tok (rq_endS m q v c) = rq_tok m ∧ rq_fst (rq_endS m q v c) = rq_fst m ∧ rq_sec (rq_endS m q v c) = rq_sec m ∧ rq_giv (rq_endS m q v c) = rq_giv m ∧ rq_gat (rq_endS m q v c) = rq_gat m ∧ rq_kno (rq_endS m q v c) = rq_up (rq_kno m) q true ∧ rq_sta (rq_endS m q v c) = rq_up (rq_sta m) q false ∧ rq_mem (rq_endS m q v c) = rq_up (rq_mem m) q v ∧ rq_vat (rq_endS m q v c) = rq_up (rq_vat m) q (rq_rev m) ∧ rq_cat (rq_endS m q v c) = rq_up (rq_cat m) q c ∧ rq_cir (rq_endS m q v c) = rq_cir m ∧ rq_std (rq_endS m q v c) = rq_up (rq_std m) q (rq_as (rq_std m) (fun i => rq_ned m (q * 10 + i)) (rq_nct m q)) ∧ rq_nct (rq_endS m q v c) = rq_nct m ∧ rq_ned (rq_endS m q v c) = rq_ned m ∧ rq_fqu (rq_endS m q v c) = rq_fqu m ∧ rq_fwk (rq_endS m q v c) = rq_fwk m ∧ rq_fps (rq_endS m q v c) = rq_fps m ∧ rq_pil (rq_endS m q v c) = rq_pil m ∧ rq_wva (rq_endS m q v c) = rq_wva m ∧ rq_wci (rq_endS m q v c) = rq_wci m := ⟨rfl, rfl, rfl, rfl, rfl, rfl, rfl, rfl, rfl, rfl, rfl, rfl, rfl, rfl, rfl, rfl, rfl, rfl, rfl, rfl, rfl, rfl, rfl, rfl, rfl, rfl, rfl⟩
def rq_wst (m : rq_M) (N : Nat) (nct' ned' : Nat → Nat) (pil' : Nat → Int32) (t : Nat) : rq_M := (rq_hgt m, rq_rev m, rq_sch m, rq_frm m, t, rq_fai m, rq_len m, rq_tok m, rq_fst m, rq_sec m, rq_giv m, rq_gat m, rq_kno m, rq_sta m, rq_mem m, rq_vat m, rq_cat m, rq_cir m, rq_std m, nct', ned', rq_fqu m, rq_fwk m, rq_up (rq_fps m) N (rq_fps m N + 1), pil', rq_wva m, rq_wci m)
theorem rq_g_wst (m : rq_M) (N : Nat) (nct' ned' : Nat → Nat) (pil' : Nat → Int32) (t : Nat) : rq_hgt (rq_wst m N nct' ned' pil' t) = rq_hgt m ∧ rq_rev (rq_wst m N nct' ned' pil' t) = rq_rev m ∧ rq_sch (rq_wst m N nct' ned' pil' t) = rq_sch m ∧ rq_frm (rq_wst m N nct' ned' pil' t) = rq_frm m ∧ rq_top (rq_wst m N nct' ned' pil' t) = t ∧ rq_fai (rq_wst m N nct' ned' pil' t) = rq_fai m ∧ rq_len (rq_wst m N nct' ned' pil' t) = rq_len m ∧ rq_tok (rq_wst m N nct' ned' pil' t) = rq_tok m ∧ rq_fst (rq_wst m N nct' ned' pil' t) = rq_fst m ∧ rq_sec (rq_wst m N nct' ned' pil' t) = rq_sec m ∧ rq_giv (rq_wst m N nct' ned' pil' t) = rq_giv m ∧ rq_gat (rq_wst m N nct' ned' pil' t) = rq_gat m ∧ rq_kno (rq_wst m N nct' ned' pil' t) = rq_kno m ∧ rq_sta (rq_wst m N nct' ned' pil' t) = rq_sta m ∧ rq_mem (rq_wst m N nct' ned' pil' t) = rq_mem m ∧ rq_vat (rq_wst m N nct' ned' pil' t) = rq_vat m ∧ rq_cat (rq_wst m N nct' ned' pil' t) = rq_cat m ∧ rq_cir (rq_wst m N nct' ned' pil' t) = rq_cir m ∧ rq_std (rq_wst m N nct' ned' pil' t) = rq_std m ∧ rq_nct (rq_wst m N nct' ned' pil' t) = nct' ∧ rq_ned (rq_wst m N nct' ned' pil' t) = ned' ∧ rq_fqu (rq_wst m N nct' ned' pil' t) = rq_fqu m ∧ rq_fwk (rq_wst m N nct' ned' pil' t) = rq_fwk m ∧ rq_fps (rq_wst m N nct' ned' pil' t) = rq_up (rq_fps m) N (rq_fps m N + 1) ∧ rq_pil (rq_wst m N nct' ned' pil' t) = pil' ∧ rq_wva (rq_wst m N nct' ned' pil' t) = rq_wva m ∧ rq_wci (rq_wst m N nct' ned' pil' t) = rq_wci m := ⟨rfl, rfl, rfl, rfl, rfl, rfl, rfl, rfl, rfl, rfl, rfl, rfl, rfl, rfl, rfl, rfl, rfl, rfl, rfl, rfl, rfl, rfl, rfl, rfl, rfl, rfl, rfl⟩
def rq_ens0 (m : rq_M)  : rq_M := (rq_hgt m, rq_rev m, rq_sch m, 0, 0, false, rq_len m, rq_tok m, rq_fst m, rq_sec m, rq_giv m, rq_gat m, rq_kno m, rq_sta m, rq_mem m, rq_vat m, rq_cat m, rq_cir m, rq_std m, rq_nct m, rq_ned m, rq_fqu m, rq_fwk m, rq_fps m, rq_pil m, rq_wva m, rq_wci m)
theorem rq_g_ens0 (m : rq_M)  : rq_hgt (rq_ens0 m ) = rq_hgt m ∧ rq_rev (rq_ens0 m ) = rq_rev m ∧ rq_sch (rq_ens0 m ) = rq_sch m ∧ rq_frm (rq_ens0 m ) = 0 ∧ rq_top (rq_ens0 m ) = 0 ∧ rq_fai (rq_ens0 m ) = false ∧ rq_len (rq_ens0 m ) = rq_len m ∧ rq_tok (rq_ens0 m ) = rq_tok m ∧ rq_fst (rq_ens0 m ) = rq_fst m ∧ rq_sec (rq_ens0 m ) = rq_sec m ∧ rq_giv (rq_ens0 m ) = rq_giv m ∧ rq_gat (rq_ens0 m ) = rq_gat m ∧ rq_kno (rq_ens0 m ) = rq_kno m ∧ rq_sta (rq_ens0 m ) = rq_sta m ∧ rq_mem (rq_ens0 m ) = rq_mem m ∧ rq_vat (rq_ens0 m ) = rq_vat m ∧ rq_cat (rq_ens0 m ) = rq_cat m ∧ rq_cir (rq_ens0 m ) = rq_cir m ∧ rq_std (rq_ens0 m ) = rq_std m ∧ rq_nct (rq_ens0 m ) = rq_nct m ∧ rq_ned (rq_ens0 m ) = rq_ned m ∧ rq_fqu (rq_ens0 m ) = rq_fqu m ∧ rq_fwk (rq_ens0 m ) = rq_fwk m ∧ rq_fps (rq_ens0 m ) = rq_fps m ∧ rq_pil (rq_ens0 m ) = rq_pil m ∧ rq_wva (rq_ens0 m ) = rq_wva m ∧ rq_wci (rq_ens0 m ) = rq_wci m := ⟨rfl, rfl, rfl, rfl, rfl, rfl, rfl, rfl, rfl, rfl, rfl, rfl, rfl, rfl, rfl, rfl, rfl, rfl, rfl, rfl, rfl, rfl, rfl, rfl, rfl, rfl, rfl⟩
def rq_setS (m : rq_M) (i : Nat) (v : Int32) : rq_M := (rq_hgt m, rq_rev m + 1, rq_sch m, rq_frm m, rq_top m, rq_fai m, rq_len m, rq_tok m, rq_fst m, rq_sec m, rq_up (rq_giv m) i v, rq_up (rq_gat m) i (rq_rev m + 1), rq_kno m, rq_sta m, rq_mem m, rq_vat m, rq_cat m, rq_cir m, rq_std m, rq_nct m, rq_ned m, rq_fqu m, rq_fwk m, rq_fps m, rq_pil m, rq_wva m, rq_wci m)
theorem rq_g_setS (m : rq_M) (i : Nat) (v : Int32) : rq_hgt (rq_setS m i v) = rq_hgt m ∧ rq_rev (rq_setS m i v) = rq_rev m + 1 ∧ rq_sch (rq_setS m i v) = rq_sch m ∧ rq_frm (rq_setS m i v) = rq_frm m ∧ rq_top (rq_setS m i v) = rq_top m ∧ rq_fai (rq_setS m i v) = rq_fai m ∧ rq_len (rq_setS m i v) = rq_len m ∧ rq_tok (rq_setS m i v) = rq_tok m ∧ rq_fst (rq_setS m i v) = rq_fst m ∧ rq_sec (rq_setS m i v) = rq_sec m ∧ rq_giv (rq_setS m i v) = rq_up (rq_giv m) i v ∧ rq_gat (rq_setS m i v) = rq_up (rq_gat m) i (rq_rev m + 1) ∧ rq_kno (rq_setS m i v) = rq_kno m ∧ rq_sta (rq_setS m i v) = rq_sta m ∧ rq_mem (rq_setS m i v) = rq_mem m ∧ rq_vat (rq_setS m i v) = rq_vat m ∧ rq_cat (rq_setS m i v) = rq_cat m ∧ rq_cir (rq_setS m i v) = rq_cir m ∧ rq_std (rq_setS m i v) = rq_std m ∧ rq_nct (rq_setS m i v) = rq_nct m ∧ rq_ned (rq_setS m i v) = rq_ned m ∧ rq_fqu (rq_setS m i v) = rq_fqu m ∧ rq_fwk (rq_setS m i v) = rq_fwk m ∧ rq_fps (rq_setS m i v) = rq_fps m ∧ rq_pil (rq_setS m i v) = rq_pil m ∧ rq_wva (rq_setS m i v) = rq_wva m ∧ rq_wci (rq_setS m i v) = rq_wci m := ⟨rfl, rfl, rfl, rfl, rfl, rfl, rfl, rfl, rfl, rfl, rfl, rfl, rfl, rfl, rfl, rfl, rfl, rfl, rfl, rfl, rfl, rfl, rfl, rfl, rfl, rfl, rfl⟩
def rq_setT (m : rq_M) (i : Nat) (v : Int32) : rq_M := (rq_hgt m, rq_rev m + 1, rq_rev m + 1, rq_frm m, rq_top m, rq_fai m, rq_len m, rq_tok m, rq_fst m, rq_sec m, rq_up (rq_giv m) i v, rq_up (rq_gat m) i (rq_rev m + 1), rq_kno m, rq_sta m, rq_mem m, rq_vat m, rq_cat m, rq_cir m, rq_std m, rq_nct m, rq_ned m, rq_fqu m, rq_fwk m, rq_fps m, rq_pil m, rq_wva m, rq_wci m)
theorem rq_g_setT (m : rq_M) (i : Nat) (v : Int32) : rq_hgt (rq_setT m i v) = rq_hgt m ∧ rq_rev (rq_setT m i v) = rq_rev m + 1 ∧ rq_sch (rq_setT m i v) = rq_rev m + 1 ∧ rq_frm (rq_setT m i v) = rq_frm m ∧ rq_top (rq_setT m i v) = rq_top m ∧ rq_fai (rq_setT m i v) = rq_fai m ∧ rq_len (rq_setT m i v) = rq_len m ∧ rq_tok (rq_setT m i v) = rq_tok m ∧ rq_fst (rq_setT m i v) = rq_fst m ∧ rq_sec (rq_setT m i v) = rq_sec m ∧ rq_giv (rq_setT m i v) = rq_up (rq_giv m) i v ∧ rq_gat (rq_setT m i v) = rq_up (rq_gat m) i (rq_rev m + 1) ∧ rq_kno (rq_setT m i v) = rq_kno m ∧ rq_sta (rq_setT m i v) = rq_sta m ∧ rq_mem (rq_setT m i v) = rq_mem m ∧ rq_vat (rq_setT m i v) = rq_vat m ∧ rq_cat (rq_setT m i v) = rq_cat m ∧ rq_cir (rq_setT m i v) = rq_cir m ∧ rq_std (rq_setT m i v) = rq_std m ∧ rq_nct (rq_setT m i v) = rq_nct m ∧ rq_ned (rq_setT m i v) = rq_ned m ∧ rq_fqu (rq_setT m i v) = rq_fqu m ∧ rq_fwk (rq_setT m i v) = rq_fwk m ∧ rq_fps (rq_setT m i v) = rq_fps m ∧ rq_pil (rq_setT m i v) = rq_pil m ∧ rq_wva (rq_setT m i v) = rq_wva m ∧ rq_wci (rq_setT m i v) = rq_wci m := ⟨rfl, rfl, rfl, rfl, rfl, rfl, rfl, rfl, rfl, rfl, rfl, rfl, rfl, rfl, rfl, rfl, rfl, rfl, rfl, rfl, rfl, rfl, rfl, rfl, rfl, rfl, rfl⟩
def rq_scr (m : rq_M)  : rq_M := (0, rq_rev m, rq_sch m, rq_frm m, rq_top m, rq_fai m, rq_up (rq_len m) 8 0, rq_tok m, rq_fst m, rq_sec m, rq_giv m, rq_gat m, rq_kno m, rq_sta m, rq_mem m, rq_vat m, rq_cat m, rq_cir m, rq_std m, rq_nct m, rq_ned m, rq_fqu m, rq_fwk m, rq_fps m, rq_pil m, rq_wva m, rq_wci m)
theorem rq_g_scr (m : rq_M)  : rq_hgt (rq_scr m ) = 0 ∧ rq_rev (rq_scr m ) = rq_rev m ∧ rq_sch (rq_scr m ) = rq_sch m ∧ rq_frm (rq_scr m ) = rq_frm m ∧ rq_top (rq_scr m ) = rq_top m ∧ rq_fai (rq_scr m ) = rq_fai m ∧ rq_len (rq_scr m ) = rq_up (rq_len m) 8 0 ∧ rq_tok (rq_scr m ) = rq_tok m ∧ rq_fst (rq_scr m ) = rq_fst m ∧ rq_sec (rq_scr m ) = rq_sec m ∧ rq_giv (rq_scr m ) = rq_giv m ∧ rq_gat (rq_scr m ) = rq_gat m ∧ rq_kno (rq_scr m ) = rq_kno m ∧ rq_sta (rq_scr m ) = rq_sta m ∧ rq_mem (rq_scr m ) = rq_mem m ∧ rq_vat (rq_scr m ) = rq_vat m ∧ rq_cat (rq_scr m ) = rq_cat m ∧ rq_cir (rq_scr m ) = rq_cir m ∧ rq_std (rq_scr m ) = rq_std m ∧ rq_nct (rq_scr m ) = rq_nct m ∧ rq_ned (rq_scr m ) = rq_ned m ∧ rq_fqu (rq_scr m ) = rq_fqu m ∧ rq_fwk (rq_scr m ) = rq_fwk m ∧ rq_fps (rq_scr m ) = rq_fps m ∧ rq_pil (rq_scr m ) = rq_pil m ∧ rq_wva (rq_scr m ) = rq_wva m ∧ rq_wci (rq_scr m ) = rq_wci m := ⟨rfl, rfl, rfl, rfl, rfl, rfl, rfl, rfl, rfl, rfl, rfl, rfl, rfl, rfl, rfl, rfl, rfl, rfl, rfl, rfl, rfl, rfl, rfl, rfl, rfl, rfl, rfl⟩
def rq_app (m : rq_M) (kd : Nat) (a b : Int32) (h' : Nat) : rq_M := (h', rq_rev m, rq_sch m, rq_frm m, rq_top m, rq_fai m, rq_up (rq_len m) 8 (rq_len m 8 + 1), rq_up (rq_tok m) (80 + rq_len m 8) kd, rq_up (rq_fst m) (80 + rq_len m 8) a, rq_up (rq_sec m) (80 + rq_len m 8) b, rq_giv m, rq_gat m, rq_kno m, rq_sta m, rq_mem m, rq_vat m, rq_cat m, rq_cir m, rq_std m, rq_nct m, rq_ned m, rq_fqu m, rq_fwk m, rq_fps m, rq_pil m, rq_wva m, rq_wci m)
theorem rq_g_app (m : rq_M) (kd : Nat) (a b : Int32) (h' : Nat) : rq_hgt (rq_app m kd a b h') = h' ∧ rq_rev (rq_app m kd a b h') = rq_rev m ∧ rq_sch (rq_app m kd a b h') = rq_sch m ∧ rq_frm (rq_app m kd a b h') = rq_frm m ∧ rq_top (rq_app m kd a b h') = rq_top m ∧ rq_fai (rq_app m kd a b h') = rq_fai m ∧ rq_len (rq_app m kd a b h') = rq_up (rq_len m) 8 (rq_len m 8 + 1) ∧ rq_tok (rq_app m kd a b h') = rq_up (rq_tok m) (80 + rq_len m 8) kd ∧ rq_fst (rq_app m kd a b h') = rq_up (rq_fst m) (80 + rq_len m 8) a ∧ rq_sec (rq_app m kd a b h') = rq_up (rq_sec m) (80 + rq_len m 8) b ∧ rq_giv (rq_app m kd a b h') = rq_giv m ∧ rq_gat (rq_app m kd a b h') = rq_gat m ∧ rq_kno (rq_app m kd a b h') = rq_kno m ∧ rq_sta (rq_app m kd a b h') = rq_sta m ∧ rq_mem (rq_app m kd a b h') = rq_mem m ∧ rq_vat (rq_app m kd a b h') = rq_vat m ∧ rq_cat (rq_app m kd a b h') = rq_cat m ∧ rq_cir (rq_app m kd a b h') = rq_cir m ∧ rq_std (rq_app m kd a b h') = rq_std m ∧ rq_nct (rq_app m kd a b h') = rq_nct m ∧ rq_ned (rq_app m kd a b h') = rq_ned m ∧ rq_fqu (rq_app m kd a b h') = rq_fqu m ∧ rq_fwk (rq_app m kd a b h') = rq_fwk m ∧ rq_fps (rq_app m kd a b h') = rq_fps m ∧ rq_pil (rq_app m kd a b h') = rq_pil m ∧ rq_wva (rq_app m kd a b h') = rq_wva m ∧ rq_wci (rq_app m kd a b h') = rq_wci m := ⟨rfl, rfl, rfl, rfl, rfl, rfl, rfl, rfl, rfl, rfl, rfl, rfl, rfl, rfl, rfl, rfl, rfl, rfl, rfl, rfl, rfl, rfl, rfl, rfl, rfl, rfl, rfl⟩
def rq_fi (m : rq_M) (q i : Nat) : rq_M := (rq_hgt m, rq_rev m, rq_sch m, rq_frm m, rq_top m, rq_fai m, rq_len m, rq_cp (rq_tok m) q i, rq_cp (rq_fst m) q i, rq_cp (rq_sec m) q i, rq_giv m, rq_gat m, rq_kno m, rq_sta m, rq_mem m, rq_vat m, rq_cat m, rq_cir m, rq_std m, rq_nct m, rq_ned m, rq_fqu m, rq_fwk m, rq_fps m, rq_pil m, rq_wva m, rq_wci m)
theorem rq_g_fi (m : rq_M) (q i : Nat) : rq_hgt (rq_fi m q i) = rq_hgt m ∧ rq_rev (rq_fi m q i) = rq_rev m ∧ rq_sch (rq_fi m q i) = rq_sch m ∧ rq_frm (rq_fi m q i) = rq_frm m ∧ rq_top (rq_fi m q i) = rq_top m ∧ rq_fai (rq_fi m q i) = rq_fai m ∧ rq_len (rq_fi m q i) = rq_len m ∧ rq_tok (rq_fi m q i) = rq_cp (rq_tok m) q i ∧ rq_fst (rq_fi m q i) = rq_cp (rq_fst m) q i ∧ rq_sec (rq_fi m q i) = rq_cp (rq_sec m) q i ∧ rq_giv (rq_fi m q i) = rq_giv m ∧ rq_gat (rq_fi m q i) = rq_gat m ∧ rq_kno (rq_fi m q i) = rq_kno m ∧ rq_sta (rq_fi m q i) = rq_sta m ∧ rq_mem (rq_fi m q i) = rq_mem m ∧ rq_vat (rq_fi m q i) = rq_vat m ∧ rq_cat (rq_fi m q i) = rq_cat m ∧ rq_cir (rq_fi m q i) = rq_cir m ∧ rq_std (rq_fi m q i) = rq_std m ∧ rq_nct (rq_fi m q i) = rq_nct m ∧ rq_ned (rq_fi m q i) = rq_ned m ∧ rq_fqu (rq_fi m q i) = rq_fqu m ∧ rq_fwk (rq_fi m q i) = rq_fwk m ∧ rq_fps (rq_fi m q i) = rq_fps m ∧ rq_pil (rq_fi m q i) = rq_pil m ∧ rq_wva (rq_fi m q i) = rq_wva m ∧ rq_wci (rq_fi m q i) = rq_wci m := ⟨rfl, rfl, rfl, rfl, rfl, rfl, rfl, rfl, rfl, rfl, rfl, rfl, rfl, rfl, rfl, rfl, rfl, rfl, rfl, rfl, rfl, rfl, rfl, rfl, rfl, rfl, rfl⟩
def rq_fin (m : rq_M) (q i : Nat) : rq_M := (0, rq_rev m + 1, rq_rev m + 1, rq_frm m, rq_top m, rq_fai m, rq_up (rq_up (rq_len m) q i) 8 0, rq_cp (rq_tok m) q i, rq_cp (rq_fst m) q i, rq_cp (rq_sec m) q i, rq_giv m, rq_gat m, rq_kno m, rq_up (rq_sta m) q true, rq_mem m, rq_vat m, rq_cat m, rq_cir m, rq_std m, rq_nct m, rq_ned m, rq_fqu m, rq_fwk m, rq_fps m, rq_pil m, rq_wva m, rq_wci m)
theorem rq_g_fin (m : rq_M) (q i : Nat) : rq_hgt (rq_fin m q i) = 0 ∧ rq_rev (rq_fin m q i) = rq_rev m + 1 ∧ rq_sch (rq_fin m q i) = rq_rev m + 1 ∧ rq_frm (rq_fin m q i) = rq_frm m ∧ rq_top (rq_fin m q i) = rq_top m ∧ rq_fai (rq_fin m q i) = rq_fai m ∧ rq_len (rq_fin m q i) = rq_up (rq_up (rq_len m) q i) 8 0 ∧ rq_tok (rq_fin m q i) = rq_cp (rq_tok m) q i ∧ rq_fst (rq_fin m q i) = rq_cp (rq_fst m) q i ∧ rq_sec (rq_fin m q i) = rq_cp (rq_sec m) q i ∧ rq_giv (rq_fin m q i) = rq_giv m ∧ rq_gat (rq_fin m q i) = rq_gat m ∧ rq_kno (rq_fin m q i) = rq_kno m ∧ rq_sta (rq_fin m q i) = rq_up (rq_sta m) q true ∧ rq_mem (rq_fin m q i) = rq_mem m ∧ rq_vat (rq_fin m q i) = rq_vat m ∧ rq_cat (rq_fin m q i) = rq_cat m ∧ rq_cir (rq_fin m q i) = rq_cir m ∧ rq_std (rq_fin m q i) = rq_std m ∧ rq_nct (rq_fin m q i) = rq_nct m ∧ rq_ned (rq_fin m q i) = rq_ned m ∧ rq_fqu (rq_fin m q i) = rq_fqu m ∧ rq_fwk (rq_fin m q i) = rq_fwk m ∧ rq_fps (rq_fin m q i) = rq_fps m ∧ rq_pil (rq_fin m q i) = rq_pil m ∧ rq_wva (rq_fin m q i) = rq_wva m ∧ rq_wci (rq_fin m q i) = rq_wci m := ⟨rfl, rfl, rfl, rfl, rfl, rfl, rfl, rfl, rfl, rfl, rfl, rfl, rfl, rfl, rfl, rfl, rfl, rfl, rfl, rfl, rfl, rfl, rfl, rfl, rfl, rfl, rfl⟩
def rq_was (m : rq_M) (q : Nat) (v : Int32) (b : Bool) : rq_M := (rq_hgt m, rq_rev m, rq_sch m, rq_frm m, rq_top m, rq_fai m, rq_len m, rq_tok m, rq_fst m, rq_sec m, rq_giv m, rq_gat m, rq_kno m, rq_sta m, rq_mem m, rq_vat m, rq_cat m, rq_cir m, rq_std m, rq_nct m, rq_ned m, rq_fqu m, rq_fwk m, rq_fps m, rq_pil m, rq_up (rq_wva m) q v, rq_up (rq_wci m) q b)
theorem rq_g_was (m : rq_M) (q : Nat) (v : Int32) (b : Bool) : rq_hgt (rq_was m q v b) = rq_hgt m ∧ rq_rev (rq_was m q v b) = rq_rev m ∧ rq_sch (rq_was m q v b) = rq_sch m ∧ rq_frm (rq_was m q v b) = rq_frm m ∧ rq_top (rq_was m q v b) = rq_top m ∧ rq_fai (rq_was m q v b) = rq_fai m ∧ rq_len (rq_was m q v b) = rq_len m ∧ rq_tok (rq_was m q v b) = rq_tok m ∧ rq_fst (rq_was m q v b) = rq_fst m ∧ rq_sec (rq_was m q v b) = rq_sec m ∧ rq_giv (rq_was m q v b) = rq_giv m ∧ rq_gat (rq_was m q v b) = rq_gat m ∧ rq_kno (rq_was m q v b) = rq_kno m ∧ rq_sta (rq_was m q v b) = rq_sta m ∧ rq_mem (rq_was m q v b) = rq_mem m ∧ rq_vat (rq_was m q v b) = rq_vat m ∧ rq_cat (rq_was m q v b) = rq_cat m ∧ rq_cir (rq_was m q v b) = rq_cir m ∧ rq_std (rq_was m q v b) = rq_std m ∧ rq_nct (rq_was m q v b) = rq_nct m ∧ rq_ned (rq_was m q v b) = rq_ned m ∧ rq_fqu (rq_was m q v b) = rq_fqu m ∧ rq_fwk (rq_was m q v b) = rq_fwk m ∧ rq_fps (rq_was m q v b) = rq_fps m ∧ rq_pil (rq_was m q v b) = rq_pil m ∧ rq_wva (rq_was m q v b) = rq_up (rq_wva m) q v ∧ rq_wci (rq_was m q v b) = rq_up (rq_wci m) q b := ⟨rfl, rfl, rfl, rfl, rfl, rfl, rfl, rfl, rfl, rfl, rfl, rfl, rfl, rfl, rfl, rfl, rfl, rfl, rfl, rfl, rfl, rfl, rfl, rfl, rfl, rfl, rfl⟩
def rq_cm (m : rq_M) : St1 := (nI (rq_hgt m), nI (rq_rev m), nI (rq_sch m), nI (rq_frm m), nI (rq_top m), rq_bI (rq_fai m), rq_nA (rq_len m), rq_nA (rq_tok m), rq_fst m, rq_sec m, rq_giv m, rq_nA (rq_gat m), rq_bA (rq_kno m), rq_bA (rq_sta m), rq_mem m, rq_nA (rq_vat m), rq_nA (rq_cat m), rq_nA (rq_cir m), rq_bA (rq_std m), rq_nA (rq_nct m), rq_nA (rq_ned m), rq_nA (rq_fqu m), rq_bA (rq_fwk m), rq_nA (rq_fps m), rq_pil m, rq_wva m, rq_bA (rq_wci m))
abbrev rq_l_req4 (post : St1 → Prop) (x1 : Int32) (u : St1) (n : Nat) (x2 x3 : Int32) : Prop := wX_request_4 post x1 u.1 u.2.1 u.2.2.1 u.2.2.2.1 u.2.2.2.2.1 u.2.2.2.2.2.1 u.2.2.2.2.2.2.1 u.2.2.2.2.2.2.2.1 u.2.2.2.2.2.2.2.2.1 u.2.2.2.2.2.2.2.2.2.1 u.2.2.2.2.2.2.2.2.2.2.1 u.2.2.2.2.2.2.2.2.2.2.2.1 u.2.2.2.2.2.2.2.2.2.2.2.2.1 u.2.2.2.2.2.2.2.2.2.2.2.2.2.1 u.2.2.2.2.2.2.2.2.2.2.2.2.2.2.1 u.2.2.2.2.2.2.2.2.2.2.2.2.2.2.2.1 u.2.2.2.2.2.2.2.2.2.2.2.2.2.2.2.2.1 u.2.2.2.2.2.2.2.2.2.2.2.2.2.2.2.2.2.1 u.2.2.2.2.2.2.2.2.2.2.2.2.2.2.2.2.2.2.1 u.2.2.2.2.2.2.2.2.2.2.2.2.2.2.2.2.2.2.2.1 u.2.2.2.2.2.2.2.2.2.2.2.2.2.2.2.2.2.2.2.2.1 u.2.2.2.2.2.2.2.2.2.2.2.2.2.2.2.2.2.2.2.2.2.1 u.2.2.2.2.2.2.2.2.2.2.2.2.2.2.2.2.2.2.2.2.2.2.1 u.2.2.2.2.2.2.2.2.2.2.2.2.2.2.2.2.2.2.2.2.2.2.2.1 u.2.2.2.2.2.2.2.2.2.2.2.2.2.2.2.2.2.2.2.2.2.2.2.2.1 u.2.2.2.2.2.2.2.2.2.2.2.2.2.2.2.2.2.2.2.2.2.2.2.2.2.1 u.2.2.2.2.2.2.2.2.2.2.2.2.2.2.2.2.2.2.2.2.2.2.2.2.2.2 n x2 x3
abbrev rq_l_req112 (post : St1 → Prop) (x1 : Int32) (u : St1) : Prop := wX_request_112 post x1 u.1 u.2.1 u.2.2.1 u.2.2.2.1 u.2.2.2.2.1 u.2.2.2.2.2.1 u.2.2.2.2.2.2.1 u.2.2.2.2.2.2.2.1 u.2.2.2.2.2.2.2.2.1 u.2.2.2.2.2.2.2.2.2.1 u.2.2.2.2.2.2.2.2.2.2.1 u.2.2.2.2.2.2.2.2.2.2.2.1 u.2.2.2.2.2.2.2.2.2.2.2.2.1 u.2.2.2.2.2.2.2.2.2.2.2.2.2.1 u.2.2.2.2.2.2.2.2.2.2.2.2.2.2.1 u.2.2.2.2.2.2.2.2.2.2.2.2.2.2.2.1 u.2.2.2.2.2.2.2.2.2.2.2.2.2.2.2.2.1 u.2.2.2.2.2.2.2.2.2.2.2.2.2.2.2.2.2.1 u.2.2.2.2.2.2.2.2.2.2.2.2.2.2.2.2.2.2.1 u.2.2.2.2.2.2.2.2.2.2.2.2.2.2.2.2.2.2.2.1 u.2.2.2.2.2.2.2.2.2.2.2.2.2.2.2.2.2.2.2.2.1 u.2.2.2.2.2.2.2.2.2.2.2.2.2.2.2.2.2.2.2.2.2.1 u.2.2.2.2.2.2.2.2.2.2.2.2.2.2.2.2.2.2.2.2.2.2.1 u.2.2.2.2.2.2.2.2.2.2.2.2.2.2.2.2.2.2.2.2.2.2.2.1 u.2.2.2.2.2.2.2.2.2.2.2.2.2.2.2.2.2.2.2.2.2.2.2.2.1 u.2.2.2.2.2.2.2.2.2.2.2.2.2.2.2.2.2.2.2.2.2.2.2.2.2.1 u.2.2.2.2.2.2.2.2.2.2.2.2.2.2.2.2.2.2.2.2.2.2.2.2.2.2
abbrev rq_l_req166 (post : St1 → Prop) (x3 : Int32) (u : St1) : Prop := wX_request_166 post x3 u.1 u.2.1 u.2.2.1 u.2.2.2.1 u.2.2.2.2.1 u.2.2.2.2.2.1 u.2.2.2.2.2.2.1 u.2.2.2.2.2.2.2.1 u.2.2.2.2.2.2.2.2.1 u.2.2.2.2.2.2.2.2.2.1 u.2.2.2.2.2.2.2.2.2.2.1 u.2.2.2.2.2.2.2.2.2.2.2.1 u.2.2.2.2.2.2.2.2.2.2.2.2.1 u.2.2.2.2.2.2.2.2.2.2.2.2.2.1 u.2.2.2.2.2.2.2.2.2.2.2.2.2.2.1 u.2.2.2.2.2.2.2.2.2.2.2.2.2.2.2.1 u.2.2.2.2.2.2.2.2.2.2.2.2.2.2.2.2.1 u.2.2.2.2.2.2.2.2.2.2.2.2.2.2.2.2.2.1 u.2.2.2.2.2.2.2.2.2.2.2.2.2.2.2.2.2.2.1 u.2.2.2.2.2.2.2.2.2.2.2.2.2.2.2.2.2.2.2.1 u.2.2.2.2.2.2.2.2.2.2.2.2.2.2.2.2.2.2.2.2.1 u.2.2.2.2.2.2.2.2.2.2.2.2.2.2.2.2.2.2.2.2.2.1 u.2.2.2.2.2.2.2.2.2.2.2.2.2.2.2.2.2.2.2.2.2.2.1 u.2.2.2.2.2.2.2.2.2.2.2.2.2.2.2.2.2.2.2.2.2.2.2.1 u.2.2.2.2.2.2.2.2.2.2.2.2.2.2.2.2.2.2.2.2.2.2.2.2.1 u.2.2.2.2.2.2.2.2.2.2.2.2.2.2.2.2.2.2.2.2.2.2.2.2.2.1 u.2.2.2.2.2.2.2.2.2.2.2.2.2.2.2.2.2.2.2.2.2.2.2.2.2.2
abbrev rq_l_as4 (post : Int32 → Prop) (x1 : Int32) (u : St1) (n : Nat) (x2 x3 : Int32) : Prop := wX_allSteady_4 post x1 u.1 u.2.1 u.2.2.1 u.2.2.2.1 u.2.2.2.2.1 u.2.2.2.2.2.1 u.2.2.2.2.2.2.1 u.2.2.2.2.2.2.2.1 u.2.2.2.2.2.2.2.2.1 u.2.2.2.2.2.2.2.2.2.1 u.2.2.2.2.2.2.2.2.2.2.1 u.2.2.2.2.2.2.2.2.2.2.2.1 u.2.2.2.2.2.2.2.2.2.2.2.2.1 u.2.2.2.2.2.2.2.2.2.2.2.2.2.1 u.2.2.2.2.2.2.2.2.2.2.2.2.2.2.1 u.2.2.2.2.2.2.2.2.2.2.2.2.2.2.2.1 u.2.2.2.2.2.2.2.2.2.2.2.2.2.2.2.2.1 u.2.2.2.2.2.2.2.2.2.2.2.2.2.2.2.2.2.1 u.2.2.2.2.2.2.2.2.2.2.2.2.2.2.2.2.2.2.1 u.2.2.2.2.2.2.2.2.2.2.2.2.2.2.2.2.2.2.2.1 u.2.2.2.2.2.2.2.2.2.2.2.2.2.2.2.2.2.2.2.2.1 u.2.2.2.2.2.2.2.2.2.2.2.2.2.2.2.2.2.2.2.2.2.1 u.2.2.2.2.2.2.2.2.2.2.2.2.2.2.2.2.2.2.2.2.2.2.1 u.2.2.2.2.2.2.2.2.2.2.2.2.2.2.2.2.2.2.2.2.2.2.2.1 u.2.2.2.2.2.2.2.2.2.2.2.2.2.2.2.2.2.2.2.2.2.2.2.2.1 u.2.2.2.2.2.2.2.2.2.2.2.2.2.2.2.2.2.2.2.2.2.2.2.2.2.1 u.2.2.2.2.2.2.2.2.2.2.2.2.2.2.2.2.2.2.2.2.2.2.2.2.2.2 n x2 x3
abbrev rq_l_chk126 (post : St1 → Prop) (x1 x2 x4 : Int32) (u : St1) : Prop := wX_checkStep_126 post x1 x2 x4 u.1 u.2.1 u.2.2.1 u.2.2.2.1 u.2.2.2.2.1 u.2.2.2.2.2.1 u.2.2.2.2.2.2.1 u.2.2.2.2.2.2.2.1 u.2.2.2.2.2.2.2.2.1 u.2.2.2.2.2.2.2.2.2.1 u.2.2.2.2.2.2.2.2.2.2.1 u.2.2.2.2.2.2.2.2.2.2.2.1 u.2.2.2.2.2.2.2.2.2.2.2.2.1 u.2.2.2.2.2.2.2.2.2.2.2.2.2.1 u.2.2.2.2.2.2.2.2.2.2.2.2.2.2.1 u.2.2.2.2.2.2.2.2.2.2.2.2.2.2.2.1 u.2.2.2.2.2.2.2.2.2.2.2.2.2.2.2.2.1 u.2.2.2.2.2.2.2.2.2.2.2.2.2.2.2.2.2.1 u.2.2.2.2.2.2.2.2.2.2.2.2.2.2.2.2.2.2.1 u.2.2.2.2.2.2.2.2.2.2.2.2.2.2.2.2.2.2.2.1 u.2.2.2.2.2.2.2.2.2.2.2.2.2.2.2.2.2.2.2.2.1 u.2.2.2.2.2.2.2.2.2.2.2.2.2.2.2.2.2.2.2.2.2.1 u.2.2.2.2.2.2.2.2.2.2.2.2.2.2.2.2.2.2.2.2.2.2.1 u.2.2.2.2.2.2.2.2.2.2.2.2.2.2.2.2.2.2.2.2.2.2.2.1 u.2.2.2.2.2.2.2.2.2.2.2.2.2.2.2.2.2.2.2.2.2.2.2.2.1 u.2.2.2.2.2.2.2.2.2.2.2.2.2.2.2.2.2.2.2.2.2.2.2.2.2.1 u.2.2.2.2.2.2.2.2.2.2.2.2.2.2.2.2.2.2.2.2.2.2.2.2.2.2
abbrev rq_l_cmb89 (post : St1 → Prop) (z0 : Int32) (u : St1) : Prop := wX_combine_89 post z0 u.1 u.2.1 u.2.2.1 u.2.2.2.1 u.2.2.2.2.1 u.2.2.2.2.2.1 u.2.2.2.2.2.2.1 u.2.2.2.2.2.2.2.1 u.2.2.2.2.2.2.2.2.1 u.2.2.2.2.2.2.2.2.2.1 u.2.2.2.2.2.2.2.2.2.2.1 u.2.2.2.2.2.2.2.2.2.2.2.1 u.2.2.2.2.2.2.2.2.2.2.2.2.1 u.2.2.2.2.2.2.2.2.2.2.2.2.2.1 u.2.2.2.2.2.2.2.2.2.2.2.2.2.2.1 u.2.2.2.2.2.2.2.2.2.2.2.2.2.2.2.1 u.2.2.2.2.2.2.2.2.2.2.2.2.2.2.2.2.1 u.2.2.2.2.2.2.2.2.2.2.2.2.2.2.2.2.2.1 u.2.2.2.2.2.2.2.2.2.2.2.2.2.2.2.2.2.2.1 u.2.2.2.2.2.2.2.2.2.2.2.2.2.2.2.2.2.2.2.1 u.2.2.2.2.2.2.2.2.2.2.2.2.2.2.2.2.2.2.2.2.1 u.2.2.2.2.2.2.2.2.2.2.2.2.2.2.2.2.2.2.2.2.2.1 u.2.2.2.2.2.2.2.2.2.2.2.2.2.2.2.2.2.2.2.2.2.2.1 u.2.2.2.2.2.2.2.2.2.2.2.2.2.2.2.2.2.2.2.2.2.2.2.1 u.2.2.2.2.2.2.2.2.2.2.2.2.2.2.2.2.2.2.2.2.2.2.2.2.1 u.2.2.2.2.2.2.2.2.2.2.2.2.2.2.2.2.2.2.2.2.2.2.2.2.2.1 u.2.2.2.2.2.2.2.2.2.2.2.2.2.2.2.2.2.2.2.2.2.2.2.2.2.2
abbrev rq_l_end49 (post : St1 → Prop) (x1 x2 : Int32) (u : St1) : Prop := wX_endWork_49 post x1 x2 u.1 u.2.1 u.2.2.1 u.2.2.2.1 u.2.2.2.2.1 u.2.2.2.2.2.1 u.2.2.2.2.2.2.1 u.2.2.2.2.2.2.2.1 u.2.2.2.2.2.2.2.2.1 u.2.2.2.2.2.2.2.2.2.1 u.2.2.2.2.2.2.2.2.2.2.1 u.2.2.2.2.2.2.2.2.2.2.2.1 u.2.2.2.2.2.2.2.2.2.2.2.2.1 u.2.2.2.2.2.2.2.2.2.2.2.2.2.1 u.2.2.2.2.2.2.2.2.2.2.2.2.2.2.1 u.2.2.2.2.2.2.2.2.2.2.2.2.2.2.2.1 u.2.2.2.2.2.2.2.2.2.2.2.2.2.2.2.2.1 u.2.2.2.2.2.2.2.2.2.2.2.2.2.2.2.2.2.1 u.2.2.2.2.2.2.2.2.2.2.2.2.2.2.2.2.2.2.1 u.2.2.2.2.2.2.2.2.2.2.2.2.2.2.2.2.2.2.2.1 u.2.2.2.2.2.2.2.2.2.2.2.2.2.2.2.2.2.2.2.2.1 u.2.2.2.2.2.2.2.2.2.2.2.2.2.2.2.2.2.2.2.2.2.1 u.2.2.2.2.2.2.2.2.2.2.2.2.2.2.2.2.2.2.2.2.2.2.1 u.2.2.2.2.2.2.2.2.2.2.2.2.2.2.2.2.2.2.2.2.2.2.2.1 u.2.2.2.2.2.2.2.2.2.2.2.2.2.2.2.2.2.2.2.2.2.2.2.2.1 u.2.2.2.2.2.2.2.2.2.2.2.2.2.2.2.2.2.2.2.2.2.2.2.2.2.1 u.2.2.2.2.2.2.2.2.2.2.2.2.2.2.2.2.2.2.2.2.2.2.2.2.2.2
abbrev rq_l_end39 (post : St1 → Prop) (x1 x2 : Int32) (u : St1) : Prop := wX_endWork_39 post x1 x2 u.1 u.2.1 u.2.2.1 u.2.2.2.1 u.2.2.2.2.1 u.2.2.2.2.2.1 u.2.2.2.2.2.2.1 u.2.2.2.2.2.2.2.1 u.2.2.2.2.2.2.2.2.1 u.2.2.2.2.2.2.2.2.2.1 u.2.2.2.2.2.2.2.2.2.2.1 u.2.2.2.2.2.2.2.2.2.2.2.1 u.2.2.2.2.2.2.2.2.2.2.2.2.1 u.2.2.2.2.2.2.2.2.2.2.2.2.2.1 u.2.2.2.2.2.2.2.2.2.2.2.2.2.2.1 u.2.2.2.2.2.2.2.2.2.2.2.2.2.2.2.1 u.2.2.2.2.2.2.2.2.2.2.2.2.2.2.2.2.1 u.2.2.2.2.2.2.2.2.2.2.2.2.2.2.2.2.2.1 u.2.2.2.2.2.2.2.2.2.2.2.2.2.2.2.2.2.2.1 u.2.2.2.2.2.2.2.2.2.2.2.2.2.2.2.2.2.2.2.1 u.2.2.2.2.2.2.2.2.2.2.2.2.2.2.2.2.2.2.2.2.1 u.2.2.2.2.2.2.2.2.2.2.2.2.2.2.2.2.2.2.2.2.2.1 u.2.2.2.2.2.2.2.2.2.2.2.2.2.2.2.2.2.2.2.2.2.2.1 u.2.2.2.2.2.2.2.2.2.2.2.2.2.2.2.2.2.2.2.2.2.2.2.1 u.2.2.2.2.2.2.2.2.2.2.2.2.2.2.2.2.2.2.2.2.2.2.2.2.1 u.2.2.2.2.2.2.2.2.2.2.2.2.2.2.2.2.2.2.2.2.2.2.2.2.2.1 u.2.2.2.2.2.2.2.2.2.2.2.2.2.2.2.2.2.2.2.2.2.2.2.2.2.2
abbrev rq_l_wk219 (post : St1 → Prop) (x1 : Int32) (u : St1) : Prop := wX_workStep_219 post x1 u.1 u.2.1 u.2.2.1 u.2.2.2.1 u.2.2.2.2.1 u.2.2.2.2.2.1 u.2.2.2.2.2.2.1 u.2.2.2.2.2.2.2.1 u.2.2.2.2.2.2.2.2.1 u.2.2.2.2.2.2.2.2.2.1 u.2.2.2.2.2.2.2.2.2.2.1 u.2.2.2.2.2.2.2.2.2.2.2.1 u.2.2.2.2.2.2.2.2.2.2.2.2.1 u.2.2.2.2.2.2.2.2.2.2.2.2.2.1 u.2.2.2.2.2.2.2.2.2.2.2.2.2.2.1 u.2.2.2.2.2.2.2.2.2.2.2.2.2.2.2.1 u.2.2.2.2.2.2.2.2.2.2.2.2.2.2.2.2.1 u.2.2.2.2.2.2.2.2.2.2.2.2.2.2.2.2.2.1 u.2.2.2.2.2.2.2.2.2.2.2.2.2.2.2.2.2.2.1 u.2.2.2.2.2.2.2.2.2.2.2.2.2.2.2.2.2.2.2.1 u.2.2.2.2.2.2.2.2.2.2.2.2.2.2.2.2.2.2.2.2.1 u.2.2.2.2.2.2.2.2.2.2.2.2.2.2.2.2.2.2.2.2.2.1 u.2.2.2.2.2.2.2.2.2.2.2.2.2.2.2.2.2.2.2.2.2.2.1 u.2.2.2.2.2.2.2.2.2.2.2.2.2.2.2.2.2.2.2.2.2.2.2.1 u.2.2.2.2.2.2.2.2.2.2.2.2.2.2.2.2.2.2.2.2.2.2.2.2.1 u.2.2.2.2.2.2.2.2.2.2.2.2.2.2.2.2.2.2.2.2.2.2.2.2.2.1 u.2.2.2.2.2.2.2.2.2.2.2.2.2.2.2.2.2.2.2.2.2.2.2.2.2.2
abbrev rq_l_wk132 (post : St1 → Prop) (x1 x2 x5 : Int32) (u : St1) : Prop := wX_workStep_132 post x1 x2 x5 u.1 u.2.1 u.2.2.1 u.2.2.2.1 u.2.2.2.2.1 u.2.2.2.2.2.1 u.2.2.2.2.2.2.1 u.2.2.2.2.2.2.2.1 u.2.2.2.2.2.2.2.2.1 u.2.2.2.2.2.2.2.2.2.1 u.2.2.2.2.2.2.2.2.2.2.1 u.2.2.2.2.2.2.2.2.2.2.2.1 u.2.2.2.2.2.2.2.2.2.2.2.2.1 u.2.2.2.2.2.2.2.2.2.2.2.2.2.1 u.2.2.2.2.2.2.2.2.2.2.2.2.2.2.1 u.2.2.2.2.2.2.2.2.2.2.2.2.2.2.2.1 u.2.2.2.2.2.2.2.2.2.2.2.2.2.2.2.2.1 u.2.2.2.2.2.2.2.2.2.2.2.2.2.2.2.2.2.1 u.2.2.2.2.2.2.2.2.2.2.2.2.2.2.2.2.2.2.1 u.2.2.2.2.2.2.2.2.2.2.2.2.2.2.2.2.2.2.2.1 u.2.2.2.2.2.2.2.2.2.2.2.2.2.2.2.2.2.2.2.2.1 u.2.2.2.2.2.2.2.2.2.2.2.2.2.2.2.2.2.2.2.2.2.1 u.2.2.2.2.2.2.2.2.2.2.2.2.2.2.2.2.2.2.2.2.2.2.1 u.2.2.2.2.2.2.2.2.2.2.2.2.2.2.2.2.2.2.2.2.2.2.2.1 u.2.2.2.2.2.2.2.2.2.2.2.2.2.2.2.2.2.2.2.2.2.2.2.2.1 u.2.2.2.2.2.2.2.2.2.2.2.2.2.2.2.2.2.2.2.2.2.2.2.2.2.1 u.2.2.2.2.2.2.2.2.2.2.2.2.2.2.2.2.2.2.2.2.2.2.2.2.2.2
abbrev rq_l_wk96 (post : St1 → Prop) (x1 x2 x4 x5 : Int32) (u : St1) : Prop := wX_workStep_96 post x1 x2 x4 x5 u.1 u.2.1 u.2.2.1 u.2.2.2.1 u.2.2.2.2.1 u.2.2.2.2.2.1 u.2.2.2.2.2.2.1 u.2.2.2.2.2.2.2.1 u.2.2.2.2.2.2.2.2.1 u.2.2.2.2.2.2.2.2.2.1 u.2.2.2.2.2.2.2.2.2.2.1 u.2.2.2.2.2.2.2.2.2.2.2.1 u.2.2.2.2.2.2.2.2.2.2.2.2.1 u.2.2.2.2.2.2.2.2.2.2.2.2.2.1 u.2.2.2.2.2.2.2.2.2.2.2.2.2.2.1 u.2.2.2.2.2.2.2.2.2.2.2.2.2.2.2.1 u.2.2.2.2.2.2.2.2.2.2.2.2.2.2.2.2.1 u.2.2.2.2.2.2.2.2.2.2.2.2.2.2.2.2.2.1 u.2.2.2.2.2.2.2.2.2.2.2.2.2.2.2.2.2.2.1 u.2.2.2.2.2.2.2.2.2.2.2.2.2.2.2.2.2.2.2.1 u.2.2.2.2.2.2.2.2.2.2.2.2.2.2.2.2.2.2.2.2.1 u.2.2.2.2.2.2.2.2.2.2.2.2.2.2.2.2.2.2.2.2.2.1 u.2.2.2.2.2.2.2.2.2.2.2.2.2.2.2.2.2.2.2.2.2.2.1 u.2.2.2.2.2.2.2.2.2.2.2.2.2.2.2.2.2.2.2.2.2.2.2.1 u.2.2.2.2.2.2.2.2.2.2.2.2.2.2.2.2.2.2.2.2.2.2.2.2.1 u.2.2.2.2.2.2.2.2.2.2.2.2.2.2.2.2.2.2.2.2.2.2.2.2.2.1 u.2.2.2.2.2.2.2.2.2.2.2.2.2.2.2.2.2.2.2.2.2.2.2.2.2.2
abbrev rq_l_wk60 (post : St1 → Prop) (x1 x2 x3 x4 : Int32) (u : St1) : Prop := wX_workStep_60 post x1 x2 x3 x4 u.1 u.2.1 u.2.2.1 u.2.2.2.1 u.2.2.2.2.1 u.2.2.2.2.2.1 u.2.2.2.2.2.2.1 u.2.2.2.2.2.2.2.1 u.2.2.2.2.2.2.2.2.1 u.2.2.2.2.2.2.2.2.2.1 u.2.2.2.2.2.2.2.2.2.2.1 u.2.2.2.2.2.2.2.2.2.2.2.1 u.2.2.2.2.2.2.2.2.2.2.2.2.1 u.2.2.2.2.2.2.2.2.2.2.2.2.2.1 u.2.2.2.2.2.2.2.2.2.2.2.2.2.2.1 u.2.2.2.2.2.2.2.2.2.2.2.2.2.2.2.1 u.2.2.2.2.2.2.2.2.2.2.2.2.2.2.2.2.1 u.2.2.2.2.2.2.2.2.2.2.2.2.2.2.2.2.2.1 u.2.2.2.2.2.2.2.2.2.2.2.2.2.2.2.2.2.2.1 u.2.2.2.2.2.2.2.2.2.2.2.2.2.2.2.2.2.2.2.1 u.2.2.2.2.2.2.2.2.2.2.2.2.2.2.2.2.2.2.2.2.1 u.2.2.2.2.2.2.2.2.2.2.2.2.2.2.2.2.2.2.2.2.2.1 u.2.2.2.2.2.2.2.2.2.2.2.2.2.2.2.2.2.2.2.2.2.2.1 u.2.2.2.2.2.2.2.2.2.2.2.2.2.2.2.2.2.2.2.2.2.2.2.1 u.2.2.2.2.2.2.2.2.2.2.2.2.2.2.2.2.2.2.2.2.2.2.2.2.1 u.2.2.2.2.2.2.2.2.2.2.2.2.2.2.2.2.2.2.2.2.2.2.2.2.2.1 u.2.2.2.2.2.2.2.2.2.2.2.2.2.2.2.2.2.2.2.2.2.2.2.2.2.2
abbrev rq_l_en134 (post : Int32 → St1 → Prop) (u : St1) : Prop := wX_ensure_134 post u.1 u.2.1 u.2.2.1 u.2.2.2.1 u.2.2.2.2.1 u.2.2.2.2.2.1 u.2.2.2.2.2.2.1 u.2.2.2.2.2.2.2.1 u.2.2.2.2.2.2.2.2.1 u.2.2.2.2.2.2.2.2.2.1 u.2.2.2.2.2.2.2.2.2.2.1 u.2.2.2.2.2.2.2.2.2.2.2.1 u.2.2.2.2.2.2.2.2.2.2.2.2.1 u.2.2.2.2.2.2.2.2.2.2.2.2.2.1 u.2.2.2.2.2.2.2.2.2.2.2.2.2.2.1 u.2.2.2.2.2.2.2.2.2.2.2.2.2.2.2.1 u.2.2.2.2.2.2.2.2.2.2.2.2.2.2.2.2.1 u.2.2.2.2.2.2.2.2.2.2.2.2.2.2.2.2.2.1 u.2.2.2.2.2.2.2.2.2.2.2.2.2.2.2.2.2.2.1 u.2.2.2.2.2.2.2.2.2.2.2.2.2.2.2.2.2.2.2.1 u.2.2.2.2.2.2.2.2.2.2.2.2.2.2.2.2.2.2.2.2.1 u.2.2.2.2.2.2.2.2.2.2.2.2.2.2.2.2.2.2.2.2.2.1 u.2.2.2.2.2.2.2.2.2.2.2.2.2.2.2.2.2.2.2.2.2.2.1 u.2.2.2.2.2.2.2.2.2.2.2.2.2.2.2.2.2.2.2.2.2.2.2.1 u.2.2.2.2.2.2.2.2.2.2.2.2.2.2.2.2.2.2.2.2.2.2.2.2.1 u.2.2.2.2.2.2.2.2.2.2.2.2.2.2.2.2.2.2.2.2.2.2.2.2.2.1 u.2.2.2.2.2.2.2.2.2.2.2.2.2.2.2.2.2.2.2.2.2.2.2.2.2.2
abbrev rq_l_en105 (post : Int32 → St1 → Prop) (n : Nat) (x2 : Int32) (u : St1) : Prop := wX_ensure_105 post u.1 u.2.1 u.2.2.1 u.2.2.2.1 u.2.2.2.2.1 u.2.2.2.2.2.1 n x2 u.2.2.2.2.2.2.1 u.2.2.2.2.2.2.2.1 u.2.2.2.2.2.2.2.2.1 u.2.2.2.2.2.2.2.2.2.1 u.2.2.2.2.2.2.2.2.2.2.1 u.2.2.2.2.2.2.2.2.2.2.2.1 u.2.2.2.2.2.2.2.2.2.2.2.2.1 u.2.2.2.2.2.2.2.2.2.2.2.2.2.1 u.2.2.2.2.2.2.2.2.2.2.2.2.2.2.1 u.2.2.2.2.2.2.2.2.2.2.2.2.2.2.2.1 u.2.2.2.2.2.2.2.2.2.2.2.2.2.2.2.2.1 u.2.2.2.2.2.2.2.2.2.2.2.2.2.2.2.2.2.1 u.2.2.2.2.2.2.2.2.2.2.2.2.2.2.2.2.2.2.1 u.2.2.2.2.2.2.2.2.2.2.2.2.2.2.2.2.2.2.2.1 u.2.2.2.2.2.2.2.2.2.2.2.2.2.2.2.2.2.2.2.2.1 u.2.2.2.2.2.2.2.2.2.2.2.2.2.2.2.2.2.2.2.2.2.1 u.2.2.2.2.2.2.2.2.2.2.2.2.2.2.2.2.2.2.2.2.2.2.1 u.2.2.2.2.2.2.2.2.2.2.2.2.2.2.2.2.2.2.2.2.2.2.2.1 u.2.2.2.2.2.2.2.2.2.2.2.2.2.2.2.2.2.2.2.2.2.2.2.2.1 u.2.2.2.2.2.2.2.2.2.2.2.2.2.2.2.2.2.2.2.2.2.2.2.2.2.1 u.2.2.2.2.2.2.2.2.2.2.2.2.2.2.2.2.2.2.2.2.2.2.2.2.2.2
abbrev rq_l_en86 (post : Int32 → St1 → Prop) (x1 : Int32) (u : St1) : Prop := wX_ensure_86 post x1 u.1 u.2.1 u.2.2.1 u.2.2.2.1 u.2.2.2.2.1 u.2.2.2.2.2.1 u.2.2.2.2.2.2.1 u.2.2.2.2.2.2.2.1 u.2.2.2.2.2.2.2.2.1 u.2.2.2.2.2.2.2.2.2.1 u.2.2.2.2.2.2.2.2.2.2.1 u.2.2.2.2.2.2.2.2.2.2.2.1 u.2.2.2.2.2.2.2.2.2.2.2.2.1 u.2.2.2.2.2.2.2.2.2.2.2.2.2.1 u.2.2.2.2.2.2.2.2.2.2.2.2.2.2.1 u.2.2.2.2.2.2.2.2.2.2.2.2.2.2.2.1 u.2.2.2.2.2.2.2.2.2.2.2.2.2.2.2.2.1 u.2.2.2.2.2.2.2.2.2.2.2.2.2.2.2.2.2.1 u.2.2.2.2.2.2.2.2.2.2.2.2.2.2.2.2.2.2.1 u.2.2.2.2.2.2.2.2.2.2.2.2.2.2.2.2.2.2.2.1 u.2.2.2.2.2.2.2.2.2.2.2.2.2.2.2.2.2.2.2.2.1 u.2.2.2.2.2.2.2.2.2.2.2.2.2.2.2.2.2.2.2.2.2.1 u.2.2.2.2.2.2.2.2.2.2.2.2.2.2.2.2.2.2.2.2.2.2.1 u.2.2.2.2.2.2.2.2.2.2.2.2.2.2.2.2.2.2.2.2.2.2.2.1 u.2.2.2.2.2.2.2.2.2.2.2.2.2.2.2.2.2.2.2.2.2.2.2.2.1 u.2.2.2.2.2.2.2.2.2.2.2.2.2.2.2.2.2.2.2.2.2.2.2.2.2.1 u.2.2.2.2.2.2.2.2.2.2.2.2.2.2.2.2.2.2.2.2.2.2.2.2.2.2
abbrev rq_l_en30 (post : Int32 → St1 → Prop) (x1 : Int32) (n : Nat) (x2 : Int32) (u : St1) : Prop := wX_ensure_30 post x1 n x2 u.1 u.2.1 u.2.2.1 u.2.2.2.1 u.2.2.2.2.1 u.2.2.2.2.2.1 u.2.2.2.2.2.2.1 u.2.2.2.2.2.2.2.1 u.2.2.2.2.2.2.2.2.1 u.2.2.2.2.2.2.2.2.2.1 u.2.2.2.2.2.2.2.2.2.2.1 u.2.2.2.2.2.2.2.2.2.2.2.1 u.2.2.2.2.2.2.2.2.2.2.2.2.1 u.2.2.2.2.2.2.2.2.2.2.2.2.2.1 u.2.2.2.2.2.2.2.2.2.2.2.2.2.2.1 u.2.2.2.2.2.2.2.2.2.2.2.2.2.2.2.1 u.2.2.2.2.2.2.2.2.2.2.2.2.2.2.2.2.1 u.2.2.2.2.2.2.2.2.2.2.2.2.2.2.2.2.2.1 u.2.2.2.2.2.2.2.2.2.2.2.2.2.2.2.2.2.2.1 u.2.2.2.2.2.2.2.2.2.2.2.2.2.2.2.2.2.2.2.1 u.2.2.2.2.2.2.2.2.2.2.2.2.2.2.2.2.2.2.2.2.1 u.2.2.2.2.2.2.2.2.2.2.2.2.2.2.2.2.2.2.2.2.2.1 u.2.2.2.2.2.2.2.2.2.2.2.2.2.2.2.2.2.2.2.2.2.2.1 u.2.2.2.2.2.2.2.2.2.2.2.2.2.2.2.2.2.2.2.2.2.2.2.1 u.2.2.2.2.2.2.2.2.2.2.2.2.2.2.2.2.2.2.2.2.2.2.2.2.1 u.2.2.2.2.2.2.2.2.2.2.2.2.2.2.2.2.2.2.2.2.2.2.2.2.2.1 u.2.2.2.2.2.2.2.2.2.2.2.2.2.2.2.2.2.2.2.2.2.2.2.2.2.2
abbrev rq_l_st81 (post : Int32 → St1 → Prop) (x1 x3 : Int32) (n : Nat) (x4 x5 : Int32) (u : St1) : Prop := wX_stirred_81 post x1 x3 n x4 x5 u.1 u.2.1 u.2.2.1 u.2.2.2.1 u.2.2.2.2.1 u.2.2.2.2.2.1 u.2.2.2.2.2.2.1 u.2.2.2.2.2.2.2.1 u.2.2.2.2.2.2.2.2.1 u.2.2.2.2.2.2.2.2.2.1 u.2.2.2.2.2.2.2.2.2.2.1 u.2.2.2.2.2.2.2.2.2.2.2.1 u.2.2.2.2.2.2.2.2.2.2.2.2.1 u.2.2.2.2.2.2.2.2.2.2.2.2.2.1 u.2.2.2.2.2.2.2.2.2.2.2.2.2.2.1 u.2.2.2.2.2.2.2.2.2.2.2.2.2.2.2.1 u.2.2.2.2.2.2.2.2.2.2.2.2.2.2.2.2.1 u.2.2.2.2.2.2.2.2.2.2.2.2.2.2.2.2.2.1 u.2.2.2.2.2.2.2.2.2.2.2.2.2.2.2.2.2.2.1 u.2.2.2.2.2.2.2.2.2.2.2.2.2.2.2.2.2.2.2.1 u.2.2.2.2.2.2.2.2.2.2.2.2.2.2.2.2.2.2.2.2.1 u.2.2.2.2.2.2.2.2.2.2.2.2.2.2.2.2.2.2.2.2.2.1 u.2.2.2.2.2.2.2.2.2.2.2.2.2.2.2.2.2.2.2.2.2.2.1 u.2.2.2.2.2.2.2.2.2.2.2.2.2.2.2.2.2.2.2.2.2.2.2.1 u.2.2.2.2.2.2.2.2.2.2.2.2.2.2.2.2.2.2.2.2.2.2.2.2.1 u.2.2.2.2.2.2.2.2.2.2.2.2.2.2.2.2.2.2.2.2.2.2.2.2.2.1 u.2.2.2.2.2.2.2.2.2.2.2.2.2.2.2.2.2.2.2.2.2.2.2.2.2.2
abbrev rq_l_st14 (post : Int32 → St1 → Prop) (x1 x2 : Int32) (n : Nat) (x3 : Int32) (u : St1) : Prop := wX_stirred_14 post x1 x2 n x3 u.1 u.2.1 u.2.2.1 u.2.2.2.1 u.2.2.2.2.1 u.2.2.2.2.2.1 u.2.2.2.2.2.2.1 u.2.2.2.2.2.2.2.1 u.2.2.2.2.2.2.2.2.1 u.2.2.2.2.2.2.2.2.2.1 u.2.2.2.2.2.2.2.2.2.2.1 u.2.2.2.2.2.2.2.2.2.2.2.1 u.2.2.2.2.2.2.2.2.2.2.2.2.1 u.2.2.2.2.2.2.2.2.2.2.2.2.2.1 u.2.2.2.2.2.2.2.2.2.2.2.2.2.2.1 u.2.2.2.2.2.2.2.2.2.2.2.2.2.2.2.1 u.2.2.2.2.2.2.2.2.2.2.2.2.2.2.2.2.1 u.2.2.2.2.2.2.2.2.2.2.2.2.2.2.2.2.2.1 u.2.2.2.2.2.2.2.2.2.2.2.2.2.2.2.2.2.2.1 u.2.2.2.2.2.2.2.2.2.2.2.2.2.2.2.2.2.2.2.1 u.2.2.2.2.2.2.2.2.2.2.2.2.2.2.2.2.2.2.2.2.1 u.2.2.2.2.2.2.2.2.2.2.2.2.2.2.2.2.2.2.2.2.2.1 u.2.2.2.2.2.2.2.2.2.2.2.2.2.2.2.2.2.2.2.2.2.2.1 u.2.2.2.2.2.2.2.2.2.2.2.2.2.2.2.2.2.2.2.2.2.2.2.1 u.2.2.2.2.2.2.2.2.2.2.2.2.2.2.2.2.2.2.2.2.2.2.2.2.1 u.2.2.2.2.2.2.2.2.2.2.2.2.2.2.2.2.2.2.2.2.2.2.2.2.2.1 u.2.2.2.2.2.2.2.2.2.2.2.2.2.2.2.2.2.2.2.2.2.2.2.2.2.2
abbrev rq_l_tot4 (post : Int32 → St1 → Prop) (n : Nat) (x1 x2 : Int32) (u : St1) : Prop := wX_total_4 post n x1 x2 u.1 u.2.1 u.2.2.1 u.2.2.2.1 u.2.2.2.2.1 u.2.2.2.2.2.1 u.2.2.2.2.2.2.1 u.2.2.2.2.2.2.2.1 u.2.2.2.2.2.2.2.2.1 u.2.2.2.2.2.2.2.2.2.1 u.2.2.2.2.2.2.2.2.2.2.1 u.2.2.2.2.2.2.2.2.2.2.2.1 u.2.2.2.2.2.2.2.2.2.2.2.2.1 u.2.2.2.2.2.2.2.2.2.2.2.2.2.1 u.2.2.2.2.2.2.2.2.2.2.2.2.2.2.1 u.2.2.2.2.2.2.2.2.2.2.2.2.2.2.2.1 u.2.2.2.2.2.2.2.2.2.2.2.2.2.2.2.2.1 u.2.2.2.2.2.2.2.2.2.2.2.2.2.2.2.2.2.1 u.2.2.2.2.2.2.2.2.2.2.2.2.2.2.2.2.2.2.1 u.2.2.2.2.2.2.2.2.2.2.2.2.2.2.2.2.2.2.2.1 u.2.2.2.2.2.2.2.2.2.2.2.2.2.2.2.2.2.2.2.2.1 u.2.2.2.2.2.2.2.2.2.2.2.2.2.2.2.2.2.2.2.2.2.1 u.2.2.2.2.2.2.2.2.2.2.2.2.2.2.2.2.2.2.2.2.2.2.1 u.2.2.2.2.2.2.2.2.2.2.2.2.2.2.2.2.2.2.2.2.2.2.2.1 u.2.2.2.2.2.2.2.2.2.2.2.2.2.2.2.2.2.2.2.2.2.2.2.2.1 u.2.2.2.2.2.2.2.2.2.2.2.2.2.2.2.2.2.2.2.2.2.2.2.2.2.1 u.2.2.2.2.2.2.2.2.2.2.2.2.2.2.2.2.2.2.2.2.2.2.2.2.2.2
abbrev rq_l_circ4 (post : Int32 → St1 → Prop) (n : Nat) (x1 x2 : Int32) (u : St1) : Prop := wX_circulars_4 post n x1 x2 u.1 u.2.1 u.2.2.1 u.2.2.2.1 u.2.2.2.2.1 u.2.2.2.2.2.1 u.2.2.2.2.2.2.1 u.2.2.2.2.2.2.2.1 u.2.2.2.2.2.2.2.2.1 u.2.2.2.2.2.2.2.2.2.1 u.2.2.2.2.2.2.2.2.2.2.1 u.2.2.2.2.2.2.2.2.2.2.2.1 u.2.2.2.2.2.2.2.2.2.2.2.2.1 u.2.2.2.2.2.2.2.2.2.2.2.2.2.1 u.2.2.2.2.2.2.2.2.2.2.2.2.2.2.1 u.2.2.2.2.2.2.2.2.2.2.2.2.2.2.2.1 u.2.2.2.2.2.2.2.2.2.2.2.2.2.2.2.2.1 u.2.2.2.2.2.2.2.2.2.2.2.2.2.2.2.2.2.1 u.2.2.2.2.2.2.2.2.2.2.2.2.2.2.2.2.2.2.1 u.2.2.2.2.2.2.2.2.2.2.2.2.2.2.2.2.2.2.2.1 u.2.2.2.2.2.2.2.2.2.2.2.2.2.2.2.2.2.2.2.2.1 u.2.2.2.2.2.2.2.2.2.2.2.2.2.2.2.2.2.2.2.2.2.1 u.2.2.2.2.2.2.2.2.2.2.2.2.2.2.2.2.2.2.2.2.2.2.1 u.2.2.2.2.2.2.2.2.2.2.2.2.2.2.2.2.2.2.2.2.2.2.2.1 u.2.2.2.2.2.2.2.2.2.2.2.2.2.2.2.2.2.2.2.2.2.2.2.2.1 u.2.2.2.2.2.2.2.2.2.2.2.2.2.2.2.2.2.2.2.2.2.2.2.2.2.1 u.2.2.2.2.2.2.2.2.2.2.2.2.2.2.2.2.2.2.2.2.2.2.2.2.2.2
abbrev rq_l_dn4 (post : Int32 → Prop) (x1 : Int32) (u : St1) (n : Nat) (x2 x3 : Int32) : Prop := wX_directNeeds_4 post x1 u.1 u.2.1 u.2.2.1 u.2.2.2.1 u.2.2.2.2.1 u.2.2.2.2.2.1 u.2.2.2.2.2.2.1 u.2.2.2.2.2.2.2.1 u.2.2.2.2.2.2.2.2.1 u.2.2.2.2.2.2.2.2.2.1 u.2.2.2.2.2.2.2.2.2.2.1 u.2.2.2.2.2.2.2.2.2.2.2.1 u.2.2.2.2.2.2.2.2.2.2.2.2.1 u.2.2.2.2.2.2.2.2.2.2.2.2.2.1 u.2.2.2.2.2.2.2.2.2.2.2.2.2.2.1 u.2.2.2.2.2.2.2.2.2.2.2.2.2.2.2.1 u.2.2.2.2.2.2.2.2.2.2.2.2.2.2.2.2.1 u.2.2.2.2.2.2.2.2.2.2.2.2.2.2.2.2.2.1 u.2.2.2.2.2.2.2.2.2.2.2.2.2.2.2.2.2.2.1 u.2.2.2.2.2.2.2.2.2.2.2.2.2.2.2.2.2.2.2.1 u.2.2.2.2.2.2.2.2.2.2.2.2.2.2.2.2.2.2.2.2.1 u.2.2.2.2.2.2.2.2.2.2.2.2.2.2.2.2.2.2.2.2.2.1 u.2.2.2.2.2.2.2.2.2.2.2.2.2.2.2.2.2.2.2.2.2.2.1 u.2.2.2.2.2.2.2.2.2.2.2.2.2.2.2.2.2.2.2.2.2.2.2.1 u.2.2.2.2.2.2.2.2.2.2.2.2.2.2.2.2.2.2.2.2.2.2.2.2.1 u.2.2.2.2.2.2.2.2.2.2.2.2.2.2.2.2.2.2.2.2.2.2.2.2.2.1 u.2.2.2.2.2.2.2.2.2.2.2.2.2.2.2.2.2.2.2.2.2.2.2.2.2.2 n x2 x3
abbrev rq_l_nd42 (post : Int32 → St1 → Prop) (J : Int32 → Int32 → Prop) (x4 : Int32) (u : St1) (n : Nat) (x3 x5 : Int32) : Prop := wX_needs_42 post J x4 u.1 u.2.1 u.2.2.1 u.2.2.2.1 u.2.2.2.2.1 u.2.2.2.2.2.1 u.2.2.2.2.2.2.1 u.2.2.2.2.2.2.2.1 u.2.2.2.2.2.2.2.2.1 u.2.2.2.2.2.2.2.2.2.1 u.2.2.2.2.2.2.2.2.2.2.1 u.2.2.2.2.2.2.2.2.2.2.2.1 u.2.2.2.2.2.2.2.2.2.2.2.2.1 u.2.2.2.2.2.2.2.2.2.2.2.2.2.1 u.2.2.2.2.2.2.2.2.2.2.2.2.2.2.1 u.2.2.2.2.2.2.2.2.2.2.2.2.2.2.2.1 u.2.2.2.2.2.2.2.2.2.2.2.2.2.2.2.2.1 u.2.2.2.2.2.2.2.2.2.2.2.2.2.2.2.2.2.1 u.2.2.2.2.2.2.2.2.2.2.2.2.2.2.2.2.2.2.1 u.2.2.2.2.2.2.2.2.2.2.2.2.2.2.2.2.2.2.2.1 u.2.2.2.2.2.2.2.2.2.2.2.2.2.2.2.2.2.2.2.2.1 u.2.2.2.2.2.2.2.2.2.2.2.2.2.2.2.2.2.2.2.2.2.1 u.2.2.2.2.2.2.2.2.2.2.2.2.2.2.2.2.2.2.2.2.2.2.1 u.2.2.2.2.2.2.2.2.2.2.2.2.2.2.2.2.2.2.2.2.2.2.2.1 u.2.2.2.2.2.2.2.2.2.2.2.2.2.2.2.2.2.2.2.2.2.2.2.2.1 u.2.2.2.2.2.2.2.2.2.2.2.2.2.2.2.2.2.2.2.2.2.2.2.2.2.1 u.2.2.2.2.2.2.2.2.2.2.2.2.2.2.2.2.2.2.2.2.2.2.2.2.2.2 n x3 x5
abbrev rq_l_nd32 (post : Int32 → St1 → Prop) (u : St1) (n : Nat) (x3 x4 : Int32) : Prop := wX_needs_32 post u.1 u.2.1 u.2.2.1 u.2.2.2.1 u.2.2.2.2.1 u.2.2.2.2.2.1 u.2.2.2.2.2.2.1 u.2.2.2.2.2.2.2.1 u.2.2.2.2.2.2.2.2.1 u.2.2.2.2.2.2.2.2.2.1 u.2.2.2.2.2.2.2.2.2.2.1 u.2.2.2.2.2.2.2.2.2.2.2.1 u.2.2.2.2.2.2.2.2.2.2.2.2.1 u.2.2.2.2.2.2.2.2.2.2.2.2.2.1 u.2.2.2.2.2.2.2.2.2.2.2.2.2.2.1 u.2.2.2.2.2.2.2.2.2.2.2.2.2.2.2.1 u.2.2.2.2.2.2.2.2.2.2.2.2.2.2.2.2.1 u.2.2.2.2.2.2.2.2.2.2.2.2.2.2.2.2.2.1 u.2.2.2.2.2.2.2.2.2.2.2.2.2.2.2.2.2.2.1 u.2.2.2.2.2.2.2.2.2.2.2.2.2.2.2.2.2.2.2.1 u.2.2.2.2.2.2.2.2.2.2.2.2.2.2.2.2.2.2.2.2.1 u.2.2.2.2.2.2.2.2.2.2.2.2.2.2.2.2.2.2.2.2.2.1 u.2.2.2.2.2.2.2.2.2.2.2.2.2.2.2.2.2.2.2.2.2.2.1 u.2.2.2.2.2.2.2.2.2.2.2.2.2.2.2.2.2.2.2.2.2.2.2.1 u.2.2.2.2.2.2.2.2.2.2.2.2.2.2.2.2.2.2.2.2.2.2.2.2.1 u.2.2.2.2.2.2.2.2.2.2.2.2.2.2.2.2.2.2.2.2.2.2.2.2.2.1 u.2.2.2.2.2.2.2.2.2.2.2.2.2.2.2.2.2.2.2.2.2.2.2.2.2.2 n x3 x4
abbrev rq_l_fin31 (post : Int32 → St1 → Prop) (x1 x2 : Int32) (n : Nat) (x3 : Int32) (u : St1) : Prop := wX_finish_31 post x1 x2 u.1 u.2.1 u.2.2.1 u.2.2.2.1 u.2.2.2.2.1 u.2.2.2.2.2.1 n x3 u.2.2.2.2.2.2.1 u.2.2.2.2.2.2.2.1 u.2.2.2.2.2.2.2.2.1 u.2.2.2.2.2.2.2.2.2.1 u.2.2.2.2.2.2.2.2.2.2.1 u.2.2.2.2.2.2.2.2.2.2.2.1 u.2.2.2.2.2.2.2.2.2.2.2.2.1 u.2.2.2.2.2.2.2.2.2.2.2.2.2.1 u.2.2.2.2.2.2.2.2.2.2.2.2.2.2.1 u.2.2.2.2.2.2.2.2.2.2.2.2.2.2.2.1 u.2.2.2.2.2.2.2.2.2.2.2.2.2.2.2.2.1 u.2.2.2.2.2.2.2.2.2.2.2.2.2.2.2.2.2.1 u.2.2.2.2.2.2.2.2.2.2.2.2.2.2.2.2.2.2.1 u.2.2.2.2.2.2.2.2.2.2.2.2.2.2.2.2.2.2.2.1 u.2.2.2.2.2.2.2.2.2.2.2.2.2.2.2.2.2.2.2.2.1 u.2.2.2.2.2.2.2.2.2.2.2.2.2.2.2.2.2.2.2.2.2.1 u.2.2.2.2.2.2.2.2.2.2.2.2.2.2.2.2.2.2.2.2.2.2.1 u.2.2.2.2.2.2.2.2.2.2.2.2.2.2.2.2.2.2.2.2.2.2.2.1 u.2.2.2.2.2.2.2.2.2.2.2.2.2.2.2.2.2.2.2.2.2.2.2.2.1 u.2.2.2.2.2.2.2.2.2.2.2.2.2.2.2.2.2.2.2.2.2.2.2.2.2.1 u.2.2.2.2.2.2.2.2.2.2.2.2.2.2.2.2.2.2.2.2.2.2.2.2.2.2
abbrev rq_l_ini (post : St1 → Prop) (mc ms kc ks n : Nat) (x1 : Int32) (u : St1) : Prop := wX_init_179 post mc ms kc ks u.1 u.2.1 u.2.2.1 u.2.2.2.1 u.2.2.2.2.1 u.2.2.2.2.2.1 n x1 u.2.2.2.2.2.2.1 u.2.2.2.2.2.2.2.1 u.2.2.2.2.2.2.2.2.1 u.2.2.2.2.2.2.2.2.2.1 u.2.2.2.2.2.2.2.2.2.2.1 u.2.2.2.2.2.2.2.2.2.2.2.1 u.2.2.2.2.2.2.2.2.2.2.2.2.1 u.2.2.2.2.2.2.2.2.2.2.2.2.2.1 u.2.2.2.2.2.2.2.2.2.2.2.2.2.2.1 u.2.2.2.2.2.2.2.2.2.2.2.2.2.2.2.1 u.2.2.2.2.2.2.2.2.2.2.2.2.2.2.2.2.1 u.2.2.2.2.2.2.2.2.2.2.2.2.2.2.2.2.2.1 u.2.2.2.2.2.2.2.2.2.2.2.2.2.2.2.2.2.2.1 u.2.2.2.2.2.2.2.2.2.2.2.2.2.2.2.2.2.2.2.1 u.2.2.2.2.2.2.2.2.2.2.2.2.2.2.2.2.2.2.2.2.1 u.2.2.2.2.2.2.2.2.2.2.2.2.2.2.2.2.2.2.2.2.2.1 u.2.2.2.2.2.2.2.2.2.2.2.2.2.2.2.2.2.2.2.2.2.2.1 u.2.2.2.2.2.2.2.2.2.2.2.2.2.2.2.2.2.2.2.2.2.2.2.1 u.2.2.2.2.2.2.2.2.2.2.2.2.2.2.2.2.2.2.2.2.2.2.2.2.1 u.2.2.2.2.2.2.2.2.2.2.2.2.2.2.2.2.2.2.2.2.2.2.2.2.2.1 u.2.2.2.2.2.2.2.2.2.2.2.2.2.2.2.2.2.2.2.2.2.2.2.2.2.2
end
section
/-! reading and writing the places -/
theorem rq_gN {f : Nat → Nat} {x : Int32} (k : Nat) (hx : x = nI k := by rfl) (hk : k < 2 ^ 31 := by omega) : rq_nA f x.toNatClampNeg = nI (f k) := by
  rw [pk_cl k hx hk]
  rfl
theorem rq_gB {f : Nat → Bool} {x : Int32} (k : Nat) (hx : x = nI k := by rfl) (hk : k < 2 ^ 31 := by omega) : rq_bA f x.toNatClampNeg = rq_bI (f k) := by
  rw [pk_cl k hx hk]
  rfl
theorem rq_gI {f : Nat → Int32} {x : Int32} (k : Nat) (hx : x = nI k := by rfl) (hk : k < 2 ^ 31 := by omega) : f x.toNatClampNeg = f k := by
  rw [pk_cl k hx hk]
theorem rq_sN {f : Nat → Nat} {x y : Int32} (k v : Nat) (hx : x = nI k := by rfl) (hy : y = nI v := by rfl) (hk : k < 2 ^ 31 := by omega) : upd (rq_nA f) x.toNatClampNeg y = rq_nA (rq_up f k v) := by
  rw [pk_cl k hx hk, hy]
  funext j
  show (if j = k then nI v else nI (f j)) = nI (if j = k then v else f j)
  split
  · rfl
  · rfl
theorem rq_sB {f : Nat → Bool} {x y : Int32} (k : Nat) (v : Bool) (hx : x = nI k := by rfl) (hy : y = rq_bI v := by rfl) (hk : k < 2 ^ 31 := by omega) : upd (rq_bA f) x.toNatClampNeg y = rq_bA (rq_up f k v) := by
  rw [pk_cl k hx hk, hy]
  funext j
  show (if j = k then rq_bI v else rq_bI (f j)) = rq_bI (if j = k then v else f j)
  split
  · rfl
  · rfl
theorem rq_sI {f : Nat → Int32} {x y : Int32} (k : Nat) (hx : x = nI k := by rfl) (hk : k < 2 ^ 31 := by omega) : upd f x.toNatClampNeg y = rq_up f k y := by
  rw [pk_cl k hx hk]
  rfl
theorem rq_bT {x : Int32} {A B : Prop} (b : Bool) (f : b = false → A) (g : b = true → B) (hx : x = rq_bI b := by rfl) : (x = 0 → A) ∧ (¬ x = 0 → B) := by
  subst hx
  cases b with
  | true => exact ⟨fun z => absurd z (by decide), fun _ => g rfl⟩
  | false => exact ⟨fun _ => f rfl, fun z => absurd rfl z⟩
theorem rq_ix (q i : Nat) : nI q * 10 + nI i = nI (q * 10 + i) := by
  rw [show (10 : Int32) = nI 10 from rfl, pk_mul, nI_add]
theorem rq_nar (b : Bool) : vp_nar .boolean (rq_bI b) = rq_bI b := by
  cases b <;> rfl
theorem rq_narw (b : Bool) : narrow .boolean (.int (rq_bI b)) = .int (rq_bI b) := by
  cases b <;> rfl
/-! one lemma a method: each outcome a hypothesis -/
def rq_fr (m : rq_M) (q : Nat) : Bool := rq_kno m q && (!rq_sta m q && decide (rq_vat m q = rq_rev m))
theorem rq_x_fresh {post : Int32 → Prop} {m : rq_M} {x : Int32} (q : Nat) (hq : q < 8) (hR : rq_rev m < 2 ^ 20) (hv : rq_vat m q ≤ rq_rev m)
    (h0 : rq_fr m q = false → post 0) (h1 : rq_fr m q = true → post 1) (hx : x = nI q := by rfl) : wpX_fresh post (rq_cm m) x := by
  subst hx
  refine And.intro (pk_in q 8 hq) (rq_bT (rq_kno m q) (fun e1 => h0 ?_) (fun e1 => ⟨pk_in q 8 hq, rq_bT (rq_sta m q) (fun e2 => ⟨pk_in q 8 hq, pk_eq (rq_vat m q) (rq_rev m) (fun e3 => h1 ?_) (fun e3 => h0 ?_) (rq_gN q)⟩) (fun e2 => h0 ?_) (rq_gB q)⟩) (rq_gB q))
  · unfold rq_fr
    rw [e1]
    rfl
  · unfold rq_fr
    rw [e1, e2, e3]
    simp
  · unfold rq_fr
    rw [e1, e2]
    simp [e3]
  · unfold rq_fr
    rw [e1, e2]
    rfl
theorem rq_fr_t {m : rq_M} {q : Nat} (h : rq_fr m q = true) : rq_kno m q = true ∧ rq_sta m q = false ∧ rq_vat m q = rq_rev m := by
  unfold rq_fr at h
  cases h1 : rq_kno m q with
  | false =>
    rw [h1] at h
    cases h
  | true =>
    cases h2 : rq_sta m q with
    | true =>
      rw [h1, h2] at h
      cases h
    | false =>
      rw [h1, h2] at h
      exact ⟨rfl, rfl, of_decide_eq_true h⟩
theorem rq_fr_mk {m : rq_M} {q : Nat} (h1 : rq_kno m q = true) (h2 : rq_sta m q = false) (h3 : rq_vat m q = rq_rev m) : rq_fr m q = true := by
  unfold rq_fr
  rw [h1, h2, h3]
  simp
theorem rq_x_startW {post : St1 → Prop} {m : rq_M} {x : Int32} (f : Nat) (hf : f < 8) (hq : rq_fqu m f < 8) (h : post (rq_cm (rq_startW m f))) (hx : x = nI f := by rfl) :
    wpX_startWork post (rq_cm m) x := by
  subst hx
  exact And.intro (pk_in f 8 hf) (nm_r (rq_gN f) ⟨pk_in f 8 hf, nm_r (rq_sB f true) ⟨pk_in f 8 hf, nm_r (rq_sN f 0) ⟨pk_in _ 8 hq, nm_r (rq_sB (rq_fqu m f) true) ⟨pk_in _ 8 hq, nm_r (rq_sN (rq_fqu m f) 0) h⟩⟩⟩⟩)
def rq_wt (fqu : Nat → Nat) (k : Nat) : Nat → Bool
  | 0 => false
  | i + 1 => rq_wt fqu k i || decide (fqu i = k)
theorem rq_wt_t {fqu : Nat → Nat} {k : Nat} : ∀ {n : Nat}, rq_wt fqu k n = true → ∃ i, i < n ∧ fqu i = k := by
  intro n
  induction n with
  | zero =>
    intro h
    cases h
  | succ n ih =>
    intro h
    rcases Bool.or_eq_true_iff.mp h with z | z
    · obtain ⟨i, hi, e⟩ := ih z
      exact ⟨i, by omega, e⟩
    · exact ⟨n, by omega, of_decide_eq_true z⟩
theorem rq_wt_f {fqu : Nat → Nat} {k : Nat} : ∀ {n : Nat}, rq_wt fqu k n = false → ∀ i, i < n → fqu i ≠ k := by
  intro n
  induction n with
  | zero =>
    intro _ i hi
    omega
  | succ n ih =>
    intro h i hi
    obtain ⟨z1, z2⟩ := Bool.or_eq_false_iff.mp h
    by_cases e : i = n
    · rw [e]
      exact of_decide_eq_false z2
    · exact ih z1 i (by omega)
theorem rq_x_req166 {post : St1 → Prop} {m : rq_M} {x : Int32} (f : Nat) (hf : f < 8) (hq : rq_fqu m f < 8) (h : post (rq_cm (rq_startW m f))) (hx : x = nI f := by rfl) :
    rq_l_req166 post x (rq_cm m) :=
  rq_x_startW (m := m) f hf hq h hx
theorem rq_x_req112 {post : St1 → Prop} {m : rq_M} (k : Nat) (hk : k < 8) (hn : rq_frm m < 8)
    (hC : rq_kno m k = true → rq_sta m k = false → post (rq_cm (rq_pushF m k)))
    (hW : ¬ (rq_kno m k = true ∧ rq_sta m k = false) → post (rq_cm (rq_startW (rq_pushF m k) (rq_frm m)))) :
    rq_l_req112 post (nI k) (rq_cm m) := by
  have eq : rq_fqu (rq_pushF m k) (rq_frm m) < 8 := by
    show rq_up (rq_fqu m) (rq_frm m) k (rq_frm m) < 8
    rw [rq_up_s]
    exact hk
  have w : ¬ (rq_kno m k = true ∧ rq_sta m k = false) → rq_l_req166 post (nI (rq_frm m)) (rq_cm (rq_pushF m k)) := fun z => rq_x_req166 (m := rq_pushF m k) (rq_frm m) hn eq (hW z)
  refine nm_r (nI_1 _) (And.intro (pk_in _ 8 hn) (nm_r (rq_sN (rq_frm m) k) ⟨pk_in _ 8 hn, nm_r (rq_sB (rq_frm m) false) ⟨pk_in _ 8 hn, nm_r (rq_sN (rq_frm m) 0) ⟨pk_in k 8 hk, ?_⟩⟩⟩))
  exact rq_bT (rq_kno m k) (fun e1 => w (fun z => by rw [e1] at z; cases z.1)) (fun e1 => ⟨pk_in k 8 hk, rq_bT (rq_sta m k) (fun e2 => hC e1 e2) (fun e2 => w (fun z => by rw [e2] at z; cases z.2)) (rq_gB k)⟩) (rq_gB k)
theorem rq_x_request {post : St1 → Prop} {m : rq_M} {x : Int32} (k : Nat) (hk : k < 8) (hn8 : rq_frm m ≤ 8) (hq : ∀ i, i < rq_frm m → rq_fqu m i < 8)
    (hR : rq_rev m < 2 ^ 20) (hcir : rq_cir m k ≤ rq_rev m) (hvat : rq_vat m k ≤ rq_rev m) (hsch : rq_sch m ≤ rq_rev m)
    (hn : rq_wt (rq_fqu m) k (rq_frm m) = false → rq_frm m < 8)
    (hF : (rq_wt (rq_fqu m) k (rq_frm m) = true ∨ rq_cir m k = rq_rev m) → post (rq_cm (rq_w_fai m true)))
    (hS : rq_wt (rq_fqu m) k (rq_frm m) = false → rq_kno m k = true → rq_sta m k = false → rq_std m k = true → rq_sch m ≤ rq_vat m k → post (rq_cm (rq_w_vat m (rq_up (rq_vat m) k (rq_rev m)))))
    (hC : rq_wt (rq_fqu m) k (rq_frm m) = false → rq_kno m k = true → rq_sta m k = false → ¬ (rq_std m k = true ∧ rq_sch m ≤ rq_vat m k) → post (rq_cm (rq_pushF m k)))
    (hW : rq_wt (rq_fqu m) k (rq_frm m) = false → ¬ (rq_kno m k = true ∧ rq_sta m k = false) → post (rq_cm (rq_startW (rq_pushF m k) (rq_frm m))))
    (hx : x = nI k := by rfl) : wpX_request post (rq_cm m) x := by
  subst hx
  have h := pk_loop (σ := Unit) (fun n i _ => rq_l_req4 post (nI k) (rq_cm m) n (rq_bI (rq_wt (rq_fqu m) k i)) (nI i)) (fun _ _ => True) (rq_frm m) 0 () (by omega) trivial ?_ ?_
  · exact h
  · intro n _ _
    refine pk_le (rq_frm m) (rq_frm m) (fun _ => ?_) (fun z => absurd z (by omega))
    refine rq_bT (rq_wt (rq_fqu m) k (rq_frm m)) (fun w => ?_) (fun w => hF (Or.inl w))
    have r1 : ¬ (rq_kno m k = true ∧ rq_sta m k = false ∧ rq_std m k = true ∧ rq_sch m ≤ rq_vat m k) → rq_l_req112 post (nI k) (rq_cm m) := fun z =>
      rq_x_req112 k hk (hn w) (fun a1 a2 => hC w a1 a2 (fun b => z ⟨a1, a2, b⟩)) (hW w)
    refine ⟨pk_in k 8 hk, pk_eq (rq_cir m k) (rq_rev m) (fun e => hF (Or.inr e)) (fun _ => ⟨pk_in k 8 hk, ?_⟩) (rq_gN k)⟩
    refine rq_bT (rq_kno m k) (fun e1 => r1 (fun z => by rw [e1] at z; cases z.1)) (fun e1 => ⟨pk_in k 8 hk, ?_⟩) (rq_gB k)
    refine rq_bT (rq_sta m k) (fun e2 => ⟨pk_in k 8 hk, ?_⟩) (fun e2 => r1 (fun z => by rw [e2] at z; cases z.2.1)) (rq_gB k)
    refine rq_bT (rq_std m k) (fun e3 => r1 (fun z => by rw [e3] at z; cases z.2.2.1)) (fun e3 => ⟨pk_in k 8 hk, ?_⟩) (rq_gB k)
    exact pk_lt (rq_vat m k) (rq_sch m) (fun e4 => r1 (fun z => by omega)) (fun e4 => ⟨pk_in k 8 hk, nm_r (rq_sN k (rq_rev m)) (hS w e1 e2 e3 e4)⟩) (rq_gN k)
  · intro n i _ hi _ hw
    have t : rq_wt (rq_fqu m) k (i + 1) = true → rq_l_req4 post (nI k) (rq_cm m) n 1 (nI (i + 1)) := by
      intro e
      have z : rq_l_req4 post (nI k) (rq_cm m) n (rq_bI (rq_wt (rq_fqu m) k (i + 1))) (nI (i + 1)) := hw () trivial
      rw [e] at z
      exact z
    have f : rq_wt (rq_fqu m) k (i + 1) = false → rq_l_req4 post (nI k) (rq_cm m) n 0 (nI (i + 1)) := by
      intro e
      have z : rq_l_req4 post (nI k) (rq_cm m) n (rq_bI (rq_wt (rq_fqu m) k (i + 1))) (nI (i + 1)) := hw () trivial
      rw [e] at z
      exact z
    have hqi := hq i hi
    refine pk_le (rq_frm m) i (fun z => absurd z (by omega)) (fun _ => ?_)
    refine rq_bT (rq_wt (rq_fqu m) k i) (fun w => ⟨pk_in i 8 (by omega), ?_⟩) (fun w => nm_r (nI_1 i) (t (Bool.or_eq_true_iff.mpr (Or.inl w))))
    exact pk_eq (rq_fqu m i) k (fun e => nm_r (nI_1 i) (t (Bool.or_eq_true_iff.mpr (Or.inr (decide_eq_true e))))) (fun e => nm_r (nI_1 i) (f (Bool.or_eq_false_iff.mpr ⟨w, decide_eq_false e⟩))) (rq_gN i)
theorem rq_as_t {std : Nat → Bool} {f : Nat → Nat} : ∀ {n : Nat}, rq_as std f n = true → (∀ d, d ∈ rq_tl f n → d < 6 → 3 ≤ d) ∧ ∀ k, 6 + k ∈ rq_tl f n → std k = true := by
  intro n
  induction n with
  | zero =>
    intro _
    exact ⟨fun d hd => absurd hd List.not_mem_nil, fun k hk => absurd hk List.not_mem_nil⟩
  | succ n ih =>
    intro h
    obtain ⟨z1, z2⟩ := Bool.and_eq_true_iff.mp h
    obtain ⟨i1, i2⟩ := ih z1
    refine ⟨fun d hd h6 => ?_, fun k hk => ?_⟩
    · rcases List.mem_append.mp hd with y | y
      · exact i1 d y h6
      · have e : d = f n := List.mem_singleton.mp y
        rw [e] at h6
        rw [if_pos h6] at z2
        rw [e]
        exact of_decide_eq_true z2
    · rcases List.mem_append.mp hk with y | y
      · exact i2 k y
      · have e : 6 + k = f n := List.mem_singleton.mp y
        rw [if_neg (by omega), ← e, show 6 + k - 6 = k by omega] at z2
        exact z2
theorem rq_x_as {post : Int32 → Prop} {m : rq_M} {x : Int32} (q : Nat) (hq : q < 8) (hc : rq_nct m q ≤ 10) (hd : ∀ i, i < rq_nct m q → rq_ned m (q * 10 + i) < 14)
    (h : post (rq_bI (rq_as (rq_std m) (fun i => rq_ned m (q * 10 + i)) (rq_nct m q)))) (hx : x = nI q := by rfl) : wpX_allSteady post (rq_cm m) x := by
  subst hx
  have h := pk_loop (σ := Unit) (fun n i _ => rq_l_as4 post (nI q) (rq_cm m) n (rq_bI (rq_as (rq_std m) (fun i => rq_ned m (q * 10 + i)) i)) (nI i)) (fun _ _ => True) (rq_nct m q) 0 () (by omega) trivial ?_ ?_
  · exact h
  · intro n _ _
    exact And.intro (pk_in q 8 hq) (pk_le (rq_nct m q) (rq_nct m q) (fun _ => ⟨rq_narw _, h⟩) (fun z => absurd z (by omega)) (rq_gN q))
  · intro n i _ hi _ hw
    have t : rq_as (rq_std m) (fun i => rq_ned m (q * 10 + i)) (i + 1) = true → rq_l_as4 post (nI q) (rq_cm m) n 1 (nI (i + 1)) := by
      intro e
      have z : rq_l_as4 post (nI q) (rq_cm m) n (rq_bI (rq_as (rq_std m) (fun i => rq_ned m (q * 10 + i)) (i + 1))) (nI (i + 1)) := hw () trivial
      rw [e] at z
      exact z
    have f : rq_as (rq_std m) (fun i => rq_ned m (q * 10 + i)) (i + 1) = false → rq_l_as4 post (nI q) (rq_cm m) n 0 (nI (i + 1)) := by
      intro e
      have z : rq_l_as4 post (nI q) (rq_cm m) n (rq_bI (rq_as (rq_std m) (fun i => rq_ned m (q * 10 + i)) (i + 1))) (nI (i + 1)) := hw () trivial
      rw [e] at z
      exact z
    have hdi := hd i hi
    refine And.intro (pk_in q 8 hq) (pk_le (rq_nct m q) i (fun z => absurd z (by omega)) (fun _ => ⟨pk_in (q * 10 + i) 80 (by omega) (rq_ix q i), nm_r (rq_gN (q * 10 + i) (rq_ix q i)) ?_⟩) (rq_gN q))
    refine rq_bT (rq_as (rq_std m) (fun i => rq_ned m (q * 10 + i)) i) (fun w => nm_r (nI_1 i) (f (Bool.and_eq_false_iff.mpr (Or.inl w)))) (fun w => ?_)
    refine pk_le 6 (rq_ned m (q * 10 + i)) (fun h6 => ⟨pk_in (rq_ned m (q * 10 + i) - 6) 8 (by omega) (pk_sub h6), ?_⟩) (fun h6 => ?_)
    · refine rq_bT (rq_std m (rq_ned m (q * 10 + i) - 6)) (fun e => nm_r (nI_1 i) (f ?_)) (fun e => nm_r (nI_1 i) (t ?_)) (rq_gB (rq_ned m (q * 10 + i) - 6) (pk_sub h6))
      · refine Bool.and_eq_false_iff.mpr (Or.inr ?_)
        rw [if_neg (show ¬ rq_ned m (q * 10 + i) < 6 by omega)]
        exact e
      · refine Bool.and_eq_true_iff.mpr ⟨w, ?_⟩
        rw [if_neg (show ¬ rq_ned m (q * 10 + i) < 6 by omega)]
        exact e
    · refine pk_lt (rq_ned m (q * 10 + i)) 3 (fun e => nm_r (nI_1 i) (f ?_)) (fun e => nm_r (nI_1 i) (t ?_))
      · refine Bool.and_eq_false_iff.mpr (Or.inr ?_)
        rw [if_pos h6]
        exact decide_eq_false (show ¬ 3 ≤ rq_ned m (q * 10 + i) by omega)
      · refine Bool.and_eq_true_iff.mpr ⟨w, ?_⟩
        rw [if_pos h6]
        exact decide_eq_true e
end
section
/-! checking and working: one lemma a method -/
theorem rq_inc {f : Nat → Nat} (k : Nat) (hk : k < 2 ^ 31) : rq_nA f (nI k).toNatClampNeg + 1 = nI (f k + 1) := by
  rw [rq_gN k rfl hk, nI_1]
theorem rq_x_chk126 {post : St1 → Prop} {m : rq_M} (f q c : Nat) (hf : f < 8) (hq : q < 8) (hfq : rq_fqu m f = q) (hR : rq_rev m < 2 ^ 20) (hc : c ≤ rq_rev m) (hv : rq_vat m q ≤ rq_rev m)
    (hA : c ≤ rq_vat m q → post (rq_cm (rq_adv m f))) (hW : rq_vat m q < c → post (rq_cm (rq_startW m f))) :
    rq_l_chk126 post (nI f) (nI q) (nI c) (rq_cm m) :=
  And.intro (pk_in q 8 hq) (pk_le c (rq_vat m q) (fun z => ⟨pk_in f 8 hf, pk_in f 8 hf, nm_r (rq_sN f (rq_fps m f + 1) rfl (rq_inc f (by omega))) (hA z)⟩) (fun z => rq_x_startW (m := m) f hf (by rw [hfq]; exact hq) (hW z)) rfl (rq_gN q))
theorem rq_x_check {post : St1 → Prop} {m : rq_M} (f q : Nat) (hf : f < 8) (hq : q < 8) (hfq : rq_fqu m f = q) (hps : rq_fps m f ≤ rq_nct m q) (hnc : rq_nct m q ≤ 10)
    (hned : ∀ i, i < rq_nct m q → rq_ned m (q * 10 + i) < 14) (hR : rq_rev m < 2 ^ 20) (hvat : ∀ p, p < 8 → rq_vat m p ≤ rq_rev m) (hcat : ∀ p, p < 8 → rq_cat m p ≤ rq_rev m)
    (hgat : ∀ d, d < 6 → rq_gat m d ≤ rq_rev m) (hn : 1 ≤ rq_frm m)
    (hD : rq_fps m f = rq_nct m q → post (rq_cm (rq_doneC m q)))
    (hI : ∀ d, rq_fps m f < rq_nct m q → rq_ned m (q * 10 + rq_fps m f) = d → d < 6 → (rq_gat m d ≤ rq_vat m q → post (rq_cm (rq_adv m f))) ∧ (rq_vat m q < rq_gat m d → post (rq_cm (rq_startW m f))))
    (hQ : ∀ k, rq_fps m f < rq_nct m q → rq_ned m (q * 10 + rq_fps m f) = 6 + k → k < 8 → rq_fr m k = true → (rq_cat m k ≤ rq_vat m q → post (rq_cm (rq_adv m f))) ∧ (rq_vat m q < rq_cat m k → post (rq_cm (rq_startW m f))))
    (hRq : ∀ k, rq_fps m f < rq_nct m q → rq_ned m (q * 10 + rq_fps m f) = 6 + k → k < 8 → rq_fr m k = false → wpX_request post (rq_cm m) (nI k)) :
    wpX_checkStep post (rq_cm m) (nI f) := by
  have eix : nI q * 10 + rq_nA (rq_fps m) (nI f).toNatClampNeg = nI (q * 10 + rq_fps m f) := by
    rw [rq_gN f, rq_ix]
  refine And.intro (pk_in f 8 hf) (nm_r ((rq_gN f).trans (congrArg nI hfq)) ⟨pk_in f 8 hf, pk_in q 8 hq, pk_eq (rq_fps m f) (rq_nct m q) (fun e => ⟨pk_in q 8 hq, nm_r (rq_sN q (rq_rev m)) ?_⟩) (fun e => ⟨pk_in f 8 hf, pk_in (q * 10 + rq_fps m f) 80 (by omega) eix, nm_r (rq_gN (q * 10 + rq_fps m f) eix) ?_⟩) (rq_gN f) (rq_gN q)⟩)
  · refine rq_x_as (m := rq_w_vat m (rq_up (rq_vat m) q (rq_rev m))) q hq hnc hned ?_
    refine And.intro (pk_in q 8 hq) (nm_r (rq_sB q _ rfl (rq_nar _)) (nm_r (pk_sub hn) ?_))
    exact hD e
  · have hlt : rq_fps m f < rq_nct m q := by omega
    have h14 := hned _ hlt
    refine pk_le 6 (rq_ned m (q * 10 + rq_fps m f)) (fun h6 => ?_) (fun h6 => ?_)
    · have e6 : rq_ned m (q * 10 + rq_fps m f) = 6 + (rq_ned m (q * 10 + rq_fps m f) - 6) := by omega
      have hk8 : rq_ned m (q * 10 + rq_fps m f) - 6 < 8 := by omega
      refine rq_x_fresh (m := m) (rq_ned m (q * 10 + rq_fps m f) - 6) hk8 hR (hvat _ hk8) (fun e1 => br_t rfl ?_) (fun e1 => br_f (by decide) ⟨pk_in (rq_ned m (q * 10 + rq_fps m f) - 6) 8 hk8 (pk_sub h6), nm_r (rq_gN (rq_ned m (q * 10 + rq_fps m f) - 6) (pk_sub h6)) ?_⟩) (pk_sub h6)
      · rw [show nI (rq_ned m (q * 10 + rq_fps m f)) - 6 = nI (rq_ned m (q * 10 + rq_fps m f) - 6) from pk_sub h6]
        exact hRq _ hlt e6 hk8 e1
      · have z := hQ _ hlt e6 hk8 e1
        exact rq_x_chk126 (m := m) f q _ hf hq hfq hR (hcat _ hk8) (hvat q hq) z.1 z.2
    · refine And.intro (pk_in (rq_ned m (q * 10 + rq_fps m f)) 6 h6) (nm_r (rq_gN (rq_ned m (q * 10 + rq_fps m f))) ?_)
      have z := hI _ hlt rfl h6
      exact rq_x_chk126 (m := m) f q _ hf hq hfq hR (hgat _ h6) (hvat q hq) z.1 z.2
theorem rq_x_note {post : St1 → Prop} {m : rq_M} {x y : Int32} (q d : Nat) (hq : q < 8) (hc : rq_nct m q < 10) (h : post (rq_cm (rq_note m q d))) (hx : x = nI q := by rfl) (hy : y = nI d := by rfl) :
    wpX_noteNeed post (rq_cm m) x y := by
  subst hx hy
  have eix : nI q * 10 + rq_nA (rq_nct m) (nI q).toNatClampNeg = nI (q * 10 + rq_nct m q) := by
    rw [rq_gN q, rq_ix]
  exact And.intro (pk_in q 8 hq) (And.intro (pk_in (q * 10 + rq_nct m q) 80 (by omega) eix) (nm_r (rq_sN (q * 10 + rq_nct m q) d eix) ⟨pk_in q 8 hq, pk_in q 8 hq, nm_r (rq_sN q (rq_nct m q + 1) rfl (rq_inc q (by omega))) h⟩))
theorem rq_x_push {post : St1 → Prop} {m : rq_M} {y : Int32} (ht : rq_top m < 96) (h : post (rq_cm (rq_psh m y))) : wpX_push post (rq_cm m) y :=
  And.intro (pk_in (rq_top m) 96 ht) (nm_r (rq_sI (rq_top m)) (nm_r (nI_1 _) h))
theorem rq_x_comb {post : St1 → Prop} {m : rq_M} {o : Int32} (ht : 2 ≤ rq_top m) (ht2 : rq_top m ≤ 96)
    (h : post (rq_cm (rq_psh (rq_w_top m (rq_top m - 2)) (rq_op o (rq_pil m (rq_top m - 2)) (rq_pil m (rq_top m - 1)))))) : wpX_combine post (rq_cm m) o := by
  have e1 : nI (rq_top m) - 1 = nI (rq_top m - 1) := pk_sub (show 1 ≤ rq_top m by omega)
  have e2 : nI (rq_top m) - 2 = nI (rq_top m - 2) := pk_sub ht
  have ht3 : rq_top (rq_w_top m (rq_top m - 2)) < 96 := by
    show rq_top m - 2 < 96
    omega
  have key : ∀ r, rq_op o (rq_pil m (rq_top m - 2)) (rq_pil m (rq_top m - 1)) = r → wpX_push post (rq_cm (rq_w_top m (rq_top m - 2))) r := by
    intro r hr
    subst hr
    exact rq_x_push (m := rq_w_top m (rq_top m - 2)) ht3 h
  unfold rq_op at key
  refine And.intro (pk_in (rq_top m - 1) 96 (by omega) e1) (nm_r (rq_gI (rq_top m - 1) e1) ⟨pk_in (rq_top m - 2) 96 (by omega) e2, nm_r (rq_gI (rq_top m - 2) e2) (nm_r e2 ?_)⟩)
  refine br_c (fun z0 => ?_) (fun z0 => br_c (fun z1 => ?_) (fun z1 => br_c (fun z2 => ?_) (fun z2 => br_c (fun z3 => ?_) (fun z3 => ?_))))
  · exact key _ (by rw [if_pos z0])
  · exact key _ (by rw [if_neg z0, if_pos z1])
  · exact key _ (by rw [if_neg z0, if_neg z1, if_pos z2])
  · exact key 0 (by rw [if_neg z0, if_neg z1, if_neg z2, if_pos z3])
  · exact key 1 (by rw [if_neg z0, if_neg z1, if_neg z2, if_neg z3])
theorem rq_x_end49 {post : St1 → Prop} {m : rq_M} {v : Int32} (q : Nat) (hq : q < 8) (hc : rq_nct m q ≤ 10) (hd : ∀ i, i < rq_nct m q → rq_ned m (q * 10 + i) < 14) (hn : 1 ≤ rq_frm m)
    (h : post (rq_cm (rq_end49 m q v))) : rq_l_end49 post (nI q) v (rq_cm m) := by
  refine And.intro (pk_in q 8 hq) (nm_r (rq_sI q) ⟨pk_in q 8 hq, nm_r (rq_sB q true) ⟨pk_in q 8 hq, nm_r (rq_sB q false) ⟨pk_in q 8 hq, nm_r (rq_sN q (rq_rev m)) ?_⟩⟩⟩)
  refine rq_x_as (m := rq_end48 m q v) q hq hc hd ?_
  exact And.intro (pk_in q 8 hq) (nm_r (rq_sB q _ rfl (rq_nar _)) (nm_r (pk_sub hn) h))
theorem rq_end_eq1 (m : rq_M) (q c : Nat) (v : Int32) : rq_end49 (rq_w_cat (rq_w_top m (rq_top m - 1)) (rq_up (rq_cat (rq_w_top m (rq_top m - 1))) q c)) q v = rq_endS m q v c := by
  simp only [rq_end49, rq_endS, rq_g_cat, rq_g_top]
theorem rq_end_eq2 (m : rq_M) (q : Nat) (v : Int32) : rq_end49 (rq_w_top m (rq_top m - 1)) q v = rq_endS m q v (rq_cat m q) := by
  simp only [rq_end49, rq_endS, rq_g_top]
  rw [rq_up_id (f := rq_cat m) (k := q) rfl]
theorem rq_x_end39 {post : St1 → Prop} {m : rq_M} {v : Int32} (q : Nat) (hq : q < 8) (hc : rq_nct m q ≤ 10) (hd : ∀ i, i < rq_nct m q → rq_ned m (q * 10 + i) < 14) (hn : 1 ≤ rq_frm m)
    (h : post (rq_cm (rq_end49 (rq_w_cat m (rq_up (rq_cat m) q (rq_rev m))) q v))) : rq_l_end39 post (nI q) v (rq_cm m) :=
  And.intro (pk_in q 8 hq) (nm_r (rq_sN q (rq_rev m)) (rq_x_end49 (m := rq_w_cat m (rq_up (rq_cat m) q (rq_rev m))) q hq hc hd hn h))
theorem rq_x_end {post : St1 → Prop} {m : rq_M} (q : Nat) (hq : q < 8) (hc : rq_nct m q ≤ 10) (hd : ∀ i, i < rq_nct m q → rq_ned m (q * 10 + i) < 14) (hn : 1 ≤ rq_frm m) (ht : 1 ≤ rq_top m) (ht2 : rq_top m ≤ 96)
    (h1 : ¬ (rq_kno m q = true ∧ rq_mem m q = rq_pil m (rq_top m - 1)) → post (rq_cm (rq_endS m q (rq_pil m (rq_top m - 1)) (rq_rev m))))
    (h2 : rq_kno m q = true → rq_mem m q = rq_pil m (rq_top m - 1) → post (rq_cm (rq_endS m q (rq_pil m (rq_top m - 1)) (rq_cat m q)))) :
    wpX_endWork post (rq_cm m) (nI q) := by
  have e1 : nI (rq_top m) - 1 = nI (rq_top m - 1) := pk_sub ht
  have w39 : ¬ (rq_kno m q = true ∧ rq_mem m q = rq_pil m (rq_top m - 1)) → rq_l_end39 post (nI q) (rq_pil m (rq_top m - 1)) (rq_cm (rq_w_top m (rq_top m - 1))) := fun z =>
    rq_x_end39 (m := rq_w_top m (rq_top m - 1)) q hq hc hd hn (by
      have y := h1 z
      rw [← rq_end_eq1] at y
      exact y)
  refine nm_r e1 (And.intro (pk_in (rq_top m - 1) 96 (by omega)) (nm_r (rq_gI (rq_top m - 1)) ⟨pk_in q 8 hq, rq_bT (rq_kno m q) (fun e => w39 (fun z => by rw [e] at z; cases z.1)) (fun e => ⟨pk_in q 8 hq, ?_⟩) (rq_gB q)⟩))
  rw [rq_gI (f := rq_mem m) (x := nI q) q]
  refine br_c (fun z => rq_x_end49 (m := rq_w_top m (rq_top m - 1)) q hq hc hd hn ?_) (fun z => w39 (fun y => z y.2))
  have y := h2 e z
  rw [← rq_end_eq2] at y
  exact y
theorem rq_x_wk219 {post : St1 → Prop} {m : rq_M} (f : Nat) (hf : f < 8) (h : post (rq_cm (rq_adv m f))) : rq_l_wk219 post (nI f) (rq_cm m) :=
  And.intro (pk_in f 8 hf) (And.intro (pk_in f 8 hf) (nm_r (rq_sN f (rq_fps m f + 1) rfl (rq_inc f (by omega))) h))
theorem rq_x_wk132 {post : St1 → Prop} {m : rq_M} (f q k : Nat) (hf : f < 8) (hq : q < 8) (hk : k < 8) (hc : rq_nct m q < 10) (ht : rq_top m < 96)
    (h : post (rq_cm (rq_adv (rq_psh (rq_note m q (6 + k)) (rq_mem m k)) f))) : rq_l_wk132 post (nI f) (nI q) (nI k) (rq_cm m) := by
  refine rq_x_note (m := m) q (6 + k) hq hc (And.intro (pk_in k 8 hk) ?_) rfl (nI_add 6 k)
  have z : wpX_push (fun u => rq_l_wk219 post (nI f) u) (rq_cm (rq_note m q (6 + k))) (rq_mem m k) := rq_x_push (m := rq_note m q (6 + k)) ht (rq_x_wk219 (m := rq_psh (rq_note m q (6 + k)) (rq_mem m k)) f hf h)
  rw [← rq_gI (f := rq_mem m) (x := nI k) k] at z
  exact z
/-- the query that the token at hand asks for -/
def rq_dem (m : rq_M) (ad k : Nat) : Prop :=
  (rq_tok m ad = 2 ∧ rq_fst m ad = nI k) ∨ (rq_tok m ad = 3 ∧ 1 ≤ rq_top m ∧ ((rq_pil m (rq_top m - 1) = 0 ∧ rq_sec m ad = nI k) ∨ (¬ rq_pil m (rq_top m - 1) = 0 ∧ rq_fst m ad = nI k)))
def rq_popT (m : rq_M) (ad : Nat) : rq_M := if rq_tok m ad = 3 then rq_w_top m (rq_top m - 1) else m
theorem rq_x_wk96 {post : St1 → Prop} {m : rq_M} (f q k ad : Nat) (hf : f < 8) (hq : q < 8) (hk : k < 8) (hR : rq_rev m < 2 ^ 20) (hv : rq_vat m k ≤ rq_rev m) (hc : rq_nct m q < 10) (ht : rq_top m < 96)
    (hkd : rq_tok m ad = 2 ∨ rq_tok m ad = 3) (h3 : rq_tok m ad = 3 → 1 ≤ rq_top m)
    (hFr : rq_fr m k = true → post (rq_cm (rq_adv (rq_psh (rq_note (rq_popT m ad) q (6 + k)) (rq_mem m k)) f)))
    (hRq : rq_fr m k = false → wpX_request post (rq_cm m) (nI k)) : rq_l_wk96 post (nI f) (nI q) (nI (rq_tok m ad)) (nI k) (rq_cm m) := by
  refine rq_x_fresh (m := m) k hk hR hv (fun e => br_t rfl (hRq e)) (fun e => br_f (by decide) ?_)
  refine pk_eq (rq_tok m ad) 3 (fun z => nm_r (pk_sub (h3 z)) ?_) (fun z => ?_)
  · have y := hFr e
    unfold rq_popT at y
    rw [if_pos z] at y
    exact rq_x_wk132 (m := rq_w_top m (rq_top m - 1)) f q k hf hq hk hc (show rq_top m - 1 < 96 by omega) y
  · have y := hFr e
    unfold rq_popT at y
    rw [if_neg z] at y
    exact rq_x_wk132 (m := m) f q k hf hq hk hc ht y
theorem rq_x_wk60 {post : St1 → Prop} {m : rq_M} (f q ad : Nat) (hf : f < 8) (hq : q < 8) (h90 : ad < 90) (hR : rq_rev m < 2 ^ 20) (hv : ∀ p, p < 8 → rq_vat m p ≤ rq_rev m) (hc : rq_nct m q < 10) (ht : rq_top m < 96)
    (hkd : rq_tok m ad = 2 ∨ rq_tok m ad = 3) (h2 : ∃ k, k < 8 ∧ rq_fst m ad = nI k) (h3 : rq_tok m ad = 3 → 1 ≤ rq_top m ∧ ∃ k, k < 8 ∧ rq_sec m ad = nI k)
    (hFr : ∀ k, k < 8 → rq_dem m ad k → rq_fr m k = true → post (rq_cm (rq_adv (rq_psh (rq_note (rq_popT m ad) q (6 + k)) (rq_mem m k)) f)))
    (hRq : ∀ k, k < 8 → rq_dem m ad k → rq_fr m k = false → wpX_request post (rq_cm m) (nI k)) : rq_l_wk60 post (nI f) (nI q) (nI ad) (nI (rq_tok m ad)) (rq_cm m) := by
  obtain ⟨k1, hk1, e1⟩ := h2
  have go : ∀ k, k < 8 → rq_dem m ad k → rq_l_wk96 post (nI f) (nI q) (nI (rq_tok m ad)) (nI k) (rq_cm m) := fun k hk hd =>
    rq_x_wk96 f q k ad hf hq hk hR (hv k hk) hc ht hkd (fun z => (h3 z).1) (hFr k hk hd) (hRq k hk hd)
  refine And.intro (pk_in ad 90 h90) (nm_r ((rq_gI (f := rq_fst m) ad).trans e1) ?_)
  refine pk_eq (rq_tok m ad) 3 (fun z => ?_) (fun z => go k1 hk1 (Or.inl ⟨hkd.resolve_right z, e1⟩))
  obtain ⟨ht1, k2, hk2, e2⟩ := h3 z
  have et : nI (rq_top m) - 1 = nI (rq_top m - 1) := pk_sub ht1
  refine ⟨pk_in (rq_top m - 1) 96 (by omega) et, ?_⟩
  have br : (rq_pil m (rq_top m - 1) = 0 → (vp_in (nI ad) 90 ∧ ∀ x, x = rq_sec m (nI ad).toNatClampNeg → rq_l_wk96 post (nI f) (nI q) (nI (rq_tok m ad)) x (rq_cm m))) ∧ (¬ rq_pil m (rq_top m - 1) = 0 → rq_l_wk96 post (nI f) (nI q) (nI (rq_tok m ad)) (nI k1) (rq_cm m)) :=
    br_c (fun y => ⟨pk_in ad 90 h90, nm_r ((rq_gI (f := rq_sec m) ad).trans e2) (go k2 hk2 (Or.inr ⟨z, ht1, Or.inl ⟨y, e2⟩⟩))⟩) (fun y => go k1 hk1 (Or.inr ⟨z, ht1, Or.inr ⟨y, e1⟩⟩))
  rw [← rq_gI (f := rq_pil m) (x := nI (rq_top m) - 1) (rq_top m - 1) et] at br
  exact br
theorem rq_x_work {post : St1 → Prop} {m : rq_M} (f q : Nat) (hf : f < 8) (hq : q < 8) (hfq : rq_fqu m f = q) (hps : rq_fps m f ≤ rq_len m q) (hln : rq_len m q ≤ 10)
    (hR : rq_rev m < 2 ^ 20) (hv : ∀ p, p < 8 → rq_vat m p ≤ rq_rev m)
    (hs : rq_fps m f < rq_len m q → rq_nct m q < 10 ∧ rq_top m < 96)
    (h5 : rq_fps m f < rq_len m q → rq_tok m (q * 10 + rq_fps m f) < 5)
    (h23 : rq_fps m f < rq_len m q → (rq_tok m (q * 10 + rq_fps m f) = 2 ∨ rq_tok m (q * 10 + rq_fps m f) = 3) → ∃ k, k < 8 ∧ rq_fst m (q * 10 + rq_fps m f) = nI k)
    (h3 : rq_fps m f < rq_len m q → rq_tok m (q * 10 + rq_fps m f) = 3 → 1 ≤ rq_top m ∧ ∃ k, k < 8 ∧ rq_sec m (q * 10 + rq_fps m f) = nI k)
    (h1 : rq_fps m f < rq_len m q → rq_tok m (q * 10 + rq_fps m f) = 1 → ∃ k, k < 6 ∧ rq_fst m (q * 10 + rq_fps m f) = nI k)
    (h4 : rq_fps m f < rq_len m q → rq_tok m (q * 10 + rq_fps m f) = 4 → 2 ≤ rq_top m)
    (hE : rq_fps m f = rq_len m q → wpX_endWork post (rq_cm m) (nI q))
    (hFr : rq_fps m f < rq_len m q → ∀ k, k < 8 → rq_dem m (q * 10 + rq_fps m f) k → rq_fr m k = true → post (rq_cm (rq_adv (rq_psh (rq_note (rq_popT m (q * 10 + rq_fps m f)) q (6 + k)) (rq_mem m k)) f)))
    (hRq : rq_fps m f < rq_len m q → ∀ k, k < 8 → rq_dem m (q * 10 + rq_fps m f) k → rq_fr m k = false → wpX_request post (rq_cm m) (nI k))
    (hNum : rq_fps m f < rq_len m q → rq_tok m (q * 10 + rq_fps m f) = 0 → post (rq_cm (rq_adv (rq_psh m (rq_fst m (q * 10 + rq_fps m f))) f)))
    (hInp : rq_fps m f < rq_len m q → rq_tok m (q * 10 + rq_fps m f) = 1 → ∀ d, d < 6 → rq_fst m (q * 10 + rq_fps m f) = nI d → post (rq_cm (rq_adv (rq_psh (rq_note m q d) (rq_giv m d)) f)))
    (hOp : rq_fps m f < rq_len m q → rq_tok m (q * 10 + rq_fps m f) = 4 → 2 ≤ rq_top m → post (rq_cm (rq_adv (rq_psh (rq_w_top m (rq_top m - 2)) (rq_op (rq_fst m (q * 10 + rq_fps m f)) (rq_pil m (rq_top m - 2)) (rq_pil m (rq_top m - 1)))) f))) :
    wpX_workStep post (rq_cm m) (nI f) := by
  have eix : nI q * 10 + rq_nA (rq_fps m) (nI f).toNatClampNeg = nI (q * 10 + rq_fps m f) := by
    rw [rq_gN f, rq_ix]
  refine And.intro (pk_in f 8 hf) (nm_r ((rq_gN f).trans (congrArg nI hfq)) ⟨pk_in f 8 hf, pk_in q 9 (by omega), pk_eq (rq_fps m f) (rq_len m q) (fun e => hE e) (fun e => ⟨pk_in f 8 hf, nm_r eix ?_⟩) (rq_gN f) (rq_gN q)⟩)
  have hlt : rq_fps m f < rq_len m q := by omega
  have hat : q * 10 + rq_fps m f < 90 := by omega
  have hin : vp_in (nI (q * 10 + rq_fps m f)) 90 := pk_in (q * 10 + rq_fps m f) 90 hat
  have ht5 := h5 hlt
  obtain ⟨hs1, hs2⟩ := hs hlt
  refine ⟨hin, nm_r (rq_gN (q * 10 + rq_fps m f)) ?_⟩
  have w60 : (rq_tok m (q * 10 + rq_fps m f) = 2 ∨ rq_tok m (q * 10 + rq_fps m f) = 3) → rq_l_wk60 post (nI f) (nI q) (nI (q * 10 + rq_fps m f)) (nI (rq_tok m (q * 10 + rq_fps m f))) (rq_cm m) := fun z =>
    rq_x_wk60 f q (q * 10 + rq_fps m f) hf hq hat hR hv hs1 hs2 z (h23 hlt z) (h3 hlt) (hFr hlt) (hRq hlt)
  refine pk_eq (rq_tok m (q * 10 + rq_fps m f)) 2 (fun z => w60 (Or.inl z)) (fun z2 => ?_)
  refine pk_eq (rq_tok m (q * 10 + rq_fps m f)) 3 (fun z => w60 (Or.inr z)) (fun z3 => ?_)
  refine pk_eq (rq_tok m (q * 10 + rq_fps m f)) 0 (fun z => ⟨hin, ?_⟩) (fun z0 => ?_)
  · have y : wpX_push (fun u => rq_l_wk219 post (nI f) u) (rq_cm m) (rq_fst m (q * 10 + rq_fps m f)) := rq_x_push (m := m) hs2 (rq_x_wk219 (m := rq_psh m (rq_fst m (q * 10 + rq_fps m f))) f hf (hNum hlt z))
    rw [← rq_gI (f := rq_fst m) (x := nI (q * 10 + rq_fps m f)) (q * 10 + rq_fps m f)] at y
    exact y
  · refine pk_eq (rq_tok m (q * 10 + rq_fps m f)) 1 (fun z => ⟨hin, ?_⟩) (fun z1 => ⟨hin, ?_⟩)
    · obtain ⟨d, hd, ed⟩ := h1 hlt z
      have egi : rq_fst m (nI (q * 10 + rq_fps m f)).toNatClampNeg = nI d := (rq_gI (f := rq_fst m) (q * 10 + rq_fps m f)).trans ed
      refine rq_x_note (m := m) q d hq hs1 (And.intro hin (And.intro (pk_in d 6 hd egi) ?_)) rfl egi
      have y : wpX_push (fun u => rq_l_wk219 post (nI f) u) (rq_cm (rq_note m q d)) (rq_giv m d) := rq_x_push (m := rq_note m q d) hs2 (rq_x_wk219 (m := rq_psh (rq_note m q d) (rq_giv m d)) f hf (hInp hlt z d hd ed))
      rw [← rq_gI (f := rq_giv m) (x := rq_fst m (nI (q * 10 + rq_fps m f)).toNatClampNeg) d egi] at y
      exact y
    · have t4 : rq_tok m (q * 10 + rq_fps m f) = 4 := by omega
      have y : wpX_combine (fun u => rq_l_wk219 post (nI f) u) (rq_cm m) (rq_fst m (q * 10 + rq_fps m f)) := rq_x_comb (m := m) (h4 hlt t4) (by omega) (rq_x_wk219 (m := rq_psh (rq_w_top m (rq_top m - 2)) (rq_op (rq_fst m (q * 10 + rq_fps m f)) (rq_pil m (rq_top m - 2)) (rq_pil m (rq_top m - 1)))) f hf (hOp hlt t4 (h4 hlt t4)))
      rw [← rq_gI (f := rq_fst m) (x := nI (q * 10 + rq_fps m f)) (q * 10 + rq_fps m f)] at y
      exact y
end
section
/-! the loop of ensure: its invariant on whole states; the request -/
def rq_env (m : rq_M) : rq_E :=
  (rq_giv m, (fun q i => if q < 8 ∧ i < 10 then (rq_tok m (q * 10 + i), rq_fst m (q * 10 + i), rq_sec m (q * 10 + i)) else (0, 0, 0)), (fun q => if q < 8 then rq_len m q else 0))
theorem rq_env_len {m : rq_M} {q : Nat} (hq : q < 8) : (rq_env m).2.2 q = rq_len m q := if_pos hq
theorem rq_env_tok {m : rq_M} {q i : Nat} (hq : q < 8) (hi : i < 10) : (rq_env m).2.1 q i = (rq_tok m (q * 10 + i), rq_fst m (q * 10 + i), rq_sec m (q * 10 + i)) := if_pos ⟨hq, hi⟩
def rq_Same (m0 m : rq_M) : Prop :=
  rq_hgt m = rq_hgt m0 ∧ rq_rev m = rq_rev m0 ∧ rq_sch m = rq_sch m0 ∧ rq_len m = rq_len m0 ∧ rq_tok m = rq_tok m0 ∧ rq_fst m = rq_fst m0 ∧ rq_sec m = rq_sec m0 ∧
  rq_giv m = rq_giv m0 ∧ rq_gat m = rq_gat m0 ∧ rq_wva m = rq_wva m0 ∧ rq_wci m = rq_wci m0
def rq_CIm (m : rq_M) : Prop := rq_CI (rq_env m) (rq_rev m) (rq_sch m) (rq_gat m) (rq_kno m) (rq_sta m) (rq_mem m) (rq_vat m) (rq_cat m) (rq_cir m) (rq_std m) (rq_nct m) (rq_ned m)
def rq_Gm (m : rq_M) (q : Nat) : Prop := rq_Gd (rq_rev m) (rq_sch m) (rq_kno m) (rq_sta m) (rq_vat m) (rq_std m) q
def rq_FIm (m : rq_M) (b : Nat → Nat) : Prop :=
  rq_FI (rq_env m) (rq_rev m) (rq_sch m) (rq_gat m) (rq_kno m) (rq_sta m) (rq_vat m) (rq_cat m) (rq_std m) (rq_nct m) (rq_ned m) (rq_pil m) (rq_frm m) (rq_fqu m) (rq_fwk m) (rq_fps m) (rq_top m) b
def rq_mum (m : rq_M) : Nat :=
  rq_mu (rq_cnt (rq_fr m) 8) (rq_frm m) (rq_rem (rq_env m).2.2 (rq_nct m) (rq_fqu m) (rq_fwk m) (rq_fps m)) + (if rq_fai m = true then 0 else 1)
def rq_L0 (m0 : rq_M) (q0 : Nat) (m : rq_M) (b : Nat → Nat) : Prop :=
  rq_Same m0 m ∧ rq_CIm m ∧ rq_FIm m b ∧ rq_rev m < 2 ^ 20 ∧ (0 < rq_frm m → rq_fqu m 0 = q0) ∧ rq_fai m = false
def rq_LI (m0 : rq_M) (q0 : Nat) (m : rq_M) : Prop :=
  rq_Same m0 m ∧ rq_CIm m ∧ (∃ b, rq_FIm m b) ∧ rq_rev m < 2 ^ 20 ∧ (0 < rq_frm m → rq_fqu m 0 = q0) ∧
  (rq_fai m = false → rq_frm m = 0 → rq_fr m q0 = true) ∧
  (rq_fai m = true → rq_V (rq_env m) q0 = none ∧ ∀ i, i < rq_frm m → rq_V (rq_env m) (rq_fqu m i) = none)
theorem rq_up_up {α : Type} {f : Nat → α} {k : Nat} {v w : α} : rq_up (rq_up f k v) k w = rq_up f k w := by
  funext j
  by_cases e : j = k
  · rw [e, rq_up_s, rq_up_s]
  · rw [rq_up_n e, rq_up_n e, rq_up_n e]
theorem rq_fr_G {m : rq_M} {q : Nat} (h : rq_fr m q = true) : rq_Gm m q := by
  obtain ⟨h1, h2, h3⟩ := rq_fr_t h
  exact ⟨h1, h2, Or.inl h3⟩
theorem rq_nG_fr {m : rq_M} {q : Nat} (h : ¬ rq_Gm m q) : rq_fr m q = false := by
  cases e : rq_fr m q with
  | false => rfl
  | true => exact absurd (rq_fr_G e) h
theorem rq_L_pig {m : rq_M} {b : Nat → Nat} (h : rq_FIm m b) : rq_frm m + rq_cnt (rq_fr m) 8 ≤ 8 :=
  rq_pig (fq := rq_fqu m) (rq_frm m) (rq_fr m) (fun i hi => ⟨(h.1 i hi).1, rq_nG_fr (h.1 i hi).2⟩) h.2.1
theorem rq_L_pig1 {m : rq_M} {b : Nat → Nat} (h : rq_FIm m b) {k : Nat} (hk : k < 8) (hf : rq_fr m k = false) (hw : ∀ i, i < rq_frm m → rq_fqu m i ≠ k) :
    rq_frm m + 1 + rq_cnt (rq_fr m) 8 ≤ 8 := by
  refine rq_pig (fq := rq_up (rq_fqu m) (rq_frm m) k) (rq_frm m + 1) (rq_fr m) (fun i hi => ?_) (fun i j hi hj => ?_)
  · by_cases e : i = rq_frm m
    · rw [e, rq_up_s]
      exact ⟨hk, hf⟩
    · rw [rq_up_n e]
      exact ⟨(h.1 i (by omega)).1, rq_nG_fr (h.1 i (by omega)).2⟩
  · by_cases e : j = rq_frm m
    · rw [e, rq_up_s, rq_up_n (by omega)]
      exact hw i (by omega)
    · rw [rq_up_n e, rq_up_n (by omega)]
      exact h.2.1 i j hi (by omega)
theorem rq_pushW_eq (m : rq_M) (k : Nat) : rq_startW (rq_pushF m k) (rq_frm m) = rq_pushW m k := by
  simp only [rq_startW, rq_pushW, rq_g_pushF, rq_up_s, rq_up_up]
/-- the same answers of 'fresh' -/
theorem rq_fr_same {m m' : rq_M} {q : Nat} (h1 : rq_kno m' q = rq_kno m q) (h2 : rq_sta m' q = rq_sta m q) (h3 : rq_vat m' q = rq_vat m q) (h4 : rq_rev m' = rq_rev m) : rq_fr m' q = rq_fr m q := by
  unfold rq_fr
  rw [h1, h2, h3, h4]
theorem rq_mum_eq {m m' : rq_M} (h : rq_mu (rq_cnt (rq_fr m') 8) (rq_frm m') (rq_rem (rq_env m').2.2 (rq_nct m') (rq_fqu m') (rq_fwk m') (rq_fps m')) < rq_mu (rq_cnt (rq_fr m) 8) (rq_frm m) (rq_rem (rq_env m).2.2 (rq_nct m) (rq_fqu m) (rq_fwk m) (rq_fps m)))
    (hf : rq_fai m' = rq_fai m) : rq_mum m' < rq_mum m := by
  unfold rq_mum
  rw [hf]
  omega
theorem rq_L_fail {m0 m : rq_M} {q0 : Nat} {b : Nat → Nat} (h : rq_L0 m0 q0 m b) {k : Nat} (hk : k < 8)
    (hD : 0 < rq_frm m → rq_De (rq_env m) (rq_fqu m (rq_frm m - 1)) k) (h0 : rq_frm m = 0 → k = q0)
    (hc : rq_wt (rq_fqu m) k (rq_frm m) = true ∨ rq_cir m k = rq_rev m) :
    rq_LI m0 q0 (rq_w_fai m true) ∧ rq_mum (rq_w_fai m true) < rq_mum m := by
  obtain ⟨hS, hC, hF, hR, hq0, hfai⟩ := h
  have hV : rq_V (rq_env m) k = none := by
    rcases hc with z | z
    · obtain ⟨j, hj, e⟩ := rq_wt_t z
      have d := hD (by omega)
      rw [← e] at d
      rw [← e]
      exact rq_chain_cyc hF.2.2.1 hj d
    · exact hC.2.2.2.2.1 k hk z
  have hVs : ∀ i, i < rq_frm m → rq_V (rq_env m) (rq_fqu m i) = none := rq_chain_none hF.2.2.1 (fun z => rq_De_none (hD z) hV)
  refine ⟨⟨hS, hC, ⟨b, hF⟩, hR, hq0, fun z => ?_, fun _ => ⟨?_, hVs⟩⟩, ?_⟩
  · cases (show true = false from z)
  · show rq_V (rq_env m) q0 = none
    by_cases z : rq_frm m = 0
    · rw [← h0 z]
      exact hV
    · rw [← hq0 (by omega)]
      exact hVs 0 (by omega)
  · show rq_mu (rq_cnt (rq_fr m) 8) (rq_frm m) (rq_rem (rq_env m).2.2 (rq_nct m) (rq_fqu m) (rq_fwk m) (rq_fps m)) + 0 < rq_mum m
    unfold rq_mum
    rw [hfai, if_neg (by decide)]
    omega
theorem rq_L_short {m0 m : rq_M} {q0 : Nat} {b : Nat → Nat} (h : rq_L0 m0 q0 m b) {k : Nat} (hk : k < 8) (hfr : rq_fr m k = false) (h0 : rq_frm m = 0 → k = q0)
    (hw : rq_wt (rq_fqu m) k (rq_frm m) = false) (a1 : rq_kno m k = true) (a2 : rq_sta m k = false) (a3 : rq_std m k = true) (a4 : rq_sch m ≤ rq_vat m k) :
    rq_LI m0 q0 (rq_w_vat m (rq_up (rq_vat m) k (rq_rev m))) ∧ rq_mum (rq_w_vat m (rq_up (rq_vat m) k (rq_rev m))) < rq_mum m := by
  obtain ⟨hS, hC, hF, hR, hq0, hfai⟩ := h
  have hne := rq_wt_f hw
  have hfk : rq_fr (rq_w_vat m (rq_up (rq_vat m) k (rq_rev m))) k = true := rq_fr_mk a1 a2 rq_up_s
  have hfn : ∀ q, q ≠ k → rq_fr (rq_w_vat m (rq_up (rq_vat m) k (rq_rev m))) q = rq_fr m q := fun q e => rq_fr_same rfl rfl (rq_up_n e) rfl
  refine ⟨⟨hS, rq_CI_short hC a1 a2 a3 a4, ⟨b, ?_⟩, hR, hq0, fun _ z => ?_, fun z => ?_⟩, ?_⟩
  · refine rq_FI_keep (vat' := rq_up (rq_vat m) k (rq_rev m)) hF (fun i hi => ?_) (fun p hp => ?_) (fun p _ => rfl) (fun i _ => rfl) (fun i _ => ⟨rfl, rfl, rfl⟩)
    · have e := hne i hi
      refine ⟨rfl, rfl, rq_up_n e, rfl, fun j _ => rfl, fun g => (hF.1 i hi).2 ?_⟩
      obtain ⟨g1, g2, g3⟩ := g
      rw [rq_up_n e] at g3
      exact ⟨g1, g2, g3⟩
    · by_cases e : p = k
      · rw [e]
        exact ⟨a1, a2, Or.inl rq_up_s⟩
      · refine ⟨hp.1, hp.2.1, ?_⟩
        rw [rq_up_n e]
        exact hp.2.2
  · rw [← h0 z]
    exact hfk
  · have z' : rq_fai m = true := z
    rw [hfai] at z'
    cases z'
  · refine rq_mum_eq ?_ rfl
    have hcnt : rq_cnt (rq_fr (rq_w_vat m (rq_up (rq_vat m) k (rq_rev m)))) 8 = rq_cnt (rq_fr m) 8 + 1 := by
      rw [← rq_cnt_up hfr hk]
      refine rq_cnt_congr (fun i hi => ?_)
      by_cases e : i = k
      · rw [e, rq_up_s]
        exact hfk
      · rw [rq_up_n e]
        exact hfn i e
    rw [hcnt]
    exact rq_mu_short (fun i _ => rfl) (rq_L_pig1 hF hk hfr hne)
theorem rq_L_pushC {m0 m : rq_M} {q0 : Nat} {b : Nat → Nat} (h : rq_L0 m0 q0 m b) {k : Nat} (hk : k < 8) (hfr : rq_fr m k = false)
    (hD : 0 < rq_frm m → rq_De (rq_env m) (rq_fqu m (rq_frm m - 1)) k) (h0 : rq_frm m = 0 → k = q0)
    (hw : rq_wt (rq_fqu m) k (rq_frm m) = false) (a1 : rq_kno m k = true) (a2 : rq_sta m k = false) (a3 : ¬ (rq_std m k = true ∧ rq_sch m ≤ rq_vat m k)) :
    rq_LI m0 q0 (rq_pushF m k) ∧ rq_mum (rq_pushF m k) < rq_mum m := by
  obtain ⟨hS, hC, hF, hR, hq0, hfai⟩ := h
  have hne := rq_wt_f hw
  have hg : ¬ rq_Gd (rq_rev m) (rq_sch m) (rq_kno m) (rq_sta m) (rq_vat m) (rq_std m) k := by
    intro g
    rcases g.2.2 with z | z
    · rw [rq_fr_mk a1 a2 z] at hfr
      cases hfr
    · exact a3 z
  refine ⟨⟨hS, hC, ⟨rq_up b (rq_frm m + 1) (rq_top m), ?_⟩, hR, fun _ => ?_, fun _ z => ?_, fun z => ?_⟩, ?_⟩
  · refine rq_FI_push (fqu' := rq_up (rq_fqu m) (rq_frm m) k) (fwk' := rq_up (rq_fwk m) (rq_frm m) false) (fps' := rq_up (rq_fps m) (rq_frm m) 0) (hi := rq_top m) hF hk hg hne hD (fun i hi => ?_) rq_up_s ?_
    · exact ⟨rq_up_n (by omega), rq_up_n (by omega), rq_up_n (by omega)⟩
    · rw [rq_up_s, rq_up_s]
      exact ⟨Nat.le_refl _, (fun z => by cases z), fun _ => ⟨rfl, a1, a2, Nat.zero_le _, fun j hj => absurd hj (Nat.not_lt_zero j)⟩⟩
  · show rq_up (rq_fqu m) (rq_frm m) k 0 = q0
    by_cases e : rq_frm m = 0
    · rw [e, rq_up_s]
      exact h0 e
    · rw [rq_up_n (by omega)]
      exact hq0 (by omega)
  · exact absurd (show rq_frm m + 1 = 0 from z) (by omega)
  · have z' : rq_fai m = true := z
    rw [hfai] at z'
    cases z'
  · refine rq_mum_eq ?_ rfl
    refine rq_mu_push (fun i hi => ?_) ?_ (rq_L_pig1 hF hk hfr hne)
    · exact rq_rem_congr (rq_up_n (by omega)) (rq_up_n (by omega)) (rq_up_n (by omega)) rfl
    · show (if rq_up (rq_fwk m) (rq_frm m) false (rq_frm m) = true then 1 + ((rq_env m).2.2 (rq_up (rq_fqu m) (rq_frm m) k (rq_frm m)) - rq_up (rq_fps m) (rq_frm m) 0 (rq_frm m)) else 12 + (rq_nct m (rq_up (rq_fqu m) (rq_frm m) k (rq_frm m)) - rq_up (rq_fps m) (rq_frm m) 0 (rq_frm m))) ≤ 24
      rw [rq_up_s, rq_up_s, rq_up_s, if_neg (by decide)]
      have c := (hC.2.2.2.2.2.2.2.2 k hk).2.2.2.1
      omega
theorem rq_L_pushW {m0 m : rq_M} {q0 : Nat} {b : Nat → Nat} (h : rq_L0 m0 q0 m b) {k : Nat} (hk : k < 8) (hfr : rq_fr m k = false)
    (hD : 0 < rq_frm m → rq_De (rq_env m) (rq_fqu m (rq_frm m - 1)) k) (h0 : rq_frm m = 0 → k = q0)
    (hw : rq_wt (rq_fqu m) k (rq_frm m) = false) (a1 : ¬ (rq_kno m k = true ∧ rq_sta m k = false)) :
    rq_LI m0 q0 (rq_pushW m k) ∧ rq_mum (rq_pushW m k) < rq_mum m := by
  obtain ⟨hS, hC, hF, hR, hq0, hfai⟩ := h
  have hne := rq_wt_f hw
  have hg : ¬ rq_Gd (rq_rev m) (rq_sch m) (rq_kno m) (rq_sta m) (rq_vat m) (rq_std m) k := fun g => a1 ⟨g.1, g.2.1⟩
  have hg' : ¬ rq_Gd (rq_rev m) (rq_sch m) (rq_kno m) (rq_up (rq_sta m) k true) (rq_vat m) (rq_std m) k := by
    intro g
    have z := g.2.1
    rw [rq_up_s] at z
    cases z
  refine ⟨⟨hS, rq_CI_start hC hg, ⟨rq_up b (rq_frm m + 1) (rq_top m), ?_⟩, hR, fun _ => ?_, fun _ z => ?_, fun z => ?_⟩, ?_⟩
  · have hF' : rq_FI (rq_env m) (rq_rev m) (rq_sch m) (rq_gat m) (rq_kno m) (rq_up (rq_sta m) k true) (rq_vat m) (rq_cat m) (rq_std m) (rq_up (rq_nct m) k 0) (rq_ned m) (rq_pil m) (rq_frm m) (rq_fqu m) (rq_fwk m) (rq_fps m) (rq_top m) b := by
      refine rq_FI_keep hF (fun i hi => ?_) (fun p hp => ?_) (fun p _ => rfl) (fun i _ => rfl) (fun i _ => ⟨rfl, rfl, rfl⟩)
      · have e := hne i hi
        refine ⟨rfl, rq_up_n e, rfl, rq_up_n e, fun j _ => rfl, fun g => (hF.1 i hi).2 ?_⟩
        obtain ⟨g1, g2, g3⟩ := g
        rw [rq_up_n e] at g2
        exact ⟨g1, g2, g3⟩
      · have e : p ≠ k := fun e => hg (e ▸ hp)
        refine ⟨hp.1, ?_, hp.2.2⟩
        rw [rq_up_n e]
        exact hp.2.1
    refine rq_FI_push (fqu' := rq_up (rq_fqu m) (rq_frm m) k) (fwk' := rq_up (rq_fwk m) (rq_frm m) true) (fps' := rq_up (rq_fps m) (rq_frm m) 0) (hi := rq_top m) hF' hk hg' hne hD (fun i hi => ?_) rq_up_s ?_
    · exact ⟨rq_up_n (by omega), rq_up_n (by omega), rq_up_n (by omega)⟩
    · rw [rq_up_s, rq_up_s]
      have hns : rq_ns (rq_up (rq_nct m) k 0) (rq_ned m) k = [] := by
        unfold rq_ns
        rw [rq_up_s]
        rfl
      refine ⟨Nat.le_refl _, fun _ => ⟨Nat.zero_le _, rq_up_s, ?_, ?_⟩, (fun z => by cases z)⟩
      · rw [hns, Nat.sub_self]
        rfl
      · rw [hns]
        intro k' hk'
        exact absurd hk' List.not_mem_nil
  · show rq_up (rq_fqu m) (rq_frm m) k 0 = q0
    by_cases e : rq_frm m = 0
    · rw [e, rq_up_s]
      exact h0 e
    · rw [rq_up_n (by omega)]
      exact hq0 (by omega)
  · exact absurd (show rq_frm m + 1 = 0 from z) (by omega)
  · have z' : rq_fai m = true := z
    rw [hfai] at z'
    cases z'
  · refine rq_mum_eq ?_ rfl
    have hcnt : rq_cnt (rq_fr (rq_pushW m k)) 8 = rq_cnt (rq_fr m) 8 := by
      refine rq_cnt_congr (fun i hi => ?_)
      by_cases e : i = k
      · rw [e, hfr]
        exact rq_nG_fr hg'
      · exact rq_fr_same rfl (rq_up_n e) rfl rfl
    rw [hcnt]
    refine rq_mu_push (fun i hi => ?_) ?_ (rq_L_pig1 hF hk hfr hne)
    · exact rq_rem_congr (rq_up_n (by omega)) (rq_up_n (by omega)) (rq_up_n (by omega)) (rq_up_n (hne i hi))
    · show (if rq_up (rq_fwk m) (rq_frm m) true (rq_frm m) = true then 1 + ((rq_env m).2.2 (rq_up (rq_fqu m) (rq_frm m) k (rq_frm m)) - rq_up (rq_fps m) (rq_frm m) 0 (rq_frm m)) else 12 + (rq_up (rq_nct m) k 0 (rq_up (rq_fqu m) (rq_frm m) k (rq_frm m)) - rq_up (rq_fps m) (rq_frm m) 0 (rq_frm m))) ≤ 24
      rw [rq_up_s, rq_up_s, rq_up_s, if_pos rfl]
      have c := (hC.1 k hk).2.2
      omega
theorem rq_L_request {m0 m : rq_M} {q0 : Nat} {b : Nat → Nat} (h : rq_L0 m0 q0 m b) {k : Nat} (hk : k < 8) (hfr : rq_fr m k = false)
    (hD : 0 < rq_frm m → rq_De (rq_env m) (rq_fqu m (rq_frm m - 1)) k) (h0 : rq_frm m = 0 → k = q0) {post : St1 → Prop}
    (hp : ∀ m', rq_LI m0 q0 m' → rq_mum m' < rq_mum m → post (rq_cm m')) : wpX_request post (rq_cm m) (nI k) := by
  have hC := h.2.1
  have hF := h.2.2.1
  have h5 := hC.2.2.2.2.2
  have b5 := h5.2.2.2 k hk
  have hpg := rq_L_pig hF
  refine rq_x_request k hk (by omega) (fun i hi => (hF.1 i hi).1) h.2.2.2.1 b5.2.2.1 b5.1 h5.2.1 (fun w => ?_) (fun z => ?_) (fun w a1 a2 a3 a4 => ?_) (fun w a1 a2 a3 => ?_) (fun w a1 => ?_)
  · have z := rq_L_pig1 hF hk hfr (rq_wt_f w)
    omega
  · have z := rq_L_fail h hk hD h0 z
    exact hp _ z.1 z.2
  · have z := rq_L_short h hk hfr h0 w a1 a2 a3 a4
    exact hp _ z.1 z.2
  · have z := rq_L_pushC h hk hfr hD h0 w a1 a2 a3
    exact hp _ z.1 z.2
  · have z := rq_L_pushW h hk hfr hD h0 w a1
    rw [rq_pushW_eq]
    exact hp _ z.1 z.2
end
section
/-! one round of ensure's loop: a frame that checks -/
theorem rq_ver {E : rq_E} {R S : Nat} {gat vat cat cir nct ned : Nat → Nat} {kno sta std : Nat → Bool} {mem : Nat → Int32}
    (hC : rq_CI E R S gat kno sta mem vat cat cir std nct ned) {q i : Nat} (hq : q < 8) (k1 : kno q = true) (k2 : sta q = false) (hi : i ≤ nct q)
    (hv : ∀ j, j < i → (ned (q * 10 + j) < 6 → gat (ned (q * 10 + j)) ≤ vat q) ∧ ∀ k, ned (q * 10 + j) = 6 + k → rq_Gd R S kno sta vat std k ∧ cat k ≤ vat q) :
    (i = nct q → rq_pre E.1 (rq_V E) (E.2.1 q) (E.2.2 q) = some ([mem q], rq_ns nct ned q)) ∧ (∀ k, i < nct q → ned (q * 10 + i) = 6 + k → rq_De E q k) := by
  obtain ⟨g', m', c1, c2, c3⟩ := hC.2.1 q hq k1 k2
  have in6 := rq_in6 (hC.1 q hq).1
  have v1 : ∀ j, j < i → ∀ d, ned (q * 10 + j) = d → d < 6 → g' d = E.1 d := by
    intro j hj d e h6
    have hm : d ∈ rq_ns nct ned q := rq_tl_mem.mpr ⟨j, by omega, e⟩
    have z := (hv j hj).1
    rw [e] at z
    exact (c2 d hm h6 (z h6)).symm
  have v2 : ∀ j, j < i → ∀ k, ned (q * 10 + j) = 6 + k → ∀ w, some (m' k) = some w → rq_V E k = some w := by
    intro j hj k e w hw
    have hm : 6 + k ∈ rq_ns nct ned q := rq_tl_mem.mpr ⟨j, by omega, e⟩
    obtain ⟨z1, z2⟩ := (hv j hj).2 k e
    rw [rq_Gd_V hC (rq_ns_k hC hq hm) z1, c3 k hm z2]
    exact hw
  constructor
  · intro e
    refine rq_rep c1 in6 (fun d hd h6 => ?_) (fun k hk w hw => ?_)
    · obtain ⟨j, hj, ej⟩ := rq_tl_mem.mp hd
      exact v1 j (by omega) d ej h6
    · obtain ⟨j, hj, ej⟩ := rq_tl_mem.mp hk
      exact v2 j (by omega) k ej w hw
  · intro k hlt e
    obtain ⟨p, s', p1, p2, p3, p4⟩ := rq_split (f := fun i => ned (q * 10 + i)) c1 in6 (c := nct q) rfl i hlt
    have r : rq_pre E.1 (rq_V E) (E.2.1 q) p = some s' := by
      refine rq_rep p2 (fun p' hp' => in6 p' (by omega)) (fun d hd h6 => ?_) (fun k hk w hw => ?_)
      · rw [p3] at hd
        obtain ⟨j, hj, ej⟩ := rq_tl_mem.mp hd
        exact v1 j hj d ej h6
      · rw [p3] at hk
        obtain ⟨j, hj, ej⟩ := rq_tl_mem.mp hk
        exact v2 j hj k ej w hw
    have p4' : 6 ≤ ned (q * 10 + i) → rq_dm (E.2.1 q p) s'.1 = some (ned (q * 10 + i) - 6) := p4
    rw [e] at p4'
    have p5 := p4' (by omega)
    rw [show 6 + k - 6 = k by omega] at p5
    exact ⟨p, s', p1, r, p5⟩
theorem rq_L_FI {m : rq_M} {b : Nat → Nat} {N : Nat} (h : rq_FIm m b) (eN : rq_frm m = N + 1) :
    rq_FI (rq_env m) (rq_rev m) (rq_sch m) (rq_gat m) (rq_kno m) (rq_sta m) (rq_vat m) (rq_cat m) (rq_std m) (rq_nct m) (rq_ned m) (rq_pil m) (N + 1) (rq_fqu m) (rq_fwk m) (rq_fps m) (rq_top m) b := by
  unfold rq_FIm at h
  rw [eN] at h
  exact h
/-- the check of the last frame ends: all is as it was -/
theorem rq_L_doneC {m0 m : rq_M} {q0 N : Nat} {b : Nat → Nat} (h : rq_L0 m0 q0 m b) (eN : rq_frm m = N + 1) (hw : rq_fwk m N = false) (he : rq_fps m N = rq_nct m (rq_fqu m N)) :
    rq_LI m0 q0 (rq_doneC m (rq_fqu m N)) ∧ rq_mum (rq_doneC m (rq_fqu m N)) < rq_mum m := by
  obtain ⟨hS, hC, hF0, hR, hq0, hfai⟩ := h
  have hF := rq_L_FI hF0 eN
  obtain ⟨hq, hng⟩ := hF.1 N (by omega)
  obtain ⟨_, _, fc⟩ := hF.2.2.2.2.2 N (by omega)
  obtain ⟨eb, k1, k2, k3, k4⟩ := fc hw
  have hne : ∀ i, i < N → rq_fqu m i ≠ rq_fqu m N := fun i hi => hF.2.1 i N hi (by omega)
  have hver := rq_ver hC hq k1 k2 k3 k4
  have hneeds : ∀ k, 6 + k ∈ rq_ns (rq_nct m) (rq_ned m) (rq_fqu m N) → rq_Gd (rq_rev m) (rq_sch m) (rq_kno m) (rq_sta m) (rq_vat m) (rq_std m) k := by
    intro k hk
    obtain ⟨j, hj, ej⟩ := rq_tl_mem.mp hk
    exact ((k4 j (by omega)).2 k ej).1
  have done := rq_CI_done (c := rq_cat m (rq_fqu m N)) hC hq hng (hver.1 he) hneeds (st := rq_as (rq_std m) (fun i => rq_ned m (rq_fqu m N * 10 + i)) (rq_nct m (rq_fqu m N))) (fun z => rq_as_t z) (Or.inr ⟨rfl, rfl⟩)
  rw [rq_up_id k1, rq_up_id k2, rq_up_id (f := rq_mem m) (k := rq_fqu m N) rfl, rq_up_id (f := rq_cat m) (k := rq_fqu m N) rfl] at done
  obtain ⟨dC, dG, dN⟩ := done
  have etop : b N = rq_top m := by
    rw [← eb]
    exact hF.2.2.2.2.1
  have hfq : rq_fr (rq_doneC m (rq_fqu m N)) (rq_fqu m N) = true := rq_fr_mk k1 k2 rq_up_s
  refine ⟨⟨hS, dC, ⟨b, ?_⟩, hR, fun _ => hq0 (by omega), fun _ z => ?_, fun z => ?_⟩, ?_⟩
  · have hd := rq_FI_drop hF
    rw [etop] at hd
    show rq_FI (rq_env m) (rq_rev m) (rq_sch m) (rq_gat m) (rq_kno m) (rq_sta m) (rq_up (rq_vat m) (rq_fqu m N) (rq_rev m)) (rq_cat m) (rq_up (rq_std m) (rq_fqu m N) (rq_as (rq_std m) (fun i => rq_ned m (rq_fqu m N * 10 + i)) (rq_nct m (rq_fqu m N)))) (rq_nct m) (rq_ned m) (rq_pil m) (rq_frm m - 1) (rq_fqu m) (rq_fwk m) (rq_fps m) (rq_top m) b
    rw [eN]
    refine rq_FI_keep hd (fun i hi => ?_) (fun p hp => (dG p hp).2) (fun p _ => rfl) (fun i _ => rfl) (fun i _ => ⟨rfl, rfl, rfl⟩)
    exact ⟨rfl, rfl, rq_up_n (hne i hi), rfl, fun j _ => rfl, dN _ (hne i hi) (hd.1 i hi).2⟩
  · have z' : rq_frm m - 1 = 0 := z
    have e0 : N = 0 := by omega
    have e1 : rq_fqu m 0 = q0 := hq0 (by omega)
    rw [e0, e1] at hfq
    rw [e0, e1]
    exact hfq
  · have z' : rq_fai m = true := z
    rw [hfai] at z'
    cases z'
  · refine rq_mum_eq ?_ rfl
    have hcnt : rq_cnt (rq_fr (rq_doneC m (rq_fqu m N))) 8 = rq_cnt (rq_fr m) 8 + 1 := by
      rw [← rq_cnt_up (rq_nG_fr hng) hq]
      refine rq_cnt_congr (fun i hi => ?_)
      by_cases e : i = rq_fqu m N
      · rw [e, rq_up_s]
        exact hfq
      · rw [rq_up_n e]
        exact rq_fr_same rfl rfl (rq_up_n e) rfl
    rw [hcnt]
    have hpg := rq_L_pig hF0
    rw [eN] at hpg
    show rq_mu (rq_cnt (rq_fr m) 8 + 1) (rq_frm m - 1) (rq_rem (rq_env m).2.2 (rq_nct m) (rq_fqu m) (rq_fwk m) (rq_fps m)) < rq_mu (rq_cnt (rq_fr m) 8) (rq_frm m) (rq_rem (rq_env m).2.2 (rq_nct m) (rq_fqu m) (rq_fwk m) (rq_fps m))
    rw [eN]
    exact rq_mu_done (fun i _ => rfl) hpg
/-- the check goes on -/
theorem rq_L_advC {m0 m : rq_M} {q0 N : Nat} {b : Nat → Nat} (h : rq_L0 m0 q0 m b) (eN : rq_frm m = N + 1) (hw : rq_fwk m N = false) (hlt : rq_fps m N < rq_nct m (rq_fqu m N))
    (hv : (rq_ned m (rq_fqu m N * 10 + rq_fps m N) < 6 → rq_gat m (rq_ned m (rq_fqu m N * 10 + rq_fps m N)) ≤ rq_vat m (rq_fqu m N)) ∧ ∀ k, rq_ned m (rq_fqu m N * 10 + rq_fps m N) = 6 + k → rq_Gm m k ∧ rq_cat m k ≤ rq_vat m (rq_fqu m N)) :
    rq_LI m0 q0 (rq_adv m N) ∧ rq_mum (rq_adv m N) < rq_mum m := by
  obtain ⟨hS, hC, hF0, hR, hq0, hfai⟩ := h
  have hF := rq_L_FI hF0 eN
  obtain ⟨hq, hng⟩ := hF.1 N (by omega)
  obtain ⟨_, _, fc⟩ := hF.2.2.2.2.2 N (by omega)
  obtain ⟨eb, k1, k2, k3, k4⟩ := fc hw
  have etop : b N = rq_top m := by
    rw [← eb]
    exact hF.2.2.2.2.1
  refine ⟨⟨hS, hC, ⟨rq_up b (N + 1) (rq_top m), ?_⟩, hR, fun _ => hq0 (by omega), fun _ z => ?_, fun z => ?_⟩, ?_⟩
  · have hd := rq_FI_drop hF
    rw [etop] at hd
    show rq_FI (rq_env m) (rq_rev m) (rq_sch m) (rq_gat m) (rq_kno m) (rq_sta m) (rq_vat m) (rq_cat m) (rq_std m) (rq_nct m) (rq_ned m) (rq_pil m) (rq_frm m) (rq_fqu m) (rq_fwk m) (rq_up (rq_fps m) N (rq_fps m N + 1)) (rq_top m) (rq_up b (N + 1) (rq_top m))
    rw [eN]
    refine rq_FI_push hd hq hng (fun i hi => hF.2.1 i N hi (by omega)) (fun z => ?_) (fun i hi => ⟨rfl, rfl, rq_up_n (by omega)⟩) rfl ?_
    · have d := hF.2.2.1 (N - 1) (by omega)
      rw [show N - 1 + 1 = N by omega] at d
      exact d
    · rw [rq_up_s, hw]
      refine ⟨Nat.le_refl _, (fun z => by cases z), fun _ => ⟨rfl, k1, k2, by omega, fun j hj => ?_⟩⟩
      by_cases e : j = rq_fps m N
      · rw [e]
        exact hv
      · exact k4 j (by omega)
  · exact absurd (show rq_frm m = 0 from z) (by omega)
  · have z' : rq_fai m = true := z
    rw [hfai] at z'
    cases z'
  · refine rq_mum_eq ?_ rfl
    show rq_mu (rq_cnt (rq_fr m) 8) (rq_frm m) (rq_rem (rq_env m).2.2 (rq_nct m) (rq_fqu m) (rq_fwk m) (rq_up (rq_fps m) N (rq_fps m N + 1))) < rq_mu (rq_cnt (rq_fr m) 8) (rq_frm m) (rq_rem (rq_env m).2.2 (rq_nct m) (rq_fqu m) (rq_fwk m) (rq_fps m))
    rw [eN]
    refine rq_mu_adv (fun i hi => rq_rem_congr rfl rfl (rq_up_n (by omega)) rfl) ?_
    unfold rq_rem
    rw [hw, rq_up_s, if_neg (by decide), if_neg (by decide)]
    omega
/-- something has changed: work begins -/
theorem rq_L_startW {m0 m : rq_M} {q0 N : Nat} {b : Nat → Nat} (h : rq_L0 m0 q0 m b) (eN : rq_frm m = N + 1) (hw : rq_fwk m N = false) :
    rq_LI m0 q0 (rq_startW m N) ∧ rq_mum (rq_startW m N) < rq_mum m := by
  obtain ⟨hS, hC, hF0, hR, hq0, hfai⟩ := h
  have hF := rq_L_FI hF0 eN
  obtain ⟨hq, hng⟩ := hF.1 N (by omega)
  obtain ⟨_, _, fc⟩ := hF.2.2.2.2.2 N (by omega)
  obtain ⟨eb, k1, k2, k3, k4⟩ := fc hw
  have hne : ∀ i, i < N → rq_fqu m i ≠ rq_fqu m N := fun i hi => hF.2.1 i N hi (by omega)
  have etop : b N = rq_top m := by
    rw [← eb]
    exact hF.2.2.2.2.1
  have hng' : ¬ rq_Gd (rq_rev m) (rq_sch m) (rq_kno m) (rq_up (rq_sta m) (rq_fqu m N) true) (rq_vat m) (rq_std m) (rq_fqu m N) := by
    intro g
    have z := g.2.1
    rw [rq_up_s] at z
    cases z
  refine ⟨⟨hS, rq_CI_start hC hng, ⟨rq_up b (N + 1) (rq_top m), ?_⟩, hR, fun _ => hq0 (by omega), fun _ z => ?_, fun z => ?_⟩, ?_⟩
  · have hd := rq_FI_drop hF
    rw [etop] at hd
    have hd' : rq_FI (rq_env m) (rq_rev m) (rq_sch m) (rq_gat m) (rq_kno m) (rq_up (rq_sta m) (rq_fqu m N) true) (rq_vat m) (rq_cat m) (rq_std m) (rq_up (rq_nct m) (rq_fqu m N) 0) (rq_ned m) (rq_pil m) N (rq_fqu m) (rq_fwk m) (rq_fps m) (rq_top m) b := by
      refine rq_FI_keep hd (fun i hi => ?_) (fun p hp => ?_) (fun p _ => rfl) (fun i _ => rfl) (fun i _ => ⟨rfl, rfl, rfl⟩)
      · have e := hne i hi
        refine ⟨rfl, rq_up_n e, rfl, rq_up_n e, fun j _ => rfl, fun g => (hd.1 i hi).2 ?_⟩
        obtain ⟨g1, g2, g3⟩ := g
        rw [rq_up_n e] at g2
        exact ⟨g1, g2, g3⟩
      · have e : p ≠ rq_fqu m N := fun e => hng (e ▸ hp)
        refine ⟨hp.1, ?_, hp.2.2⟩
        rw [rq_up_n e]
        exact hp.2.1
    show rq_FI (rq_env m) (rq_rev m) (rq_sch m) (rq_gat m) (rq_kno m) (rq_up (rq_sta m) (rq_fqu m N) true) (rq_vat m) (rq_cat m) (rq_std m) (rq_up (rq_nct m) (rq_fqu m N) 0) (rq_ned m) (rq_pil m) (rq_frm m) (rq_fqu m) (rq_up (rq_fwk m) N true) (rq_up (rq_fps m) N 0) (rq_top m) (rq_up b (N + 1) (rq_top m))
    rw [eN]
    refine rq_FI_push hd' hq hng' hne (fun z => ?_) (fun i hi => ⟨rfl, rq_up_n (by omega), rq_up_n (by omega)⟩) rfl ?_
    · have d := hF.2.2.1 (N - 1) (by omega)
      rw [show N - 1 + 1 = N by omega] at d
      exact d
    · rw [rq_up_s, rq_up_s]
      have hns : rq_ns (rq_up (rq_nct m) (rq_fqu m N) 0) (rq_ned m) (rq_fqu m N) = [] := by
        unfold rq_ns
        rw [rq_up_s]
        rfl
      refine ⟨Nat.le_refl _, fun _ => ⟨Nat.zero_le _, rq_up_s, ?_, ?_⟩, (fun z => by cases z)⟩
      · rw [hns, Nat.sub_self]
        rfl
      · rw [hns]
        intro k' hk'
        exact absurd hk' List.not_mem_nil
  · exact absurd (show rq_frm m = 0 from z) (by omega)
  · have z' : rq_fai m = true := z
    rw [hfai] at z'
    cases z'
  · refine rq_mum_eq ?_ rfl
    have hcnt : rq_cnt (rq_fr (rq_startW m N)) 8 = rq_cnt (rq_fr m) 8 := by
      refine rq_cnt_congr (fun i hi => ?_)
      by_cases e : i = rq_fqu m N
      · rw [e, rq_nG_fr hng]
        exact rq_nG_fr hng'
      · exact rq_fr_same rfl (rq_up_n e) rfl rfl
    rw [hcnt]
    show rq_mu (rq_cnt (rq_fr m) 8) (rq_frm m) (rq_rem (rq_env m).2.2 (rq_up (rq_nct m) (rq_fqu m N) 0) (rq_fqu m) (rq_up (rq_fwk m) N true) (rq_up (rq_fps m) N 0)) < rq_mu (rq_cnt (rq_fr m) 8) (rq_frm m) (rq_rem (rq_env m).2.2 (rq_nct m) (rq_fqu m) (rq_fwk m) (rq_fps m))
    rw [eN]
    refine rq_mu_adv (fun i hi => rq_rem_congr rfl (rq_up_n (by omega)) (rq_up_n (by omega)) (rq_up_n (hne i hi))) ?_
    unfold rq_rem
    rw [hw, rq_up_s, rq_up_s, if_pos rfl, if_neg (by decide)]
    have c := (hC.1 _ hq).2.2
    omega
theorem rq_L_check {m0 m : rq_M} {q0 N : Nat} {b : Nat → Nat} (h : rq_L0 m0 q0 m b) (eN : rq_frm m = N + 1) (hw : rq_fwk m N = false) {post : St1 → Prop}
    (hp : ∀ m', rq_LI m0 q0 m' → rq_mum m' < rq_mum m → post (rq_cm m')) : wpX_checkStep post (rq_cm m) (nI N) := by
  have hC := h.2.1
  have hF0 := h.2.2.1
  have hF := rq_L_FI hF0 eN
  have hR := h.2.2.2.1
  have h5 := hC.2.2.2.2.2
  obtain ⟨hq, hng⟩ := hF.1 N (by omega)
  obtain ⟨_, _, fc⟩ := hF.2.2.2.2.2 N (by omega)
  obtain ⟨eb, k1, k2, k3, k4⟩ := fc hw
  have b5 := h5.2.2.2 _ hq
  have hpg := rq_L_pig hF0
  have hver := rq_ver hC hq k1 k2 k3 k4
  refine rq_x_check N (rq_fqu m N) (by omega) hq rfl k3 b5.2.2.2.1 b5.2.2.2.2 hR (fun p hp' => (h5.2.2.2 p hp').1) (fun p hp' => (h5.2.2.2 p hp').2.1) h5.2.2.1 (by omega) (fun he => ?_) (fun d hlt ed h6 => ⟨fun hv => ?_, fun hv => ?_⟩) (fun k hlt ek hk hfr => ⟨fun hv => ?_, fun hv => ?_⟩) (fun k hlt ek hk hfr => ?_)
  · have z := rq_L_doneC h eN hw he
    exact hp _ z.1 z.2
  · have z := rq_L_advC h eN hw hlt ⟨fun _ => by rw [ed]; exact hv, fun k ek => absurd ek (by omega)⟩
    exact hp _ z.1 z.2
  · have z := rq_L_startW h eN hw
    exact hp _ z.1 z.2
  · have z := rq_L_advC h eN hw hlt ⟨fun h6 => absurd h6 (by omega), fun k' ek' => by
      have e : k' = k := by omega
      rw [e]
      exact ⟨rq_fr_G hfr, hv⟩⟩
    exact hp _ z.1 z.2
  · have z := rq_L_startW h eN hw
    exact hp _ z.1 z.2
  · refine rq_L_request h hk hfr (fun _ => ?_) (fun z => absurd z (by omega)) hp
    rw [eN]
    exact hver.2 k hlt ek
end
section
/-! one round of ensure's loop: a frame that works -/
theorem rq_seg_push {pil : Nat → Int32} {lo t : Nat} {y : Int32} (h : lo ≤ t) : rq_seg (rq_up pil t y) lo (t + 1 - lo) = y :: rq_seg pil lo (t - lo) := by
  rw [show t + 1 - lo = (t - lo) + 1 by omega]
  show rq_up pil t y (lo + (t - lo)) :: rq_seg (rq_up pil t y) lo (t - lo) = y :: rq_seg pil lo (t - lo)
  rw [show lo + (t - lo) = t by omega, rq_up_s, rq_seg_congr (pil := pil) (fun i _ h2 => rq_up_n (by omega))]
theorem rq_seg_cons {pil : Nat → Int32} {lo t : Nat} (h : lo + 1 ≤ t) : rq_seg pil lo (t - lo) = pil (t - 1) :: rq_seg pil lo (t - 1 - lo) := by
  rw [show t - lo = (t - 1 - lo) + 1 by omega]
  show pil (lo + (t - 1 - lo)) :: rq_seg pil lo (t - 1 - lo) = _
  rw [show lo + (t - 1 - lo) = t - 1 by omega]
theorem rq_wst_psh (m : rq_M) (N : Nat) (y : Int32) : rq_adv (rq_psh m y) N = rq_wst m N (rq_nct m) (rq_ned m) (rq_up (rq_pil m) (rq_top m) y) (rq_top m + 1) := by
  simp only [rq_adv, rq_wst, rq_g_psh]
theorem rq_wst_op (m : rq_M) (N t : Nat) (y : Int32) : rq_adv (rq_psh (rq_w_top m t) y) N = rq_wst m N (rq_nct m) (rq_ned m) (rq_up (rq_pil m) t y) (t + 1) := by
  simp only [rq_adv, rq_wst, rq_g_psh, rq_g_top]
theorem rq_wst_note (m : rq_M) (N q d : Nat) (y : Int32) : rq_adv (rq_psh (rq_note m q d) y) N = rq_wst m N (rq_up (rq_nct m) q (rq_nct m q + 1)) (rq_up (rq_ned m) (q * 10 + rq_nct m q) d) (rq_up (rq_pil m) (rq_top m) y) (rq_top m + 1) := by
  simp only [rq_adv, rq_wst, rq_g_psh, rq_g_note]
theorem rq_wst_notep (m : rq_M) (N t q d : Nat) (y : Int32) : rq_adv (rq_psh (rq_note (rq_w_top m t) q d) y) N = rq_wst m N (rq_up (rq_nct m) q (rq_nct m q + 1)) (rq_up (rq_ned m) (q * 10 + rq_nct m q) d) (rq_up (rq_pil m) t y) (t + 1) := by
  simp only [rq_adv, rq_wst, rq_g_psh, rq_g_note, rq_g_top]
theorem rq_L_wadv {m0 m : rq_M} {q0 N : Nat} {b : Nat → Nat} (h : rq_L0 m0 q0 m b) (eN : rq_frm m = N + 1) (hw : rq_fwk m N = true) {nct' ned' : Nat → Nat} {pil' : Nat → Int32} {t : Nat}
    (hlt : rq_fps m N < rq_len m (rq_fqu m N))
    (hC' : rq_CI (rq_env m) (rq_rev m) (rq_sch m) (rq_gat m) (rq_kno m) (rq_sta m) (rq_mem m) (rq_vat m) (rq_cat m) (rq_cir m) (rq_std m) nct' ned')
    (hn : ∀ p, p < 8 → p ≠ rq_fqu m N → nct' p = rq_nct m p ∧ ∀ j, j < rq_nct m p → ned' (p * 10 + j) = rq_ned m (p * 10 + j))
    (hb : b N ≤ t) (hpil : ∀ i, i < b N → pil' i = rq_pil m i)
    (hpre : rq_pre (rq_env m).1 (rq_V (rq_env m)) ((rq_env m).2.1 (rq_fqu m N)) (rq_fps m N + 1) = some (rq_seg pil' (b N) (t - b N), rq_ns nct' ned' (rq_fqu m N)))
    (hG : ∀ k, 6 + k ∈ rq_ns nct' ned' (rq_fqu m N) → rq_Gm m k) :
    rq_LI m0 q0 (rq_wst m N nct' ned' pil' t) ∧ rq_mum (rq_wst m N nct' ned' pil' t) < rq_mum m := by
  obtain ⟨hS, hC, hF0, hR, hq0, hfai⟩ := h
  have hF := rq_L_FI hF0 eN
  obtain ⟨hq, hng⟩ := hF.1 N (by omega)
  obtain ⟨_, fw, _⟩ := hF.2.2.2.2.2 N (by omega)
  obtain ⟨k1, k2, k3, k4⟩ := fw hw
  have hne : ∀ i, i < N → rq_fqu m i ≠ rq_fqu m N := fun i hi => hF.2.1 i N hi (by omega)
  have elen : (rq_env m).2.2 (rq_fqu m N) = rq_len m (rq_fqu m N) := rq_env_len hq
  refine ⟨⟨hS, hC', ⟨rq_up b (N + 1) t, ?_⟩, hR, fun _ => hq0 (by omega), fun _ z => ?_, fun z => ?_⟩, ?_⟩
  · have hd := rq_FI_drop hF
    have hd' : rq_FI (rq_env m) (rq_rev m) (rq_sch m) (rq_gat m) (rq_kno m) (rq_sta m) (rq_vat m) (rq_cat m) (rq_std m) nct' ned' pil' N (rq_fqu m) (rq_fwk m) (rq_fps m) (b N) b := by
      refine rq_FI_keep hd (fun i hi => ?_) (fun p hp => hp) (fun p _ => rfl) hpil (fun i _ => ⟨rfl, rfl, rfl⟩)
      have z := hn _ (hd.1 i hi).1 (hne i hi)
      exact ⟨rfl, rfl, rfl, z.1, z.2, (hd.1 i hi).2⟩
    show rq_FI (rq_env m) (rq_rev m) (rq_sch m) (rq_gat m) (rq_kno m) (rq_sta m) (rq_vat m) (rq_cat m) (rq_std m) nct' ned' pil' (rq_frm m) (rq_fqu m) (rq_fwk m) (rq_up (rq_fps m) N (rq_fps m N + 1)) t (rq_up b (N + 1) t)
    rw [eN]
    refine rq_FI_push hd' hq hng hne (fun z => ?_) (fun i hi => ⟨rfl, rfl, rq_up_n (by omega)⟩) rfl ?_
    · have d := hF.2.2.1 (N - 1) (by omega)
      rw [show N - 1 + 1 = N by omega] at d
      exact d
    · rw [rq_up_s, hw]
      exact ⟨hb, fun _ => ⟨by rw [elen]; omega, k2, hpre, hG⟩, (fun z => by cases z)⟩
  · exact absurd (show rq_frm m = 0 from z) (by omega)
  · have z' : rq_fai m = true := z
    rw [hfai] at z'
    cases z'
  · refine rq_mum_eq ?_ rfl
    show rq_mu (rq_cnt (rq_fr m) 8) (rq_frm m) (rq_rem (rq_env m).2.2 nct' (rq_fqu m) (rq_fwk m) (rq_up (rq_fps m) N (rq_fps m N + 1))) < rq_mu (rq_cnt (rq_fr m) 8) (rq_frm m) (rq_rem (rq_env m).2.2 (rq_nct m) (rq_fqu m) (rq_fwk m) (rq_fps m))
    rw [eN]
    refine rq_mu_adv (fun i hi => rq_rem_congr rfl rfl (rq_up_n (by omega)) (hn _ (hF.1 i (by omega)).1 (hne i hi)).1) ?_
    unfold rq_rem
    rw [hw, rq_up_s, if_pos rfl, if_pos rfl, elen]
    omega
/-- the body is worked off -/
theorem rq_L_doneW {m0 m : rq_M} {q0 N : Nat} {b : Nat → Nat} (h : rq_L0 m0 q0 m b) (eN : rq_frm m = N + 1) (hw : rq_fwk m N = true) (he : rq_fps m N = rq_len m (rq_fqu m N)) {c : Nat}
    (hc : c = rq_rev m ∨ (c = rq_cat m (rq_fqu m N) ∧ rq_pil m (rq_top m - 1) = rq_mem m (rq_fqu m N))) :
    1 ≤ rq_top m ∧ rq_LI m0 q0 (rq_endS m (rq_fqu m N) (rq_pil m (rq_top m - 1)) c) ∧
    rq_mum (rq_endS m (rq_fqu m N) (rq_pil m (rq_top m - 1)) c) < rq_mum m := by
  obtain ⟨hS, hC, hF0, hR, hq0, hfai⟩ := h
  have hF := rq_L_FI hF0 eN
  obtain ⟨hq, hng⟩ := hF.1 N (by omega)
  obtain ⟨f0, fw, _⟩ := hF.2.2.2.2.2 N (by omega)
  obtain ⟨k1, k2, k3, k4⟩ := fw hw
  have hne : ∀ i, i < N → rq_fqu m i ≠ rq_fqu m N := fun i hi => hF.2.1 i N hi (by omega)
  have elen : (rq_env m).2.2 (rq_fqu m N) = rq_len m (rq_fqu m N) := rq_env_len hq
  have etop : b (N + 1) = rq_top m := hF.2.2.2.2.1
  rw [etop] at k3 f0
  rw [he, ← elen] at k3
  obtain ⟨w1, w2, w3⟩ := hC.1 _ hq
  have hl := rq_pre_ht w1 (Nat.le_refl _) k3
  rw [w2] at hl
  have hl' : rq_top m - b N = 1 := by
    rw [← rq_seg_len (rq_pil m) (b N) (rq_top m - b N)]
    exact hl
  have eb : b N = rq_top m - 1 := by omega
  have hseg : rq_seg (rq_pil m) (b N) (rq_top m - b N) = [rq_pil m (rq_top m - 1)] := by
    rw [hl', eb]
    rfl
  rw [hseg] at k3
  have done := rq_CI_done (c := c) hC hq hng k3 k4 (st := rq_as (rq_std m) (fun i => rq_ned m (rq_fqu m N * 10 + i)) (rq_nct m (rq_fqu m N))) (fun z => rq_as_t z) hc
  obtain ⟨dC, dG, dN⟩ := done
  have hfq : rq_fr (rq_endS m (rq_fqu m N) (rq_pil m (rq_top m - 1)) c) (rq_fqu m N) = true := rq_fr_mk rq_up_s rq_up_s rq_up_s
  refine ⟨by omega, ⟨hS, dC, ⟨b, ?_⟩, hR, fun _ => hq0 (by omega), fun _ z => ?_, fun z => ?_⟩, ?_⟩
  · have hd := rq_FI_drop hF
    rw [eb] at hd
    show rq_FI (rq_env m) (rq_rev m) (rq_sch m) (rq_gat m) (rq_up (rq_kno m) (rq_fqu m N) true) (rq_up (rq_sta m) (rq_fqu m N) false) (rq_up (rq_vat m) (rq_fqu m N) (rq_rev m)) (rq_up (rq_cat m) (rq_fqu m N) c) (rq_up (rq_std m) (rq_fqu m N) (rq_as (rq_std m) (fun i => rq_ned m (rq_fqu m N * 10 + i)) (rq_nct m (rq_fqu m N)))) (rq_nct m) (rq_ned m) (rq_pil m) (rq_frm m - 1) (rq_fqu m) (rq_fwk m) (rq_fps m) (rq_top m - 1) b
    rw [eN]
    refine rq_FI_keep hd (fun i hi => ?_) (fun p hp => (dG p hp).2) (fun p hp => rq_up_n (dG p hp).1) (fun i _ => rfl) (fun i _ => ⟨rfl, rfl, rfl⟩)
    exact ⟨rq_up_n (hne i hi), rq_up_n (hne i hi), rq_up_n (hne i hi), rfl, fun j _ => rfl, dN _ (hne i hi) (hd.1 i hi).2⟩
  · have z' : rq_frm m - 1 = 0 := z
    have e0 : N = 0 := by omega
    have e1 : rq_fqu m 0 = q0 := hq0 (by omega)
    rw [e0, e1] at hfq
    rw [e0, e1]
    exact hfq
  · have z' : rq_fai m = true := z
    rw [hfai] at z'
    cases z'
  · refine rq_mum_eq ?_ rfl
    have hcnt : rq_cnt (rq_fr (rq_endS m (rq_fqu m N) (rq_pil m (rq_top m - 1)) c)) 8 = rq_cnt (rq_fr m) 8 + 1 := by
      rw [← rq_cnt_up (rq_nG_fr hng) hq]
      refine rq_cnt_congr (fun i hi => ?_)
      by_cases e : i = rq_fqu m N
      · rw [e, rq_up_s]
        exact hfq
      · rw [rq_up_n e]
        exact rq_fr_same (rq_up_n e) (rq_up_n e) (rq_up_n e) rfl
    rw [hcnt]
    have hpg := rq_L_pig hF0
    rw [eN] at hpg
    show rq_mu (rq_cnt (rq_fr m) 8 + 1) (rq_frm m - 1) (rq_rem (rq_env m).2.2 (rq_nct m) (rq_fqu m) (rq_fwk m) (rq_fps m)) < rq_mu (rq_cnt (rq_fr m) 8) (rq_frm m) (rq_rem (rq_env m).2.2 (rq_nct m) (rq_fqu m) (rq_fwk m) (rq_fps m))
    rw [eN]
    exact rq_mu_done (fun i _ => rfl) hpg
theorem rq_dem_dm {m : rq_M} {ad k lo : Nat} (hk : k < 8) (hh : rq_tok m ad = 3 → lo + 1 ≤ rq_top m) (hd : rq_dem m ad k) :
    rq_dm (rq_tok m ad, rq_fst m ad, rq_sec m ad) (rq_seg (rq_pil m) lo (rq_top m - lo)) = some k := by
  unfold rq_dm
  rcases hd with ⟨e1, e2⟩ | ⟨e1, _, e2⟩
  · rw [if_pos e1]
    show some (rq_fst m ad).toNatClampNeg = some k
    rw [e2, nI_clamp (by omega)]
  · rw [if_neg (show ¬ rq_tok m ad = 2 by omega), if_pos e1, rq_seg_cons (hh e1)]
    show some (if rq_pil m (rq_top m - 1) = 0 then (rq_sec m ad).toNatClampNeg else (rq_fst m ad).toNatClampNeg) = some k
    rcases e2 with ⟨e2, e3⟩ | ⟨e2, e3⟩
    · rw [if_pos e2, e3, nI_clamp (by omega)]
    · rw [if_neg e2, e3, nI_clamp (by omega)]
/-- what a working frame knows -/
theorem rq_L_wk {m0 m : rq_M} {q0 N : Nat} {b : Nat → Nat} (h : rq_L0 m0 q0 m b) (eN : rq_frm m = N + 1) (hw : rq_fwk m N = true) :
    rq_fqu m N < 8 ∧ rq_len m (rq_fqu m N) ≤ 10 ∧ rq_fps m N ≤ rq_len m (rq_fqu m N) ∧ rq_sta m (rq_fqu m N) = true ∧ b N ≤ rq_top m ∧ rq_top m ≤ 80 ∧
    rq_pre (rq_env m).1 (rq_V (rq_env m)) ((rq_env m).2.1 (rq_fqu m N)) (rq_fps m N) = some (rq_seg (rq_pil m) (b N) (rq_top m - b N), rq_ns (rq_nct m) (rq_ned m) (rq_fqu m N)) ∧
    (∀ k, 6 + k ∈ rq_ns (rq_nct m) (rq_ned m) (rq_fqu m N) → rq_Gm m k) ∧
    rq_nct m (rq_fqu m N) ≤ rq_fps m N ∧
    (rq_fps m N < rq_len m (rq_fqu m N) → (rq_env m).2.1 (rq_fqu m N) (rq_fps m N) = (rq_tok m (rq_fqu m N * 10 + rq_fps m N), rq_fst m (rq_fqu m N * 10 + rq_fps m N), rq_sec m (rq_fqu m N * 10 + rq_fps m N)) ∧
      rq_tk (rq_tok m (rq_fqu m N * 10 + rq_fps m N), rq_fst m (rq_fqu m N * 10 + rq_fps m N), rq_sec m (rq_fqu m N * 10 + rq_fps m N)) (rq_top m - b N)) := by
  obtain ⟨hS, hC, hF0, hR, hq0, hfai⟩ := h
  have hF := rq_L_FI hF0 eN
  have hpg := rq_L_pig hF0
  obtain ⟨hq, hng⟩ := hF.1 N (by omega)
  obtain ⟨f0, fw, _⟩ := hF.2.2.2.2.2 N (by omega)
  obtain ⟨k1, k2, k3, k4⟩ := fw hw
  have elen : (rq_env m).2.2 (rq_fqu m N) = rq_len m (rq_fqu m N) := rq_env_len hq
  have etop : b (N + 1) = rq_top m := hF.2.2.2.2.1
  have hb10 := rq_FI_b10 hC.1 hF (N + 1) (Nat.le_refl _)
  rw [etop] at k3 f0 hb10
  obtain ⟨w1, w2, w3⟩ := hC.1 _ hq
  rw [elen] at k1 w1 w3
  have hl := (rq_pre_len k3).2
  have hl' : rq_nct m (rq_fqu m N) ≤ rq_fps m N := by
    rw [← rq_tl_len (fun i => rq_ned m (rq_fqu m N * 10 + i)) (rq_nct m (rq_fqu m N))]
    exact hl
  refine ⟨hq, w3, k1, k2, f0, by omega, k3, k4, hl', fun hlt => ?_⟩
  have e := rq_env_tok (m := m) (q := rq_fqu m N) (i := rq_fps m N) hq (by omega)
  refine ⟨e, ?_⟩
  have t := w1 _ hlt
  rw [← rq_pre_ht w1 k1 k3, e] at t
  have t' : rq_tk (rq_tok m (rq_fqu m N * 10 + rq_fps m N), rq_fst m (rq_fqu m N * 10 + rq_fps m N), rq_sec m (rq_fqu m N * 10 + rq_fps m N)) (rq_seg (rq_pil m) (b N) (rq_top m - b N)).length := t
  rw [rq_seg_len] at t'
  exact t'
theorem rq_L_work {m0 m : rq_M} {q0 N : Nat} {b : Nat → Nat} (h : rq_L0 m0 q0 m b) (eN : rq_frm m = N + 1) (hw : rq_fwk m N = true) {post : St1 → Prop}
    (hp : ∀ m', rq_LI m0 q0 m' → rq_mum m' < rq_mum m → post (rq_cm m')) : wpX_workStep post (rq_cm m) (nI N) := by
  have hC := h.2.1
  have hF0 := h.2.2.1
  have hR := h.2.2.2.1
  have h5 := hC.2.2.2.2.2
  have hpg := rq_L_pig hF0
  obtain ⟨hq, w3, k1, k2, f0, t80, k3, k4, hnc, htk⟩ := rq_L_wk h eN hw
  have hadv0 : ∀ y, rq_fps m N < rq_len m (rq_fqu m N) → ∀ t, b N ≤ t → rq_pre (rq_env m).1 (rq_V (rq_env m)) ((rq_env m).2.1 (rq_fqu m N)) (rq_fps m N + 1) = some (y :: rq_seg (rq_pil m) (b N) (t - b N), rq_ns (rq_nct m) (rq_ned m) (rq_fqu m N)) →
      post (rq_cm (rq_wst m N (rq_nct m) (rq_ned m) (rq_up (rq_pil m) t y) (t + 1))) := by
    intro y hlt t ht hpre
    have z := rq_L_wadv h eN hw (nct' := rq_nct m) (ned' := rq_ned m) (pil' := rq_up (rq_pil m) t y) (t := t + 1) hlt hC (fun p _ _ => ⟨rfl, fun j _ => rfl⟩) (by omega) (fun i hi => rq_up_n (by omega)) (by rw [rq_seg_push ht]; exact hpre) k4
    exact hp _ z.1 z.2
  have hadv1 : ∀ y d, d < 14 → rq_fps m N < rq_len m (rq_fqu m N) → ∀ t, b N ≤ t → (∀ k, d = 6 + k → rq_Gm m k) →
      rq_pre (rq_env m).1 (rq_V (rq_env m)) ((rq_env m).2.1 (rq_fqu m N)) (rq_fps m N + 1) = some (y :: rq_seg (rq_pil m) (b N) (t - b N), rq_ns (rq_nct m) (rq_ned m) (rq_fqu m N) ++ [d]) →
      post (rq_cm (rq_wst m N (rq_up (rq_nct m) (rq_fqu m N) (rq_nct m (rq_fqu m N) + 1)) (rq_up (rq_ned m) (rq_fqu m N * 10 + rq_nct m (rq_fqu m N)) d) (rq_up (rq_pil m) t y) (t + 1))) := by
    intro y d hd hlt t ht hgd hpre
    have z := rq_L_wadv h eN hw (nct' := rq_up (rq_nct m) (rq_fqu m N) (rq_nct m (rq_fqu m N) + 1)) (ned' := rq_up (rq_ned m) (rq_fqu m N * 10 + rq_nct m (rq_fqu m N)) d) (pil' := rq_up (rq_pil m) t y) (t := t + 1) hlt (rq_CI_note hC k2 (by omega) hd)
      (fun p hp8 hpe => ⟨rq_up_n hpe, fun j hj => rq_ned_note (by omega) (by have c := (h5.2.2.2 p hp8).2.2.2.1; omega) hpe⟩) (by omega) (fun i hi => rq_up_n (by omega)) (by rw [rq_seg_push ht, rq_ns_note]; exact hpre)
      (fun k hk => by
        rw [rq_ns_note] at hk
        rcases List.mem_append.mp hk with y | y
        · exact k4 k y
        · exact hgd k (List.mem_singleton.mp y).symm)
    exact hp _ z.1 z.2
  refine rq_x_work N (rq_fqu m N) (by omega) hq rfl k1 w3 hR (fun p hp8 => (h5.2.2.2 p hp8).1) (fun hlt => ⟨by omega, by omega⟩) (fun hlt => (htk hlt).2.1) (fun hlt z => ?_) (fun hlt z => ?_) (fun hlt z => (htk hlt).2.2.1 z) (fun hlt z => ?_) (fun he => ?_) (fun hlt k hk hd hfr => ?_) (fun hlt k hk hd hfr => ?_) (fun hlt z => ?_) (fun hlt z d hd ed => ?_) (fun hlt z ht2 => ?_)
  · rcases z with z | z
    · exact (htk hlt).2.2.2.1 z
    · exact ((htk hlt).2.2.2.2.1 z).2.1
  · obtain ⟨a1, a2, a3⟩ := (htk hlt).2.2.2.2.1 z
    exact ⟨by omega, a3⟩
  · have a := (htk hlt).2.2.2.2.2 z
    omega
  · have b5 := h5.2.2.2 _ hq
    have h1 := rq_L_doneW h eN hw he (c := rq_rev m) (Or.inl rfl)
    refine rq_x_end (rq_fqu m N) hq b5.2.2.2.1 b5.2.2.2.2 (by omega) h1.1 (by omega) (fun _ => hp _ h1.2.1 h1.2.2) (fun _ em => ?_)
    have h2 := rq_L_doneW h eN hw he (c := rq_cat m (rq_fqu m N)) (Or.inr ⟨rfl, em.symm⟩)
    exact hp _ h2.2.1 h2.2.2
  · have hh : rq_tok m (rq_fqu m N * 10 + rq_fps m N) = 3 → b N + 1 ≤ rq_top m := fun z => by
      have a := ((htk hlt).2.2.2.2.1 z).1
      omega
    have dm := rq_dem_dm (lo := b N) hk hh hd
    have hV := rq_Gd_V hC hk (rq_fr_G hfr)
    have hst : rq_pre (rq_env m).1 (rq_V (rq_env m)) ((rq_env m).2.1 (rq_fqu m N)) (rq_fps m N + 1) = some (rq_mem m k :: rq_pop (rq_tok m (rq_fqu m N * 10 + rq_fps m N), rq_fst m (rq_fqu m N * 10 + rq_fps m N), rq_sec m (rq_fqu m N * 10 + rq_fps m N)) (rq_seg (rq_pil m) (b N) (rq_top m - b N)), rq_ns (rq_nct m) (rq_ned m) (rq_fqu m N) ++ [6 + k]) := by
      refine rq_pre_mk k3 ?_
      rw [(htk hlt).1]
      exact rq_st_dm dm hV
    have hgk : ∀ k', 6 + k = 6 + k' → rq_Gm m k' := fun k' e => by
      have e' : k' = k := by omega
      rw [e']
      exact rq_fr_G hfr
    unfold rq_pop at hst
    unfold rq_popT
    by_cases z3 : rq_tok m (rq_fqu m N * 10 + rq_fps m N) = 3
    · have a := hh z3
      rw [if_pos z3, rq_seg_cons a] at hst
      rw [if_pos z3, rq_wst_notep]
      exact hadv1 (rq_mem m k) (6 + k) (by omega) hlt (rq_top m - 1) (by omega) hgk hst
    · rw [if_neg z3] at hst
      rw [if_neg z3, rq_wst_note]
      exact hadv1 (rq_mem m k) (6 + k) (by omega) hlt (rq_top m) f0 hgk hst
  · have hh : rq_tok m (rq_fqu m N * 10 + rq_fps m N) = 3 → b N + 1 ≤ rq_top m := fun z => by
      have a := ((htk hlt).2.2.2.2.1 z).1
      omega
    have dm := rq_dem_dm (lo := b N) hk hh hd
    refine rq_L_request h hk hfr (fun _ => ?_) (fun z => absurd z (by omega)) hp
    rw [eN]
    refine ⟨rq_fps m N, _, ?_, k3, ?_⟩
    · rw [rq_env_len (show rq_fqu m (N + 1 - 1) < 8 from hq)]
      exact hlt
    · show rq_dm ((rq_env m).2.1 (rq_fqu m N) (rq_fps m N)) _ = _
      rw [(htk hlt).1]
      exact dm
  · rw [rq_wst_psh]
    refine hadv0 _ hlt (rq_top m) f0 (rq_pre_mk k3 ?_)
    rw [(htk hlt).1]
    exact rq_st_num z
  · have hst := rq_pre_mk k3 (show rq_st (rq_env m).1 (rq_V (rq_env m)) ((rq_env m).2.1 (rq_fqu m N) (rq_fps m N)) _ = _ by rw [(htk hlt).1]; exact rq_st_inp z)
    have ec : (rq_fst m (rq_fqu m N * 10 + rq_fps m N)).toNatClampNeg = d := by
      rw [ed]
      exact nI_clamp (by omega)
    have hst' : rq_pre (rq_env m).1 (rq_V (rq_env m)) ((rq_env m).2.1 (rq_fqu m N)) (rq_fps m N + 1) = some (rq_giv m (rq_fst m (rq_fqu m N * 10 + rq_fps m N)).toNatClampNeg :: rq_seg (rq_pil m) (b N) (rq_top m - b N), rq_ns (rq_nct m) (rq_ned m) (rq_fqu m N) ++ [(rq_fst m (rq_fqu m N * 10 + rq_fps m N)).toNatClampNeg]) := hst
    rw [ec] at hst'
    rw [rq_wst_note]
    exact hadv1 (rq_giv m d) d (by omega) hlt (rq_top m) f0 (fun k e => absurd e (by omega)) hst'
  · have a := (htk hlt).2.2.2.2.2 z
    have z' : (rq_tok m (rq_fqu m N * 10 + rq_fps m N), rq_fst m (rq_fqu m N * 10 + rq_fps m N), rq_sec m (rq_fqu m N * 10 + rq_fps m N)).1 = 4 := z
    have hseg : rq_seg (rq_pil m) (b N) (rq_top m - b N) = rq_pil m (rq_top m - 1) :: rq_pil m (rq_top m - 2) :: rq_seg (rq_pil m) (b N) (rq_top m - 2 - b N) := by
      rw [rq_seg_cons (show b N + 1 ≤ rq_top m by omega), rq_seg_cons (show b N + 1 ≤ rq_top m - 1 by omega)]
      rfl
    rw [rq_wst_op]
    refine hadv0 _ hlt (rq_top m - 2) (by omega) (rq_pre_mk k3 ?_)
    rw [(htk hlt).1]
    exact rq_st_op (by omega) (by omega) (by omega) hseg
end
section
/-! ensure -/
theorem rq_env_same {m m' : rq_M} (h : rq_Same m m') : rq_env m' = rq_env m := by
  obtain ⟨_, _, _, h4, h5, h6, h7, h8, _⟩ := h
  unfold rq_env
  rw [h4, h5, h6, h7, h8]
theorem rq_Same_refl (m : rq_M) : rq_Same m m := ⟨rfl, rfl, rfl, rfl, rfl, rfl, rfl, rfl, rfl, rfl, rfl⟩
theorem rq_Same_trans {m m' m'' : rq_M} (h : rq_Same m m') (g : rq_Same m' m'') : rq_Same m m'' := by
  obtain ⟨h1, h2, h3, h4, h5, h6, h7, h8, h9, h10, h11⟩ := h
  obtain ⟨g1, g2, g3, g4, g5, g6, g7, g8, g9, g10, g11⟩ := g
  exact ⟨g1.trans h1, g2.trans h2, g3.trans h3, g4.trans h4, g5.trans h5, g6.trans h6, g7.trans h7, g8.trans h8, g9.trans h9, g10.trans h10, g11.trans h11⟩
theorem rq_CIm_circ {m : rq_M} (hC : rq_CIm m) {q : Nat} (hv : rq_V (rq_env m) q = none) : rq_CIm (rq_w_cir m (rq_up (rq_cir m) q (rq_rev m))) := rq_CI_circ hC hv
theorem rq_w_cir_cir (m : rq_M) (c d : Nat → Nat) : rq_w_cir (rq_w_cir m c) d = rq_w_cir m d := by
  simp only [rq_w_cir, rq_g_cir]
  rfl
theorem rq_env_cir (m : rq_M) (c : Nat → Nat) : rq_env (rq_w_cir m c) = rq_env m := by
  simp only [rq_env, rq_g_cir]
theorem rq_CIm_circ2 {m : rq_M} {c : Nat → Nat} (hC : rq_CIm (rq_w_cir m c)) {q : Nat} (hv : rq_V (rq_env m) q = none) : rq_CIm (rq_w_cir m (rq_up c q (rq_rev m))) := by
  have z := rq_CIm_circ hC (q := q) (by rw [rq_env_cir]; exact hv)
  rw [rq_w_cir_cir] at z
  simp only [rq_g_cir] at z
  exact z
theorem rq_x_en105 {post : Int32 → St1 → Prop} {m : rq_M} {c0 : Nat → Nat} (hC : rq_CIm (rq_w_cir m c0)) (hR : rq_rev m < 2 ^ 20) (hn : rq_frm m ≤ 8) (hq : ∀ i, i < rq_frm m → rq_fqu m i < 8 ∧ rq_V (rq_env m) (rq_fqu m i) = none) (hf : rq_fai m = true)
    (h : ∀ c, rq_CIm (rq_w_cir m c) → post 0 (rq_cm (rq_w_cir m c))) : ∃ n, wX_ensure_105 post (nI (rq_hgt m)) (nI (rq_rev m)) (nI (rq_sch m)) (nI (rq_frm m)) (nI (rq_top m)) (rq_bI (rq_fai m)) n 0 (rq_nA (rq_len m)) (rq_nA (rq_tok m)) (rq_fst m) (rq_sec m) (rq_giv m) (rq_nA (rq_gat m)) (rq_bA (rq_kno m)) (rq_bA (rq_sta m)) (rq_mem m) (rq_nA (rq_vat m)) (rq_nA (rq_cat m)) (rq_nA (c0)) (rq_bA (rq_std m)) (rq_nA (rq_nct m)) (rq_nA (rq_ned m)) (rq_nA (rq_fqu m)) (rq_bA (rq_fwk m)) (rq_nA (rq_fps m)) (rq_pil m) (rq_wva m) (rq_bA (rq_wci m)) := by
  refine pk_loop (σ := Nat → Nat) (fun n i c => wX_ensure_105 post (nI (rq_hgt m)) (nI (rq_rev m)) (nI (rq_sch m)) (nI (rq_frm m)) (nI (rq_top m)) (rq_bI (rq_fai m)) n (nI i) (rq_nA (rq_len m)) (rq_nA (rq_tok m)) (rq_fst m) (rq_sec m) (rq_giv m) (rq_nA (rq_gat m)) (rq_bA (rq_kno m)) (rq_bA (rq_sta m)) (rq_mem m) (rq_nA (rq_vat m)) (rq_nA (rq_cat m)) (rq_nA (c)) (rq_bA (rq_std m)) (rq_nA (rq_nct m)) (rq_nA (rq_ned m)) (rq_nA (rq_fqu m)) (rq_bA (rq_fwk m)) (rq_nA (rq_fps m)) (rq_pil m) (rq_wva m) (rq_bA (rq_wci m))) (fun _ c => rq_CIm (rq_w_cir m c)) (rq_frm m) 0 c0 (by omega) hC ?_ ?_
  · intro n c hc
    refine pk_le (rq_frm m) (rq_frm m) (fun _ => ?_) (fun z => absurd z (by omega))
    exact rq_bT (rq_fai m) (fun z => by rw [hf] at z; cases z) (fun _ => h c hc)
  · intro n i c hi hc hw
    obtain ⟨q1, q2⟩ := hq i hi
    have hw' := hw (rq_up c (rq_fqu m i) (rq_rev m)) (rq_CIm_circ2 hc q2)
    exact pk_le (rq_frm m) i (fun z => absurd z (by omega)) (fun _ => ⟨pk_in i 8 (by omega), pk_in (rq_fqu m i) 8 q1 (rq_gN i), nm_r (rq_sN (rq_fqu m i) (rq_rev m) (rq_gN i)) (nm_r (nI_1 i) hw')⟩)
theorem rq_x_en86 {post : Int32 → St1 → Prop} {m0 m : rq_M} {q : Nat} (hq : q < 8) (h : rq_LI m0 q m) (he : rq_fai m = true ∨ rq_frm m = 0)
    (h0 : ∀ m', rq_Same m0 m' → rq_CIm m' → rq_V (rq_env m0) q = none → post 0 (rq_cm m'))
    (h1 : ∀ m', rq_Same m0 m' → rq_CIm m' → rq_V (rq_env m0) q = some (rq_mem m' q) → rq_Gm m' q → post 1 (rq_cm m')) :
    rq_l_en86 post (nI q) (rq_cm m) := by
  obtain ⟨hS, hC, ⟨b, hF⟩, hR, hq0, hfr, hfa⟩ := h
  have hpg := rq_L_pig hF
  refine rq_bT (rq_fai m) (fun z => ?_) (fun z => ?_)
  · have g : rq_Gm m q := by
      rcases he with y | y
      · rw [z] at y
        cases y
      · exact rq_fr_G (hfr z y)
    have v : rq_V (rq_env m) q = some (rq_mem m q) := rq_Gd_V hC hq g
    rw [rq_env_same hS] at v
    exact rq_bT (rq_fai m) (fun _ => h1 m hS hC v g) (fun y => by rw [z] at y; cases y)
  · obtain ⟨v0, vs⟩ := hfa z
    refine ⟨pk_in q 8 hq, nm_r (rq_sN q (rq_rev m)) ?_⟩
    refine rq_x_en105 (m := m) (c0 := rq_up (rq_cir m) q (rq_rev m)) (rq_CI_circ hC v0) hR (show rq_frm m ≤ 8 by omega) (fun i hi => ⟨(hF.1 i hi).1, vs i hi⟩) z (fun c hc => ?_)
    refine h0 _ hS hc ?_
    rw [← rq_env_same hS]
    exact v0
theorem rq_x_en30 {post : Int32 → St1 → Prop} {m0 m : rq_M} {q : Nat} (hq : q < 8) (h : rq_LI m0 q m) (hm : rq_mum m ≤ 401)
    (h0 : ∀ m', rq_Same m0 m' → rq_CIm m' → rq_V (rq_env m0) q = none → post 0 (rq_cm m'))
    (h1 : ∀ m', rq_Same m0 m' → rq_CIm m' → rq_V (rq_env m0) q = some (rq_mem m' q) → rq_Gm m' q → post 1 (rq_cm m')) :
    ∃ n, rq_l_en30 post (nI q) n 0 (rq_cm m) := by
  refine loop_m (σ := Nat × rq_M) (fun n s => rq_l_en30 post (nI q) n (nI s.1) (rq_cm s.2)) (fun s => rq_LI m0 q s.2 ∧ s.1 + rq_mum s.2 ≤ 401) (fun s => rq_mum s.2) ?_ (0, m) ⟨h, by show 0 + rq_mum m ≤ 401; omega⟩
  rintro n ⟨i, s⟩ ⟨hI, hi⟩ ih
  have hi' : i + rq_mum s ≤ 401 := hi
  have hI' : rq_LI m0 q s := hI
  have hI2 : rq_LI m0 q s := hI
  obtain ⟨hS, hC, ⟨b, hF⟩, hR, hq0, hfr, hfa⟩ := hI'
  have hpg := rq_L_pig hF
  have next : ∀ m', rq_LI m0 q m' → rq_mum m' < rq_mum s → ∀ x, x = nI i + 1 → rq_l_en30 post (nI q) n x (rq_cm m') := by
    intro m' hl hm'
    exact nm_r (nI_1 i) (ih (i + 1, m') ⟨hl, by show i + 1 + rq_mum m' ≤ 401; omega⟩ hm')
  show rq_l_en30 post (nI q) (n + 1) (nI i) (rq_cm s)
  refine pk_le 4000 i (fun z => absurd z (by omega)) (fun _ => ?_)
  refine pk_le (rq_frm s) 0 (fun z => rq_x_en86 hq hI2 (Or.inr (by omega)) h0 h1) (fun z => ?_)
  refine rq_bT (rq_fai s) (fun f0 => ?_) (fun f1 => rq_x_en86 hq hI2 (Or.inl f1) h0 h1)
  obtain ⟨N, eN⟩ : ∃ N, rq_frm s = N + 1 := ⟨rq_frm s - 1, by omega⟩
  have hL0 : rq_L0 m0 q s b := ⟨hS, hC, hF, hR, hq0, f0⟩
  refine nm_r (show nI (rq_frm s) - 1 = nI N by rw [eN]; exact nI_pred N) ⟨pk_in N 8 (by omega), ?_⟩
  refine rq_bT (rq_fwk s N) (fun w => ?_) (fun w => ?_) (rq_gB N)
  · exact rq_L_check (post := fun u => ∀ x, x = nI i + 1 → rq_l_en30 post (nI q) n x u) hL0 eN w next
  · exact rq_L_work (post := fun u => ∀ x, x = nI i + 1 → rq_l_en30 post (nI q) n x u) hL0 eN w next
theorem rq_x_ensure {post : Int32 → St1 → Prop} {m : rq_M} {x : Int32} (q : Nat) (hC : rq_CIm m) (hR : rq_rev m < 2 ^ 20) (hq : q < 8)
    (h0 : ∀ m', rq_Same m m' → rq_CIm m' → rq_V (rq_env m) q = none → post 0 (rq_cm m'))
    (h1 : ∀ m', rq_Same m m' → rq_CIm m' → rq_V (rq_env m) q = some (rq_mem m' q) → rq_Gm m' q → post 1 (rq_cm m'))
    (hx : x = nI q := by rfl) : wpX_ensure post (rq_cm m) x := by
  subst hx
  have hS : rq_Same m (rq_ens0 m) := rq_Same_refl m
  have hC1 : rq_CIm (rq_ens0 m) := hC
  have hF : rq_FIm (rq_ens0 m) (fun _ => 0) :=
    ⟨fun i hi => absurd hi (Nat.not_lt_zero i), fun i j _ hj => absurd hj (Nat.not_lt_zero j), fun i hi => absurd hi (Nat.not_lt_zero _), rfl, rfl, fun i hi => absurd hi (Nat.not_lt_zero i)⟩
  have hL0 : rq_L0 m q (rq_ens0 m) (fun _ => 0) := ⟨hS, hC1, hF, hR, fun z => absurd z (Nat.not_lt_zero 0), rfl⟩
  have hmu : rq_mum (rq_ens0 m) ≤ 401 := by
    have a : rq_mu (rq_cnt (rq_fr (rq_ens0 m)) 8) 0 (rq_rem (rq_env m).2.2 (rq_nct m) (rq_fqu m) (rq_fwk m) (rq_fps m)) ≤ 400 := rq_mu_le
    show rq_mu (rq_cnt (rq_fr (rq_ens0 m)) 8) 0 (rq_rem (rq_env m).2.2 (rq_nct m) (rq_fqu m) (rq_fwk m) (rq_fps m)) + 1 ≤ 401
    omega
  unfold wpX_ensure rq_cm
  dsimp only
  refine rq_x_fresh (m := rq_ens0 m) q hq hR (hC.2.2.2.2.2.2.2.2 q hq).1 (fun e => br_t rfl ?_) (fun e => br_f (by decide) ?_)
  · exact rq_L_request (post := fun u => ∃ n, rq_l_en30 post (nI q) n 0 u) hL0 hq e (fun z => absurd z (Nat.not_lt_zero 0)) (fun _ => rfl) (fun m' hl hm => rq_x_en30 hq hl (by omega) h0 h1)
  · exact rq_x_en30 (m := rq_ens0 m) hq ⟨hS, hC1, ⟨_, hF⟩, hR, fun z => absurd z (Nat.not_lt_zero 0), fun _ _ => e, fun z => by cases (show false = true from z)⟩ hmu h0 h1
end
section
/-! the questions: value, circular, total, circulars -/
noncomputable def rq_val (E : rq_E) (q : Nat) : Int32 := (rq_V E q).getD 0
noncomputable def rq_cb (E : rq_E) (q : Nat) : Bool := (rq_V E q).isNone
def rq_OK (m : rq_M) : Prop := rq_CIm m ∧ rq_rev m < 2 ^ 20
theorem rq_OK_same {m m' : rq_M} (h : rq_OK m) (hS : rq_Same m m') (hC : rq_CIm m') : rq_OK m' := by
  refine ⟨hC, ?_⟩
  rw [hS.2.1]
  exact h.2
theorem rq_x_bad {post : Int32 → Prop} {m : rq_M} {x : Int32} (q : Nat) (hq : q < 2 ^ 31) (h0 : q < 8 → post 0) (h1 : 8 ≤ q → post 1) (hx : x = nI q := by rfl) : wpX_badQuery post (rq_cm m) x := by
  subst hx
  exact pk_lt q 0 (fun z => absurd z (by omega)) (fun _ => pk_lt q 8 h0 h1)
theorem rq_x_value {post : Int32 → St1 → Prop} {m : rq_M} {x : Int32} (q : Nat) (hO : rq_OK m) (hq : q < 8)
    (h : ∀ m', rq_Same m m' → rq_OK m' → post (rq_val (rq_env m) q) (rq_cm m')) (hx : x = nI q := by rfl) : wpX_value post (rq_cm m) x := by
  subst hx
  unfold wpX_value rq_cm
  dsimp only
  refine rq_x_bad (m := m) q (by omega) (fun _ => br_t rfl ?_) (fun z => absurd z (by omega))
  refine rq_x_ensure (m := m) q hO.1 hO.2 hq (fun m' hS hC v => br_t rfl ?_) (fun m' hS hC v g => br_f (by decide) ⟨pk_in q 8 hq, ?_⟩)
  · have z := h m' hS (rq_OK_same hO hS hC)
    unfold rq_val at z
    rw [v] at z
    exact z
  · have z := h m' hS (rq_OK_same hO hS hC)
    unfold rq_val at z
    rw [v] at z
    have z' : post (rq_mem m' q) (rq_cm m') := z
    rw [← rq_gI (f := rq_mem m') (x := nI q) q] at z'
    exact z'
theorem rq_x_circular {post : Int32 → St1 → Prop} {m : rq_M} {x : Int32} (q : Nat) (hO : rq_OK m) (hq : q < 8)
    (h : ∀ m', rq_Same m m' → rq_OK m' → post (rq_bI (rq_cb (rq_env m) q)) (rq_cm m')) (hx : x = nI q := by rfl) : wpX_circular post (rq_cm m) x := by
  subst hx
  unfold wpX_circular rq_cm
  dsimp only
  refine rq_x_bad (m := m) q (by omega) (fun _ => br_t rfl ?_) (fun z => absurd z (by omega))
  refine rq_x_ensure (m := m) q hO.1 hO.2 hq (fun m' hS hC v => br_t rfl ?_) (fun m' hS hC v g => br_f (by decide) ?_)
  · have z := h m' hS (rq_OK_same hO hS hC)
    unfold rq_cb at z
    rw [v] at z
    exact z
  · have z := h m' hS (rq_OK_same hO hS hC)
    unfold rq_cb at z
    rw [v] at z
    exact z
noncomputable def rq_tot (E : rq_E) : Nat → Int32
  | 0 => 0
  | i + 1 => match rq_V E i with
    | none => rq_tot E i
    | some v => rq_tot E i + (nI i + 1) * v
theorem rq_tot_n {E : rq_E} {i : Nat} (h : rq_V E i = none) : rq_tot E (i + 1) = rq_tot E i := by
  show (match rq_V E i with | none => rq_tot E i | some v => rq_tot E i + (nI i + 1) * v) = _
  rw [h]
theorem rq_tot_s {E : rq_E} {i : Nat} {v : Int32} (h : rq_V E i = some v) : rq_tot E (i + 1) = rq_tot E i + (nI i + 1) * v := by
  show (match rq_V E i with | none => rq_tot E i | some v => rq_tot E i + (nI i + 1) * v) = _
  rw [h]
theorem rq_x_total {post : Int32 → St1 → Prop} {m : rq_M} (hO : rq_OK m)
    (h : ∀ m', rq_Same m m' → rq_OK m' → post (rq_tot (rq_env m) 8) (rq_cm m')) : wpX_total post (rq_cm m) := by
  have z := pk_loop (σ := rq_M) (fun n i s => rq_l_tot4 post n (rq_tot (rq_env m) i) (nI i) (rq_cm s)) (fun _ s => rq_Same m s ∧ rq_OK s) 8 0 m (by omega) ⟨rq_Same_refl m, hO⟩ ?_ ?_
  · exact z
  · intro n s hs
    exact pk_le 8 8 (fun _ => h s hs.1 hs.2) (fun z => absurd z (by omega))
  · intro n i s hi ⟨hS, hs⟩ hw
    refine pk_le 8 i (fun z => absurd z (by omega)) (fun _ => ?_)
    have eE := rq_env_same hS
    refine rq_x_ensure (m := s) i hs.1 hs.2 hi (fun m' hS' hC v => br_t rfl (nm_r (nI_1 i) ?_)) (fun m' hS' hC v g => br_f (by decide) ⟨pk_in i 8 hi, nm_r (congrArg (fun y => rq_tot (rq_env m) i + (nI i + 1) * y) (rq_gI (f := rq_mem m') i)) (nm_r (nI_1 i) ?_)⟩)
    · rw [eE] at v
      have z := hw m' ⟨rq_Same_trans hS hS', rq_OK_same hs hS' hC⟩
      rw [rq_tot_n v] at z
      exact z
    · rw [eE] at v
      have z := hw m' ⟨rq_Same_trans hS hS', rq_OK_same hs hS' hC⟩
      rw [rq_tot_s v] at z
      exact z
noncomputable def rq_crs (E : rq_E) : Nat → Int32
  | 0 => 0
  | i + 1 => match rq_V E i with
    | none => rq_crs E i ||| ((1 : Int32) <<< (nI i &&& 31))
    | some _ => rq_crs E i
theorem rq_crs_n {E : rq_E} {i : Nat} (h : rq_V E i = none) : rq_crs E (i + 1) = rq_crs E i ||| ((1 : Int32) <<< (nI i &&& 31)) := by
  show (match rq_V E i with | none => rq_crs E i ||| ((1 : Int32) <<< (nI i &&& 31)) | some _ => rq_crs E i) = _
  rw [h]
theorem rq_crs_s {E : rq_E} {i : Nat} {v : Int32} (h : rq_V E i = some v) : rq_crs E (i + 1) = rq_crs E i := by
  show (match rq_V E i with | none => rq_crs E i ||| ((1 : Int32) <<< (nI i &&& 31)) | some _ => rq_crs E i) = _
  rw [h]
theorem rq_x_circulars {post : Int32 → St1 → Prop} {m : rq_M} (hO : rq_OK m)
    (h : ∀ m', rq_Same m m' → rq_OK m' → post (rq_crs (rq_env m) 8) (rq_cm m')) : wpX_circulars post (rq_cm m) := by
  have z := pk_loop (σ := rq_M) (fun n i s => rq_l_circ4 post n (rq_crs (rq_env m) i) (nI i) (rq_cm s)) (fun _ s => rq_Same m s ∧ rq_OK s) 8 0 m (by omega) ⟨rq_Same_refl m, hO⟩ ?_ ?_
  · exact z
  · intro n s hs
    exact pk_le 8 8 (fun _ => h s hs.1 hs.2) (fun z => absurd z (by omega))
  · intro n i s hi ⟨hS, hs⟩ hw
    refine pk_le 8 i (fun z => absurd z (by omega)) (fun _ => ?_)
    have eE := rq_env_same hS
    refine rq_x_ensure (m := s) i hs.1 hs.2 hi (fun m' hS' hC v => br_t rfl (nm_e (nm_r (nI_1 i) ?_))) (fun m' hS' hC v g => br_f (by decide) (nm_r (nI_1 i) ?_))
    · rw [eE] at v
      have z := hw m' ⟨rq_Same_trans hS hS', rq_OK_same hs hS' hC⟩
      rw [rq_crs_n v] at z
      exact z
    · rw [eE] at v
      have z := hw m' ⟨rq_Same_trans hS hS', rq_OK_same hs hS' hC⟩
      rw [rq_crs_s v] at z
      exact z
end
section
/-! bits (out of kit/laws/BITS.to-paste, the family bt, renamed) -/
def rq_bt (x : Int32) (i : Nat) : Bool := x.toBitVec.getLsbD i
theorem rq_b_ext {x y : Int32} (h : ∀ i, i < 32 → rq_bt x i = rq_bt y i) : x = y := Int32.toBitVec_inj.mp (BitVec.eq_of_getLsbD_eq (fun i hi => h i hi))
theorem rq_b_or (x y : Int32) (i : Nat) : rq_bt (x ||| y) i = (rq_bt x i || rq_bt y i) := by unfold rq_bt; rw [Int32.toBitVec_or, BitVec.getLsbD_or]
theorem rq_b_and (x y : Int32) (i : Nat) : rq_bt (x &&& y) i = (rq_bt x i && rq_bt y i) := by unfold rq_bt; rw [Int32.toBitVec_and, BitVec.getLsbD_and]
theorem rq_b_0 (i : Nat) : rq_bt 0 i = false := BitVec.getLsbD_zero
theorem rq_b_1 : ∀ i, i < 32 → rq_bt 1 i = decide (i = 0) := by decide +kernel
theorem rq_s_l : ∀ n, n < 32 → ((nI n &&& 31).toBitVec.smod 32).toNat = n := by decide +kernel
theorem rq_b_shl (n : Nat) (hn : n < 32) (x : Int32) {i : Nat} (hi : i < 32) : rq_bt (x <<< (nI n &&& 31)) i = (decide (n ≤ i) && rq_bt x (i - n)) := by
  unfold rq_bt
  rw [Int32.toBitVec_shiftLeft]
  show (x.toBitVec <<< ((nI n &&& 31).toBitVec.smod 32).toNat).getLsbD i = _
  rw [rq_s_l n hn, BitVec.getLsbD_shiftLeft]
  rcases Nat.lt_or_ge i n with h | h
  · simp [h, Nat.not_le.mpr h]
  · simp [hi, h, Nat.not_lt.mpr h]
theorem rq_b_sshr (n : Nat) (hn : n < 32) (x : Int32) {i : Nat} (hi : i < 32) : rq_bt (x >>> (nI n &&& 31)) i = if n + i < 32 then rq_bt x (n + i) else rq_bt x 31 := by
  unfold rq_bt
  rw [Int32.toBitVec_shiftRight]
  show (x.toBitVec.sshiftRight ((nI n &&& 31).toBitVec.smod 32).toNat).getLsbD i = _
  rw [rq_s_l n hn, BitVec.getLsbD_sshiftRight, BitVec.msb_eq_getLsbD_last]
  simp [hi]
theorem rq_bit {x : Int32} {n : Nat} (hn : n < 32) (h : (x >>> (nI n &&& 31)) &&& 1 = 1) : rq_bt x n = true := by
  have a : rq_bt ((x >>> (nI n &&& 31)) &&& 1) 0 = rq_bt 1 0 := by rw [h]
  rw [rq_b_and, rq_b_sshr n hn x (by omega), if_pos (by omega)] at a
  have b : rq_bt 1 0 = true := by decide +kernel
  rw [b, Bool.and_true] at a
  exact a
/-! the needs -/
def rq_dl (l : List Nat) : Int32 := l.foldl (fun a d => a ||| ((1 : Int32) <<< (nI d &&& 31))) 0
theorem rq_dl_s (l : List Nat) (d : Nat) : rq_dl (l ++ [d]) = rq_dl l ||| ((1 : Int32) <<< (nI d &&& 31)) := by
  unfold rq_dl
  rw [List.foldl_append]
  rfl
theorem rq_dl_bit {f : Nat → Nat} {j : Nat} (hj : j < 32) : ∀ {n : Nat}, (∀ i, i < n → f i < 14) → rq_bt (rq_dl (rq_tl f n)) j = true → j ∈ rq_tl f n := by
  intro n
  induction n with
  | zero =>
    intro _ h
    have z : rq_bt 0 j = true := h
    rw [rq_b_0] at z
    cases z
  | succ n ih =>
    intro hf h
    have h' : rq_bt (rq_dl (rq_tl f n ++ [f n])) j = true := h
    rw [rq_dl_s, rq_b_or] at h'
    show j ∈ rq_tl f n ++ [f n]
    have fn := hf n (by omega)
    rcases Bool.or_eq_true_iff.mp h' with z | z
    · exact List.mem_append.mpr (Or.inl (ih (fun i hi => hf i (by omega)) z))
    · rw [rq_b_shl (f n) (by omega) 1 hj] at z
      obtain ⟨z1, z2⟩ := Bool.and_eq_true_iff.mp z
      have z1' := of_decide_eq_true z1
      rw [rq_b_1 (j - f n) (by omega)] at z2
      have z2' := of_decide_eq_true z2
      exact List.mem_append.mpr (Or.inr (List.mem_singleton.mpr (by omega)))
theorem rq_x_dn {post : Int32 → Prop} {m : rq_M} {x : Int32} (q : Nat) (hq : q < 8) (hc : rq_nct m q ≤ 10) (h : post (rq_dl (rq_ns (rq_nct m) (rq_ned m) q))) (hx : x = nI q := by rfl) :
    wpX_directNeeds post (rq_cm m) x := by
  subst hx
  have z := pk_loop (σ := Unit) (fun n i _ => rq_l_dn4 post (nI q) (rq_cm m) n (rq_dl (rq_tl (fun i => rq_ned m (q * 10 + i)) i)) (nI i)) (fun _ _ => True) (rq_nct m q) 0 () (by omega) trivial ?_ ?_
  · exact z
  · intro n _ _
    exact And.intro (pk_in q 8 hq) (pk_le (rq_nct m q) (rq_nct m q) (fun _ => h) (fun z => absurd z (by omega)) (rq_gN q))
  · intro n i _ hi _ hw
    have z : rq_l_dn4 post (nI q) (rq_cm m) n (rq_dl (rq_tl (fun i => rq_ned m (q * 10 + i)) i ++ [rq_ned m (q * 10 + i)])) (nI (i + 1)) := hw () trivial
    rw [rq_dl_s] at z
    exact And.intro (pk_in q 8 hq) (pk_le (rq_nct m q) i (fun z => absurd z (by omega)) (fun _ => ⟨pk_in (q * 10 + i) 80 (by omega) (rq_ix q i), nm_r (congrArg (fun y => rq_dl (rq_tl (fun i => rq_ned m (q * 10 + i)) i) ||| ((1 : Int32) <<< (y &&& 31))) (rq_gN (q * 10 + i) (rq_ix q i))) (nm_r (nI_1 i) z)⟩) (rq_gN q))
/-- what the run of a query needs, as a set of bits -/
noncomputable def rq_dE (E : rq_E) (q : Nat) : Int32 :=
  match rq_pre E.1 (rq_V E) (E.2.1 q) (E.2.2 q) with
  | some s => rq_dl s.2
  | none => 0
theorem rq_dE_eq {m : rq_M} (hC : rq_CIm m) {q : Nat} (hq : q < 8) (hg : rq_Gm m q) : rq_dE (rq_env m) q = rq_dl (rq_ns (rq_nct m) (rq_ned m) q) := by
  unfold rq_dE
  rw [(hC.2.2.1 q hq hg).1]
noncomputable def rq_cl1 (D : Nat → Int32) (s : Int32) : Nat → Int32
  | 0 => s
  | k + 1 => if ((rq_cl1 D s k >>> (nI (6 + k) &&& 31)) &&& 1) = 1 then rq_cl1 D s k ||| D k else rq_cl1 D s k
noncomputable def rq_cl2 (D : Nat → Int32) (s : Int32) : Nat → Int32
  | 0 => s
  | r + 1 => rq_cl1 D (rq_cl2 D s r) 8
noncomputable def rq_ndv (E : rq_E) (q : Nat) : Int32 :=
  match rq_V E q with
  | none => -4
  | some _ => rq_cl2 (rq_dE E) (rq_dE E q) 8
/-- each query in the set is good -/
def rq_bG (m : rq_M) (s : Int32) : Prop := ∀ k, k < 8 → rq_bt s (6 + k) = true → rq_Gm m k
theorem rq_bG_d {m : rq_M} (hC : rq_CIm m) {q : Nat} (hq : q < 8) (hg : rq_Gm m q) : rq_bG m (rq_dE (rq_env m) q) := by
  intro k hk h
  rw [rq_dE_eq hC hq hg] at h
  have c := (hC.2.2.2.2.2.2.2.2 q hq).2.2.2.2
  exact (hC.2.2.1 q hq hg).2 k (rq_dl_bit (by omega) c h)
theorem rq_bG_1 {m : rq_M} (hC : rq_CIm m) {s : Int32} (hs : rq_bG m s) : ∀ k, k ≤ 8 → rq_bG m (rq_cl1 (rq_dE (rq_env m)) s k) := by
  intro k
  induction k with
  | zero =>
    intro _
    exact hs
  | succ k ih =>
    intro hk
    have i := ih (by omega)
    show rq_bG m (if ((rq_cl1 (rq_dE (rq_env m)) s k >>> (nI (6 + k) &&& 31)) &&& 1) = 1 then rq_cl1 (rq_dE (rq_env m)) s k ||| rq_dE (rq_env m) k else rq_cl1 (rq_dE (rq_env m)) s k)
    split
    · rename_i hb
      have gk := i k (by omega) (rq_bit (by omega) hb)
      intro j hj h
      rw [rq_b_or] at h
      rcases Bool.or_eq_true_iff.mp h with z | z
      · exact i j hj z
      · exact rq_bG_d hC (by omega) gk j hj z
    · exact i
theorem rq_bG_2 {m : rq_M} (hC : rq_CIm m) {s : Int32} (hs : rq_bG m s) (r : Nat) : rq_bG m (rq_cl2 (rq_dE (rq_env m)) s r) := by
  induction r with
  | zero => exact hs
  | succ r ih => exact rq_bG_1 hC ih 8 (Nat.le_refl 8)
theorem rq_x_nd42 {post : Int32 → St1 → Prop} {J : Int32 → Int32 → Prop} {m : rq_M} {s : Int32} {r : Nat} (hC : rq_CIm m) (hs : rq_bG m s)
    (h : J (rq_cl1 (rq_dE (rq_env m)) s 8) (nI (r + 1))) : ∃ n, rq_l_nd42 post J (nI r) (rq_cm m) n s 0 := by
  have z := pk_loop (σ := Unit) (fun n i _ => rq_l_nd42 post J (nI r) (rq_cm m) n (rq_cl1 (rq_dE (rq_env m)) s i) (nI i)) (fun _ _ => True) 8 0 () (by omega) trivial ?_ ?_
  · exact z
  · intro n _ _
    exact pk_le 8 8 (fun _ => nm_r (nI_1 r) h) (fun z => absurd z (by omega))
  · intro n i _ hi _ hw
    have z : rq_l_nd42 post J (nI r) (rq_cm m) n (if ((rq_cl1 (rq_dE (rq_env m)) s i >>> (nI (6 + i) &&& 31)) &&& 1) = 1 then rq_cl1 (rq_dE (rq_env m)) s i ||| rq_dE (rq_env m) i else rq_cl1 (rq_dE (rq_env m)) s i) (nI (i + 1)) := hw () trivial
    refine pk_le 8 i (fun z => absurd z (by omega)) (fun _ => ?_)
    have e6 : (6 : Int32) + nI i = nI (6 + i) := nI_add 6 i
    have br : ((((rq_cl1 (rq_dE (rq_env m)) s i >>> (nI (6 + i) &&& 31)) &&& 1) = 1 → wpX_directNeeds (fun r' => ∀ x, x = rq_cl1 (rq_dE (rq_env m)) s i ||| r' → ∀ y, y = nI i + 1 → rq_l_nd42 post J (nI r) (rq_cm m) n x y) (rq_cm m) (nI i)) ∧
        (¬ ((rq_cl1 (rq_dE (rq_env m)) s i >>> (nI (6 + i) &&& 31)) &&& 1) = 1 → ∀ y, y = nI i + 1 → rq_l_nd42 post J (nI r) (rq_cm m) n (rq_cl1 (rq_dE (rq_env m)) s i) y)) := by
      refine br_c (fun hb => ?_) (fun hb => ?_)
      · rw [if_pos hb] at z
        have gi := rq_bG_1 hC hs i (by omega) i hi (rq_bit (by omega) hb)
        refine rq_x_dn (m := m) i hi (hC.2.2.2.2.2.2.2.2 i hi).2.2.2.1 (nm_e (nm_r (nI_1 i) ?_))
        rw [← rq_dE_eq hC hi gi]
        exact z
      · rw [if_neg hb] at z
        exact nm_r (nI_1 i) z
    rw [← e6] at br
    exact br
theorem rq_x_needs {post : Int32 → St1 → Prop} {m : rq_M} {x : Int32} (q : Nat) (hO : rq_OK m) (hq : q < 8)
    (h : ∀ m', rq_Same m m' → rq_OK m' → post (rq_ndv (rq_env m) q) (rq_cm m')) (hx : x = nI q := by rfl) : wpX_needs post (rq_cm m) x := by
  subst hx
  unfold wpX_needs rq_cm
  dsimp only
  refine rq_x_bad (m := m) q (by omega) (fun _ => br_t rfl ?_) (fun z => absurd z (by omega))
  refine rq_x_ensure (m := m) q hO.1 hO.2 hq (fun m' hS hC v => br_t rfl ?_) (fun m' hS hC v g => br_f (by decide) ?_)
  · have z := h m' hS (rq_OK_same hO hS hC)
    unfold rq_ndv at z
    rw [v] at z
    exact z
  · have z := h m' hS (rq_OK_same hO hS hC)
    unfold rq_ndv at z
    rw [v, ← rq_env_same hS] at z
    have z' : post (rq_cl2 (rq_dE (rq_env m')) (rq_dE (rq_env m') q) 8) (rq_cm m') := z
    refine rq_x_dn (m := m') q hq (hC.2.2.2.2.2.2.2.2 q hq).2.2.2.1 ?_
    rw [← rq_dE_eq hC hq g]
    have hb := rq_bG_2 hC (rq_bG_d hC hq g)
    have w := pk_loop (σ := Unit) (fun n r _ => rq_l_nd32 post (rq_cm m') n (rq_cl2 (rq_dE (rq_env m')) (rq_dE (rq_env m') q) r) (nI r)) (fun _ _ => True) 8 0 () (by omega) trivial ?_ ?_
    · exact w
    · intro n _ _
      exact pk_le 8 8 (fun _ => z') (fun z => absurd z (by omega))
    · intro n r _ hr _ hw
      refine pk_le 8 r (fun z => absurd z (by omega)) (fun _ => ?_)
      exact rq_x_nd42 (post := post) (J := rq_l_nd32 post (rq_cm m') n) hC (hb r) (hw () trivial)
end
section
/-! inputs and drafts -/
/-- height, length, token, first, second, given -/
abbrev rq_D : Type := Nat × (Nat → Nat) × (Nat → Nat) × (Nat → Int32) × (Nat → Int32) × (Nat → Int32)
def rq_dat (m : rq_M) : rq_D := (rq_hgt m, rq_len m, rq_tok m, rq_fst m, rq_sec m, rq_giv m)
def rq_envD (d : rq_D) : rq_E :=
  (d.2.2.2.2.2, (fun q i => if q < 8 ∧ i < 10 then (d.2.2.1 (q * 10 + i), d.2.2.2.1 (q * 10 + i), d.2.2.2.2.1 (q * 10 + i)) else (0, 0, 0)), (fun q => if q < 8 then d.2.1 q else 0))
theorem rq_env_D (m : rq_M) : rq_env m = rq_envD (rq_dat m) := rfl
theorem rq_dat_same {m m' : rq_M} (h : rq_Same m m') : rq_dat m' = rq_dat m := by
  obtain ⟨h1, _, _, h4, h5, h6, h7, h8, _⟩ := h
  unfold rq_dat
  rw [h1, h4, h5, h6, h7, h8]
def rq_bd (d : rq_D) : rq_B := fun i => (d.2.2.1 (80 + i), d.2.2.2.1 (80 + i), d.2.2.2.2.1 (80 + i))
def rq_Dr (d : rq_D) : Prop := d.2.1 8 ≤ 10 ∧ rq_wf (rq_bd d) (d.2.1 8) ∧ rq_ht (rq_bd d) (d.2.1 8) = d.1
def rq_OD (m : rq_M) : Prop := rq_OK m ∧ rq_Dr (rq_dat m)
theorem rq_x_set {post : Int32 → St1 → Prop} {m : rq_M} {x v : Int32} (i : Nat) (hC : rq_CIm m) (hi : i < 6)
    (h : ∀ m', rq_CIm m' → rq_rev m' ≤ rq_rev m + 1 → rq_dat m' = (rq_hgt m, rq_len m, rq_tok m, rq_fst m, rq_sec m, rq_up (rq_giv m) i v) → rq_wva m' = rq_wva m → rq_wci m' = rq_wci m →
      post (if rq_giv m i = v then 0 else 1) (rq_cm m')) (hx : x = nI i := by rfl) : wpX_set post (rq_cm m) x v := by
  subst hx
  refine pk_lt i 0 (fun z => absurd z (by omega)) (fun _ => pk_lt i 6 (fun _ => ⟨pk_in i 6 hi, ?_⟩) (fun z => absurd z (by omega)))
  rw [rq_gI (f := rq_giv m) (x := nI i) i]
  refine br_c (fun e => ?_) (fun e => ⟨pk_in i 6 hi, nm_r (rq_sI i) (nm_r (nI_1 _) ⟨pk_in i 6 hi, nm_r (rq_sN i (rq_rev m + 1)) ?_⟩)⟩)
  · have z := h m hC (by omega) (by rw [rq_up_id e]; rfl) rfl rfl
    rw [if_pos e] at z
    exact z
  · refine pk_lt i 3 (fun z => ?_) (fun z => ?_)
    · have y := h (rq_setS m i v) (rq_CI_set hC (Or.inl ⟨z, rfl⟩)) (Nat.le_refl _) rfl rfl rfl
      rw [if_neg e] at y
      exact y
    · have y := h (rq_setT m i v) (rq_CI_set hC (Or.inr rfl)) (Nat.le_refl _) rfl rfl rfl
      rw [if_neg e] at y
      exact y
theorem rq_x_get {post : Int32 → Prop} {m : rq_M} {x : Int32} (i : Nat) (hi : i < 6) (h : post (rq_giv m i)) (hx : x = nI i := by rfl) : wpX_get post (rq_cm m) x := by
  subst hx
  refine pk_lt i 0 (fun z => absurd z (by omega)) (fun _ => pk_lt i 6 (fun _ => ⟨pk_in i 6 hi, ?_⟩) (fun z => absurd z (by omega)))
  rw [rq_gI (f := rq_giv m) (x := nI i) i]
  exact h
theorem rq_sP {f : Nat → Nat} {k v : Nat} : upd (rq_nA f) k (nI v) = rq_nA (rq_up f k v) := by
  funext j
  show (if j = k then nI v else nI (f j)) = nI (if j = k then v else f j)
  split
  · rfl
  · rfl
theorem rq_x_scrap {post : St1 → Prop} {m : rq_M} (h : post (rq_cm (rq_scr m))) : wpX_scrap post (rq_cm m) :=
  nm_r (rq_sP (f := rq_len m) (k := 8) (v := 0)) h
theorem rq_x_full {post : Int32 → Prop} {m : rq_M} (hl : rq_len m 8 ≤ 10) (h1 : rq_len m 8 = 10 → post 1) (h0 : rq_len m 8 ≠ 10 → post 0) : wpX_draftFull post (rq_cm m) :=
  pk_eq (rq_len m 8) 10 h1 h0
def rq_apD (d : rq_D) (kd : Nat) (a b : Int32) (h' : Nat) : rq_D :=
  (h', rq_up d.2.1 8 (d.2.1 8 + 1), rq_up d.2.2.1 (80 + d.2.1 8) kd, rq_up d.2.2.2.1 (80 + d.2.1 8) a, rq_up d.2.2.2.2.1 (80 + d.2.1 8) b, d.2.2.2.2.2)
theorem rq_x_append {post : Int32 → St1 → Prop} {m : rq_M} {x a b c : Int32} (kd h' : Nat) (hl : rq_len m 8 < 10) (hc : nI (rq_hgt m) + c = nI h') (h : post (nI h') (rq_cm (rq_app m kd a b h'))) (hx : x = nI kd := by rfl) :
    wpX_append post (rq_cm m) x a b c := by
  subst hx
  refine nm_r (nI_add 80 (rq_len m 8)) (And.intro (pk_in (80 + rq_len m 8) 90 (by omega)) (nm_r (rq_sN (80 + rq_len m 8) kd) ⟨pk_in (80 + rq_len m 8) 90 (by omega), nm_r (rq_sI (80 + rq_len m 8)) ⟨pk_in (80 + rq_len m 8) 90 (by omega), nm_r (rq_sI (80 + rq_len m 8)) ?_⟩⟩))
  exact nm_r ((congrArg (upd (rq_nA (rq_len m)) 8) (nI_1 (rq_len m 8))).trans rq_sP) (nm_r hc h)
theorem rq_env_app (m : rq_M) (kd : Nat) (a b : Int32) (h' : Nat) : rq_env (rq_app m kd a b h') = rq_env m := by
  show (rq_giv m, (fun q i => if q < 8 ∧ i < 10 then (rq_up (rq_tok m) (80 + rq_len m 8) kd (q * 10 + i), rq_up (rq_fst m) (80 + rq_len m 8) a (q * 10 + i), rq_up (rq_sec m) (80 + rq_len m 8) b (q * 10 + i)) else (0, 0, 0)), (fun q => if q < 8 then rq_up (rq_len m) 8 (rq_len m 8 + 1) q else 0)) = rq_env m
  unfold rq_env
  congr 1
  congr 1
  · funext q i
    by_cases hq : q < 8 ∧ i < 10
    · rw [if_pos hq, if_pos hq, rq_up_n (by omega), rq_up_n (by omega), rq_up_n (by omega)]
    · rw [if_neg hq, if_neg hq]
  · funext q
    by_cases hq : q < 8
    · rw [if_pos hq, if_pos hq, rq_up_n (by omega)]
    · rw [if_neg hq, if_neg hq]
theorem rq_OD_app {m : rq_M} (h : rq_OD m) {kd : Nat} {a b : Int32} {h' : Nat} (hl : rq_len m 8 < 10) (ht : rq_tk (kd, a, b) (rq_hgt m)) (hh : rq_hs (kd, a, b) (rq_hgt m) = h') : rq_OD (rq_app m kd a b h') := by
  obtain ⟨⟨hC, hR⟩, d1, d2, d3⟩ := h
  have eb : ∀ p, p < rq_len m 8 → rq_bd (rq_dat m) p = rq_bd (rq_dat (rq_app m kd a b h')) p := by
    intro p hp
    show (rq_tok m (80 + p), rq_fst m (80 + p), rq_sec m (80 + p)) = (rq_up (rq_tok m) (80 + rq_len m 8) kd (80 + p), rq_up (rq_fst m) (80 + rq_len m 8) a (80 + p), rq_up (rq_sec m) (80 + rq_len m 8) b (80 + p))
    rw [rq_up_n (by omega), rq_up_n (by omega), rq_up_n (by omega)]
  have el : rq_bd (rq_dat (rq_app m kd a b h')) (rq_len m 8) = (kd, a, b) := by
    show (rq_up (rq_tok m) (80 + rq_len m 8) kd (80 + rq_len m 8), rq_up (rq_fst m) (80 + rq_len m 8) a (80 + rq_len m 8), rq_up (rq_sec m) (80 + rq_len m 8) b (80 + rq_len m 8)) = (kd, a, b)
    rw [rq_up_s, rq_up_s, rq_up_s]
  have ex : (rq_dat (rq_app m kd a b h')).2.1 8 = rq_len m 8 + 1 := by
    show rq_up (rq_len m) 8 (rq_len m 8 + 1) 8 = _
    exact rq_up_s
  have eh : rq_ht (rq_bd (rq_dat (rq_app m kd a b h'))) (rq_len m 8) = rq_hgt m := by
    rw [← rq_ht_congr eb]
    exact d3
  refine ⟨⟨?_, hR⟩, ?_, ?_, ?_⟩
  · have z := hC
    unfold rq_CIm at z
    rw [← rq_env_app m kd a b h'] at z
    exact z
  · rw [ex]
    omega
  · rw [ex]
    intro p hp
    by_cases e : p = rq_len m 8
    · rw [e, el, eh]
      exact ht
    · exact rq_wf_congr eb d2 p (by omega)
  · rw [ex]
    show rq_hs (rq_bd (rq_dat (rq_app m kd a b h')) (rq_len m 8)) (rq_ht (rq_bd (rq_dat (rq_app m kd a b h'))) (rq_len m 8)) = h'
    rw [el, eh]
    exact hh
/-- a call that changes what is drafted or given, in a way that depends on that alone -/
def rq_TR (wp : (Int32 → St1 → Prop) → St1 → Prop) : Prop :=
  ∃ F : rq_D → rq_D, ∀ (m : rq_M) (post : Int32 → St1 → Prop), rq_OD m → rq_rev m + 1 < 2 ^ 20 →
    (∀ m' r, rq_OD m' → rq_rev m' ≤ rq_rev m + 1 → rq_dat m' = F (rq_dat m) → post r (rq_cm m')) → wp post (rq_cm m)
theorem rq_T_num (v : Int32) : rq_TR (fun post u => wpX_num post u v) := by
  refine ⟨fun d => if d.2.1 8 = 10 then d else rq_apD d 0 v 0 (d.1 + 1), fun m post hO hR h => ?_⟩
  dsimp only
  unfold wpX_num rq_cm
  dsimp only
  refine rq_x_full (m := m) hO.2.1 (fun z => br_f (by decide) (h m _ hO (by omega) ?_)) (fun z => br_t rfl ?_)
  · show rq_dat m = if rq_len m 8 = 10 then rq_dat m else _
    rw [if_pos z]
  · have hl : rq_len m 8 < 10 := by
      have y : rq_len m 8 ≤ 10 := hO.2.1
      omega
    refine rq_x_append (m := m) 0 (rq_hgt m + 1) hl (nI_1 _) (h (rq_app m 0 v 0 (rq_hgt m + 1)) _ (rq_OD_app hO hl ?_ rfl) (Nat.le_succ _) ?_)
    · exact ⟨by show 0 < 5; omega, fun z => absurd z (by show ¬ 0 = 1; omega), fun z => absurd z (by show ¬ 0 = 2; omega), fun z => absurd z (by show ¬ 0 = 3; omega), fun z => absurd z (by show ¬ 0 = 4; omega)⟩
    · show rq_dat (rq_app m 0 v 0 (rq_hgt m + 1)) = if rq_len m 8 = 10 then rq_dat m else _
      rw [if_neg z]
      rfl
theorem rq_T_input (i : Nat) (hi : i < 8) : rq_TR (fun post u => wpX_input post u (nI i)) := by
  refine ⟨fun d => if i < 6 then (if d.2.1 8 = 10 then d else rq_apD d 1 (nI i) 0 (d.1 + 1)) else d, fun m post hO hR h => ?_⟩
  refine pk_lt i 0 (fun z => absurd z (by omega)) (fun _ => pk_lt i 6 (fun h6 => ?_) (fun h6 => h m _ hO (by omega) ?_))
  · refine rq_x_full (m := m) hO.2.1 (fun z => br_f (by decide) (h m _ hO (by omega) ?_)) (fun z => br_t rfl ?_)
    · show rq_dat m = if i < 6 then (if rq_len m 8 = 10 then rq_dat m else _) else _
      rw [if_pos h6, if_pos z]
    · have hl : rq_len m 8 < 10 := by
        have y : rq_len m 8 ≤ 10 := hO.2.1
        omega
      refine rq_x_append (m := m) 1 (rq_hgt m + 1) hl (nI_1 _) (h (rq_app m 1 (nI i) 0 (rq_hgt m + 1)) _ (rq_OD_app hO hl ?_ rfl) (Nat.le_succ _) ?_)
      · exact ⟨by show 1 < 5; omega, fun _ => ⟨i, h6, rfl⟩, fun z => absurd z (by show ¬ 1 = 2; omega), fun z => absurd z (by show ¬ 1 = 3; omega), fun z => absurd z (by show ¬ 1 = 4; omega)⟩
      · show rq_dat (rq_app m 1 (nI i) 0 (rq_hgt m + 1)) = if i < 6 then (if rq_len m 8 = 10 then rq_dat m else _) else _
        rw [if_pos h6, if_neg z]
        rfl
  · show rq_dat m = if i < 6 then _ else rq_dat m
    rw [if_neg (by omega)]
theorem rq_T_query (i : Nat) (hi : i < 8) : rq_TR (fun post u => wpX_query post u (nI i)) := by
  refine ⟨fun d => if d.2.1 8 = 10 then d else rq_apD d 2 (nI i) 0 (d.1 + 1), fun m post hO hR h => ?_⟩
  dsimp only
  unfold wpX_query rq_cm
  dsimp only
  refine rq_x_bad (m := m) i (by omega) (fun _ => br_t rfl ?_) (fun z => absurd z (by omega))
  refine rq_x_full (m := m) hO.2.1 (fun z => br_f (by decide) (h m _ hO (by omega) ?_)) (fun z => br_t rfl ?_)
  · show rq_dat m = if rq_len m 8 = 10 then rq_dat m else _
    rw [if_pos z]
  · have hl : rq_len m 8 < 10 := by
      have y : rq_len m 8 ≤ 10 := hO.2.1
      omega
    refine rq_x_append (m := m) 2 (rq_hgt m + 1) hl (nI_1 _) (h (rq_app m 2 (nI i) 0 (rq_hgt m + 1)) _ (rq_OD_app hO hl ?_ rfl) (Nat.le_succ _) ?_)
    · exact ⟨by show 2 < 5; omega, fun z => absurd z (by show ¬ 2 = 1; omega), fun _ => ⟨i, hi, rfl⟩, fun z => absurd z (by show ¬ 2 = 3; omega), fun z => absurd z (by show ¬ 2 = 4; omega)⟩
    · show rq_dat (rq_app m 2 (nI i) 0 (rq_hgt m + 1)) = if rq_len m 8 = 10 then rq_dat m else _
      rw [if_neg z]
      rfl
theorem rq_Dr_h {d : rq_D} (h : rq_Dr d) : d.1 ≤ 10 := by
  obtain ⟨d1, d2, d3⟩ := h
  have key : ∀ n, rq_ht (rq_bd d) n ≤ n := by
    intro n
    induction n with
    | zero => exact Nat.le_refl 0
    | succ n ih =>
      show rq_hs (rq_bd d n) (rq_ht (rq_bd d) n) ≤ n + 1
      unfold rq_hs
      split
      · omega
      · split
        · omega
        · omega
  have z := key (d.2.1 8)
  omega
theorem rq_T_choose (i j : Nat) (hi : i < 8) (hj : j < 8) : rq_TR (fun post u => wpX_choose post u (nI i) (nI j)) := by
  refine ⟨fun d => if d.2.1 8 = 10 then d else if 1 ≤ d.1 then rq_apD d 3 (nI i) (nI j) d.1 else d, fun m post hO hR h => ?_⟩
  dsimp only
  unfold wpX_choose rq_cm
  dsimp only
  refine rq_x_bad (m := m) i (by omega) (fun _ => br_t rfl ?_) (fun z => absurd z (by omega))
  refine rq_x_bad (m := m) j (by omega) (fun _ => br_t rfl ?_) (fun z => absurd z (by omega))
  have hh : rq_hgt m ≤ 10 := rq_Dr_h hO.2
  refine rq_x_full (m := m) hO.2.1 (fun z => br_f (by decide) (h m _ hO (by omega) ?_)) (fun z => br_t rfl (pk_le 1 (rq_hgt m) (fun h1 => ?_) (fun h1 => h m _ hO (by omega) ?_)))
  · show rq_dat m = if rq_len m 8 = 10 then rq_dat m else _
    rw [if_pos z]
  · have hl : rq_len m 8 < 10 := by
      have y : rq_len m 8 ≤ 10 := hO.2.1
      omega
    refine rq_x_append (m := m) 3 (rq_hgt m) hl (nI_add (rq_hgt m) 0) (h (rq_app m 3 (nI i) (nI j) (rq_hgt m)) _ (rq_OD_app hO hl ?_ rfl) (Nat.le_succ _) ?_)
    · exact ⟨by show 3 < 5; omega, fun z => absurd z (by show ¬ 3 = 1; omega), fun z => absurd z (by show ¬ 3 = 2; omega), fun _ => ⟨h1, ⟨i, hi, rfl⟩, ⟨j, hj, rfl⟩⟩, fun z => absurd z (by show ¬ 3 = 4; omega)⟩
    · show rq_dat (rq_app m 3 (nI i) (nI j) (rq_hgt m)) = if rq_len m 8 = 10 then rq_dat m else if 1 ≤ rq_hgt m then _ else _
      rw [if_neg z, if_pos h1]
      rfl
  · show rq_dat m = if rq_len m 8 = 10 then rq_dat m else if 1 ≤ rq_hgt m then _ else rq_dat m
    rw [if_neg z, if_neg (by omega)]
theorem rq_T_apply (o : Nat) (ho : o < 4) : rq_TR (fun post u => wpX_apply post u (nI o)) := by
  refine ⟨fun d => if d.2.1 8 = 10 then d else if 2 ≤ d.1 then rq_apD d 4 (nI o) 0 (d.1 - 1) else d, fun m post hO hR h => ?_⟩
  refine pk_lt o 0 (fun z => absurd z (by omega)) (fun _ => pk_le o 3 (fun _ => ?_) (fun z => absurd z (by omega)))
  have hh : rq_hgt m ≤ 10 := rq_Dr_h hO.2
  refine rq_x_full (m := m) hO.2.1 (fun z => br_f (by decide) (h m _ hO (by omega) ?_)) (fun z => br_t rfl (pk_le 2 (rq_hgt m) (fun h1 => ?_) (fun h1 => h m _ hO (by omega) ?_)))
  · show rq_dat m = if rq_len m 8 = 10 then rq_dat m else _
    rw [if_pos z]
  · have hl : rq_len m 8 < 10 := by
      have y : rq_len m 8 ≤ 10 := hO.2.1
      omega
    refine rq_x_append (m := m) 4 (rq_hgt m - 1) hl (sb_m1 (by omega)) (h (rq_app m 4 (nI o) 0 (rq_hgt m - 1)) _ (rq_OD_app hO hl ?_ rfl) (Nat.le_succ _) ?_)
    · exact ⟨by show 4 < 5; omega, fun z => absurd z (by show ¬ 4 = 1; omega), fun z => absurd z (by show ¬ 4 = 2; omega), fun z => absurd z (by show ¬ 4 = 3; omega), fun _ => h1⟩
    · show rq_dat (rq_app m 4 (nI o) 0 (rq_hgt m - 1)) = if rq_len m 8 = 10 then rq_dat m else if 2 ≤ rq_hgt m then _ else _
      rw [if_neg z, if_pos h1]
      rfl
  · show rq_dat m = if rq_len m 8 = 10 then rq_dat m else if 2 ≤ rq_hgt m then _ else rq_dat m
    rw [if_neg z, if_neg (by omega)]
theorem rq_T_set (i : Nat) (v : Int32) (hi : i < 6) : rq_TR (fun post u => wpX_set post u (nI i) v) := by
  refine ⟨fun d => (d.1, d.2.1, d.2.2.1, d.2.2.2.1, d.2.2.2.2.1, rq_up d.2.2.2.2.2 i v), fun m post hO hR h => ?_⟩
  refine rq_x_set (m := m) i hO.1.1 hi (fun m' hC hr hd _ _ => h m' _ ⟨⟨hC, by omega⟩, ?_⟩ hr hd)
  rw [hd]
  exact hO.2
end
section
/-! finish, scrap, the maker, a turn -/
theorem rq_cp_at {α : Type} {f : Nat → α} {q : Nat} (hq : q < 8) : ∀ {n : Nat}, n ≤ 10 → ∀ j, rq_cp f q n j = if q * 10 ≤ j ∧ j < q * 10 + n then f (80 + (j - q * 10)) else f j := by
  intro n
  induction n with
  | zero =>
    intro _ j
    rw [if_neg (by omega)]
    rfl
  | succ n ih =>
    intro hn j
    show rq_up (rq_cp f q n) (q * 10 + n) (rq_cp f q n (80 + n)) j = _
    by_cases e : j = q * 10 + n
    · rw [e, rq_up_s, ih (by omega), if_neg (by omega), if_pos (by omega), show q * 10 + n - q * 10 = n by omega]
    · rw [rq_up_n e, ih (by omega)]
      by_cases e2 : q * 10 ≤ j ∧ j < q * 10 + n
      · rw [if_pos e2, if_pos (by omega)]
      · rw [if_neg e2, if_neg (by omega)]
theorem rq_sI2 {f : Nat → Int32} {x y z : Int32} (k : Nat) (hx : x = nI k) (hy : y = z) (hk : k < 2 ^ 31) : upd f x.toNatClampNeg y = rq_up f k z := by
  rw [hy]
  exact rq_sI k hx hk
def rq_fiD (d : rq_D) (q : Nat) : rq_D :=
  (0, rq_up (rq_up d.2.1 q (d.2.1 8)) 8 0, rq_cp d.2.2.1 q (d.2.1 8), rq_cp d.2.2.2.1 q (d.2.1 8), rq_cp d.2.2.2.2.1 q (d.2.1 8), d.2.2.2.2.2)
theorem rq_OD_fin {m : rq_M} (h : rq_OD m) {q : Nat} (hq : q < 8) (h1 : rq_hgt m = 1) (hR : rq_rev m + 1 < 2 ^ 20) : rq_OD (rq_fin m q (rq_len m 8)) := by
  obtain ⟨⟨hC, _⟩, d1, d2, d3⟩ := h
  have d1' : rq_len m 8 ≤ 10 := d1
  have elen : ∀ p, p < 8 → (rq_env (rq_fin m q (rq_len m 8))).2.2 p = if p = q then rq_len m 8 else rq_len m p := by
    intro p hp
    rw [rq_env_len hp]
    show rq_up (rq_up (rq_len m) q (rq_len m 8)) 8 0 p = _
    rw [rq_up_n (by omega)]
    rfl
  have etok : ∀ p i, p < 8 → i < 10 → (rq_env (rq_fin m q (rq_len m 8))).2.1 p i = (rq_cp (rq_tok m) q (rq_len m 8) (p * 10 + i), rq_cp (rq_fst m) q (rq_len m 8) (p * 10 + i), rq_cp (rq_sec m) q (rq_len m 8) (p * 10 + i)) := fun p i hp hi => rq_env_tok hp hi
  have hB : ∀ p, p < 8 → p ≠ q → (rq_env (rq_fin m q (rq_len m 8))).2.2 p = (rq_env m).2.2 p ∧ ∀ i, i < 10 → (rq_env m).2.1 p i = (rq_env (rq_fin m q (rq_len m 8))).2.1 p i := by
    intro p hp e
    refine ⟨?_, fun i hi => ?_⟩
    · rw [elen p hp, if_neg e, rq_env_len hp]
    · rw [etok p i hp hi, rq_env_tok hp hi, rq_cp_at hq d1', rq_cp_at hq d1', rq_cp_at hq d1', if_neg (by omega), if_neg (by omega), if_neg (by omega)]
  have hBq : ∀ i, i < rq_len m 8 → rq_bd (rq_dat m) i = (rq_env (rq_fin m q (rq_len m 8))).2.1 q i := by
    intro i hi
    rw [etok q i hq (by omega), rq_cp_at hq d1', rq_cp_at hq d1', rq_cp_at hq d1', if_pos (by omega), if_pos (by omega), if_pos (by omega), show q * 10 + i - q * 10 = i by omega]
    rfl
  have hW : rq_WF (rq_env (rq_fin m q (rq_len m 8))) := by
    intro p hp
    by_cases e : p = q
    · rw [e, elen q hq, if_pos rfl]
      refine ⟨rq_wf_congr hBq d2, ?_, d1'⟩
      rw [← rq_ht_congr hBq]
      exact d3.trans h1
    · obtain ⟨w1, w2, w3⟩ := hC.1 p hp
      obtain ⟨b1, b2⟩ := hB p hp e
      rw [b1]
      refine ⟨rq_wf_congr (fun i hi => b2 i (by omega)) w1, ?_, w3⟩
      rw [← rq_ht_congr (fun i hi => b2 i (by omega))]
      exact w2
  have hC' : rq_CIm (rq_fin m q (rq_len m 8)) := rq_CI_fin hC (q := q) rfl hW hB
  refine ⟨⟨hC', hR⟩, ?_, ?_, ?_⟩
  · show rq_up (rq_up (rq_len m) q (rq_len m 8)) 8 0 8 ≤ 10
    rw [rq_up_s]
    omega
  · show rq_wf _ (rq_up (rq_up (rq_len m) q (rq_len m 8)) 8 0 8)
    rw [rq_up_s]
    intro p hp
    omega
  · show rq_ht _ (rq_up (rq_up (rq_len m) q (rq_len m 8)) 8 0 8) = 0
    rw [rq_up_s]
    rfl
theorem rq_x_fin31 {post : Int32 → St1 → Prop} {m : rq_M} (q : Nat) (hq : q < 8) (hl : rq_len m 8 ≤ 10)
    (h : post (nI (rq_len m 8)) (rq_cm (rq_fin m q (rq_len m 8)))) : ∃ n, wX_finish_31 post (nI q) (nI (rq_len m 8)) (nI (rq_hgt m)) (nI (rq_rev m)) (nI (rq_sch m)) (nI (rq_frm m)) (nI (rq_top m)) (rq_bI (rq_fai m)) n 0 (rq_nA (rq_len m)) (rq_nA (rq_tok m)) (rq_fst m) (rq_sec m) (rq_giv m) (rq_nA (rq_gat m)) (rq_bA (rq_kno m)) (rq_bA (rq_sta m)) (rq_mem m) (rq_nA (rq_vat m)) (rq_nA (rq_cat m)) (rq_nA (rq_cir m)) (rq_bA (rq_std m)) (rq_nA (rq_nct m)) (rq_nA (rq_ned m)) (rq_nA (rq_fqu m)) (rq_bA (rq_fwk m)) (rq_nA (rq_fps m)) (rq_pil m) (rq_wva m) (rq_bA (rq_wci m)) := by
  refine pk_loop (σ := Unit) (fun n i _ => wX_finish_31 post (nI q) (nI (rq_len m 8)) (nI (rq_hgt m)) (nI (rq_rev m)) (nI (rq_sch m)) (nI (rq_frm m)) (nI (rq_top m)) (rq_bI (rq_fai m)) n (nI i) (rq_nA (rq_len m)) (rq_nA (rq_cp (rq_tok m) q i)) (rq_cp (rq_fst m) q i) (rq_cp (rq_sec m) q i) (rq_giv m) (rq_nA (rq_gat m)) (rq_bA (rq_kno m)) (rq_bA (rq_sta m)) (rq_mem m) (rq_nA (rq_vat m)) (rq_nA (rq_cat m)) (rq_nA (rq_cir m)) (rq_bA (rq_std m)) (rq_nA (rq_nct m)) (rq_nA (rq_ned m)) (rq_nA (rq_fqu m)) (rq_bA (rq_fwk m)) (rq_nA (rq_fps m)) (rq_pil m) (rq_wva m) (rq_bA (rq_wci m))) (fun _ _ => True) (rq_len m 8) 0 () (by omega) trivial ?_ ?_
  · intro n _ _
    refine pk_le (rq_len m 8) (rq_len m 8) (fun _ => ⟨pk_in q 9 (by omega), nm_r (rq_sN q (rq_len m 8)) ?_⟩) (fun z => absurd z (by omega))
    exact nm_r (rq_sP (f := rq_up (rq_len m) q (rq_len m 8)) (k := 8) (v := 0)) (And.intro (pk_in q 8 hq) (nm_r (rq_sB q true) (nm_r (nI_1 _) h)))
  · intro n i _ hi _ hw
    have w := hw () trivial
    have e80 : (80 : Int32) + nI i = nI (80 + i) := nI_add 80 i
    have h80 : vp_in ((80 : Int32) + nI i) 90 := pk_in (80 + i) 90 (by omega) e80
    have hix : vp_in (nI q * 10 + nI i) 90 := pk_in (q * 10 + i) 90 (by omega) (rq_ix q i)
    exact pk_le (rq_len m 8) i (fun z => absurd z (by omega)) (fun _ => ⟨h80, hix, nm_r (rq_sN (q * 10 + i) (rq_cp (rq_tok m) q i (80 + i)) (rq_ix q i) (rq_gN (80 + i) e80)) ⟨h80, hix, nm_r (rq_sI2 (q * 10 + i) (rq_ix q i) (rq_gI (80 + i) e80) (by omega)) ⟨h80, hix, nm_r (rq_sI2 (q * 10 + i) (rq_ix q i) (rq_gI (80 + i) e80) (by omega)) (nm_r (nI_1 i) w)⟩⟩⟩)
theorem rq_T_finish (q : Nat) (hq : q < 9) : rq_TR (fun post u => wpX_finish post u (nI q)) := by
  refine ⟨fun d => if q < 8 then (if d.1 = 1 then rq_fiD d q else d) else d, fun m post hO hR h => ?_⟩
  dsimp only
  unfold wpX_finish rq_cm
  dsimp only
  have hh : rq_hgt m ≤ 10 := rq_Dr_h hO.2
  refine rq_x_bad (m := m) q (by omega) (fun h8 => br_t rfl ?_) (fun h8 => br_f (by decide) (h m _ hO (by omega) ?_))
  · refine pk_eq (rq_hgt m) 1 (fun h1 => nm_e ?_) (fun h1 => h m _ hO (by omega) ?_)
    · refine rq_x_fin31 (m := m) q h8 hO.2.1 (h (rq_fin m q (rq_len m 8)) _ (rq_OD_fin hO h8 h1 hR) (Nat.le_refl _) ?_)
      show rq_dat (rq_fin m q (rq_len m 8)) = if q < 8 then (if rq_hgt m = 1 then rq_fiD (rq_dat m) q else _) else _
      rw [if_pos h8, if_pos h1]
      rfl
    · show rq_dat m = if q < 8 then (if rq_hgt m = 1 then _ else rq_dat m) else _
      rw [if_pos h8, if_neg h1]
  · show rq_dat m = if q < 8 then _ else rq_dat m
    rw [if_neg (by omega)]
theorem rq_env_scr (m : rq_M) : rq_env (rq_scr m) = rq_env m := by
  show (rq_giv m, (fun q i => if q < 8 ∧ i < 10 then (rq_tok m (q * 10 + i), rq_fst m (q * 10 + i), rq_sec m (q * 10 + i)) else (0, 0, 0)), (fun q => if q < 8 then rq_up (rq_len m) 8 0 q else 0)) = rq_env m
  unfold rq_env
  congr 1
  congr 1
  funext q
  by_cases hq : q < 8
  · rw [if_pos hq, if_pos hq, rq_up_n (by omega)]
  · rw [if_neg hq, if_neg hq]
theorem rq_OD_scr {m : rq_M} (h : rq_OD m) : rq_OD (rq_scr m) := by
  obtain ⟨⟨hC, hR⟩, d1, d2, d3⟩ := h
  refine ⟨⟨?_, hR⟩, ?_, ?_, ?_⟩
  · have z := hC
    unfold rq_CIm at z
    rw [← rq_env_scr m] at z
    exact z
  · show rq_up (rq_len m) 8 0 8 ≤ 10
    rw [rq_up_s]
    omega
  · show rq_wf _ (rq_up (rq_len m) 8 0 8)
    rw [rq_up_s]
    intro p hp
    omega
  · show rq_ht _ (rq_up (rq_len m) 8 0 8) = 0
    rw [rq_up_s]
    rfl
end
section
/-! the maker, a turn -/
def rq_fl {α : Type} (f : Nat → α) (v : α) : Nat → Nat → α
  | 0 => f
  | i + 1 => rq_up (rq_fl f v i) i v
theorem rq_fl_at {α : Type} {f : Nat → α} {v : α} : ∀ {n : Nat} (j : Nat), rq_fl f v n j = if j < n then v else f j := by
  intro n
  induction n with
  | zero =>
    intro j
    rw [if_neg (by omega)]
    rfl
  | succ n ih =>
    intro j
    show rq_up (rq_fl f v n) n v j = _
    by_cases e : j = n
    · rw [e, rq_up_s, if_pos (by omega)]
    · rw [rq_up_n e, ih]
      by_cases e2 : j < n
      · rw [if_pos e2, if_pos (by omega)]
      · rw [if_neg e2, if_neg (by omega)]
def rq_mi (i : Nat) : rq_M := (0, 1, 0, 0, 0, false, rq_fl (fun _ => 0) 1 i, fun _ => 0, fun _ => 0, fun _ => 0, fun _ => 0, fun _ => 0, fun _ => false, rq_fl (fun _ => false) true i, fun _ => 0, fun _ => 0, fun _ => 0, fun _ => 0, fun _ => false, fun _ => 0, fun _ => 0, fun _ => 0, fun _ => false, fun _ => 0, fun _ => 0, fun _ => 0, fun _ => false)
theorem rq_OD_init : rq_OD (rq_mi 8) := by
  have el : ∀ q, q < 8 → (rq_env (rq_mi 8)).2.2 q = 1 := by
    intro q hq
    rw [rq_env_len hq]
    show rq_fl (fun _ => 0) 1 8 q = 1
    rw [rq_fl_at, if_pos hq]
  have et : ∀ q i, (rq_env (rq_mi 8)).2.1 q i = (0, 0, 0) := by
    intro q i
    show (if q < 8 ∧ i < 10 then ((0, 0, 0) : rq_T) else (0, 0, 0)) = (0, 0, 0)
    split
    · rfl
    · rfl
  have hk : ∀ q, ¬ rq_kno (rq_mi 8) q = true := by
    intro q z
    cases (show false = true from z)
  refine ⟨⟨⟨?_, ?_, ?_, ?_, ?_, ?_⟩, by show 1 < 2 ^ 20; omega⟩, ?_, ?_, ?_⟩
  · intro q hq
    rw [el q hq]
    refine ⟨?_, ?_, by omega⟩
    · intro p hp
      rw [et q p]
      exact ⟨by show 0 < 5; omega, fun z => absurd z (by show ¬ 0 = 1; omega), fun z => absurd z (by show ¬ 0 = 2; omega), fun z => absurd z (by show ¬ 0 = 3; omega), fun z => absurd z (by show ¬ 0 = 4; omega)⟩
    · show rq_hs ((rq_env (rq_mi 8)).2.1 q 0) 0 = 1
      rw [et q 0]
      rfl
  · intro q _ a _
    exact absurd a (hk q)
  · intro q _ g
    exact absurd g.1 (hk q)
  · intro q _ a
    exact absurd a (hk q)
  · intro q _ e
    exact absurd (show 0 = 1 from e) (by omega)
  · exact ⟨Nat.le_refl 1, Nat.zero_le 1, fun _ _ => Nat.zero_le 1, fun q _ => ⟨Nat.zero_le 1, Nat.zero_le 1, Nat.zero_le 1, Nat.zero_le 10, fun i hi => absurd (show i < 0 from hi) (by omega)⟩⟩
  · show rq_fl (fun _ => 0) 1 8 8 ≤ 10
    rw [rq_fl_at, if_neg (by omega)]
    omega
  · show rq_wf _ (rq_fl (fun _ => 0) 1 8 8)
    rw [rq_fl_at, if_neg (by omega)]
    intro p hp
    omega
  · show rq_ht _ (rq_fl (fun _ => 0) 1 8 8) = 0
    rw [rq_fl_at, if_neg (by omega)]
    rfl
theorem rq_x_ini {post : St1 → Prop} (h : post (rq_cm (rq_mi 8))) : ∃ n, wX_init_179 post 21 571 21 571 0 1 0 0 0 0 n 0 (fun _ => 0) (fun _ => 0) (fun _ => 0) (fun _ => 0) (fun _ => 0) (fun _ => 0) (fun _ => 0) (fun _ => 0) (fun _ => 0) (fun _ => 0) (fun _ => 0) (fun _ => 0) (fun _ => 0) (fun _ => 0) (fun _ => 0) (fun _ => 0) (fun _ => 0) (fun _ => 0) (fun _ => 0) (fun _ => 0) (fun _ => 0) := by
  refine pk_loop (σ := Unit) (fun n i _ => wX_init_179 post 21 571 21 571 0 1 0 0 0 0 n (nI i) (rq_nA (rq_fl (fun _ => 0) 1 i)) (fun _ => 0) (fun _ => 0) (fun _ => 0) (fun _ => 0) (fun _ => 0) (fun _ => 0) (rq_bA (rq_fl (fun _ => false) true i)) (fun _ => 0) (fun _ => 0) (fun _ => 0) (fun _ => 0) (fun _ => 0) (fun _ => 0) (fun _ => 0) (fun _ => 0) (fun _ => 0) (fun _ => 0) (fun _ => 0) (fun _ => 0) (fun _ => 0)) (fun _ _ => True) 8 0 () (by omega) trivial ?_ ?_
  · intro n _ _
    exact pk_le 8 8 (fun _ => h) (fun z => absurd z (by omega))
  · intro n i _ hi _ hw
    have w := hw () trivial
    exact pk_le 8 i (fun z => absurd z (by omega)) (fun _ => ⟨pk_in i 9 (by omega), nm_r (rq_sN i 1) ⟨pk_in i 8 hi, nm_r (rq_sB i true) (nm_r (nI_1 i) w)⟩⟩)
theorem rq_x_init {post : St1 → Prop} (h : post (rq_cm (rq_mi 8))) : wpX_init post 21 571 (0, 0, 0, 0, 0, 0) :=
  And.intro (by omega) (And.intro (by omega) (And.intro (by omega) (And.intro (by omega) (And.intro (by omega) (And.intro (by omega) (And.intro (by omega) (And.intro (by omega) (And.intro (by omega) (And.intro (by omega) (And.intro (by omega) (And.intro (by omega) (And.intro (by omega) (And.intro (by omega) (And.intro (by omega) (And.intro (by omega) (And.intro (by omega) (And.intro (by omega) (And.intro (by omega) (And.intro (by omega) (And.intro (by omega) (And.intro (by omega) (And.intro (by omega) (And.intro (by omega) (And.intro (by omega) (And.intro (by omega) (And.intro (by omega) (And.intro (by omega) (And.intro (by omega) (And.intro (by omega) (And.intro (by omega) (And.intro (by omega) (And.intro (by omega) (And.intro (by omega) (And.intro (by omega) (And.intro (by omega) (And.intro (by omega) (And.intro (by omega) (And.intro (by omega) (And.intro (by omega) (And.intro (by omega) (And.intro (by omega) (rq_x_ini h))))))))))))))))))))))))))))))))))))))))))
theorem rq_T_scrap (p : Int32) : rq_TR (fun post u => ((p = 0 → wpX_scrap (fun u => post 0 u) u) ∧ (¬ p = 0 → post 0 u))) := by
  refine ⟨fun d => if p = 0 then (0, rq_up d.2.1 8 0, d.2.2) else d, fun m post hO hR h => ?_⟩
  refine br_c (fun z => rq_x_scrap (m := m) (h (rq_scr m) _ (rq_OD_scr hO) (Nat.le_succ _) ?_)) (fun z => h m _ hO (Nat.le_succ _) ?_)
  · show rq_dat (rq_scr m) = if p = 0 then (0, rq_up (rq_len m) 8 0, (rq_dat m).2.2) else _
    rw [if_pos z]
    rfl
  · show rq_dat m = if p = 0 then _ else rq_dat m
    rw [if_neg z]
theorem rq_T_turn (p1 p2 : Int32) : rq_TR (fun post u => wpL_turn post u p1 p2) := by
  obtain ⟨a, ha, ea⟩ := pk_andE p1 4 (m := 15) (by decide)
  obtain ⟨b4, hb4, eb4⟩ := pk_andE p2 4 (m := 15) (by decide)
  obtain ⟨b3, hb3, eb3⟩ := pk_andE p2 3 (m := 7) (by decide)
  obtain ⟨b2, hb2, eb2⟩ := pk_andE p2 2 (m := 3) (by decide)
  obtain ⟨c3, hc3, ec3⟩ := pk_andE (p2 >>> ((3 : Int32) &&& 31)) 3 (m := 7) (by decide)
  have e6 : (p2 &&& 15) - (p2 &&& 15) / 6 * 6 = nI (b4 % 6) := by
    rw [eb4]
    exact pk_rem (a := b4) (d := 6) (by omega) (by omega) (by omega)
  have e9 : (p2 &&& 15) - (p2 &&& 15) / 9 * 9 = nI (b4 % 9) := by
    rw [eb4]
    exact pk_rem (a := b4) (d := 9) (by omega) (by omega) (by omega)
  by_cases h2 : a < 2
  · obtain ⟨F, hF⟩ := rq_T_set (b4 % 6) (((p2 >>> ((4 : Int32) &&& 31)) &&& 7) - 2) (Nat.mod_lt _ (by omega))
    refine ⟨F, fun m post hO hR h => ?_⟩
    have y : wpX_set post (rq_cm m) (nI (b4 % 6)) (((p2 >>> ((4 : Int32) &&& 31)) &&& 7) - 2) := hF m post hO hR h
    rw [← e6] at y
    exact nm_r ea (pk_le 2 a (fun z => absurd z (by omega)) (fun _ => ⟨by decide, y⟩))
  by_cases h3 : a = 2
  · obtain ⟨F, hF⟩ := rq_T_num (((p2 >>> ((4 : Int32) &&& 31)) &&& 7) - 2)
    refine ⟨F, fun m post hO hR h => ?_⟩
    have y : wpX_num post (rq_cm m) (((p2 >>> ((4 : Int32) &&& 31)) &&& 7) - 2) := hF m post hO hR h
    exact nm_r ea (pk_le 2 a (fun _ => pk_eq a 2 (fun _ => y) (fun z => absurd h3 z)) (fun z => absurd z (by omega)))
  by_cases h5 : a < 5
  · obtain ⟨F, hF⟩ := rq_T_input b3 hb3
    refine ⟨F, fun m post hO hR h => ?_⟩
    have y : wpX_input post (rq_cm m) (nI b3) := hF m post hO hR h
    rw [← eb3] at y
    exact nm_r ea (pk_le 2 a (fun _ => pk_eq a 2 (fun z => absurd z h3) (fun _ => pk_le 5 a (fun z => absurd z (by omega)) (fun _ => y))) (fun z => absurd z (by omega)))
  by_cases h7 : a < 7
  · obtain ⟨F, hF⟩ := rq_T_query b3 hb3
    refine ⟨F, fun m post hO hR h => ?_⟩
    have y : wpX_query post (rq_cm m) (nI b3) := hF m post hO hR h
    rw [← eb3] at y
    exact nm_r ea (pk_le 2 a (fun _ => pk_eq a 2 (fun z => absurd z h3) (fun _ => pk_le 5 a (fun _ => pk_le 7 a (fun z => absurd z (by omega)) (fun _ => y)) (fun z => absurd z (by omega)))) (fun z => absurd z (by omega)))
  by_cases h8 : a = 7
  · obtain ⟨F, hF⟩ := rq_T_choose b3 c3 hb3 hc3
    refine ⟨F, fun m post hO hR h => ?_⟩
    have y : wpX_choose post (rq_cm m) (nI b3) (nI c3) := hF m post hO hR h
    rw [← eb3, ← ec3] at y
    exact nm_r ea (pk_le 2 a (fun _ => pk_eq a 2 (fun z => absurd z h3) (fun _ => pk_le 5 a (fun _ => pk_le 7 a (fun _ => pk_eq a 7 (fun _ => y) (fun z => absurd h8 z)) (fun z => absurd z (by omega))) (fun z => absurd z (by omega)))) (fun z => absurd z (by omega)))
  by_cases h11 : a < 11
  · obtain ⟨F, hF⟩ := rq_T_apply b2 hb2
    refine ⟨F, fun m post hO hR h => ?_⟩
    have y : wpX_apply post (rq_cm m) (nI b2) := hF m post hO hR h
    rw [← eb2] at y
    exact nm_r ea (pk_le 2 a (fun _ => pk_eq a 2 (fun z => absurd z h3) (fun _ => pk_le 5 a (fun _ => pk_le 7 a (fun _ => pk_eq a 7 (fun z => absurd z h8) (fun _ => pk_le 11 a (fun z => absurd z (by omega)) (fun _ => y))) (fun z => absurd z (by omega))) (fun z => absurd z (by omega)))) (fun z => absurd z (by omega)))
  by_cases h15 : a < 15
  · obtain ⟨F, hF⟩ := rq_T_finish (b4 % 9) (Nat.mod_lt _ (by omega))
    refine ⟨F, fun m post hO hR h => ?_⟩
    have y : wpX_finish post (rq_cm m) (nI (b4 % 9)) := hF m post hO hR h
    rw [← e9] at y
    exact nm_r ea (pk_le 2 a (fun _ => pk_eq a 2 (fun z => absurd z h3) (fun _ => pk_le 5 a (fun _ => pk_le 7 a (fun _ => pk_eq a 7 (fun z => absurd z h8) (fun _ => pk_le 11 a (fun _ => pk_le 15 a (fun z => absurd z (by omega)) (fun _ => ⟨by decide, y⟩)) (fun z => absurd z (by omega)))) (fun z => absurd z (by omega))) (fun z => absurd z (by omega)))) (fun z => absurd z (by omega)))
  · obtain ⟨F, hF⟩ := rq_T_scrap (p2 &&& 7)
    refine ⟨F, fun m post hO hR h => ?_⟩
    have y : ((p2 &&& 7) = 0 → wpX_scrap (fun u => post 0 u) (rq_cm m)) ∧ (¬ (p2 &&& 7) = 0 → post 0 (rq_cm m)) := hF m post hO hR h
    exact nm_r ea (pk_le 2 a (fun _ => pk_eq a 2 (fun z => absurd z h3) (fun _ => pk_le 5 a (fun _ => pk_le 7 a (fun _ => pk_eq a 7 (fun z => absurd z h8) (fun _ => pk_le 11 a (fun _ => pk_le 15 a (fun _ => y) (fun z => absurd z (by omega))) (fun z => absurd z (by omega)))) (fun z => absurd z (by omega))) (fun z => absurd z (by omega)))) (fun z => absurd z (by omega)))
end
section
/-! stirred, as the queries do it -/
noncomputable def rq_ct (E0 E1 : rq_E) : Nat → Nat
  | 0 => 0
  | n + 1 => rq_ct E0 E1 n + (if rq_V E0 n = rq_V E1 n then 0 else 1)
theorem rq_ct_e {E0 E1 : rq_E} {n : Nat} (h : rq_V E0 n = rq_V E1 n) : rq_ct E0 E1 (n + 1) = rq_ct E0 E1 n := by
  show rq_ct E0 E1 n + (if rq_V E0 n = rq_V E1 n then 0 else 1) = _
  rw [if_pos h]
  rfl
theorem rq_ct_n {E0 E1 : rq_E} {n : Nat} (h : ¬ rq_V E0 n = rq_V E1 n) : rq_ct E0 E1 (n + 1) = rq_ct E0 E1 n + 1 := by
  show rq_ct E0 E1 n + (if rq_V E0 n = rq_V E1 n then 0 else 1) = _
  rw [if_neg h]
theorem rq_bT1 {x : Int32} {A B : Prop} (b : Bool) (f : b = true → A) (g : b = false → B) (hx : x = rq_bI b := by rfl) : (x = 1 → A) ∧ (¬ x = 1 → B) := by
  subst hx
  cases b with
  | true => exact ⟨fun _ => f rfl, fun z => absurd rfl z⟩
  | false => exact ⟨fun z => absurd z (by decide), fun _ => g rfl⟩
theorem rq_x_st42 {post : Int32 → St1 → Prop} {J : Int32 → Int32 → Int32 → Int32 → Int32 → Int32 → Int32 → (Nat → Int32) → (Nat → Int32) → (Nat → Int32) → (Nat → Int32) → (Nat → Int32) → (Nat → Int32) → (Nat → Int32) → (Nat → Int32) → (Nat → Int32) → (Nat → Int32) → (Nat → Int32) → (Nat → Int32) → (Nat → Int32) → (Nat → Int32) → (Nat → Int32) → (Nat → Int32) → (Nat → Int32) → (Nat → Int32) → (Nat → Int32) → (Nat → Int32) → (Nat → Int32) → Prop} {m : rq_M} {x1 x2 z : Int32} (i : Nat) (hi : i < 8) (b : Bool)
    (h : J (nI (i + 1)) (nI (rq_hgt m)) (nI (rq_rev m)) (nI (rq_sch m)) (nI (rq_frm m)) (nI (rq_top m)) (rq_bI (rq_fai m)) (rq_nA (rq_len m)) (rq_nA (rq_tok m)) (rq_fst m) (rq_sec m) (rq_giv m) (rq_nA (rq_gat m)) (rq_bA (rq_kno m)) (rq_bA (rq_sta m)) (rq_mem m) (rq_nA (rq_vat m)) (rq_nA (rq_cat m)) (rq_nA (rq_cir m)) (rq_bA (rq_std m)) (rq_nA (rq_nct m)) (rq_nA (rq_ned m)) (rq_nA (rq_fqu m)) (rq_bA (rq_fwk m)) (rq_nA (rq_fps m)) (rq_pil m) (rq_up (rq_wva m) i (rq_mem m i)) (rq_bA (rq_up (rq_wci m) i b))) (hz : z = rq_bI b := by rfl) :
    wX_stirred_42 post J x1 x2 (nI i) z (nI i) (nI (rq_hgt m)) (nI (rq_rev m)) (nI (rq_sch m)) (nI (rq_frm m)) (nI (rq_top m)) (rq_bI (rq_fai m)) (rq_nA (rq_len m)) (rq_nA (rq_tok m)) (rq_fst m) (rq_sec m) (rq_giv m) (rq_nA (rq_gat m)) (rq_bA (rq_kno m)) (rq_bA (rq_sta m)) (rq_mem m) (rq_nA (rq_vat m)) (rq_nA (rq_cat m)) (rq_nA (rq_cir m)) (rq_bA (rq_std m)) (rq_nA (rq_nct m)) (rq_nA (rq_ned m)) (rq_nA (rq_fqu m)) (rq_bA (rq_fwk m)) (rq_nA (rq_fps m)) (rq_pil m) (rq_wva m) (rq_bA (rq_wci m)) := by
  subst hz
  exact And.intro (pk_in i 8 hi) (nm_r (rq_sB i b rfl (rq_nar b)) ⟨pk_in i 8 hi, pk_in i 8 hi, nm_r (rq_sI2 i rfl (rq_gI (f := rq_mem m) i) (by omega)) (nm_r (nI_1 i) h)⟩)
/-- what the first loop of stirred keeps -/
def rq_I1 (m : rq_M) (j : Nat) (s : rq_M) : Prop :=
  rq_OK s ∧ rq_rev s = rq_rev m ∧ rq_dat s = rq_dat m ∧ ∀ q, q < j → rq_wci s q = rq_cb (rq_env m) q ∧ ∀ w, rq_V (rq_env m) q = some w → rq_wva s q = w
theorem rq_I1_s {m s s' : rq_M} {j : Nat} (h : rq_I1 m j s) (hS : rq_Same s s') (hC : rq_CIm s') {b : Bool} (hb : b = rq_cb (rq_env m) j) (hv : ∀ w, rq_V (rq_env m) j = some w → rq_mem s' j = w) :
    rq_I1 m (j + 1) (rq_was s' j (rq_mem s' j) b) := by
  obtain ⟨hO, hr, hd, hw⟩ := h
  have hO' := rq_OK_same hO hS hC
  refine ⟨⟨hO'.1, hO'.2⟩, hS.2.1.trans hr, (rq_dat_same hS).trans hd, fun q hq => ?_⟩
  show rq_up (rq_wci s') j b q = _ ∧ ∀ w, _ → rq_up (rq_wva s') j (rq_mem s' j) q = w
  by_cases e : q = j
  · rw [e, rq_up_s, rq_up_s]
    exact ⟨hb, hv⟩
  · rw [rq_up_n e, rq_up_n e, hS.2.2.2.2.2.2.2.2.2.1, hS.2.2.2.2.2.2.2.2.2.2]
    exact hw q (by omega)
theorem rq_env_dat {m m' : rq_M} (h : rq_dat m' = rq_dat m) : rq_env m' = rq_env m := by
  rw [rq_env_D, rq_env_D, h]
theorem rq_x_st81 {post : Int32 → St1 → Prop} {m m1 : rq_M} {i : Nat} {old : Int32} (hi : i < 6) (hO : rq_OK m1)
    (hw : ∀ q, q < 8 → rq_wci m1 q = rq_cb (rq_env m) q ∧ ∀ w, rq_V (rq_env m) q = some w → rq_wva m1 q = w)
    (h : ∀ s, rq_Same m1 s → rq_OK s → wpX_set (fun _ u => post (nI (rq_ct (rq_env m) (rq_env m1) 8)) u) (rq_cm s) (nI i) old) :
    ∃ n, rq_l_st81 post (nI i) old n 0 0 (rq_cm m1) := by
  have z := pk_loop (σ := rq_M) (fun n j s => rq_l_st81 post (nI i) old n (nI (rq_ct (rq_env m) (rq_env m1) j)) (nI j) (rq_cm s)) (fun _ s => rq_Same m1 s ∧ rq_OK s) 8 0 m1 (by omega) ⟨rq_Same_refl m1, hO⟩ ?_ ?_
  · exact z
  · intro n s hs
    exact pk_le 8 8 (fun _ => h s hs.1 hs.2) (fun z => absurd z (by omega))
  · intro n j s hj ⟨hS, hs⟩ hn
    refine pk_le 8 j (fun z => absurd z (by omega)) (fun _ => ?_)
    have eE := rq_env_same hS
    obtain ⟨w1, w2⟩ := hw j hj
    have up1 : ∀ s', rq_Same m1 s' ∧ rq_OK s' → ¬ rq_V (rq_env m) j = rq_V (rq_env m1) j → rq_l_st81 post (nI i) old n (nI (rq_ct (rq_env m) (rq_env m1) j + 1)) (nI (j + 1)) (rq_cm s') := by
      intro s' hs' e
      have z := hn s' hs'
      rw [rq_ct_n e] at z
      exact z
    have up0 : ∀ s', rq_Same m1 s' ∧ rq_OK s' → rq_V (rq_env m) j = rq_V (rq_env m1) j → rq_l_st81 post (nI i) old n (nI (rq_ct (rq_env m) (rq_env m1) j)) (nI (j + 1)) (rq_cm s') := by
      intro s' hs' e
      have z := hn s' hs'
      rw [rq_ct_e e] at z
      exact z
    refine rq_x_ensure (m := s) j hs.1 hs.2 hj (fun s' hS' hC v => ⟨pk_in j 8 hj, ?_⟩) (fun s' hS' hC v g => ⟨pk_in j 8 hj, ?_⟩)
    · rw [eE] at v
      have hs' : rq_Same m1 s' ∧ rq_OK s' := ⟨rq_Same_trans hS hS', rq_OK_same hs hS' hC⟩
      have ew : rq_wci s' j = rq_cb (rq_env m) j := by
        rw [hs'.1.2.2.2.2.2.2.2.2.2.2]
        exact w1
      refine rq_bT (rq_wci s' j) (fun e => nm_r (nI_1 _) (nm_r (nI_1 j) (up1 s' hs' (fun y => ?_)))) (fun e => br_t rfl (nm_r (nI_1 j) (up0 s' hs' ?_))) (rq_gB j)
      · rw [ew] at e
        unfold rq_cb at e
        rw [y, v] at e
        cases e
      · rw [ew] at e
        unfold rq_cb at e
        rw [v]
        exact Option.isNone_iff_eq_none.mp e
    · rw [eE] at v
      have hs' : rq_Same m1 s' ∧ rq_OK s' := ⟨rq_Same_trans hS hS', rq_OK_same hs hS' hC⟩
      have ew : rq_wci s' j = rq_cb (rq_env m) j := by
        rw [hs'.1.2.2.2.2.2.2.2.2.2.2]
        exact w1
      have ev : rq_wva s' j = rq_wva m1 j := by
        rw [hs'.1.2.2.2.2.2.2.2.2.2.1]
      refine rq_bT1 (rq_wci s' j) (fun e => nm_r (nI_1 _) (nm_r (nI_1 j) (up1 s' hs' (fun y => ?_)))) (fun e => br_f (by decide) ⟨pk_in j 8 hj, pk_in j 8 hj, ?_⟩) (rq_gB j)
      · rw [ew] at e
        unfold rq_cb at e
        rw [y, v] at e
        cases e
      · rw [ew] at e
        unfold rq_cb at e
        cases hv0 : rq_V (rq_env m) j with
        | none =>
          rw [hv0] at e
          cases e
        | some w0 =>
          have e0 := w2 w0 hv0
          have br : (rq_wva s' j = rq_mem s' j → ∀ y, y = nI j + 1 → rq_l_st81 post (nI i) old n (nI (rq_ct (rq_env m) (rq_env m1) j)) y (rq_cm s')) ∧
              (¬ rq_wva s' j = rq_mem s' j → ∀ x, x = nI (rq_ct (rq_env m) (rq_env m1) j) + 1 → ∀ y, y = nI j + 1 → rq_l_st81 post (nI i) old n x y (rq_cm s')) := by
            refine br_c (fun y => nm_r (nI_1 j) (up0 s' hs' ?_)) (fun y => nm_r (nI_1 _) (nm_r (nI_1 j) (up1 s' hs' (fun z => y ?_))))
            · rw [hv0, v, ← y, ev, e0]
            · rw [hv0, v] at z
              rw [ev, e0]
              exact Option.some.inj z
          rw [← rq_gI (f := rq_wva s') (x := nI j) j, ← rq_gI (f := rq_mem s') (x := nI j) j] at br
          exact br
theorem rq_x_stirred {post : Int32 → St1 → Prop} {m : rq_M} {x v : Int32} (i : Nat) (hO : rq_OK m) (hR : rq_rev m + 2 < 2 ^ 20) (hi : i < 6)
    (h : ∀ m', rq_OK m' → rq_rev m' ≤ rq_rev m + 2 → rq_dat m' = rq_dat m → post (nI (rq_ct (rq_env m) (rq_up (rq_giv m) i v, (rq_env m).2) 8)) (rq_cm m')) (hx : x = nI i := by rfl) :
    wpX_stirred post (rq_cm m) x v := by
  subst hx
  refine pk_lt i 0 (fun z => absurd z (by omega)) (fun _ => pk_lt i 6 (fun _ => ?_) (fun z => absurd z (by omega)))
  have z := pk_loop (σ := rq_M) (fun n j s => rq_l_st14 post (nI i) v n (nI j) (rq_cm s)) (fun j s => rq_I1 m j s) 8 0 m (by omega) ⟨hO, rfl, rfl, fun q hq => absurd hq (Nat.not_lt_zero q)⟩ ?_ ?_
  · exact z
  · intro n s hs
    obtain ⟨hOs, hr, hd, hw⟩ := hs
    refine pk_le 8 8 (fun _ => ⟨pk_in i 6 hi, nm_r (rq_gI (f := rq_giv s) i) ?_⟩) (fun z => absurd z (by omega))
    have eg : rq_giv s = rq_giv m := congrArg (fun d => d.2.2.2.2.2) hd
    refine rq_x_set (m := s) i hOs.1 hi (fun m1 hC1 hr1 hd1 hv1 hc1 => ?_)
    have eE1 : rq_env m1 = (rq_up (rq_giv m) i v, (rq_env m).2) := by
      rw [rq_env_D, hd1, ← eg, ← rq_env_dat hd]
      rfl
    refine rq_x_st81 (m := m) (m1 := m1) hi ⟨hC1, by omega⟩ (fun q hq => ?_) (fun s2 hS2 hO2 => ?_)
    · rw [hc1, hv1]
      exact hw q hq
    · refine rq_x_set (m := s2) i hO2.1 hi (fun m2 hC2 hr2 hd2 _ _ => ?_)
      rw [eE1]
      have er2 : rq_rev s2 = rq_rev m1 := hS2.2.1
      refine h m2 ⟨hC2, by omega⟩ (by omega) ?_
      have ed : rq_dat s2 = (rq_hgt s, rq_len s, rq_tok s, rq_fst s, rq_sec s, rq_up (rq_giv s) i v) := (rq_dat_same hS2).trans hd1
      rw [hd2, ← hd]
      have a1 : rq_hgt s2 = rq_hgt s := congrArg (fun d => d.1) ed
      have a2 : rq_len s2 = rq_len s := congrArg (fun d => d.2.1) ed
      have a3 : rq_tok s2 = rq_tok s := congrArg (fun d => d.2.2.1) ed
      have a4 : rq_fst s2 = rq_fst s := congrArg (fun d => d.2.2.2.1) ed
      have a5 : rq_sec s2 = rq_sec s := congrArg (fun d => d.2.2.2.2.1) ed
      have a6 : rq_giv s2 = rq_up (rq_giv s) i v := congrArg (fun d => d.2.2.2.2.2) ed
      rw [a1, a2, a3, a4, a5, a6, rq_up_up, rq_up_id rfl]
      rfl
  · intro n j s hj hs hn
    refine pk_le 8 j (fun z => absurd z (by omega)) (fun _ => ?_)
    have eE : rq_env s = rq_env m := rq_env_dat hs.2.2.1
    refine rq_x_ensure (m := s) j hs.1.1 hs.1.2 hj (fun s' hS' hC v' => br_t rfl ?_) (fun s' hS' hC v' g => br_f (by decide) ?_)
    · rw [eE] at v'
      refine rq_x_st42 (m := s') j hj true ?_
      refine hn (rq_was s' j (rq_mem s' j) true) (rq_I1_s hs hS' hC ?_ ?_)
      · unfold rq_cb
        rw [v']
        rfl
      · intro w hw
        rw [v'] at hw
        cases hw
    · rw [eE] at v'
      refine rq_x_st42 (m := s') j hj false ?_
      refine hn (rq_was s' j (rq_mem s' j) false) (rq_I1_s hs hS' hC ?_ ?_)
      · unfold rq_cb
        rw [v']
        rfl
      · intro w hw
        rw [v'] at hw
        exact Option.some.inj hw
end
section
/-! two objects: the law's stirred and equal -/
def rq_cm2 (a b : rq_M) : St2 := (nI (rq_hgt a), nI (rq_rev a), nI (rq_sch a), nI (rq_frm a), nI (rq_top a), rq_bI (rq_fai a), rq_nA (rq_len a), rq_nA (rq_tok a), rq_fst a, rq_sec a, rq_giv a, rq_nA (rq_gat a), rq_bA (rq_kno a), rq_bA (rq_sta a), rq_mem a, rq_nA (rq_vat a), rq_nA (rq_cat a), rq_nA (rq_cir a), rq_bA (rq_std a), rq_nA (rq_nct a), rq_nA (rq_ned a), rq_nA (rq_fqu a), rq_bA (rq_fwk a), rq_nA (rq_fps a), rq_pil a, rq_wva a, rq_bA (rq_wci a), nI (rq_hgt b), nI (rq_rev b), nI (rq_sch b), nI (rq_frm b), nI (rq_top b), rq_bI (rq_fai b), rq_nA (rq_len b), rq_nA (rq_tok b), rq_fst b, rq_sec b, rq_giv b, rq_nA (rq_gat b), rq_bA (rq_kno b), rq_bA (rq_sta b), rq_mem b, rq_nA (rq_vat b), rq_nA (rq_cat b), rq_nA (rq_cir b), rq_bA (rq_std b), rq_nA (rq_nct b), rq_nA (rq_ned b), rq_nA (rq_fqu b), rq_bA (rq_fwk b), rq_nA (rq_fps b), rq_pil b, rq_wva b, rq_bA (rq_wci b))
theorem rq_V_eq {E E' : rq_E} {q : Nat} (h : rq_val E q = rq_val E' q) (h2 : rq_bI (rq_cb E q) = rq_bI (rq_cb E' q)) : rq_V E q = rq_V E' q := by
  unfold rq_val at h
  unfold rq_cb at h2
  cases e : rq_V E q with
  | none =>
    cases e' : rq_V E' q with
    | none => rfl
    | some w =>
      rw [e, e'] at h2
      exact absurd (show (1 : Int32) = 0 from h2) (by decide)
  | some v =>
    cases e' : rq_V E' q with
    | none =>
      rw [e, e'] at h2
      exact absurd (show (0 : Int32) = 1 from h2) (by decide)
    | some w =>
      rw [e, e'] at h
      exact congrArg some h
theorem rq_x_lst4 {post : Int32 → St2 → Prop} {a b : rq_M} (hA : rq_OK a) (hB : rq_OK b)
    (h : ∀ a' b', rq_Same a a' → rq_OK a' → rq_Same b b' → rq_OK b' → post (nI (rq_ct (rq_env a) (rq_env b) 8)) (rq_cm2 a' b')) :
    ∃ n, wL_stirred_4 post n 0 0 (nI (rq_hgt a)) (nI (rq_rev a)) (nI (rq_sch a)) (nI (rq_frm a)) (nI (rq_top a)) (rq_bI (rq_fai a)) (rq_nA (rq_len a)) (rq_nA (rq_tok a)) (rq_fst a) (rq_sec a) (rq_giv a) (rq_nA (rq_gat a)) (rq_bA (rq_kno a)) (rq_bA (rq_sta a)) (rq_mem a) (rq_nA (rq_vat a)) (rq_nA (rq_cat a)) (rq_nA (rq_cir a)) (rq_bA (rq_std a)) (rq_nA (rq_nct a)) (rq_nA (rq_ned a)) (rq_nA (rq_fqu a)) (rq_bA (rq_fwk a)) (rq_nA (rq_fps a)) (rq_pil a) (rq_wva a) (rq_bA (rq_wci a)) (nI (rq_hgt b)) (nI (rq_rev b)) (nI (rq_sch b)) (nI (rq_frm b)) (nI (rq_top b)) (rq_bI (rq_fai b)) (rq_nA (rq_len b)) (rq_nA (rq_tok b)) (rq_fst b) (rq_sec b) (rq_giv b) (rq_nA (rq_gat b)) (rq_bA (rq_kno b)) (rq_bA (rq_sta b)) (rq_mem b) (rq_nA (rq_vat b)) (rq_nA (rq_cat b)) (rq_nA (rq_cir b)) (rq_bA (rq_std b)) (rq_nA (rq_nct b)) (rq_nA (rq_ned b)) (rq_nA (rq_fqu b)) (rq_bA (rq_fwk b)) (rq_nA (rq_fps b)) (rq_pil b) (rq_wva b) (rq_bA (rq_wci b)) := by
  refine pk_loop (σ := rq_M × rq_M) (fun n i s => wL_stirred_4 post n (nI (rq_ct (rq_env a) (rq_env b) i)) (nI i) (nI (rq_hgt s.1)) (nI (rq_rev s.1)) (nI (rq_sch s.1)) (nI (rq_frm s.1)) (nI (rq_top s.1)) (rq_bI (rq_fai s.1)) (rq_nA (rq_len s.1)) (rq_nA (rq_tok s.1)) (rq_fst s.1) (rq_sec s.1) (rq_giv s.1) (rq_nA (rq_gat s.1)) (rq_bA (rq_kno s.1)) (rq_bA (rq_sta s.1)) (rq_mem s.1) (rq_nA (rq_vat s.1)) (rq_nA (rq_cat s.1)) (rq_nA (rq_cir s.1)) (rq_bA (rq_std s.1)) (rq_nA (rq_nct s.1)) (rq_nA (rq_ned s.1)) (rq_nA (rq_fqu s.1)) (rq_bA (rq_fwk s.1)) (rq_nA (rq_fps s.1)) (rq_pil s.1) (rq_wva s.1) (rq_bA (rq_wci s.1)) (nI (rq_hgt s.2)) (nI (rq_rev s.2)) (nI (rq_sch s.2)) (nI (rq_frm s.2)) (nI (rq_top s.2)) (rq_bI (rq_fai s.2)) (rq_nA (rq_len s.2)) (rq_nA (rq_tok s.2)) (rq_fst s.2) (rq_sec s.2) (rq_giv s.2) (rq_nA (rq_gat s.2)) (rq_bA (rq_kno s.2)) (rq_bA (rq_sta s.2)) (rq_mem s.2) (rq_nA (rq_vat s.2)) (rq_nA (rq_cat s.2)) (rq_nA (rq_cir s.2)) (rq_bA (rq_std s.2)) (rq_nA (rq_nct s.2)) (rq_nA (rq_ned s.2)) (rq_nA (rq_fqu s.2)) (rq_bA (rq_fwk s.2)) (rq_nA (rq_fps s.2)) (rq_pil s.2) (rq_wva s.2) (rq_bA (rq_wci s.2))) (fun _ s => (rq_Same a s.1 ∧ rq_OK s.1) ∧ (rq_Same b s.2 ∧ rq_OK s.2)) 8 0 (a, b) (by omega) ⟨⟨rq_Same_refl a, hA⟩, ⟨rq_Same_refl b, hB⟩⟩ ?_ ?_
  · rintro n ⟨s, t⟩ ⟨⟨h1, h2⟩, ⟨h3, h4⟩⟩
    exact pk_le 8 8 (fun _ => h s t h1 h2 h3 h4) (fun z => absurd z (by omega))
  · rintro n i ⟨s, t⟩ hi ⟨⟨h1, h2⟩, ⟨h3, h4⟩⟩ hw
    have h1' : rq_Same a s := h1
    have h2' : rq_OK s := h2
    have h3' : rq_Same b t := h3
    have h4' : rq_OK t := h4
    have ea := rq_env_same h1'
    have eb := rq_env_same h3'
    have up1 : ∀ s' t', rq_Same s s' → rq_OK s' → rq_Same t t' → rq_OK t' → ¬ rq_V (rq_env a) i = rq_V (rq_env b) i → wL_stirred_4 post n (nI (rq_ct (rq_env a) (rq_env b) i + 1)) (nI (i + 1)) (nI (rq_hgt s')) (nI (rq_rev s')) (nI (rq_sch s')) (nI (rq_frm s')) (nI (rq_top s')) (rq_bI (rq_fai s')) (rq_nA (rq_len s')) (rq_nA (rq_tok s')) (rq_fst s') (rq_sec s') (rq_giv s') (rq_nA (rq_gat s')) (rq_bA (rq_kno s')) (rq_bA (rq_sta s')) (rq_mem s') (rq_nA (rq_vat s')) (rq_nA (rq_cat s')) (rq_nA (rq_cir s')) (rq_bA (rq_std s')) (rq_nA (rq_nct s')) (rq_nA (rq_ned s')) (rq_nA (rq_fqu s')) (rq_bA (rq_fwk s')) (rq_nA (rq_fps s')) (rq_pil s') (rq_wva s') (rq_bA (rq_wci s')) (nI (rq_hgt t')) (nI (rq_rev t')) (nI (rq_sch t')) (nI (rq_frm t')) (nI (rq_top t')) (rq_bI (rq_fai t')) (rq_nA (rq_len t')) (rq_nA (rq_tok t')) (rq_fst t') (rq_sec t') (rq_giv t') (rq_nA (rq_gat t')) (rq_bA (rq_kno t')) (rq_bA (rq_sta t')) (rq_mem t') (rq_nA (rq_vat t')) (rq_nA (rq_cat t')) (rq_nA (rq_cir t')) (rq_bA (rq_std t')) (rq_nA (rq_nct t')) (rq_nA (rq_ned t')) (rq_nA (rq_fqu t')) (rq_bA (rq_fwk t')) (rq_nA (rq_fps t')) (rq_pil t') (rq_wva t') (rq_bA (rq_wci t')) := by
      intro s' t' k1 k2 k3 k4 e
      have z := hw (s', t') ⟨⟨rq_Same_trans h1' k1, k2⟩, ⟨rq_Same_trans h3' k3, k4⟩⟩
      rw [rq_ct_n e] at z
      exact z
    have up0 : ∀ s' t', rq_Same s s' → rq_OK s' → rq_Same t t' → rq_OK t' → rq_V (rq_env a) i = rq_V (rq_env b) i → wL_stirred_4 post n (nI (rq_ct (rq_env a) (rq_env b) i)) (nI (i + 1)) (nI (rq_hgt s')) (nI (rq_rev s')) (nI (rq_sch s')) (nI (rq_frm s')) (nI (rq_top s')) (rq_bI (rq_fai s')) (rq_nA (rq_len s')) (rq_nA (rq_tok s')) (rq_fst s') (rq_sec s') (rq_giv s') (rq_nA (rq_gat s')) (rq_bA (rq_kno s')) (rq_bA (rq_sta s')) (rq_mem s') (rq_nA (rq_vat s')) (rq_nA (rq_cat s')) (rq_nA (rq_cir s')) (rq_bA (rq_std s')) (rq_nA (rq_nct s')) (rq_nA (rq_ned s')) (rq_nA (rq_fqu s')) (rq_bA (rq_fwk s')) (rq_nA (rq_fps s')) (rq_pil s') (rq_wva s') (rq_bA (rq_wci s')) (nI (rq_hgt t')) (nI (rq_rev t')) (nI (rq_sch t')) (nI (rq_frm t')) (nI (rq_top t')) (rq_bI (rq_fai t')) (rq_nA (rq_len t')) (rq_nA (rq_tok t')) (rq_fst t') (rq_sec t') (rq_giv t') (rq_nA (rq_gat t')) (rq_bA (rq_kno t')) (rq_bA (rq_sta t')) (rq_mem t') (rq_nA (rq_vat t')) (rq_nA (rq_cat t')) (rq_nA (rq_cir t')) (rq_bA (rq_std t')) (rq_nA (rq_nct t')) (rq_nA (rq_ned t')) (rq_nA (rq_fqu t')) (rq_bA (rq_fwk t')) (rq_nA (rq_fps t')) (rq_pil t') (rq_wva t') (rq_bA (rq_wci t')) := by
      intro s' t' k1 k2 k3 k4 e
      have z := hw (s', t') ⟨⟨rq_Same_trans h1' k1, k2⟩, ⟨rq_Same_trans h3' k3, k4⟩⟩
      rw [rq_ct_e e] at z
      exact z
    refine pk_le 8 i (fun z => absurd z (by omega)) (fun _ => ?_)
    refine rq_x_value (m := s) i h2' hi (fun s1 hs1 hO1 => ?_)
    refine rq_x_value (m := t) i h4' hi (fun t1 ht1 hO2 => ?_)
    refine br_c (fun e => ?_) (fun e => ?_)
    · refine rq_x_circular (m := s1) i hO1 hi (fun s2 hs2 hO3 => ?_)
      refine rq_x_circular (m := t1) i hO2 hi (fun t2 ht2 hO4 => ?_)
      rw [ea, eb] at e
      have es1 : rq_env s1 = rq_env a := (rq_env_same hs1).trans ea
      have et1 : rq_env t1 = rq_env b := (rq_env_same ht1).trans eb
      refine br_c (fun e2 => nm_r (nI_1 i) (up0 s2 t2 (rq_Same_trans hs1 hs2) hO3 (rq_Same_trans ht1 ht2) hO4 ?_)) (fun e2 => nm_r (nI_1 _) (nm_r (nI_1 i) (up1 s2 t2 (rq_Same_trans hs1 hs2) hO3 (rq_Same_trans ht1 ht2) hO4 (fun y => ?_))))
      · rw [es1, et1] at e2
        exact rq_V_eq e e2
      · rw [es1, et1] at e2
        apply e2
        unfold rq_cb
        rw [y]
    · rw [ea, eb] at e
      refine nm_r (nI_1 _) (nm_r (nI_1 i) (up1 s1 t1 hs1 hO1 ht1 hO2 (fun y => e ?_)))
      unfold rq_val
      rw [y]
theorem rq_x_lst {post : Int32 → St2 → Prop} {a b : rq_M} (hA : rq_OK a) (hB : rq_OK b)
    (h : ∀ a' b', rq_Same a a' → rq_OK a' → rq_Same b b' → rq_OK b' → post (nI (rq_ct (rq_env a) (rq_env b) 8)) (rq_cm2 a' b')) :
    wpL_stirred post (rq_cm2 a b) := rq_x_lst4 hA hB h
theorem rq_ct_0 {E : rq_E} : ∀ n, rq_ct E E n = 0 := by
  intro n
  induction n with
  | zero => rfl
  | succ n ih => rw [rq_ct_e rfl, ih]
theorem rq_x_eq2 {post : Int32 → St2 → Prop} {a b : rq_M} (hA : rq_OK a) (hB : rq_OK b) (hE : rq_env a = rq_env b)
    (h : ∀ a' b', rq_Same a a' → rq_OK a' → rq_Same b b' → rq_OK b' → post 1 (rq_cm2 a' b')) :
    ∃ n, wL_equal_2 post n 0 (nI (rq_hgt a)) (nI (rq_rev a)) (nI (rq_sch a)) (nI (rq_frm a)) (nI (rq_top a)) (rq_bI (rq_fai a)) (rq_nA (rq_len a)) (rq_nA (rq_tok a)) (rq_fst a) (rq_sec a) (rq_giv a) (rq_nA (rq_gat a)) (rq_bA (rq_kno a)) (rq_bA (rq_sta a)) (rq_mem a) (rq_nA (rq_vat a)) (rq_nA (rq_cat a)) (rq_nA (rq_cir a)) (rq_bA (rq_std a)) (rq_nA (rq_nct a)) (rq_nA (rq_ned a)) (rq_nA (rq_fqu a)) (rq_bA (rq_fwk a)) (rq_nA (rq_fps a)) (rq_pil a) (rq_wva a) (rq_bA (rq_wci a)) (nI (rq_hgt b)) (nI (rq_rev b)) (nI (rq_sch b)) (nI (rq_frm b)) (nI (rq_top b)) (rq_bI (rq_fai b)) (rq_nA (rq_len b)) (rq_nA (rq_tok b)) (rq_fst b) (rq_sec b) (rq_giv b) (rq_nA (rq_gat b)) (rq_bA (rq_kno b)) (rq_bA (rq_sta b)) (rq_mem b) (rq_nA (rq_vat b)) (rq_nA (rq_cat b)) (rq_nA (rq_cir b)) (rq_bA (rq_std b)) (rq_nA (rq_nct b)) (rq_nA (rq_ned b)) (rq_nA (rq_fqu b)) (rq_bA (rq_fwk b)) (rq_nA (rq_fps b)) (rq_pil b) (rq_wva b) (rq_bA (rq_wci b)) := by
  refine pk_loop (σ := rq_M × rq_M) (fun n i s => wL_equal_2 post n (nI i) (nI (rq_hgt s.1)) (nI (rq_rev s.1)) (nI (rq_sch s.1)) (nI (rq_frm s.1)) (nI (rq_top s.1)) (rq_bI (rq_fai s.1)) (rq_nA (rq_len s.1)) (rq_nA (rq_tok s.1)) (rq_fst s.1) (rq_sec s.1) (rq_giv s.1) (rq_nA (rq_gat s.1)) (rq_bA (rq_kno s.1)) (rq_bA (rq_sta s.1)) (rq_mem s.1) (rq_nA (rq_vat s.1)) (rq_nA (rq_cat s.1)) (rq_nA (rq_cir s.1)) (rq_bA (rq_std s.1)) (rq_nA (rq_nct s.1)) (rq_nA (rq_ned s.1)) (rq_nA (rq_fqu s.1)) (rq_bA (rq_fwk s.1)) (rq_nA (rq_fps s.1)) (rq_pil s.1) (rq_wva s.1) (rq_bA (rq_wci s.1)) (nI (rq_hgt s.2)) (nI (rq_rev s.2)) (nI (rq_sch s.2)) (nI (rq_frm s.2)) (nI (rq_top s.2)) (rq_bI (rq_fai s.2)) (rq_nA (rq_len s.2)) (rq_nA (rq_tok s.2)) (rq_fst s.2) (rq_sec s.2) (rq_giv s.2) (rq_nA (rq_gat s.2)) (rq_bA (rq_kno s.2)) (rq_bA (rq_sta s.2)) (rq_mem s.2) (rq_nA (rq_vat s.2)) (rq_nA (rq_cat s.2)) (rq_nA (rq_cir s.2)) (rq_bA (rq_std s.2)) (rq_nA (rq_nct s.2)) (rq_nA (rq_ned s.2)) (rq_nA (rq_fqu s.2)) (rq_bA (rq_fwk s.2)) (rq_nA (rq_fps s.2)) (rq_pil s.2) (rq_wva s.2) (rq_bA (rq_wci s.2))) (fun _ s => (rq_Same a s.1 ∧ rq_OK s.1) ∧ (rq_Same b s.2 ∧ rq_OK s.2)) 8 0 (a, b) (by omega) ⟨⟨rq_Same_refl a, hA⟩, ⟨rq_Same_refl b, hB⟩⟩ ?_ ?_
  · rintro n ⟨s, t⟩ ⟨⟨h1, h2⟩, ⟨h3, h4⟩⟩
    have h1' : rq_Same a s := h1
    have h2' : rq_OK s := h2
    have h3' : rq_Same b t := h3
    have h4' : rq_OK t := h4
    have est : rq_env s = rq_env t := (rq_env_same h1').trans (hE.trans (rq_env_same h3').symm)
    refine pk_le 8 8 (fun _ => ?_) (fun z => absurd z (by omega))
    refine rq_x_lst (a := s) (b := t) h2' h4' (fun s1 t1 k1 k2 k3 k4 => ?_)
    rw [est, rq_ct_0]
    refine br_t rfl ?_
    refine rq_x_total (m := s1) k2 (fun s2 l1 l2 => ?_)
    refine rq_x_total (m := t1) k4 (fun t2 l3 l4 => ?_)
    have est1 : rq_env s1 = rq_env t1 := (rq_env_same k1).trans (est.trans (rq_env_same k3).symm)
    refine br_t (by rw [est1]) ?_
    refine rq_x_circulars (m := s2) l2 (fun s3 m1 m2 => ?_)
    refine rq_x_circulars (m := t2) l4 (fun t3 m3 m4 => ?_)
    have est2 : rq_env s2 = rq_env t2 := (rq_env_same l1).trans (est1.trans (rq_env_same l3).symm)
    refine br_t (by rw [est2]) ?_
    exact h s3 t3 (rq_Same_trans h1' (rq_Same_trans k1 (rq_Same_trans l1 m1))) m2 (rq_Same_trans h3' (rq_Same_trans k3 (rq_Same_trans l3 m3))) m4
  · rintro n i ⟨s, t⟩ hi ⟨⟨h1, h2⟩, ⟨h3, h4⟩⟩ hw
    have h1' : rq_Same a s := h1
    have h2' : rq_OK s := h2
    have h3' : rq_Same b t := h3
    have h4' : rq_OK t := h4
    have est : rq_env s = rq_env t := (rq_env_same h1').trans (hE.trans (rq_env_same h3').symm)
    refine pk_le 8 i (fun z => absurd z (by omega)) (fun _ => ?_)
    refine rq_x_needs (m := s) i h2' hi (fun s1 k1 k2 => ?_)
    refine rq_x_needs (m := t) i h4' hi (fun t1 k3 k4 => ?_)
    refine br_t (by rw [est]) (nm_r (nI_1 i) ?_)
    exact hw (s1, t1) ⟨⟨rq_Same_trans h1' k1, k2⟩, ⟨rq_Same_trans h3' k3, k4⟩⟩
theorem rq_x_equal {post : Int32 → St2 → Prop} {a b : rq_M} (hA : rq_OK a) (hB : rq_OK b) (hE : rq_env a = rq_env b)
    (h : ∀ a' b', rq_Same a a' → rq_OK a' → rq_Same b b' → rq_OK b' → post 1 (rq_cm2 a' b')) :
    wpL_equal post (rq_cm2 a b) := rq_x_eq2 hA hB hE h
end
section
/-! the law -/
theorem rq_x_law85 {L : Nat} {xs : Nat → Int32} {x3 : Int32} {kc ks : Nat} {a b : rq_M} (hA : rq_OK a) (hB : rq_OK b) (hd : rq_dat a = rq_dat b) (ha : rq_rev a ≤ 600) (hb : rq_rev b ≤ 600) :
    ∃ n, wL_law_85 (fun r => r = 1) L xs x3 kc ks n 0 (nI (rq_hgt a)) (nI (rq_rev a)) (nI (rq_sch a)) (nI (rq_frm a)) (nI (rq_top a)) (rq_bI (rq_fai a)) (rq_nA (rq_len a)) (rq_nA (rq_tok a)) (rq_fst a) (rq_sec a) (rq_giv a) (rq_nA (rq_gat a)) (rq_bA (rq_kno a)) (rq_bA (rq_sta a)) (rq_mem a) (rq_nA (rq_vat a)) (rq_nA (rq_cat a)) (rq_nA (rq_cir a)) (rq_bA (rq_std a)) (rq_nA (rq_nct a)) (rq_nA (rq_ned a)) (rq_nA (rq_fqu a)) (rq_bA (rq_fwk a)) (rq_nA (rq_fps a)) (rq_pil a) (rq_wva a) (rq_bA (rq_wci a)) (nI (rq_hgt b)) (nI (rq_rev b)) (nI (rq_sch b)) (nI (rq_frm b)) (nI (rq_top b)) (rq_bI (rq_fai b)) (rq_nA (rq_len b)) (rq_nA (rq_tok b)) (rq_fst b) (rq_sec b) (rq_giv b) (rq_nA (rq_gat b)) (rq_bA (rq_kno b)) (rq_bA (rq_sta b)) (rq_mem b) (rq_nA (rq_vat b)) (rq_nA (rq_cat b)) (rq_nA (rq_cir b)) (rq_bA (rq_std b)) (rq_nA (rq_nct b)) (rq_nA (rq_ned b)) (rq_nA (rq_fqu b)) (rq_bA (rq_fwk b)) (rq_nA (rq_fps b)) (rq_pil b) (rq_wva b) (rq_bA (rq_wci b)) := by
  refine pk_loop (σ := rq_M × rq_M) (fun n i s => wL_law_85 (fun r => r = 1) L xs x3 kc ks n (nI i) (nI (rq_hgt s.1)) (nI (rq_rev s.1)) (nI (rq_sch s.1)) (nI (rq_frm s.1)) (nI (rq_top s.1)) (rq_bI (rq_fai s.1)) (rq_nA (rq_len s.1)) (rq_nA (rq_tok s.1)) (rq_fst s.1) (rq_sec s.1) (rq_giv s.1) (rq_nA (rq_gat s.1)) (rq_bA (rq_kno s.1)) (rq_bA (rq_sta s.1)) (rq_mem s.1) (rq_nA (rq_vat s.1)) (rq_nA (rq_cat s.1)) (rq_nA (rq_cir s.1)) (rq_bA (rq_std s.1)) (rq_nA (rq_nct s.1)) (rq_nA (rq_ned s.1)) (rq_nA (rq_fqu s.1)) (rq_bA (rq_fwk s.1)) (rq_nA (rq_fps s.1)) (rq_pil s.1) (rq_wva s.1) (rq_bA (rq_wci s.1)) (nI (rq_hgt s.2)) (nI (rq_rev s.2)) (nI (rq_sch s.2)) (nI (rq_frm s.2)) (nI (rq_top s.2)) (rq_bI (rq_fai s.2)) (rq_nA (rq_len s.2)) (rq_nA (rq_tok s.2)) (rq_fst s.2) (rq_sec s.2) (rq_giv s.2) (rq_nA (rq_gat s.2)) (rq_bA (rq_kno s.2)) (rq_bA (rq_sta s.2)) (rq_mem s.2) (rq_nA (rq_vat s.2)) (rq_nA (rq_cat s.2)) (rq_nA (rq_cir s.2)) (rq_bA (rq_std s.2)) (rq_nA (rq_nct s.2)) (rq_nA (rq_ned s.2)) (rq_nA (rq_fqu s.2)) (rq_bA (rq_fwk s.2)) (rq_nA (rq_fps s.2)) (rq_pil s.2) (rq_wva s.2) (rq_bA (rq_wci s.2))) (fun i s => rq_OK s.1 ∧ rq_OK s.2 ∧ rq_dat s.1 = rq_dat s.2 ∧ rq_rev s.1 ≤ 600 + 2 * i ∧ rq_rev s.2 ≤ 600 + 2 * i) 6 0 (a, b) (by omega) ⟨hA, hB, hd, ha, hb⟩ ?_ ?_
  · rintro n ⟨s, t⟩ _
    exact pk_le 6 6 (fun _ => rfl) (fun z => absurd z (by omega))
  · rintro n i ⟨s, t⟩ hi ⟨h1, h2, h3, h4, h5⟩ hw
    have h1' : rq_OK s := h1
    have h2' : rq_OK t := h2
    have h3' : rq_dat s = rq_dat t := h3
    have h4' : rq_rev s ≤ 600 + 2 * i := h4
    have h5' : rq_rev t ≤ 600 + 2 * i := h5
    have eg : rq_giv s = rq_giv t := congrArg (fun d => d.2.2.2.2.2) h3'
    have eE : rq_env s = rq_env t := rq_env_dat h3'
    refine pk_le 6 i (fun z => absurd z (by omega)) (fun _ => ?_)
    intro v hv
    refine rq_x_get (m := s) i hi ?_
    refine rq_x_stirred (m := s) (v := v) i h1' (by omega) hi (fun s1 k1 k2 k3 => ?_)
    refine rq_x_set (m := t) (v := v) i h2'.1 hi (fun t1 l1 l2 l3 _ _ => ?_)
    have hO1 : rq_OK t1 := ⟨l1, by omega⟩
    have es1 : rq_env s1 = rq_env s := rq_env_dat k3
    have et1 : rq_env t1 = (rq_up (rq_giv s) i v, (rq_env s).2) := by
      rw [rq_env_D, l3, eE, eg]
      rfl
    have egs1 : rq_giv s1 i = rq_giv s i := congrArg (fun d => d.2.2.2.2.2 i) k3
    have go : wL_law_147 (fun r => r = 1) L xs (wL_law_85 (fun r => r = 1) L xs x3 kc ks n) x3 (nI i) (rq_giv s i) (nI (rq_ct (rq_env s) (rq_up (rq_giv s) i v, (rq_env s).2) 8)) (if rq_giv t i = v then 0 else 1) (if rq_giv t i = v then 0 else 1) kc ks (nI (rq_hgt s1)) (nI (rq_rev s1)) (nI (rq_sch s1)) (nI (rq_frm s1)) (nI (rq_top s1)) (rq_bI (rq_fai s1)) (rq_nA (rq_len s1)) (rq_nA (rq_tok s1)) (rq_fst s1) (rq_sec s1) (rq_giv s1) (rq_nA (rq_gat s1)) (rq_bA (rq_kno s1)) (rq_bA (rq_sta s1)) (rq_mem s1) (rq_nA (rq_vat s1)) (rq_nA (rq_cat s1)) (rq_nA (rq_cir s1)) (rq_bA (rq_std s1)) (rq_nA (rq_nct s1)) (rq_nA (rq_ned s1)) (rq_nA (rq_fqu s1)) (rq_bA (rq_fwk s1)) (rq_nA (rq_fps s1)) (rq_pil s1) (rq_wva s1) (rq_bA (rq_wci s1)) (nI (rq_hgt t1)) (nI (rq_rev t1)) (nI (rq_sch t1)) (nI (rq_frm t1)) (nI (rq_top t1)) (rq_bI (rq_fai t1)) (rq_nA (rq_len t1)) (rq_nA (rq_tok t1)) (rq_fst t1) (rq_sec t1) (rq_giv t1) (rq_nA (rq_gat t1)) (rq_bA (rq_kno t1)) (rq_bA (rq_sta t1)) (rq_mem t1) (rq_nA (rq_vat t1)) (rq_nA (rq_cat t1)) (rq_nA (rq_cir t1)) (rq_bA (rq_std t1)) (rq_nA (rq_nct t1)) (rq_nA (rq_ned t1)) (rq_nA (rq_fqu t1)) (rq_bA (rq_fwk t1)) (rq_nA (rq_fps t1)) (rq_pil t1) (rq_wva t1) (rq_bA (rq_wci t1)) := by
      refine br_t rfl ?_
      refine rq_x_lst (a := s1) (b := t1) k1 hO1 (fun s2 t2 m1 m2 m3 m4 => ?_)
      have egs2 : rq_giv s2 i = rq_giv s i := (congrArg (fun d => d.2.2.2.2.2 i) (rq_dat_same m1)).trans egs1
      refine br_t (by rw [es1, et1]) ?_
      refine rq_x_get (m := s2) i hi ?_
      refine br_t egs2 ?_
      have ed2 : rq_dat t2 = (rq_hgt t, rq_len t, rq_tok t, rq_fst t, rq_sec t, rq_up (rq_giv t) i v) := (rq_dat_same m3).trans l3
      refine rq_x_set (m := t2) (v := rq_giv s i) i m4.1 hi (fun t3 n1 n2 n3 _ _ => ?_)
      have er2 : rq_rev t2 = rq_rev t1 := m3.2.1
      have ers2 : rq_rev s2 = rq_rev s1 := m1.2.1
      have hO3 : rq_OK t3 := ⟨n1, by omega⟩
      have ed3 : rq_dat t3 = rq_dat t := by
        have a1 : rq_hgt t2 = rq_hgt t := congrArg (fun d => d.1) ed2
        have a2 : rq_len t2 = rq_len t := congrArg (fun d => d.2.1) ed2
        have a3 : rq_tok t2 = rq_tok t := congrArg (fun d => d.2.2.1) ed2
        have a4 : rq_fst t2 = rq_fst t := congrArg (fun d => d.2.2.2.1) ed2
        have a5 : rq_sec t2 = rq_sec t := congrArg (fun d => d.2.2.2.2.1) ed2
        have a6 : rq_giv t2 = rq_up (rq_giv t) i v := congrArg (fun d => d.2.2.2.2.2) ed2
        rw [n3, a1, a2, a3, a4, a5, a6, rq_up_up, eg, rq_up_id rfl]
        rfl
      have ed2s : rq_dat s2 = rq_dat s := (rq_dat_same m1).trans k3
      have edd : rq_dat s2 = rq_dat t3 := ed2s.trans (h3'.trans ed3.symm)
      refine rq_x_equal (a := s2) (b := t3) m2 hO3 (rq_env_dat edd) (fun s4 t4 o1 o2 o3 o4 => ?_)
      have er4 : rq_rev t4 = rq_rev t3 := o3.2.1
      have ers4 : rq_rev s4 = rq_rev s2 := o1.2.1
      refine br_f (by decide) (nm_r (nI_1 i) ?_)
      exact hw (s4, t4) ⟨o2, o4, (rq_dat_same o1).trans (edd.trans (rq_dat_same o3).symm), by show rq_rev s4 ≤ 600 + 2 * (i + 1); omega, by show rq_rev t4 ≤ 600 + 2 * (i + 1); omega⟩
    refine br_c (fun e => ?_) (fun e => ?_)
    · rw [if_pos (show rq_giv t i = v by rw [← eg]; exact e.symm)] at go
      rw [if_pos (show rq_giv t i = v by rw [← eg]; exact e.symm)]
      exact go
    · rw [if_neg (show ¬ rq_giv t i = v from fun z => e (by rw [eg]; exact z.symm))] at go
      rw [if_neg (show ¬ rq_giv t i = v from fun z => e (by rw [eg]; exact z.symm))]
      exact go
theorem rq_OD_same {m m' : rq_M} (h : rq_OD m) (hS : rq_Same m m') (hO : rq_OK m') : rq_OD m' := by
  refine ⟨hO, ?_⟩
  rw [rq_dat_same hS]
  exact h.2
theorem rq_x_law32 {L : Nat} {xs : Nat → Int32} {x3 : Int32} {kc ks : Nat} {a b : rq_M} (hL : L ≤ 260) (hA : rq_OD a) (hB : rq_OD b) (hd : rq_dat a = rq_dat b) (ha : rq_rev a ≤ 2) (hb : rq_rev b ≤ 2) :
    ∃ n, wL_law_32 (fun r => r = 1) L xs x3 kc ks n 1 (nI (rq_hgt a)) (nI (rq_rev a)) (nI (rq_sch a)) (nI (rq_frm a)) (nI (rq_top a)) (rq_bI (rq_fai a)) (rq_nA (rq_len a)) (rq_nA (rq_tok a)) (rq_fst a) (rq_sec a) (rq_giv a) (rq_nA (rq_gat a)) (rq_bA (rq_kno a)) (rq_bA (rq_sta a)) (rq_mem a) (rq_nA (rq_vat a)) (rq_nA (rq_cat a)) (rq_nA (rq_cir a)) (rq_bA (rq_std a)) (rq_nA (rq_nct a)) (rq_nA (rq_ned a)) (rq_nA (rq_fqu a)) (rq_bA (rq_fwk a)) (rq_nA (rq_fps a)) (rq_pil a) (rq_wva a) (rq_bA (rq_wci a)) (nI (rq_hgt b)) (nI (rq_rev b)) (nI (rq_sch b)) (nI (rq_frm b)) (nI (rq_top b)) (rq_bI (rq_fai b)) (rq_nA (rq_len b)) (rq_nA (rq_tok b)) (rq_fst b) (rq_sec b) (rq_giv b) (rq_nA (rq_gat b)) (rq_bA (rq_kno b)) (rq_bA (rq_sta b)) (rq_mem b) (rq_nA (rq_vat b)) (rq_nA (rq_cat b)) (rq_nA (rq_cir b)) (rq_bA (rq_std b)) (rq_nA (rq_nct b)) (rq_nA (rq_ned b)) (rq_nA (rq_fqu b)) (rq_bA (rq_fwk b)) (rq_nA (rq_fps b)) (rq_pil b) (rq_wva b) (rq_bA (rq_wci b)) := by
  refine loop_m (σ := Nat × rq_M × rq_M) (fun n s => wL_law_32 (fun r => r = 1) L xs x3 kc ks n (nI s.1) (nI (rq_hgt s.2.1)) (nI (rq_rev s.2.1)) (nI (rq_sch s.2.1)) (nI (rq_frm s.2.1)) (nI (rq_top s.2.1)) (rq_bI (rq_fai s.2.1)) (rq_nA (rq_len s.2.1)) (rq_nA (rq_tok s.2.1)) (rq_fst s.2.1) (rq_sec s.2.1) (rq_giv s.2.1) (rq_nA (rq_gat s.2.1)) (rq_bA (rq_kno s.2.1)) (rq_bA (rq_sta s.2.1)) (rq_mem s.2.1) (rq_nA (rq_vat s.2.1)) (rq_nA (rq_cat s.2.1)) (rq_nA (rq_cir s.2.1)) (rq_bA (rq_std s.2.1)) (rq_nA (rq_nct s.2.1)) (rq_nA (rq_ned s.2.1)) (rq_nA (rq_fqu s.2.1)) (rq_bA (rq_fwk s.2.1)) (rq_nA (rq_fps s.2.1)) (rq_pil s.2.1) (rq_wva s.2.1) (rq_bA (rq_wci s.2.1)) (nI (rq_hgt s.2.2)) (nI (rq_rev s.2.2)) (nI (rq_sch s.2.2)) (nI (rq_frm s.2.2)) (nI (rq_top s.2.2)) (rq_bI (rq_fai s.2.2)) (rq_nA (rq_len s.2.2)) (rq_nA (rq_tok s.2.2)) (rq_fst s.2.2) (rq_sec s.2.2) (rq_giv s.2.2) (rq_nA (rq_gat s.2.2)) (rq_bA (rq_kno s.2.2)) (rq_bA (rq_sta s.2.2)) (rq_mem s.2.2) (rq_nA (rq_vat s.2.2)) (rq_nA (rq_cat s.2.2)) (rq_nA (rq_cir s.2.2)) (rq_bA (rq_std s.2.2)) (rq_nA (rq_nct s.2.2)) (rq_nA (rq_ned s.2.2)) (rq_nA (rq_fqu s.2.2)) (rq_bA (rq_fwk s.2.2)) (rq_nA (rq_fps s.2.2)) (rq_pil s.2.2) (rq_wva s.2.2) (rq_bA (rq_wci s.2.2))) (fun s => s.1 ≤ L + 1 ∧ rq_OD s.2.1 ∧ rq_OD s.2.2 ∧ rq_dat s.2.1 = rq_dat s.2.2 ∧ rq_rev s.2.1 ≤ 1 + s.1 ∧ rq_rev s.2.2 ≤ 1 + s.1) (fun s => L + 2 - s.1) ?_ (1, a, b) ⟨by show 1 ≤ L + 1; omega, hA, hB, hd, ha, hb⟩
  rintro n ⟨k, s, t⟩ ⟨h0, h1, h2, h3, h4, h5⟩ ih
  have h0' : k ≤ L + 1 := h0
  have h1' : rq_OD s := h1
  have h2' : rq_OD t := h2
  have h3' : rq_dat s = rq_dat t := h3
  have h4' : rq_rev s ≤ 1 + k := h4
  have h5' : rq_rev t ≤ 1 + k := h5
  refine pk_le L (k + 1) (fun z => ?_) (fun z => ?_) rfl (nI_1 k)
  · exact rq_x_law85 (a := s) (b := t) h1'.1 h2'.1 h3' (by omega) (by omega)
  · have v1 : vp_in (nI k) L := pk_in k L (by omega)
    have v2 : vp_in (nI k + 1) L := pk_in (k + 1) L z (nI_1 k)
    obtain ⟨F, hF⟩ := rq_T_turn (xs (nI k).toNatClampNeg) (xs (nI k + 1).toNatClampNeg)
    refine ⟨v1, v2, ?_⟩
    refine hF s _ h1' (by omega) (fun s1 r1 k1 k2 k3 => ?_)
    refine And.intro v1 (And.intro v2 ?_)
    refine hF t _ h2' (by omega) (fun t1 r2 l1 l2 l3 => ?_)
    refine rq_x_total (m := t1) l1.1 (fun t2 m1 m2 => ?_)
    have er : rq_rev t2 = rq_rev t1 := m1.2.1
    refine nm_r (nI_add k 2) ?_
    refine ih (k + 2, s1, t2) ⟨by show k + 2 ≤ L + 1; omega, k1, rq_OD_same l1 m1 m2, ?_, by show rq_rev s1 ≤ 1 + (k + 2); omega, by show rq_rev t2 ≤ 1 + (k + 2); omega⟩ (by show L + 2 - (k + 2) < L + 2 - k; omega)
    show rq_dat s1 = rq_dat t2
    rw [rq_dat_same m1, k3, l3, h3']
theorem i_vc (xs : Nat → Int32) (L : Nat) (hL : L ≤ 260) : wpL_law (fun r => r = 1) L xs := by
  refine ⟨21, 571, by omega, by omega, rq_x_init ?_⟩
  refine And.intro (by omega) (And.intro (by omega) ⟨21, 571, by omega, by omega, rq_x_init ?_⟩)
  refine pk_le L 0 (fun z => ?_) (fun z => ⟨pk_in 0 L z, nm_e ?_⟩)
  · exact rq_x_law32 (a := rq_mi 8) (b := rq_mi 8) hL rq_OD_init rq_OD_init rfl (by show 1 ≤ 2; omega) (by show 1 ≤ 2; omega)
  · exact rq_x_law32 (a := rq_mi 8) (b := rq_mi 8) hL rq_OD_init rq_OD_init rfl (by show 1 ≤ 2; omega) (by show 1 ≤ 2; omega)
end
