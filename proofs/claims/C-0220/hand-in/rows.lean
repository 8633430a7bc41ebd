section
theorem pk_us {f : Nat → Int32} {k : Nat} {x : Int32} : upd f k x k = x := if_pos rfl
theorem pk_un {f : Nat → Int32} {k j : Nat} {x : Int32} (h : j ≠ k) : upd f k x j = f j := if_neg h
theorem pk_sub {a b : Nat} (h : b ≤ a) : nI a - nI b = nI (a - b) := by
  obtain ⟨c, rfl⟩ : ∃ c, a = c + b := ⟨a - b, by omega⟩
  rw [← nI_add, Int32.add_sub_cancel, Nat.add_sub_cancel]
theorem pk_m1 (n : Nat) : nI (n + 1) + (-1) = nI n := by
  rw [← nI_1, Int32.add_assoc, show (1 : Int32) + (-1) = 0 from rfl, Int32.add_zero]
theorem pk_ix (x : Int32) {n : Nat} (hn : n < 2 ^ 31) : x < 0 ∨ nI n ≤ x ∨ ∃ j : Nat, j < n ∧ x = nI j := by
  by_cases h : x < 0
  · exact Or.inl h
  · obtain ⟨j, hj, rfl⟩ := nI_of h
    by_cases h2 : j < n
    · exact Or.inr (Or.inr ⟨j, h2, rfl⟩)
    · exact Or.inr (Or.inl (nI_le (by omega) hj))
theorem pk_le {x y : Int32} {A B : Prop} (a b : Nat) (f : a ≤ b → A) (g : b < a → B) (hx : x = nI a := by rfl) (hy : y = nI b := by rfl) (ha : a < 2 ^ 31 := by omega) (hb : b < 2 ^ 31 := by omega) : (x ≤ y → A) ∧ (¬ x ≤ y → B) := by
  subst hx hy
  rw [nI_leI ha hb]
  exact ⟨f, fun z => g (by omega)⟩
theorem pk_lt {x y : Int32} {A B : Prop} (a b : Nat) (f : a < b → A) (g : b ≤ a → B) (hx : x = nI a := by rfl) (hy : y = nI b := by rfl) (ha : a < 2 ^ 31 := by omega) (hb : b < 2 ^ 31 := by omega) : (x < y → A) ∧ (¬ x < y → B) := by
  subst hx hy
  rw [nI_ltI ha hb]
  exact ⟨f, fun z => g (by omega)⟩
theorem pk_eq {x y : Int32} {A B : Prop} (a b : Nat) (f : a = b → A) (g : a ≠ b → B) (hx : x = nI a := by rfl) (hy : y = nI b := by rfl) (ha : a < 2 ^ 31 := by omega) (hb : b < 2 ^ 31 := by omega) : (x = y → A) ∧ (¬ x = y → B) := by
  subst hx hy
  rw [nI_eq ha hb]
  exact ⟨f, g⟩
theorem pk_in {x : Int32} (n N : Nat) (h : n < N) (hx : x = nI n := by rfl) (hN : N < 2 ^ 31 := by omega) : vp_in x N := by
  subst hx
  exact vp_in_nI h hN
theorem pk_cl {x : Int32} (n : Nat) (hx : x = nI n := by rfl) (h : n < 2 ^ 31 := by omega) : x.toNatClampNeg = n := by
  subst hx
  exact nI_clamp h
theorem pk_tn {n : Nat} (h : n < 2 ^ 32) : (nI n).toBitVec.toNat = n := Nat.mod_eq_of_lt h
theorem pk_and (x : Int32) {m : Int32} (k : Nat) (hm : m.toBitVec.toNat = 2 ^ k - 1) : x &&& m = nI (x.toBitVec.toNat % 2 ^ k) := by
  apply Int32.toBitVec_inj.mp
  apply BitVec.eq_of_toNat_eq
  rw [Int32.toBitVec_and, BitVec.toNat_and, hm, Nat.and_two_pow_sub_one_eq_mod]
  show _ = (BitVec.ofNat 32 _).toNat
  rw [BitVec.toNat_ofNat]
  exact (Nat.mod_eq_of_lt (Nat.lt_of_le_of_lt (Nat.mod_le _ _) x.toBitVec.isLt)).symm
theorem pk_andN {n : Nat} (h : n < 2 ^ 32) {m : Int32} (k : Nat) (hm : m.toBitVec.toNat = 2 ^ k - 1) : nI n &&& m = nI (n % 2 ^ k) := by
  rw [pk_and _ k hm, pk_tn h]
theorem pk_shr (a s : Int32) (k : Nat) (hs : (s.toBitVec.smod 32).toNat = k) : (a >>> s).toInt = a.toInt >>> k := by
  show (a.toBitVec.sshiftRight (s.toBitVec.smod 32).toNat).toInt = _
  rw [hs, BitVec.toInt_sshiftRight]
  rfl
theorem pk_shrN {n : Nat} (h : n < 2 ^ 31) (s : Int32) (k : Nat) (hs : (s.toBitVec.smod 32).toNat = k) : nI n >>> s = nI (n / 2 ^ k) := by
  apply Int32.toInt_inj.mp
  have h2 : n / 2 ^ k ≤ n := Nat.div_le_self _ _
  rw [pk_shr _ _ k hs, nI_toInt h, nI_toInt (by omega), Int.shiftRight_eq_div_pow]
  rfl
end
section
/-! the reading, as a pure function of the text -/
/-- from the state before character i (mode, escape, open brackets from the inside out) to the one behind it -/
def sm_step (c : Int32) (i : Nat) (s : Int32 × Int32 × List Nat) : Int32 × Int32 × List Nat :=
  if s.2.1 = 0 then
    if s.1 = 0 then
      (if c = 4 then 1 else if c = 6 then 2 else 0, if c = 5 then 1 else 0, if c = 2 then i :: s.2.2 else if c = 3 then s.2.2.tail else s.2.2)
    else if s.1 = 1 then (if c = 4 then 0 else 1, if c = 5 then 1 else 0, s.2.2)
    else (if c = 7 then 0 else s.1, 0, s.2.2)
  else (s.1, 0, s.2.2)
def sm_st (t : Nat → Int32) : Nat → Int32 × Int32 × List Nat
  | 0 => (0, 0, [])
  | n + 1 => sm_step (t n) n (sm_st t n)
def sm_md (t : Nat → Int32) (n : Nat) : Int32 := (sm_st t n).1
def sm_es (t : Nat → Int32) (n : Nat) : Int32 := (sm_st t n).2.1
def sm_sk (t : Nat → Int32) (n : Nat) : List Nat := (sm_st t n).2.2
/-- the part that character i plays -/
def sm_rl (t : Nat → Int32) (i : Nat) : Int32 :=
  if sm_md t i = 0 then
    if sm_es t i = 0 then
      if t i = 0 then 6 else if t i = 5 then 6 else if t i = 2 then 1 else if t i = 3 then (if sm_sk t i = [] then 3 else 2) else if t i = 4 then 4 else 0
    else 6
  else if sm_md t i = 1 then (if sm_es t i = 0 then (if t i = 4 then 5 else 0) else 0) else 0
/-- the partner of p when n characters are read -/
def sm_pt (t : Nat → Int32) : Nat → Nat → Option Nat
  | 0, _ => none
  | n + 1, p => if sm_rl t n = 2 then (if p = (sm_sk t n).headD 0 then some n else if p = n then (sm_sk t n).head? else sm_pt t n p) else sm_pt t n p
def sm_ex (o : Option Nat) : Int32 := match o with
  | none => -2
  | some j => nI j
def sm_ey (o : Option Nat) : Int32 := match o with
  | none => -1
  | some j => nI j
theorem sm_md0 (t : Nat → Int32) : sm_md t 0 = 0 := rfl
theorem sm_es0 (t : Nat → Int32) : sm_es t 0 = 0 := rfl
theorem sm_sk0 (t : Nat → Int32) : sm_sk t 0 = [] := rfl
theorem sm_md_s (t : Nat → Int32) (n : Nat) : sm_md t (n + 1) = if sm_es t n = 0 then (if sm_md t n = 0 then (if t n = 4 then 1 else if t n = 6 then 2 else 0) else if sm_md t n = 1 then (if t n = 4 then 0 else 1) else if t n = 7 then 0 else sm_md t n) else sm_md t n := by
  show (sm_step (t n) n (sm_st t n)).1 = _
  unfold sm_step sm_md sm_es
  generalize sm_st t n = s
  by_cases h1 : s.2.1 = 0
  · rw [if_pos h1, if_pos h1]
    by_cases h2 : s.1 = 0
    · rw [if_pos h2, if_pos h2]
    · rw [if_neg h2, if_neg h2]
      by_cases h3 : s.1 = 1
      · rw [if_pos h3, if_pos h3]
      · rw [if_neg h3, if_neg h3]
  · rw [if_neg h1, if_neg h1]
theorem sm_es_s (t : Nat → Int32) (n : Nat) : sm_es t (n + 1) = if sm_es t n = 0 then (if sm_md t n = 0 then (if t n = 5 then 1 else 0) else if sm_md t n = 1 then (if t n = 5 then 1 else 0) else 0) else 0 := by
  show (sm_step (t n) n (sm_st t n)).2.1 = _
  unfold sm_step sm_md sm_es
  generalize sm_st t n = s
  by_cases h1 : s.2.1 = 0
  · rw [if_pos h1, if_pos h1]
    by_cases h2 : s.1 = 0
    · rw [if_pos h2, if_pos h2]
    · rw [if_neg h2, if_neg h2]
      by_cases h3 : s.1 = 1
      · rw [if_pos h3, if_pos h3]
      · rw [if_neg h3, if_neg h3]
  · rw [if_neg h1, if_neg h1]
theorem sm_sk_s (t : Nat → Int32) (n : Nat) : sm_sk t (n + 1) = if sm_es t n = 0 then (if sm_md t n = 0 then (if t n = 2 then n :: sm_sk t n else if t n = 3 then (sm_sk t n).tail else sm_sk t n) else sm_sk t n) else sm_sk t n := by
  show (sm_step (t n) n (sm_st t n)).2.2 = _
  unfold sm_step sm_md sm_es sm_sk
  generalize sm_st t n = s
  by_cases h1 : s.2.1 = 0
  · rw [if_pos h1, if_pos h1]
    by_cases h2 : s.1 = 0
    · rw [if_pos h2, if_pos h2]
    · rw [if_neg h2, if_neg h2]
      by_cases h3 : s.1 = 1
      · rw [if_pos h3]
      · rw [if_neg h3]
  · rw [if_neg h1, if_neg h1]
theorem sm_es01 (t : Nat → Int32) (n : Nat) : sm_es t n = 0 ∨ sm_es t n = 1 := by
  cases n with
  | zero => exact Or.inl rfl
  | succ n =>
    rw [sm_es_s]
    by_cases h : t n = 5
    · simp only [if_pos h]
      by_cases h1 : sm_es t n = 0 <;> by_cases h2 : sm_md t n = 0 <;> by_cases h3 : sm_md t n = 1 <;> simp [h1, h2, h3]
    · simp only [if_neg h]
      by_cases h1 : sm_es t n = 0 <;> by_cases h2 : sm_md t n = 0 <;> by_cases h3 : sm_md t n = 1 <;> simp [h1, h2, h3]
theorem sm_md012 (t : Nat → Int32) (n : Nat) : sm_md t n = 0 ∨ sm_md t n = 1 ∨ sm_md t n = 2 := by
  induction n with
  | zero => exact Or.inl rfl
  | succ n ih =>
    rw [sm_md_s]
    by_cases h1 : sm_es t n = 0
    · rw [if_pos h1]
      by_cases h2 : sm_md t n = 0
      · rw [if_pos h2]
        by_cases h4 : t n = 4
        · rw [if_pos h4]; exact Or.inr (Or.inl rfl)
        · rw [if_neg h4]
          by_cases h6 : t n = 6
          · rw [if_pos h6]; exact Or.inr (Or.inr rfl)
          · rw [if_neg h6]; exact Or.inl rfl
      · rw [if_neg h2]
        by_cases h3 : sm_md t n = 1
        · rw [if_pos h3]
          by_cases h4 : t n = 4
          · rw [if_pos h4]; exact Or.inl rfl
          · rw [if_neg h4]; exact Or.inr (Or.inl rfl)
        · rw [if_neg h3]
          by_cases h7 : t n = 7
          · rw [if_pos h7]; exact Or.inl rfl
          · rw [if_neg h7]; exact ih
    · rw [if_neg h1]; exact ih
/-! what the parts say -/
theorem sm_rl1 {t : Nat → Int32} {i : Nat} : sm_rl t i = 1 ↔ sm_md t i = 0 ∧ sm_es t i = 0 ∧ t i = 2 := by
  unfold sm_rl
  generalize sm_md t i = m; generalize sm_es t i = e; generalize sm_sk t i = s; generalize t i = c
  repeat' split
  all_goals simp_all
theorem sm_rl2 {t : Nat → Int32} {i : Nat} : sm_rl t i = 2 ↔ sm_md t i = 0 ∧ sm_es t i = 0 ∧ t i = 3 ∧ sm_sk t i ≠ [] := by
  unfold sm_rl
  generalize sm_md t i = m; generalize sm_es t i = e; generalize sm_sk t i = s; generalize t i = c
  repeat' split
  all_goals simp_all
theorem sm_rl3 {t : Nat → Int32} {i : Nat} : sm_rl t i = 3 ↔ sm_md t i = 0 ∧ sm_es t i = 0 ∧ t i = 3 ∧ sm_sk t i = [] := by
  unfold sm_rl
  generalize sm_md t i = m; generalize sm_es t i = e; generalize sm_sk t i = s; generalize t i = c
  repeat' split
  all_goals simp_all
theorem sm_rl4 {t : Nat → Int32} {i : Nat} : sm_rl t i = 4 ↔ sm_md t i = 0 ∧ sm_es t i = 0 ∧ t i = 4 := by
  unfold sm_rl
  generalize sm_md t i = m; generalize sm_es t i = e; generalize sm_sk t i = s; generalize t i = c
  repeat' split
  all_goals simp_all
theorem sm_rl5 {t : Nat → Int32} {i : Nat} : sm_rl t i = 5 ↔ sm_md t i = 1 ∧ sm_es t i = 0 ∧ t i = 4 := by
  unfold sm_rl
  generalize sm_md t i = m; generalize sm_es t i = e; generalize sm_sk t i = s; generalize t i = c
  repeat' split
  all_goals simp_all
theorem sm_rl6 {t : Nat → Int32} {i : Nat} : sm_rl t i = 6 ↔ sm_md t i = 0 ∧ (t i = 0 ∨ t i = 5 ∨ sm_es t i ≠ 0) := by
  unfold sm_rl
  generalize sm_md t i = m; generalize sm_es t i = e; generalize sm_sk t i = s; generalize t i = c
  repeat' split
  all_goals simp_all
/-! the open brackets -/
theorem sm_sk_suf (t : Nat → Int32) : ∀ (n q : Nat) (r : List Nat), (q :: r) <:+ sm_sk t n → q < n ∧ sm_rl t q = 1 ∧ sm_sk t q = r := by
  intro n
  induction n with
  | zero =>
    intro q r h
    rw [sm_sk0] at h
    have := List.suffix_nil.mp h
    exact absurd this (by simp)
  | succ n ih =>
    intro q r h
    have key : (q :: r) <:+ sm_sk t n → q < n + 1 ∧ sm_rl t q = 1 ∧ sm_sk t q = r := fun g => ⟨Nat.lt_succ_of_lt (ih q r g).1, (ih q r g).2⟩
    rw [sm_sk_s] at h
    by_cases h1 : sm_es t n = 0
    · rw [if_pos h1] at h
      by_cases h2 : sm_md t n = 0
      · rw [if_pos h2] at h
        by_cases h3 : t n = 2
        · rw [if_pos h3] at h
          rcases List.suffix_cons_iff.mp h with g | g
          · have e1 : q = n := (List.cons.inj g).1
            have e2 : r = sm_sk t n := (List.cons.inj g).2
            subst e1
            exact ⟨Nat.lt_succ_self _, sm_rl1.mpr ⟨h2, h1, h3⟩, e2.symm⟩
          · exact key g
        · rw [if_neg h3] at h
          by_cases h4 : t n = 3
          · rw [if_pos h4] at h
            exact key (h.trans (List.tail_suffix _))
          · rw [if_neg h4] at h
            exact key h
      · rw [if_neg h2] at h
        exact key h
    · rw [if_neg h1] at h
      exact key h
theorem sm_sk_hd {t : Nat → Int32} {n q : Nat} {r : List Nat} (h : sm_sk t n = q :: r) : q < n ∧ sm_rl t q = 1 ∧ sm_sk t q = r :=
  sm_sk_suf t n q r (by rw [h]; exact List.suffix_refl _)
theorem sm_sk_mem {t : Nat → Int32} {n q : Nat} (h : q ∈ sm_sk t n) : q < n ∧ sm_rl t q = 1 := by
  obtain ⟨a, b, e⟩ := List.append_of_mem h
  have g := sm_sk_suf t n q b ⟨a, e.symm⟩
  exact ⟨g.1, g.2.1⟩
theorem sm_sk_len (t : Nat → Int32) (n : Nat) : (sm_sk t n).length ≤ n := by
  induction n with
  | zero => exact Nat.le_refl _
  | succ n ih =>
    rw [sm_sk_s]
    repeat' split
    all_goals (try simp only [List.length_cons, List.length_tail])
    all_goals omega
/-- only a joining bracket or a leaving one moves the stack -/
theorem sm_sk_1 {t : Nat → Int32} {n : Nat} (h : sm_rl t n = 1) : sm_sk t (n + 1) = n :: sm_sk t n := by
  obtain ⟨a, b, c⟩ := sm_rl1.mp h
  rw [sm_sk_s, if_pos b, if_pos a, if_pos c]
theorem sm_sk_2 {t : Nat → Int32} {n q : Nat} {r : List Nat} (h : sm_rl t n = 2) (e : sm_sk t n = q :: r) : sm_sk t (n + 1) = r := by
  obtain ⟨a, b, c, _⟩ := sm_rl2.mp h
  rw [sm_sk_s, if_pos b, if_pos a, if_neg (by rw [c]; decide), if_pos c, e]
  rfl
theorem sm_sk_k {t : Nat → Int32} {n : Nat} (h1 : sm_rl t n ≠ 1) (h2 : sm_rl t n ≠ 2) : sm_sk t (n + 1) = sm_sk t n := by
  rw [sm_sk_s]
  by_cases a : sm_es t n = 0
  · rw [if_pos a]
    by_cases b : sm_md t n = 0
    · rw [if_pos b, if_neg (fun c => h1 (sm_rl1.mpr ⟨b, a, c⟩))]
      by_cases c : t n = 3
      · rw [if_pos c]
        cases e : sm_sk t n with
        | nil => rfl
        | cons q r => exact absurd (sm_rl2.mpr ⟨b, a, c, by rw [e]; simp⟩) h2
      · rw [if_neg c]
    · rw [if_neg b]
  · rw [if_neg a]
theorem sm_rl2_cons {t : Nat → Int32} {n : Nat} (h : sm_rl t n = 2) : ∃ q r, sm_sk t n = q :: r := by
  obtain ⟨_, _, _, g⟩ := sm_rl2.mp h
  cases e : sm_sk t n with
  | nil => exact absurd e g
  | cons q r => exact ⟨q, r, rfl⟩
end
section
/-! partners -/
theorem sm_pt0 (t : Nat → Int32) (p : Nat) : sm_pt t 0 p = none := rfl
theorem sm_pt_2 {t : Nat → Int32} {n q : Nat} {r : List Nat} (h : sm_rl t n = 2) (e : sm_sk t n = q :: r) (p : Nat) : sm_pt t (n + 1) p = if p = q then some n else if p = n then some q else sm_pt t n p := by
  show (if sm_rl t n = 2 then (if p = (sm_sk t n).headD 0 then some n else if p = n then (sm_sk t n).head? else sm_pt t n p) else sm_pt t n p) = _
  rw [if_pos h, e]
  rfl
theorem sm_pt_k {t : Nat → Int32} {n : Nat} (h : sm_rl t n ≠ 2) (p : Nat) : sm_pt t (n + 1) p = sm_pt t n p := by
  show (if sm_rl t n = 2 then (if p = (sm_sk t n).headD 0 then some n else if p = n then (sm_sk t n).head? else sm_pt t n p) else sm_pt t n p) = _
  rw [if_neg h]
/-- all that holds of partners when n characters are read -/
theorem sm_pt_all (t : Nat → Int32) : ∀ n : Nat, (∀ p k, sm_pt t n p = some k → p < n ∧ k < n ∧ sm_pt t n k = some p ∧ ((sm_rl t p = 1 ∧ sm_rl t k = 2 ∧ p < k) ∨ (sm_rl t p = 2 ∧ sm_rl t k = 1 ∧ k < p))) ∧ (∀ q, q ∈ sm_sk t n → sm_pt t n q = none) ∧ (∀ p, p < n → sm_rl t p = 2 → ∃ q, sm_pt t n p = some q) := by
  intro n
  induction n with
  | zero =>
    refine ⟨fun p k h => ?_, fun q _ => rfl, fun p h => absurd h (Nat.not_lt_zero _)⟩
    rw [sm_pt0] at h
    exact absurd h (by simp)
  | succ n ih =>
    obtain ⟨ia, ib, ic⟩ := ih
    have nn : sm_pt t n n = none := by
      cases e : sm_pt t n n with
      | none => rfl
      | some k => exact absurd (ia n k e).1 (Nat.lt_irrefl _)
    by_cases h2 : sm_rl t n = 2
    · obtain ⟨q, r, e⟩ := sm_rl2_cons h2
      obtain ⟨hq, hq1, hqr⟩ := sm_sk_hd e
      have E := sm_pt_2 h2 e
      have qn : sm_pt t n q = none := ib q (by rw [e]; exact List.mem_cons_self)
      have Eq : sm_pt t (n + 1) q = some n := by rw [E, if_pos rfl]
      have En : sm_pt t (n + 1) n = some q := by rw [E, if_neg (by omega), if_pos rfl]
      refine ⟨fun p k h => ?_, fun p hp => ?_, fun p hp hr => ?_⟩
      · by_cases pq : p = q
        · subst pq
          rw [Eq] at h
          cases h
          exact ⟨by omega, by omega, En, Or.inl ⟨hq1, h2, hq⟩⟩
        · by_cases pn : p = n
          · subst pn
            rw [En] at h
            cases h
            exact ⟨by omega, by omega, Eq, Or.inr ⟨h2, hq1, hq⟩⟩
          · rw [E, if_neg pq, if_neg pn] at h
            obtain ⟨a, b, c, d⟩ := ia p k h
            have kq : k ≠ q := by
              intro z
              rw [z, qn] at c
              exact absurd c (by simp)
            exact ⟨by omega, by omega, by rw [E, if_neg kq, if_neg (by omega)]; exact c, d⟩
      · rw [sm_sk_2 h2 e] at hp
        have hpq : p < q := (sm_sk_mem (by rw [hqr]; exact hp)).1
        rw [E, if_neg (by omega), if_neg (by omega)]
        exact ib p (by rw [e]; exact List.mem_cons_of_mem _ hp)
      · by_cases pn : p = n
        · subst pn
          exact ⟨q, En⟩
        · obtain ⟨k, hk⟩ := ic p (by omega) hr
          have pq : p ≠ q := by
            intro z
            rw [z, qn] at hk
            exact absurd hk (by simp)
          exact ⟨k, by rw [E, if_neg pq, if_neg pn]; exact hk⟩
    · have E := sm_pt_k h2
      refine ⟨fun p k h => ?_, fun p hp => ?_, fun p hp hr => ?_⟩
      · rw [E] at h
        obtain ⟨a, b, c, d⟩ := ia p k h
        exact ⟨by omega, by omega, by rw [E]; exact c, d⟩
      · rw [E]
        by_cases h1 : sm_rl t n = 1
        · rw [sm_sk_1 h1] at hp
          rcases List.mem_cons.mp hp with g | g
          · rw [g]; exact nn
          · exact ib p g
        · rw [sm_sk_k h1 h2] at hp
          exact ib p hp
      · rw [E]
        have pn : p ≠ n := by
          intro z
          rw [z] at hr
          exact h2 hr
        exact ic p (by omega) hr
theorem sm_pt_lt {t : Nat → Int32} {n p k : Nat} (h : sm_pt t n p = some k) : p < n ∧ k < n := ⟨((sm_pt_all t n).1 p k h).1, ((sm_pt_all t n).1 p k h).2.1⟩
theorem sm_pt_sym {t : Nat → Int32} {n p k : Nat} (h : sm_pt t n p = some k) : sm_pt t n k = some p := ((sm_pt_all t n).1 p k h).2.2.1
theorem sm_pt_kind {t : Nat → Int32} {n p k : Nat} (h : sm_pt t n p = some k) : (sm_rl t p = 1 ∧ sm_rl t k = 2 ∧ p < k) ∨ (sm_rl t p = 2 ∧ sm_rl t k = 1 ∧ k < p) := ((sm_pt_all t n).1 p k h).2.2.2
theorem sm_pt_ge {t : Nat → Int32} {n p : Nat} (h : n ≤ p) : sm_pt t n p = none := by
  cases e : sm_pt t n p with
  | none => rfl
  | some k => exact absurd (sm_pt_lt e).1 (by omega)
theorem sm_pt_open {t : Nat → Int32} {n q : Nat} (h : q ∈ sm_sk t n) : sm_pt t n q = none := (sm_pt_all t n).2.1 q h
theorem sm_pt_leaves {t : Nat → Int32} {n p : Nat} (hp : p < n) (h : sm_rl t p = 2) : ∃ q, sm_pt t n p = some q := (sm_pt_all t n).2.2 p hp h
theorem sm_pt_up1 {t : Nat → Int32} {n p k : Nat} (h : sm_pt t n p = some k) : sm_pt t (n + 1) p = some k := by
  by_cases h2 : sm_rl t n = 2
  · obtain ⟨q, r, e⟩ := sm_rl2_cons h2
    have pq : p ≠ q := by
      intro z
      rw [z, sm_pt_open (by rw [e]; exact List.mem_cons_self)] at h
      exact absurd h (by simp)
    have := (sm_pt_lt h).1
    rw [sm_pt_2 h2 e, if_neg pq, if_neg (by omega)]
    exact h
  · rw [sm_pt_k h2]; exact h
theorem sm_pt_up {t : Nat → Int32} {n m p k : Nat} (hm : n ≤ m) (h : sm_pt t n p = some k) : sm_pt t m p = some k := by
  induction m with
  | zero =>
    have : n = 0 := by omega
    subst this
    exact h
  | succ m ih =>
    by_cases e : n = m + 1
    · subst e; exact h
    · exact sm_pt_up1 (ih (by omega))
theorem sm_pt_dn {t : Nat → Int32} {n m p k : Nat} (hm : n ≤ m) (hp : p < n) (hk : k < n) (h : sm_pt t m p = some k) : sm_pt t n p = some k := by
  induction m with
  | zero =>
    have : n = 0 := by omega
    subst this
    exact h
  | succ m ih =>
    by_cases e : n = m + 1
    · subst e; exact h
    · refine ih (by omega) ?_
      by_cases h2 : sm_rl t m = 2
      · obtain ⟨q, r, e⟩ := sm_rl2_cons h2
        rw [sm_pt_2 h2 e] at h
        by_cases pq : p = q
        · rw [if_pos pq] at h
          cases h
          omega
        · rw [if_neg pq, if_neg (by omega)] at h
          exact h
      · rw [sm_pt_k h2] at h; exact h
/-- the pure functions see the text before the place alone -/
theorem sm_st_cg {t t' : Nat → Int32} : ∀ {n : Nat}, (∀ j, j < n → t' j = t j) → sm_st t' n = sm_st t n := by
  intro n
  induction n with
  | zero => intro _; rfl
  | succ n ih =>
    intro h
    show sm_step (t' n) n (sm_st t' n) = sm_step (t n) n (sm_st t n)
    rw [ih (fun j hj => h j (by omega)), h n (by omega)]
theorem sm_md_cg {t t' : Nat → Int32} {n : Nat} (h : ∀ j, j < n → t' j = t j) : sm_md t' n = sm_md t n := by unfold sm_md; rw [sm_st_cg h]
theorem sm_es_cg {t t' : Nat → Int32} {n : Nat} (h : ∀ j, j < n → t' j = t j) : sm_es t' n = sm_es t n := by unfold sm_es; rw [sm_st_cg h]
theorem sm_sk_cg {t t' : Nat → Int32} {n : Nat} (h : ∀ j, j < n → t' j = t j) : sm_sk t' n = sm_sk t n := by unfold sm_sk; rw [sm_st_cg h]
theorem sm_rl_cg {t t' : Nat → Int32} {n : Nat} (h : ∀ j, j < n + 1 → t' j = t j) : sm_rl t' n = sm_rl t n := by
  unfold sm_rl
  rw [sm_md_cg (fun j hj => h j (by omega)), sm_es_cg (fun j hj => h j (by omega)), sm_sk_cg (fun j hj => h j (by omega)), h n (by omega)]
theorem sm_pt_cg {t t' : Nat → Int32} : ∀ {n : Nat}, (∀ j, j < n → t' j = t j) → ∀ p, sm_pt t' n p = sm_pt t n p := by
  intro n
  induction n with
  | zero => intro _ _; rfl
  | succ n ih =>
    intro h p
    show (if sm_rl t' n = 2 then (if p = (sm_sk t' n).headD 0 then some n else if p = n then (sm_sk t' n).head? else sm_pt t' n p) else sm_pt t' n p) = (if sm_rl t n = 2 then (if p = (sm_sk t n).headD 0 then some n else if p = n then (sm_sk t n).head? else sm_pt t n p) else sm_pt t n p)
    rw [sm_rl_cg h, sm_sk_cg (fun j hj => h j (by omega)), ih (fun j hj => h j (by omega)) p]
/-! codes -/
theorem sm_ex_n : sm_ex none = -2 := rfl
theorem sm_ex_s (j : Nat) : sm_ex (some j) = nI j := rfl
theorem sm_ey_n : sm_ey none = -1 := rfl
theorem sm_ey_s (j : Nat) : sm_ey (some j) = nI j := rfl
theorem sm_nIm2 {j : Nat} (h : j < 2 ^ 31) : ¬ nI j = -2 := by
  intro e
  have a := nI_toInt h
  rw [e, show (-2 : Int32).toInt = -2 from by decide] at a
  omega
theorem sm_m2lt {j : Nat} (h : j < 2 ^ 31) : (-2 : Int32) < nI j := by
  rw [Int32.lt_iff_toInt_lt, nI_toInt h, show (-2 : Int32).toInt = -2 from by decide]
  omega
theorem sm_m1lt {j : Nat} (h : j < 2 ^ 31) : (-1 : Int32) < nI j := by
  rw [Int32.lt_iff_toInt_lt, nI_toInt h, show (-1 : Int32).toInt = -1 from by decide]
  omega
theorem sm_nIm1 {j : Nat} (h : j < 2 ^ 31) : ¬ nI j = -1 := by
  intro e
  have a := nI_toInt h
  rw [e, show (-1 : Int32).toInt = -1 from by decide] at a
  omega
end
section
/-! units -/
def sm_se (t : Nat → Int32) : Nat → Nat → Option Nat
  | 0, _ => none
  | d + 1, e => if sm_rl t e = 5 then some e else sm_se t d (e + 1)
def sm_we (t : Nat → Int32) : Nat → Nat → Nat
  | 0, e => e
  | d + 1, e => if sm_rl t (e + 1) = 6 then sm_we t d (e + 1) else e
/-- the end of the unit that begins at i -/
def sm_ue (t : Nat → Int32) (L i : Nat) : Option Nat :=
  if sm_rl t i = 1 then sm_pt t L i
  else if sm_rl t i = 4 then sm_se t (L - (i + 1)) (i + 1)
  else if sm_rl t i = 6 then
    (if 0 < i ∧ sm_rl t (i - 1) = 6 then none
    else if sm_es t (sm_we t (L - 1 - i) i + 1) = 0 then some (sm_we t (L - 1 - i) i) else none)
  else none
theorem sm_se_s {t : Nat → Int32} : ∀ {d e k : Nat}, sm_se t d e = some k → e ≤ k ∧ k < e + d ∧ sm_rl t k = 5 ∧ ∀ j, e ≤ j → j < k → sm_rl t j ≠ 5 := by
  intro d
  induction d with
  | zero => intro e k h; exact absurd h (by simp [sm_se])
  | succ d ih =>
    intro e k h
    by_cases h5 : sm_rl t e = 5
    · have h' : some e = some k := by rw [← h]; show _ = (if sm_rl t e = 5 then some e else sm_se t d (e + 1)); rw [if_pos h5]
      cases h'
      exact ⟨Nat.le_refl _, by omega, h5, fun j a b => absurd a (by omega)⟩
    · have h' : sm_se t d (e + 1) = some k := by rw [← h]; show _ = (if sm_rl t e = 5 then some e else sm_se t d (e + 1)); rw [if_neg h5]
      obtain ⟨a, b, c, f⟩ := ih h'
      refine ⟨by omega, by omega, c, fun j hj hk => ?_⟩
      by_cases z : j = e
      · rw [z]; exact h5
      · exact f j (by omega) hk
theorem sm_se_i {t : Nat → Int32} : ∀ {d e k : Nat}, e ≤ k → k < e + d → sm_rl t k = 5 → (∀ j, e ≤ j → j < k → sm_rl t j ≠ 5) → sm_se t d e = some k := by
  intro d
  induction d with
  | zero => intro e k a b; exact absurd b (by omega)
  | succ d ih =>
    intro e k a b c f
    show (if sm_rl t e = 5 then some e else sm_se t d (e + 1)) = some k
    by_cases z : k = e
    · rw [z] at c
      rw [if_pos c, z]
    · rw [if_neg (f e (Nat.le_refl _) (by omega))]
      exact ih (by omega) (by omega) c (fun j hj hk => f j (by omega) hk)
theorem sm_we_s (t : Nat → Int32) : ∀ (d e : Nat), e ≤ sm_we t d e ∧ sm_we t d e ≤ e + d ∧ (∀ j, e < j → j ≤ sm_we t d e → sm_rl t j = 6) ∧ (sm_we t d e = e + d ∨ sm_rl t (sm_we t d e + 1) ≠ 6) := by
  intro d
  induction d with
  | zero => intro e; exact ⟨Nat.le_refl _, Nat.le_refl _, fun j a b => absurd (show j ≤ e from b) (by omega), Or.inl rfl⟩
  | succ d ih =>
    intro e
    by_cases h : sm_rl t (e + 1) = 6
    · have E : sm_we t (d + 1) e = sm_we t d (e + 1) := if_pos h
      rw [E]
      obtain ⟨a, b, c, f⟩ := ih (e + 1)
      refine ⟨by omega, by omega, fun j h1 h2 => ?_, ?_⟩
      · by_cases z : j = e + 1
        · rw [z]; exact h
        · exact c j (by omega) h2
      · rcases f with f | f
        · exact Or.inl (by omega)
        · exact Or.inr f
    · have E : sm_we t (d + 1) e = e := if_neg h
      rw [E]
      exact ⟨Nat.le_refl _, by omega, fun j a b => absurd b (by omega), Or.inr h⟩
theorem sm_we_i {t : Nat → Int32} {d e k : Nat} (h1 : e ≤ k) (h2 : k ≤ e + d) (h3 : ∀ j, e < j → j ≤ k → sm_rl t j = 6) (h4 : k = e + d ∨ sm_rl t (k + 1) ≠ 6) : sm_we t d e = k := by
  obtain ⟨a, b, c, f⟩ := sm_we_s t d e
  generalize sm_we t d e = w at a b c f
  by_cases z : w = k
  · exact z
  · by_cases y : w < k
    · rcases f with f | f
      · omega
      · exact absurd (h3 (w + 1) (by omega) (by omega)) f
    · rcases h4 with g | g
      · omega
      · exact absurd (c (k + 1) (by omega) (by omega)) g
/-- the three kinds of unit from i to e -/
def sm_UA (t : Nat → Int32) (L i e : Nat) : Prop := sm_rl t i = 1 ∧ sm_rl t e = 2 ∧ i < e ∧ e < L ∧ sm_pt t L i = some e ∧ sm_pt t L e = some i
def sm_UB (t : Nat → Int32) (L i e : Nat) : Prop := sm_rl t i = 4 ∧ sm_rl t e = 5 ∧ i < e ∧ e < L ∧ ∀ j, i < j → j < e → sm_rl t j ≠ 5
def sm_UC (t : Nat → Int32) (L i e : Nat) : Prop := sm_rl t i = 6 ∧ sm_rl t e = 6 ∧ i ≤ e ∧ e < L ∧ ¬ (0 < i ∧ sm_rl t (i - 1) = 6) ∧ (∀ j, i < j → j ≤ e → sm_rl t j = 6) ∧ (e + 1 = L ∨ sm_rl t (e + 1) ≠ 6) ∧ sm_es t (e + 1) = 0
theorem sm_ue_s {t : Nat → Int32} {L i e : Nat} (hi : i < L) (h : sm_ue t L i = some e) : sm_UA t L i e ∨ sm_UB t L i e ∨ sm_UC t L i e := by
  unfold sm_ue at h
  by_cases h1 : sm_rl t i = 1
  · rw [if_pos h1] at h
    left
    rcases sm_pt_kind h with g | g
    · exact ⟨h1, g.2.1, g.2.2, (sm_pt_lt h).2, h, sm_pt_sym h⟩
    · rw [h1] at g; exact absurd g.1 (by decide)
  · rw [if_neg h1] at h
    by_cases h4 : sm_rl t i = 4
    · rw [if_pos h4] at h
      obtain ⟨a, b, c, f⟩ := sm_se_s h
      exact Or.inr (Or.inl ⟨h4, c, by omega, by omega, fun j x y => f j (by omega) y⟩)
    · rw [if_neg h4] at h
      by_cases h6 : sm_rl t i = 6
      · rw [if_pos h6] at h
        by_cases hp : 0 < i ∧ sm_rl t (i - 1) = 6
        · rw [if_pos hp] at h; exact absurd h (by simp)
        · rw [if_neg hp] at h
          by_cases he : sm_es t (sm_we t (L - 1 - i) i + 1) = 0
          · rw [if_pos he] at h
            obtain ⟨a, b, c, f⟩ := sm_we_s t (L - 1 - i) i
            cases h
            generalize sm_we t (L - 1 - i) i = w at a b c f he
            refine Or.inr (Or.inr ⟨h6, ?_, a, by omega, hp, c, ?_, he⟩)
            · by_cases z : w = i
              · rw [z]; exact h6
              · exact c w (by omega) (Nat.le_refl _)
            · rcases f with f | f
              · exact Or.inl (by omega)
              · exact Or.inr f
          · rw [if_neg he] at h; exact absurd h (by simp)
      · rw [if_neg h6] at h; exact absurd h (by simp)
theorem sm_ue_A {t : Nat → Int32} {L i e : Nat} (h : sm_UA t L i e) : sm_ue t L i = some e := by
  obtain ⟨h1, _, _, _, h2, _⟩ := h
  unfold sm_ue
  rw [if_pos h1]; exact h2
theorem sm_ue_B {t : Nat → Int32} {L i e : Nat} (h : sm_UB t L i e) : sm_ue t L i = some e := by
  obtain ⟨h4, h5, a, b, f⟩ := h
  unfold sm_ue
  rw [if_neg (by rw [h4]; decide), if_pos h4]
  exact sm_se_i (by omega) (by omega) h5 (fun j x y => f j (by omega) y)
theorem sm_ue_C {t : Nat → Int32} {L i e : Nat} (h : sm_UC t L i e) : sm_ue t L i = some e := by
  obtain ⟨h6, h6e, a, b, hp, f, g, he⟩ := h
  have w : sm_we t (L - 1 - i) i = e := sm_we_i a (by omega) f (by
    rcases g with g | g
    · exact Or.inl (by omega)
    · exact Or.inr g)
  unfold sm_ue
  rw [if_neg (by rw [h6]; decide), if_neg (by rw [h6]; decide), if_pos h6, if_neg hp, w, if_pos he]
theorem sm_ue_lt {t : Nat → Int32} {L i e : Nat} (hi : i < L) (h : sm_ue t L i = some e) : e < L := by
  rcases sm_ue_s hi h with g | g | g
  · exact g.2.2.2.1
  · exact g.2.2.2.1
  · exact g.2.2.2.1
/-- inside a string the mode stays -/
theorem sm_in_str {t : Nat → Int32} {i : Nat} (h : sm_rl t i = 4) : ∀ d, (∀ j, i < j → j < i + 1 + d → sm_rl t j ≠ 5) → sm_md t (i + 1 + d) = 1 := by
  obtain ⟨a, b, c⟩ := sm_rl4.mp h
  intro d
  induction d with
  | zero =>
    intro _
    rw [Nat.add_zero, sm_md_s, if_pos b, if_pos a, if_pos c]
  | succ d ih =>
    intro f
    have m := ih (fun j x y => f j x (by omega))
    show sm_md t (i + 1 + d + 1) = 1
    rw [sm_md_s]
    by_cases z : sm_es t (i + 1 + d) = 0
    · rw [if_pos z, if_neg (by rw [m]; decide), if_pos m, if_neg]
      intro y
      exact f (i + 1 + d) (by omega) (by omega) (sm_rl5.mpr ⟨m, z, y⟩)
    · rw [if_neg z]; exact m
/-- a string that is open began somewhere -/
theorem sm_str_beg {t : Nat → Int32} : ∀ {e : Nat}, sm_md t e = 1 → ∃ i, i < e ∧ sm_rl t i = 4 ∧ ∀ j, i < j → j < e → sm_rl t j ≠ 5 ∧ sm_rl t j ≠ 4 := by
  intro e
  induction e with
  | zero => intro h; rw [sm_md0] at h; exact absurd h (by decide)
  | succ e ih =>
    intro h
    rw [sm_md_s] at h
    have old : sm_md t e = 1 → ¬ (sm_es t e = 0 ∧ t e = 4) → ∃ i, i < e + 1 ∧ sm_rl t i = 4 ∧ ∀ j, i < j → j < e + 1 → sm_rl t j ≠ 5 ∧ sm_rl t j ≠ 4 := by
      intro m z
      obtain ⟨i, a, b, f⟩ := ih m
      refine ⟨i, by omega, b, fun j x y => ?_⟩
      by_cases w : j = e
      · subst w
        refine ⟨fun q => z (sm_rl5.mp q).2, fun q => ?_⟩
        rw [(sm_rl4.mp q).1] at m
        exact absurd m (by decide)
      · exact f j x (by omega)
    by_cases b : sm_es t e = 0
    · rw [if_pos b] at h
      by_cases a : sm_md t e = 0
      · rw [if_pos a] at h
        by_cases c : t e = 4
        · exact ⟨e, Nat.lt_succ_self _, sm_rl4.mpr ⟨a, b, c⟩, fun j x y => absurd x (by omega)⟩
        · rw [if_neg c] at h
          by_cases c6 : t e = 6
          · rw [if_pos c6] at h; exact absurd h (by decide)
          · rw [if_neg c6] at h; exact absurd h (by decide)
      · rw [if_neg a] at h
        by_cases m : sm_md t e = 1
        · rw [if_pos m] at h
          by_cases c : t e = 4
          · rw [if_pos c] at h; exact absurd h (by decide)
          · exact old m (fun q => c q.2)
        · rw [if_neg m] at h
          by_cases c : t e = 7
          · rw [if_pos c] at h; exact absurd h (by decide)
          · rw [if_neg c] at h; exact absurd h m
    · rw [if_neg b] at h
      exact old h (fun q => b q.1)
theorem sm_UB_lt {t : Nat → Int32} {L i j e : Nat} (h : sm_UB t L i e) (g : sm_UB t L j e) : ¬ i < j := by
  intro z
  obtain ⟨h4, _, a, b, f⟩ := h
  have m := sm_in_str h4 (j - (i + 1)) (fun k x y => f k x (by have := g.2.2.1; omega))
  rw [show i + 1 + (j - (i + 1)) = j from by omega, (sm_rl4.mp g.1).1] at m
  exact absurd m (by decide)
theorem sm_UC_lt {t : Nat → Int32} {L i j e : Nat} (h : sm_UC t L i e) (g : sm_UC t L j e) : ¬ i < j := by
  intro z
  obtain ⟨h6, _, a, b, hp, f, _⟩ := h
  refine g.2.2.2.2.1 ⟨by omega, ?_⟩
  by_cases w : j - 1 = i
  · rw [w]; exact h6
  · exact f (j - 1) (by omega) (by have := g.2.2.1; omega)
theorem sm_ue_inj {t : Nat → Int32} {L i j e : Nat} (hi : i < L) (hj : j < L) (h : sm_ue t L i = some e) (g : sm_ue t L j = some e) : i = j := by
  have n25 : ¬ (2 : Int32) = 5 := by decide
  have n26 : ¬ (2 : Int32) = 6 := by decide
  have n56 : ¬ (5 : Int32) = 6 := by decide
  rcases sm_ue_s hi h with a | a | a <;> rcases sm_ue_s hj g with b | b | b
  · have x := a.2.2.2.2.2
    rw [b.2.2.2.2.2] at x
    cases x; rfl
  · exact absurd (a.2.1.symm.trans b.2.1) n25
  · exact absurd (a.2.1.symm.trans b.2.1) n26
  · exact absurd (b.2.1.symm.trans a.2.1) n25
  · have := sm_UB_lt a b; have := sm_UB_lt b a; omega
  · exact absurd (a.2.1.symm.trans b.2.1) n56
  · exact absurd (b.2.1.symm.trans a.2.1) n26
  · exact absurd (b.2.1.symm.trans a.2.1) n56
  · have := sm_UC_lt a b; have := sm_UC_lt b a; omega
/-- the reference's search for the beginning of the unit that ends at e -/
def sm_uf (t : Nat → Int32) (L e : Nat) : Nat → Nat → Option Nat
  | 0, _ => none
  | d + 1, i => if sm_ue t L i = some e then some i else sm_uf t L e d (i + 1)
def sm_us (t : Nat → Int32) (L e : Nat) : Option Nat := sm_uf t L e (e + 1) 0
theorem sm_uf_some {t : Nat → Int32} {L e : Nat} (he : e < L) {i : Nat} (h : sm_ue t L i = some e) : ∀ {d k : Nat}, k ≤ i → i < k + d → k + d = e + 1 → sm_uf t L e d k = some i := by
  intro d
  induction d with
  | zero => intro k a b; exact absurd b (by omega)
  | succ d ih =>
    intro k a b c
    show (if sm_ue t L k = some e then some k else sm_uf t L e d (k + 1)) = some i
    by_cases z : sm_ue t L k = some e
    · rw [if_pos z, sm_ue_inj (by omega) (by omega) z h]
    · rw [if_neg z]
      have : k ≠ i := fun q => z (by rw [q]; exact h)
      exact ih (by omega) (by omega) (by omega)
theorem sm_uf_none {t : Nat → Int32} {L e : Nat} (h : ∀ i, i ≤ e → sm_ue t L i ≠ some e) : ∀ {d k : Nat}, k + d = e + 1 → sm_uf t L e d k = none := by
  intro d
  induction d with
  | zero => intro k _; rfl
  | succ d ih =>
    intro k c
    show (if sm_ue t L k = some e then some k else sm_uf t L e d (k + 1)) = none
    rw [if_neg (h k (by omega))]
    exact ih (by omega)
theorem sm_us_some {t : Nat → Int32} {L e i : Nat} (he : e < L) (hi : i ≤ e) (h : sm_ue t L i = some e) : sm_us t L e = some i := sm_uf_some he h (Nat.zero_le _) (by omega) (by omega)
theorem sm_us_none {t : Nat → Int32} {L e : Nat} (h : ∀ i, i ≤ e → sm_ue t L i ≠ some e) : sm_us t L e = none := sm_uf_none h (by omega)
end
section
/-! the class: keeping, loading, noting, stepping, reading -/
theorem sm_uu {f : Nat → Int32} {k : Nat} {x y : Int32} : upd (upd f k x) k y = upd f k y := by
  funext j
  unfold upd
  by_cases h : j = k
  · rw [if_pos h, if_pos h]
  · rw [if_neg h, if_neg h, if_neg h]
theorem sm_a15 : ∀ n, n < 65 → nI n &&& 15 = nI (n % 16) := by decide +kernel
theorem sm_s4 : ∀ n, n < 65 → nI n >>> ((4 : Int32) &&& 31) = nI (n / 16) := by decide +kernel
theorem sm_m16 : ∀ n, n < 65 → nI n &&& (-16) = nI (16 * (n / 16)) := by decide +kernel
theorem sm_n01 {e : Int32} (h : e = 0 ∨ e = 1) : narrow .boolean (.int e) = .int e ∧ fits .boolean (.int e) = true := by
  rcases h with h | h <;> rw [h] <;> exact ⟨rfl, by decide⟩
theorem sm_nar {e : Int32} (h : e = 0 ∨ e = 1) : vp_nar .boolean e = e := by
  rcases h with h | h <;> rw [h] <;> rfl
/-- what the class knows of its text t: the first K of L characters are read -/
def sm_XI (L K : Nat) (t ar ap aa km ke ki : Nat → Int32) : Prop :=
  K ≤ L ∧ L ≤ 64 ∧ (∀ p, p < K → ar p = sm_rl t p) ∧ (∀ p, p < K → ap p = sm_ex (sm_pt t K p)) ∧ (∀ p, p < K → sm_rl t p = 1 → aa p = sm_ex (sm_sk t p).head?) ∧ (∀ k, 16 * k ≤ K → km k = sm_md t (16 * k) ∧ ke k = sm_es t (16 * k) ∧ ki k = sm_ex (sm_sk t (16 * k)).head?)
def sm_X (L K : Nat) (t : Nat → Int32) (u : SX) : Prop := match u with
  | (fl, fk, _, _, _, ak, ar, ap, aa, km, ke, ki) => fl = nI L ∧ fk = nI K ∧ t = ak ∧ sm_XI L K t ar ap aa km ke ki
/-- the same, and the state at gap g is at hand -/
def sm_XS (L K g : Nat) (t : Nat → Int32) (u : SX) : Prop := match u with
  | (fl, fk, fm, fe, fi, ak, ar, ap, aa, km, ke, ki) => fl = nI L ∧ fk = nI K ∧ fm = sm_md t g ∧ fe = sm_es t g ∧ fi = sm_ex (sm_sk t g).head? ∧ t = ak ∧ sm_XI L K t ar ap aa km ke ki
/-- in the midst of a reading: the state before i is at hand, K were known -/
def sm_RI (K i : Nat) (t : Nat → Int32) (fm fe fi : Int32) (ar ap aa km ke ki : Nat → Int32) : Prop :=
  fm = sm_md t i ∧ fe = sm_es t i ∧ fi = sm_ex (sm_sk t i).head? ∧ (∀ p, p < i → ar p = sm_rl t p) ∧ (∀ p, p < i → ap p = sm_ex (sm_pt t i p) ∨ (i ≤ K ∧ ap p = sm_ex (sm_pt t K p))) ∧ (∀ p, p < i → sm_rl t p = 1 → aa p = sm_ex (sm_sk t p).head?) ∧ (∀ k, 16 * k < i → km k = sm_md t (16 * k) ∧ ke k = sm_es t (16 * k) ∧ ki k = sm_ex (sm_sk t (16 * k)).head?)
def sm_nr (t : Nat → Int32) (i : Nat) (f : Nat → Int32) : Nat → Int32 := upd f i (sm_rl t i)
def sm_na (t : Nat → Int32) (i : Nat) (f : Nat → Int32) : Nat → Int32 := if sm_rl t i = 1 then upd f i (sm_ex (sm_sk t i).head?) else f
def sm_np (t : Nat → Int32) (i : Nat) (f : Nat → Int32) : Nat → Int32 :=
  if sm_rl t i = 2 then upd (upd f i (nI ((sm_sk t i).headD 0))) ((sm_sk t i).headD 0) (nI i) else upd f i (-2)
theorem sm_np_2 {t : Nat → Int32} {i q : Nat} {r : List Nat} {f : Nat → Int32} (h : sm_rl t i = 2) (e : sm_sk t i = q :: r) : sm_np t i f = upd (upd f i (nI q)) q (nI i) := by
  unfold sm_np
  rw [if_pos h, e]
  rfl
theorem sm_np_k {t : Nat → Int32} {i : Nat} {f : Nat → Int32} (h : sm_rl t i ≠ 2) : sm_np t i f = upd f i (-2) := if_neg h
section
variable {post : SX → Prop} {fl fk fm fe fi : Int32} {t ak ar ap aa km ke ki : Nat → Int32}
theorem sm_load {x : Int32} (k : Nat) (hx : x = nI k) (hk : k < 5) (he : ke k = 0 ∨ ke k = 1) (h : post (fl, fk, km k, ke k, ki k, ak, ar, ap, aa, km, ke, ki)) : wpX_load post (fl, fk, fm, fe, fi, ak, ar, ap, aa, km, ke, ki) x := by
  subst hx
  have hc : (nI k).toNatClampNeg = k := nI_clamp (by omega)
  have hi : vp_in (nI k) 5 := vp_in_nI hk (by omega)
  have hn := sm_n01 he
  unfold wpX_load
  dsimp only
  rw [hc]
  exact ⟨hi, nm_e ⟨hi, nm_e ⟨hn.1, hn.2, hi, nm_e h⟩⟩⟩
theorem sm_keep {x : Int32} (k : Nat) (hx : x = nI k) (hk : k < 5) (he : fe = 0 ∨ fe = 1) (h : post (fl, fk, fm, fe, fi, ak, ar, ap, aa, upd km k fm, upd ke k fe, upd ki k fi)) : wpX_keep post (fl, fk, fm, fe, fi, ak, ar, ap, aa, km, ke, ki) x := by
  subst hx
  have hc : (nI k).toNatClampNeg = k := nI_clamp (by omega)
  have hi : vp_in (nI k) 5 := vp_in_nI hk (by omega)
  unfold wpX_keep
  dsimp only
  rw [hc, sm_nar he]
  exact ⟨hi, nm_e ⟨hi, nm_e ⟨hi, nm_e h⟩⟩⟩
theorem sm_nl {i : Nat} {v : Int32} (hr : sm_rl t i = v) (h1 : v ≠ 1) (h2 : v ≠ 2) (h : post (fl, fk, fm, fe, fi, t, sm_nr t i ar, sm_np t i ap, sm_na t i aa, km, ke, ki)) : post (fl, fk, fm, fe, fi, t, upd ar i v, upd ap i (-2), aa, km, ke, ki) := by
  have e1 : sm_nr t i ar = upd ar i v := by unfold sm_nr; rw [hr]
  have e2 : sm_np t i ap = upd ap i (-2) := sm_np_k (by rw [hr]; exact h2)
  have e3 : sm_na t i aa = aa := if_neg (by rw [hr]; exact h1)
  rw [e1, e2, e3] at h
  exact h
theorem sm_note {i : Nat} (hi : i < 64) (hm : fm = sm_md t i) (he : fe = sm_es t i) (hf : fi = sm_ex (sm_sk t i).head?) (h : post (fl, fk, fm, fe, fi, t, sm_nr t i ar, sm_np t i ap, sm_na t i aa, km, ke, ki)) : wpX_note post (fl, fk, fm, fe, fi, t, ar, ap, aa, km, ke, ki) (nI i) := by
  have hc : (nI i).toNatClampNeg = i := nI_clamp (by omega)
  have hin : vp_in (nI i) 64 := vp_in_nI hi (by omega)
  unfold wpX_note
  dsimp only
  rw [hc]
  refine ⟨hin, nm_e ⟨hin, nm_e ⟨hin, nm_e (br_c (fun m0 => br_c (fun e0 => br_c (fun c0 => ?_) (fun c0 => br_c (fun c5 => ?_) (fun c5 => br_c (fun c2 => ?_) (fun c2 => br_c (fun c3 => ?_) (fun c3 => br_c (fun c4 => ?_) (fun c4 => ?_)))))) (fun e0 => ?_)) (fun m0 => br_c (fun m1 => br_c (fun e0 => br_c (fun c4 => ?_) (fun c4 => ?_)) (fun e0 => ?_)) (fun m1 => ?_)))⟩⟩⟩
  all_goals (try rw [hm] at m0)
  all_goals (try rw [hm] at m1)
  all_goals (try rw [he] at e0)
  · refine ⟨hin, nm_e ?_⟩
    rw [sm_uu]
    exact sm_nl (sm_rl6.mpr ⟨m0, Or.inl c0⟩) (by decide) (by decide) h
  · refine ⟨hin, nm_e ?_⟩
    rw [sm_uu]
    exact sm_nl (sm_rl6.mpr ⟨m0, Or.inr (Or.inl c5)⟩) (by decide) (by decide) h
  · refine ⟨hin, nm_e ⟨hin, nm_e ?_⟩⟩
    rw [sm_uu]
    have hr : sm_rl t i = 1 := sm_rl1.mpr ⟨m0, e0, c2⟩
    have e1 : sm_nr t i ar = upd ar i 1 := by unfold sm_nr; rw [hr]
    have e2 : sm_np t i ap = upd ap i (-2) := sm_np_k (by rw [hr]; decide)
    have e3 : sm_na t i aa = upd aa i fi := by unfold sm_na; rw [if_pos hr, hf]
    rw [e1, e2, e3] at h
    exact h
  · cases e : sm_sk t i with
    | nil =>
      have fi2 : fi = -2 := by rw [hf, e]; rfl
      refine br_t fi2 ?_
      unfold wX_note_105
      rw [hc]
      refine ⟨hin, nm_e (br_t fi2 ?_)⟩
      rw [sm_uu]
      exact sm_nl (sm_rl3.mpr ⟨m0, e0, c3, e⟩) (by decide) (by decide) h
    | cons q r =>
      have hq := (sm_sk_hd e).1
      have fi2 : fi = nI q := by rw [hf, e]; rfl
      have fin : ¬ fi = -2 := by rw [fi2]; exact sm_nIm2 (by omega)
      have qc : (nI q).toNatClampNeg = q := nI_clamp (by omega)
      refine br_f fin ?_
      unfold wX_note_105
      rw [hc]
      refine ⟨hin, nm_e (br_f fin ⟨hin, nm_e ⟨?_, nm_e ?_⟩⟩)⟩
      · rw [fi2]; exact vp_in_nI (by omega) (by omega)
      · have hr : sm_rl t i = 2 := sm_rl2.mpr ⟨m0, e0, c3, by rw [e]; simp⟩
        have e1 : sm_nr t i ar = upd ar i 2 := by unfold sm_nr; rw [hr]
        have e3 : sm_na t i aa = aa := if_neg (by rw [hr]; decide)
        rw [e1, sm_np_2 hr e, e3] at h
        rw [sm_uu, sm_uu, fi2, qc]
        rw [fi2] at h
        exact h
  · refine ⟨hin, nm_e ?_⟩
    rw [sm_uu]
    exact sm_nl (sm_rl4.mpr ⟨m0, e0, c4⟩) (by decide) (by decide) h
  · exact sm_nl (by unfold sm_rl; rw [if_pos m0, if_pos e0, if_neg c0, if_neg c5, if_neg c2, if_neg c3, if_neg c4]) (by decide) (by decide) h
  · refine ⟨hin, nm_e ?_⟩
    rw [sm_uu]
    exact sm_nl (sm_rl6.mpr ⟨m0, Or.inr (Or.inr e0)⟩) (by decide) (by decide) h
  · refine ⟨hin, nm_e ?_⟩
    rw [sm_uu]
    exact sm_nl (sm_rl5.mpr ⟨m1, e0, c4⟩) (by decide) (by decide) h
  · exact sm_nl (by unfold sm_rl; rw [if_neg m0, if_pos m1, if_pos e0, if_neg c4]) (by decide) (by decide) h
  · exact sm_nl (by unfold sm_rl; rw [if_neg m0, if_pos m1, if_neg e0]) (by decide) (by decide) h
  · exact sm_nl (by unfold sm_rl; rw [if_neg m0, if_neg m1]) (by decide) (by decide) h
theorem sm_sl {i : Nat} {m e l : Int32} (h1 : sm_md t (i + 1) = m) (h2 : sm_es t (i + 1) = e) (h3 : sm_ex (sm_sk t (i + 1)).head? = l) (h : post (fl, fk, sm_md t (i + 1), sm_es t (i + 1), sm_ex (sm_sk t (i + 1)).head?, t, ar, ap, aa, km, ke, ki)) : post (fl, fk, m, e, l, t, ar, ap, aa, km, ke, ki) := by
  subst h1 h2 h3
  exact h
theorem sm_stepX {i : Nat} (hi : i < 64) (hm : fm = sm_md t i) (he : fe = sm_es t i) (hf : fi = sm_ex (sm_sk t i).head?) (ha : ∀ q r, sm_sk t i = q :: r → aa q = sm_ex r.head?) (h : post (fl, fk, sm_md t (i + 1), sm_es t (i + 1), sm_ex (sm_sk t (i + 1)).head?, t, ar, ap, aa, km, ke, ki)) : wpX_step post (fl, fk, fm, fe, fi, t, ar, ap, aa, km, ke, ki) (nI i) := by
  have hc : (nI i).toNatClampNeg = i := nI_clamp (by omega)
  have hin : vp_in (nI i) 64 := vp_in_nI hi (by omega)
  subst hm he hf
  unfold wpX_step
  dsimp only
  rw [hc]
  refine ⟨hin, nm_e (br_c (fun e0 => br_c (fun m0 => br_c (fun c2 => ?_) (fun c2 => br_c (fun c3 => ?_) (fun c3 => br_c (fun c4 => ?_) (fun c4 => br_c (fun c6 => ?_) (fun c6 => ?_))))) (fun m0 => br_c (fun m1 => br_c (fun c4 => ?_) (fun c4 => ?_)) (fun m1 => br_c (fun c7 => ?_) (fun c7 => ?_)))) (fun e0 => ?_))⟩
  · exact br_f (by rw [c2]; decide) (sm_sl (by simp [sm_md_s, e0, m0, c2]) (by simp [sm_es_s, e0, m0, c2]) (by rw [sm_sk_s, if_pos e0, if_pos m0, if_pos c2]; rfl) h)
  · cases e : sm_sk t i with
    | nil =>
      refine br_t rfl (br_f (by rw [c3]; decide) (sm_sl (by simp [sm_md_s, e0, m0, c3]) (by simp [sm_es_s, e0, m0, c3]) ?_ h))
      rw [sm_sk_s, if_pos e0, if_pos m0, if_neg c2, if_pos c3, e]
      rfl
    | cons q r =>
      have hq := (sm_sk_hd e).1
      have a1 : aa (nI q).toNatClampNeg = sm_ex r.head? := by rw [nI_clamp (by omega)]; exact ha q r e
      refine br_f (sm_nIm2 (j := q) (by omega)) ⟨vp_in_nI (n := q) (by omega) (by omega), br_f (by rw [c3]; decide) (sm_sl (by simp [sm_md_s, e0, m0, c3]) (by simp [sm_es_s, e0, m0, c3]) ?_ h)⟩
      rw [sm_sk_s, if_pos e0, if_pos m0, if_neg c2, if_pos c3, e]
      exact a1.symm
  · exact br_f (by rw [c4]; decide) (sm_sl (by simp [sm_md_s, e0, m0, c4]) (by simp [sm_es_s, e0, m0, c4]) (by rw [sm_sk_s, if_pos e0, if_pos m0, if_neg c2, if_neg c3]) h)
  · exact br_f (by rw [c6]; decide) (sm_sl (by simp [sm_md_s, e0, m0, c6]) (by simp [sm_es_s, e0, m0, c6]) (by rw [sm_sk_s, if_pos e0, if_pos m0, if_neg c2, if_neg c3]) h)
  · exact br_c (fun c5 => sm_sl (by simp [sm_md_s, e0, m0, c4, c6]) (by simp [sm_es_s, e0, m0, c5]) (by rw [sm_sk_s, if_pos e0, if_pos m0, if_neg c2, if_neg c3]) h) (fun c5 => sm_sl (by simp [sm_md_s, e0, m0, c4, c6]) (by simp [sm_es_s, e0, m0, c5]) (by rw [sm_sk_s, if_pos e0, if_pos m0, if_neg c2, if_neg c3]) h)
  · exact br_f (by rw [c4]; decide) (sm_sl (by simp [sm_md_s, e0, m1, c4]) (by simp [sm_es_s, e0, m1, c4]) (by rw [sm_sk_s, if_pos e0, if_neg m0]) h)
  · exact br_c (fun c5 => sm_sl (by simp [sm_md_s, e0, m1, c4]) (by simp [sm_es_s, e0, m1, c5]) (by rw [sm_sk_s, if_pos e0, if_neg m0]) h) (fun c5 => sm_sl (by simp [sm_md_s, e0, m1, c4]) (by simp [sm_es_s, e0, m1, c5]) (by rw [sm_sk_s, if_pos e0, if_neg m0]) h)
  · exact sm_sl (by simp [sm_md_s, e0, m0, m1, c7]) (by simp [sm_es_s, e0, m0, m1]) (by rw [sm_sk_s, if_pos e0, if_neg m0]) h
  · exact sm_sl (by simp [sm_md_s, e0, m0, m1, c7]) (by simp [sm_es_s, e0, m0, m1]) (by rw [sm_sk_s, if_pos e0, if_neg m0]) h
  · exact sm_sl (by rw [sm_md_s, if_neg e0]) (by rw [sm_es_s, if_neg e0]) (by rw [sm_sk_s, if_neg e0]) h
end
end
section
/-! the class: readTo and stateAt -/
theorem sm_RI_next {K i : Nat} {t : Nat → Int32} {ar ap aa km ke ki : Nat → Int32} (rr : ∀ p, p < i → ar p = sm_rl t p) (rp : ∀ p, p < i → ap p = sm_ex (sm_pt t i p) ∨ (i ≤ K ∧ ap p = sm_ex (sm_pt t K p))) (ra : ∀ p, p < i → sm_rl t p = 1 → aa p = sm_ex (sm_sk t p).head?) (rk : ∀ k, 16 * k < i + 1 → km k = sm_md t (16 * k) ∧ ke k = sm_es t (16 * k) ∧ ki k = sm_ex (sm_sk t (16 * k)).head?) : sm_RI K (i + 1) t (sm_md t (i + 1)) (sm_es t (i + 1)) (sm_ex (sm_sk t (i + 1)).head?) (sm_nr t i ar) (sm_np t i ap) (sm_na t i aa) km ke ki := by
  refine ⟨rfl, rfl, rfl, fun p hp => ?_, fun p hp => ?_, fun p hp h1 => ?_, rk⟩
  · by_cases z : p = i
    · subst z; exact pk_us
    · exact (pk_un z).trans (rr p (by omega))
  · have old : ∀ p, p < i → sm_pt t (i + 1) p = sm_pt t i p → (ap p = sm_ex (sm_pt t (i + 1) p) ∨ (i + 1 ≤ K ∧ ap p = sm_ex (sm_pt t K p))) := by
      intro p hp e
      rcases rp p hp with g | ⟨g1, g2⟩
      · exact Or.inl (by rw [e]; exact g)
      · by_cases z : i = K
        · subst z
          exact Or.inl (by rw [e]; exact g2)
        · exact Or.inr ⟨by omega, g2⟩
    by_cases h2 : sm_rl t i = 2
    · obtain ⟨q, r, e⟩ := sm_rl2_cons h2
      have hq := (sm_sk_hd e).1
      rw [sm_np_2 h2 e]
      by_cases pq : p = q
      · subst pq
        refine Or.inl ?_
        rw [pk_us, sm_pt_2 h2 e, if_pos rfl]
        rfl
      · rw [pk_un pq]
        by_cases pi : p = i
        · subst pi
          refine Or.inl ?_
          rw [pk_us, sm_pt_2 h2 e, if_neg pq, if_pos rfl]
          rfl
        · rw [pk_un pi]
          exact old p (by omega) (by rw [sm_pt_2 h2 e, if_neg pq, if_neg pi])
    · rw [sm_np_k h2]
      by_cases pi : p = i
      · subst pi
        refine Or.inl ?_
        rw [pk_us, sm_pt_k h2, sm_pt_ge (Nat.le_refl _)]
        rfl
      · rw [pk_un pi]
        exact old p (by omega) (sm_pt_k h2 p)
  · unfold sm_na
    by_cases z : p = i
    · subst z
      rw [if_pos h1]
      exact pk_us
    · by_cases w : sm_rl t i = 1
      · rw [if_pos w]
        exact (pk_un z).trans (ra p (by omega) h1)
      · rw [if_neg w]
        exact ra p (by omega) h1
theorem sm_around {i : Nat} {t aa : Nat → Int32} (ra : ∀ p, p < i → sm_rl t p = 1 → aa p = sm_ex (sm_sk t p).head?) : ∀ q r, sm_sk t i = q :: r → aa q = sm_ex r.head? := by
  intro q r e
  obtain ⟨a, b, c⟩ := sm_sk_hd e
  rw [ra q a b, c]
theorem sm_kept {i : Nat} {t km ke ki : Nat → Int32} (rk : ∀ k, 16 * k < i → km k = sm_md t (16 * k) ∧ ke k = sm_es t (16 * k) ∧ ki k = sm_ex (sm_sk t (16 * k)).head?) (h : i % 16 = 0) : ∀ k, 16 * k < i + 1 → upd km (i / 16) (sm_md t i) k = sm_md t (16 * k) ∧ upd ke (i / 16) (sm_es t i) k = sm_es t (16 * k) ∧ upd ki (i / 16) (sm_ex (sm_sk t i).head?) k = sm_ex (sm_sk t (16 * k)).head? := by
  intro k hk
  by_cases z : k = i / 16
  · subst z
    have e : 16 * (i / 16) = i := by omega
    rw [pk_us, pk_us, pk_us, e]
    exact ⟨rfl, rfl, rfl⟩
  · rw [pk_un z, pk_un z, pk_un z]
    exact rk k (by omega)
theorem sm_readL {post : SX → Prop} {t : Nat → Int32} {L K g : Nat} (hKg : K < g) (hgL : g ≤ L) (hL : L ≤ 64) (H : ∀ u, sm_X L g t u → post u) : ∀ (n i : Nat) (fm fe fi : Int32) (ar ap aa km ke ki : Nat → Int32), g - i < n → i ≤ g → sm_RI K i t fm fe fi ar ap aa km ke ki → wX_readTo_27 post (nI g) n (nI i) (nI L) (nI K) fm fe fi t ar ap aa km ke ki := by
  intro n
  induction n with
  | zero => intro i fm fe fi ar ap aa km ke ki hn; exact absurd hn (Nat.not_lt_zero _)
  | succ n ih =>
    intro i fm fe fi ar ap aa km ke ki hn hi R
    obtain ⟨rm, re, rf, rr, rp, ra, rk⟩ := R
    have e01 : fe = 0 ∨ fe = 1 := by rw [re]; exact sm_es01 t i
    have fin : i = g → (∀ k, 16 * k ≤ g → km k = sm_md t (16 * k) ∧ ke k = sm_es t (16 * k) ∧ ki k = sm_ex (sm_sk t (16 * k)).head?) → sm_XI L g t ar ap aa km ke ki := by
      intro e rk'
      subst e
      refine ⟨hgL, hL, rr, fun p hp => ?_, ra, rk'⟩
      rcases rp p hp with g | g
      · exact g
      · omega
    have fin' : i = g → (∀ km ke ki : Nat → Int32, (∀ k, 16 * k ≤ g → km k = sm_md t (16 * k) ∧ ke k = sm_es t (16 * k) ∧ ki k = sm_ex (sm_sk t (16 * k)).head?) → sm_XI L g t ar ap aa km ke ki) := by
      intro e km ke ki rk'
      subst e
      refine ⟨hgL, hL, rr, fun p hp => ?_, ra, rk'⟩
      rcases rp p hp with g | g
      · exact g
      · omega
    refine pk_le g i (fun hgi => ?_) (fun hgi => ?_)
    · have ig : i = g := by omega
      refine pk_eq (g % 16) 0 (fun z => ?_) (fun z => ?_) (sm_a15 g (by omega)) rfl
      · refine sm_keep (g / 16) (sm_s4 g (by omega)) (by omega) e01 ?_
        refine H _ ⟨rfl, rfl, rfl, fin' ig _ _ _ ?_⟩
        rw [rm, re, rf]
        subst ig
        exact fun k hk => sm_kept rk z k (by omega)
      · exact H _ ⟨rfl, rfl, rfl, fin ig (fun k hk => rk k (by omega))⟩
    · have J : ∀ km ke ki : Nat → Int32, (∀ k, 16 * k < i + 1 → km k = sm_md t (16 * k) ∧ ke k = sm_es t (16 * k) ∧ ki k = sm_ex (sm_sk t (16 * k)).head?) → wX_readTo_46 post (wX_readTo_27 post (nI g) n) (nI g) (nI i) (nI L) (nI K) fm fe fi t ar ap aa km ke ki := by
        intro km ke ki rk'
        unfold wX_readTo_46
        refine sm_note (by omega) rm re rf ?_
        dsimp only
        refine sm_stepX (by omega) rm re rf ?_ ?_
        · intro q r e
          obtain ⟨a, b, c⟩ := sm_sk_hd e
          unfold sm_na
          by_cases w : sm_rl t i = 1
          · rw [if_pos w, pk_un (by omega)]
            exact sm_around ra q r e
          · rw [if_neg w]
            exact sm_around ra q r e
        · dsimp only
          refine nm_r (nI_1 i) ?_
          exact ih (i + 1) _ _ _ _ _ _ _ _ _ (by omega) (by omega) (sm_RI_next rr rp ra rk')
      refine pk_eq (i % 16) 0 (fun z => ?_) (fun z => ?_) (sm_a15 i (by omega)) rfl
      · refine sm_keep (i / 16) (sm_s4 i (by omega)) (by omega) e01 ?_
        exact J _ _ _ (by rw [rm, re, rf]; exact sm_kept rk z)
      · exact J _ _ _ (fun k hk => rk k (by omega))
theorem sm_readTo {post : SX → Prop} {t : Nat → Int32} {L K g : Nat} {u : SX} {x : Int32} (hx : x = nI g) (hg : g ≤ L) (I : sm_X L K t u) (H : ∀ u', sm_X L (max K g) t u' → post u') : wpX_readTo post u x := by
  subst hx
  obtain ⟨fl, fk, fm, fe, fi, ak, ar, ap, aa, km, ke, ki⟩ := u
  obtain ⟨rfl, rfl, rfl, hI⟩ := I
  obtain ⟨hK, hL, rr, rp, ra, rk⟩ := hI
  refine pk_lt K g (fun h => ?_) (fun h => ?_)
  · have k1 := rk (K / 16) (by omega)
    refine sm_load (K / 16) (sm_s4 K (by omega)) (by omega) (by rw [k1.2.1]; exact sm_es01 _ _) ?_
    dsimp only
    refine nm_r (sm_m16 K (by omega)) ⟨g + 1, ?_⟩
    have e : max K g = g := by omega
    rw [e] at H
    refine sm_readL h hg hL H _ _ _ _ _ _ _ _ _ _ _ (by omega) (by omega) ⟨k1.1, k1.2.1, k1.2.2, fun p hp => rr p (by omega), fun p hp => Or.inr ⟨by omega, rp p (by omega)⟩, fun p hp => ra p (by omega), fun k hk => rk k (by omega)⟩
  · have e : max K g = K := by omega
    rw [e] at H
    exact H _ ⟨rfl, rfl, rfl, hK, hL, rr, rp, ra, rk⟩
theorem sm_stateL {post : SX → Prop} {t : Nat → Int32} {L K g : Nat} (hg : g ≤ K) {ar ap aa km ke ki : Nat → Int32} (hI : sm_XI L K t ar ap aa km ke ki) (H : ∀ u, sm_XS L K g t u → post u) : ∀ (n i : Nat) (fm fe fi : Int32), g - i < n → i ≤ g → fm = sm_md t i → fe = sm_es t i → fi = sm_ex (sm_sk t i).head? → wX_stateAt_17 post (nI g) n (nI i) (nI L) (nI K) fm fe fi t ar ap aa km ke ki := by
  obtain ⟨hK, hL, rr, rp, ra, rk⟩ := id hI
  intro n
  induction n with
  | zero => intro i fm fe fi hn; exact absurd hn (Nat.not_lt_zero _)
  | succ n ih =>
    intro i fm fe fi hn hi rm re rf
    refine pk_le g i (fun hgi => ?_) (fun hgi => ?_)
    · have e : i = g := by omega
      subst e
      exact H _ ⟨rfl, rfl, rm, re, rf, rfl, hI⟩
    · refine sm_stepX (by omega) rm re rf (sm_around (fun p hp => ra p (by omega))) ?_
      dsimp only
      refine nm_r (nI_1 i) ?_
      exact ih (i + 1) _ _ _ (by omega) (by omega) rfl rfl rfl
theorem sm_stateAt {post : SX → Prop} {t : Nat → Int32} {L K g : Nat} {u : SX} {x : Int32} (hx : x = nI g) (hg : g ≤ L) (I : sm_X L K t u) (H : ∀ u', sm_XS L (max K g) g t u' → post u') : wpX_stateAt post u x := by
  subst hx
  obtain ⟨fl, fk, fm, fe, fi, ak, ar, ap, aa, km, ke, ki⟩ := u
  unfold wpX_stateAt
  dsimp only
  refine sm_readTo rfl hg I ?_
  intro u' I'
  obtain ⟨fl, fk, fm, fe, fi, ak, ar, ap, aa, km, ke, ki⟩ := u'
  obtain ⟨rfl, rfl, rfl, hI⟩ := I'
  have k1 := hI.2.2.2.2.2 (g / 16) (by omega)
  have hL := hI.2.1
  dsimp only
  refine sm_load (g / 16) (sm_s4 g (by omega)) (by omega) (by rw [k1.2.1]; exact sm_es01 _ _) ?_
  dsimp only
  refine nm_r (sm_m16 g (by omega)) ⟨g + 1, ?_⟩
  exact sm_stateL (by omega) hI H _ _ _ _ _ (by omega) (by omega) k1.1 k1.2.1 k1.2.2
end
section
/-! the class: units -/
theorem sm_XS_X {L K g : Nat} {t : Nat → Int32} {u : SX} (h : sm_XS L K g t u) : sm_X L K t u := by
  obtain ⟨fl, fk, fm, fe, fi, ak, ar, ap, aa, km, ke, ki⟩ := u
  obtain ⟨a, b, _, _, _, c, d⟩ := h
  exact ⟨a, b, c, d⟩
section
variable {post : Int32 → SX → Prop} {fm fe fi : Int32} {t ar ap aa km ke ki : Nat → Int32} {L : Nat}
theorem sm_xue44 (hI : sm_XI L L t ar ap aa km ke ki) : ∀ (n e : Nat), L - e < n → e ≤ L → post (sm_ey (sm_se t (L - e) e)) (nI L, nI L, fm, fe, fi, t, ar, ap, aa, km, ke, ki) → wX_unitEnd_44 post (nI L) (nI L) fm fe fi t ar ap aa km ke ki n (nI e) := by
  obtain ⟨hK, hL, rr, rp, ra, rk⟩ := hI
  intro n
  induction n with
  | zero => intro e hn; exact absurd hn (Nat.not_lt_zero _)
  | succ n ih =>
    intro e hn he h
    refine pk_le L e (fun z => ?_) (fun z => ⟨vp_in_nI (by omega) (by omega), ?_⟩)
    · have : L - e = 0 := by omega
      rw [this] at h
      exact h
    · have hc : (nI e).toNatClampNeg = e := nI_clamp (by omega)
      have hd : L - e = (L - (e + 1)) + 1 := by omega
      rw [hc, rr e z]
      rw [hd] at h
      refine br_c (fun r5 => ?_) (fun r5 => nm_r (nI_1 e) ?_)
      · have E : sm_se t (L - (e + 1) + 1) e = some e := if_pos r5
        rw [E] at h
        exact h
      · have E : sm_se t (L - (e + 1) + 1) e = sm_se t (L - (e + 1)) (e + 1) := if_neg r5
        rw [E] at h
        exact ih (e + 1) (by omega) (by omega) h
theorem sm_xue133 {w : Nat} (hw : w < L) (hI : sm_XI L L t ar ap aa km ke ki) (H : ∀ u, sm_X L L t u → post (if sm_es t (w + 1) = 0 then nI w else -1) u) : wX_unitEnd_133 post (nI w) (nI L) (nI L) fm fe fi t ar ap aa km ke ki := by
  unfold wX_unitEnd_133
  refine sm_stateAt (g := w + 1) (nI_1 w) (by omega) (L := L) (K := L) (t := t) ⟨rfl, rfl, rfl, hI⟩ ?_
  intro u' I'
  have I2 := H u' (by
    have := sm_XS_X I'
    rw [show max L (w + 1) = L from by omega] at this
    exact this)
  obtain ⟨fl, fk, fm, fe, fi, ak, ar, ap, aa, km, ke, ki⟩ := u'
  obtain ⟨a, b, c, d, _⟩ := I'
  subst d
  refine br_c (fun z => ?_) (fun z => ?_)
  · rw [if_pos z] at I2; exact I2
  · rw [if_neg z] at I2; exact I2
theorem sm_xue104 (hI : sm_XI L L t ar ap aa km ke ki) : ∀ (n e : Nat), L - 1 - e < n → e < L → (∀ u, sm_X L L t u → post (if sm_es t (sm_we t (L - 1 - e) e + 1) = 0 then nI (sm_we t (L - 1 - e) e) else -1) u) → wX_unitEnd_104 post (nI L) (nI L) fm fe fi t ar ap aa km ke ki n (nI e) := by
  obtain ⟨hK, hL, rr, rp, ra, rk⟩ := id hI
  intro n
  induction n with
  | zero => intro e hn; exact absurd hn (Nat.not_lt_zero _)
  | succ n ih =>
    intro e hn he H
    refine pk_le L (e + 1) (fun z => ?_) (fun z => ⟨?_, ?_⟩) rfl (nI_1 e)
    · have : L - 1 - e = 0 := by omega
      rw [this] at H
      exact sm_xue133 he hI H
    · rw [nI_1]; exact vp_in_nI (by omega) (by omega)
    · have hc : (nI (e + 1)).toNatClampNeg = e + 1 := nI_clamp (by omega)
      have hd : L - 1 - e = (L - 1 - (e + 1)) + 1 := by omega
      rw [nI_1, hc, rr (e + 1) z]
      rw [hd] at H
      refine br_c (fun r6 => nm_e ?_) (fun r6 => ?_)
      · have E : sm_we t (L - 1 - (e + 1) + 1) e = sm_we t (L - 1 - (e + 1)) (e + 1) := if_pos r6
        rw [E] at H
        exact ih (e + 1) (by omega) (by omega) H
      · have E : sm_we t (L - 1 - (e + 1) + 1) e = e := if_neg r6
        rw [E] at H
        exact sm_xue133 he hI H
end
theorem sm_xunitEnd {post : Int32 → SX → Prop} {t : Nat → Int32} {L i : Nat} {u : SX} (hi : i < L) (I : sm_X L L t u) (H : ∀ u', sm_X L L t u' → post (sm_ey (sm_ue t L i)) u') : wpX_unitEnd post u (nI i) := by
  have H0 := H u I
  obtain ⟨fl, fk, fm, fe, fi, ak, ar, ap, aa, km, ke, ki⟩ := u
  obtain ⟨rfl, rfl, rfl, hI⟩ := I
  obtain ⟨hK, hL, rr, rp, ra, rk⟩ := id hI
  have hc : (nI i).toNatClampNeg = i := nI_clamp (by omega)
  have hin : vp_in (nI i) 64 := vp_in_nI (by omega) (by omega)
  unfold wpX_unitEnd
  dsimp only
  rw [hc, rr i hi, rp i hi]
  refine ⟨hin, br_c (fun r1 => ⟨hin, ?_⟩) (fun r1 => ⟨hin, br_c (fun r4 => nm_r (nI_1 i) ⟨L + 1, ?_⟩) (fun r4 => ⟨hin, br_c (fun r6 => ?_) (fun r6 => ?_)⟩)⟩)⟩
  · have E : sm_ue t L i = sm_pt t L i := if_pos r1
    rw [E] at H0
    cases e : sm_pt t L i with
    | none => rw [e] at H0; exact br_f (by decide) H0
    | some k =>
      have := (sm_pt_lt e).2
      rw [e] at H0; exact br_t (nI_pos' (n := k) (by omega)) ⟨hin, H0⟩
  · have E : sm_ue t L i = sm_se t (L - (i + 1)) (i + 1) := by unfold sm_ue; rw [if_neg r1, if_pos r4]
    rw [E] at H0
    exact sm_xue44 hI _ _ (by omega) (by omega) H0
  · have G : ¬ (0 < i ∧ sm_rl t (i - 1) = 6) → ∃ n : Nat, wX_unitEnd_104 post (nI L) (nI L) fm fe fi t ar ap aa km ke ki n (nI i) := by
      intro hp
      refine ⟨L + 1, sm_xue104 hI _ _ (by omega) hi ?_⟩
      have E : sm_ey (sm_ue t L i) = if sm_es t (sm_we t (L - 1 - i) i + 1) = 0 then nI (sm_we t (L - 1 - i) i) else -1 := by
        unfold sm_ue
        rw [if_neg r1, if_neg r4, if_pos r6, if_neg hp]
        by_cases z : sm_es t (sm_we t (L - 1 - i) i + 1) = 0
        · rw [if_pos z, if_pos z]; rfl
        · rw [if_neg z, if_neg z]; rfl
      rw [E] at H
      exact H
    refine pk_le i 0 (fun z => ?_) (fun z => ⟨?_, ?_⟩)
    · exact G (fun q => by omega)
    · obtain ⟨j, rfl⟩ : ∃ j, i = j + 1 := ⟨i - 1, by omega⟩
      rw [nI_pred]; exact vp_in_nI (by omega) (by omega)
    · have e1 : ar (nI i - 1).toNatClampNeg = sm_rl t (i - 1) := by
        obtain ⟨j, rfl⟩ : ∃ j, i = j + 1 := ⟨i - 1, by omega⟩
        rw [nI_pred, nI_clamp (by omega)]
        exact rr j (by omega)
      rw [e1]
      refine br_c (fun q => ?_) (fun q => ?_)
      · have E : sm_ue t L i = none := by unfold sm_ue; rw [if_neg r1, if_neg r4, if_pos r6, if_pos ⟨z, q⟩]
        rw [E] at H0
        exact H0
      · exact G (fun w => q w.2)
  · have E : sm_ue t L i = none := by unfold sm_ue; rw [if_neg r1, if_neg r4, if_neg r6]
    rw [E] at H0
    exact H0
/-! the beginning of a unit -/
section
variable {post : Int32 → SX → Prop} {fm fe fi : Int32} {t ar ap aa km ke ki : Nat → Int32} {L : Nat}
theorem sm_xus29 (hI : sm_XI L L t ar ap aa km ke ki) {b e : Nat} (he : e < L) (h4 : sm_rl t b = 4) (hn4 : ∀ j, b < j → j ≤ e → sm_rl t j ≠ 4) (h : post (nI b) (nI L, nI L, fm, fe, fi, t, ar, ap, aa, km, ke, ki)) : ∀ (n i : Nat), i < n → b ≤ i → i ≤ e → wX_unitStart_29 post (nI L) (nI L) fm fe fi t ar ap aa km ke ki n (nI i) := by
  obtain ⟨hK, hL, rr, rp, ra, rk⟩ := hI
  intro n
  induction n with
  | zero => intro i hn; exact absurd hn (Nat.not_lt_zero _)
  | succ n ih =>
    intro i hn hb hi
    refine pk_le i 0 (fun z => ?_) (fun z => ⟨vp_in_nI (by omega) (by omega), ?_⟩)
    · have : i = b := by omega
      rw [this]; exact h
    · have hc : (nI i).toNatClampNeg = i := nI_clamp (by omega)
      rw [hc, rr i (by omega)]
      by_cases ib : i = b
      · rw [ib]; exact br_t h4 h
      · refine br_f (hn4 i (by omega) hi) ?_
        obtain ⟨j, rfl⟩ : ∃ j, i = j + 1 := ⟨i - 1, by omega⟩
        refine nm_r (pk_m1 j) ?_
        exact ih j (by omega) (by omega) (by omega)
theorem sm_xus105 (hI : sm_XI L L t ar ap aa km ke ki) {e : Nat} (he : e < L) (h : ∀ b, b ≤ e → (∀ j, b ≤ j → j ≤ e → sm_rl t j = 6) → ¬ (0 < b ∧ sm_rl t (b - 1) = 6) → post (nI b) (nI L, nI L, fm, fe, fi, t, ar, ap, aa, km, ke, ki)) : ∀ (n i : Nat), i < n → i ≤ e → (∀ j, i ≤ j → j ≤ e → sm_rl t j = 6) → wX_unitStart_105 post (nI L) (nI L) fm fe fi t ar ap aa km ke ki n (nI i) := by
  obtain ⟨hK, hL, rr, rp, ra, rk⟩ := hI
  intro n
  induction n with
  | zero => intro i hn; exact absurd hn (Nat.not_lt_zero _)
  | succ n ih =>
    intro i hn hi f
    refine pk_le i 0 (fun z => ?_) (fun z => ?_)
    · exact h i hi f (fun q => by omega)
    · obtain ⟨j, rfl⟩ : ∃ j, i = j + 1 := ⟨i - 1, by omega⟩
      have hc : (nI j).toNatClampNeg = j := nI_clamp (by omega)
      rw [nI_pred, hc, rr j (by omega)]
      refine ⟨vp_in_nI (by omega) (by omega), br_c (fun q => nm_r (pk_m1 j) ?_) (fun q => ?_)⟩
      · refine ih j (by omega) (by omega) (fun k a b => ?_)
        by_cases w : k = j
        · rw [w]; exact q
        · exact f k (by omega) b
      · exact h (j + 1) hi f (fun w => q w.2)
end
theorem sm_us_not {t : Nat → Int32} {L e : Nat} (he : e < L) (hA : sm_rl t e ≠ 2) (hB : sm_rl t e ≠ 5) (hC : ∀ i, ¬ sm_UC t L i e) : sm_us t L e = none := by
  refine sm_us_none (fun i hi h => ?_)
  rcases sm_ue_s (by omega) h with g | g | g
  · exact hA g.2.1
  · exact hB g.2.1
  · exact hC i g
theorem sm_xunitStart {post : Int32 → SX → Prop} {t : Nat → Int32} {L e : Nat} {u : SX} (he : e < L) (I : sm_X L L t u) (H : ∀ u', sm_X L L t u' → post (sm_ey (sm_us t L e)) u') : wpX_unitStart post u (nI e) := by
  have H0 := H u I
  obtain ⟨fl, fk, fm, fe, fi, ak, ar, ap, aa, km, ke, ki⟩ := u
  obtain ⟨rfl, rfl, rfl, hI⟩ := I
  obtain ⟨hK, hL, rr, rp, ra, rk⟩ := id hI
  have hc : (nI e).toNatClampNeg = e := nI_clamp (by omega)
  have hin : vp_in (nI e) 64 := vp_in_nI (by omega) (by omega)
  unfold wpX_unitStart
  dsimp only
  rw [hc, rr e he, rp e he]
  refine ⟨hin, br_c (fun r2 => ⟨hin, ?_⟩) (fun r2 => ⟨hin, br_c (fun r5 => ⟨L + 1, ?_⟩) (fun r5 => ⟨hin, br_c (fun r6 => ?_) (fun r6 => ?_)⟩)⟩)⟩
  · obtain ⟨q, hq⟩ := sm_pt_leaves he r2
    have hk : sm_rl t q = 1 ∧ q < e := by
      rcases sm_pt_kind hq with g | g
      · rw [r2] at g; exact absurd g.1 (by decide)
      · exact g.2
    have E : sm_us t L e = some q := sm_us_some he (by omega) (sm_ue_A ⟨hk.1, r2, hk.2, he, sm_pt_sym hq, hq⟩)
    rw [E] at H0
    rw [hq]
    exact H0
  · obtain ⟨b, hb, h4, f⟩ := sm_str_beg (sm_rl5.mp r5).1
    have E : sm_us t L e = some b := sm_us_some he (by omega) (sm_ue_B ⟨h4, r5, hb, he, fun j x y => (f j x y).1⟩)
    rw [E] at H0
    refine sm_xus29 hI he h4 (fun j x y => ?_) H0 _ _ (by omega) (by omega) (Nat.le_refl _)
    by_cases w : j = e
    · rw [w, r5]; decide
    · exact (f j x (by omega)).2
  · have G : (e + 1 = L ∨ sm_rl t (e + 1) ≠ 6) → wX_unitStart_87 post (nI e) (nI L) (nI L) fm fe fi t ar ap aa km ke ki := by
      intro hmax
      unfold wX_unitStart_87
      refine sm_stateAt (g := e + 1) (nI_1 e) (by omega) (L := L) (K := L) (t := t) ⟨rfl, rfl, rfl, hI⟩ ?_
      intro u' I'
      rw [show max L (e + 1) = L from by omega] at I'
      have I2 := H u' (sm_XS_X I')
      obtain ⟨fl, fk, fm, fe, fi, ak, ar, ap, aa, km, ke, ki⟩ := u'
      obtain ⟨rfl, rfl, rfl, rfl, rfl, rfl, hI'⟩ := I'
      refine br_c (fun z => ⟨L + 1, ?_⟩) (fun z => ?_)
      · refine sm_xus105 hI' he (fun b hb f hp => ?_) _ _ (by omega) (Nat.le_refl _) (fun j x y => ?_)
        · have E : sm_us t L e = some b := sm_us_some he hb (sm_ue_C ⟨f b (Nat.le_refl _) hb, r6, hb, he, hp, fun j x y => f j (by omega) y, hmax, z⟩)
          rw [E] at I2
          exact I2
        · have : j = e := by omega
          rw [this]; exact r6
      · have E : sm_us t L e = none := sm_us_not he r2 r5 (fun i g => z g.2.2.2.2.2.2.2)
        rw [E] at I2
        exact I2
    refine pk_le L (e + 1) (fun z => ?_) (fun z => ⟨?_, ?_⟩) rfl (nI_1 e)
    · exact G (Or.inl (by omega))
    · rw [nI_1]; exact vp_in_nI (by omega) (by omega)
    · rw [nI_1, nI_clamp (by omega), rr (e + 1) z]
      refine br_c (fun q => ?_) (fun q => G (Or.inr q))
      have E : sm_us t L e = none := sm_us_not he r2 r5 (fun i g => by
        rcases g.2.2.2.2.2.2.1 with w | w
        · omega
        · exact w q)
      rw [E] at H0
      exact H0
  · have E : sm_us t L e = none := sm_us_not he r2 r5 (fun i g => r6 g.2.1)
    rw [E] at H0
    exact H0
end
section
theorem sm_uf_s {t : Nat → Int32} {L e k : Nat} : ∀ {d i : Nat}, sm_uf t L e d i = some k → i ≤ k ∧ k < i + d ∧ sm_ue t L k = some e := by
  intro d
  induction d with
  | zero => intro i h; exact absurd h (by simp [sm_uf])
  | succ d ih =>
    intro i h
    have h' : (if sm_ue t L i = some e then some i else sm_uf t L e d (i + 1)) = some k := h
    by_cases z : sm_ue t L i = some e
    · rw [if_pos z] at h'
      cases h'
      exact ⟨Nat.le_refl _, by omega, z⟩
    · rw [if_neg z] at h'
      obtain ⟨a, b, c⟩ := ih h'
      exact ⟨by omega, by omega, c⟩
theorem sm_us_s {t : Nat → Int32} {L e k : Nat} (h : sm_us t L e = some k) : k ≤ e ∧ sm_ue t L k = some e := by
  obtain ⟨_, b, c⟩ := sm_uf_s h
  exact ⟨by omega, c⟩
/-! pure answers -/
def sm_at : List Nat → Nat → Nat
  | [], _ => 0
  | q :: r, lv => if r.length ≤ lv then q else sm_at r lv
def sm_cs (t : Nat → Int32) : Nat → Nat
  | 0 => 0
  | n + 1 => sm_cs t n + (if sm_rl t n = 3 then 1 else 0)
def sm_cu (t : Nat → Int32) (L : Nat) : Nat → Nat
  | 0 => 0
  | n + 1 => sm_cu t L n + (if sm_ue t L n = none then 0 else 1)
def sm_fv (o : Option Nat) (x : Int32) : Int32 := match o with
  | none => x
  | some e => nI (e + 1)
def sm_fw (t : Nat → Int32) (L : Nat) : Nat → Nat → Int32
  | 0, _ => -2
  | d + 1, i => if sm_rl t i = 2 ∨ sm_rl t i = 3 then -3 else sm_fv (sm_ue t L i) (sm_fw t L d (i + 1))
def sm_bv (o : Option Nat) (x : Int32) : Int32 := match o with
  | none => x
  | some e => nI e
def sm_ob (g : Nat) (o : Option Nat) : Bool := match o with
  | none => true
  | some k => decide (g ≤ k)
def sm_bw (t : Nat → Int32) (L g : Nat) : Nat → Int32
  | 0 => -2
  | e + 1 => if sm_rl t e = 1 ∧ sm_ob g (sm_pt t L e) = true then -3 else sm_bv (sm_us t L e) (sm_bw t L g e)
def sm_dn (t : Nat → Int32) : Nat → Nat → Int32 → Int32
  | 0, _, _ => -2
  | d + 1, i, c => if sm_rl t i = 1 then (if c = 0 then nI (i + 1) else -3) else sm_dn t d (i + 1) (if sm_rl t i = 2 ∨ sm_rl t i = 3 then 1 else c)
theorem sm_cs_le (t : Nat → Int32) : ∀ n, sm_cs t n ≤ n := by
  intro n
  induction n with
  | zero => exact Nat.le_refl _
  | succ n ih =>
    show sm_cs t n + (if sm_rl t n = 3 then 1 else 0) ≤ n + 1
    split <;> omega
theorem sm_cu_le (t : Nat → Int32) (L : Nat) : ∀ n, sm_cu t L n ≤ n := by
  intro n
  induction n with
  | zero => exact Nat.le_refl _
  | succ n ih =>
    show sm_cu t L n + (if sm_ue t L n = none then 0 else 1) ≤ n + 1
    split <;> omega
/-! the class: loops of the methods -/
section
variable {fm fe fi : Int32} {t ar ap aa km ke ki : Nat → Int32} {L K : Nat}
theorem sm_xdepthL {post : Int32 → Prop} {g : Nat} (hg : g ≤ K) (hI : sm_XI L K t ar ap aa km ke ki) : ∀ (l : List Nat) (n d : Nat), l <:+ sm_sk t g → l.length < n → d + l.length ≤ 64 → post (nI (d + l.length)) → wX_depthOf_7 post (nI L) (nI K) fm fe fi t ar ap aa km ke ki n (nI d) (sm_ex l.head?) (nI d) := by
  obtain ⟨hK, hL, rr, rp, ra, rk⟩ := hI
  intro l
  induction l with
  | nil =>
    intro n d _ hn hd h
    obtain ⟨m, rfl⟩ : ∃ m, n = m + 1 := ⟨n - 1, by have : 0 < n := hn; omega⟩
    exact br_c (fun _ => h) (fun _ => br_t rfl h)
  | cons q r ih =>
    intro n d hs hn hd h
    rw [List.length_cons] at hn hd h
    obtain ⟨m, rfl⟩ : ∃ m, n = m + 1 := ⟨n - 1, by omega⟩
    obtain ⟨a, b, c⟩ := sm_sk_suf t g q r hs
    have a1 : aa (nI q).toNatClampNeg = sm_ex r.head? := by
      rw [nI_clamp (by omega), ra q (by omega) b, c]
    refine pk_le 64 d (fun z => absurd z (by omega)) (fun z => br_f (sm_nIm2 (j := q) (by omega)) (nm_r (nI_1 d) ⟨vp_in_nI (n := q) (by omega) (by omega), nm_r a1 (nm_r (nI_1 d) ?_)⟩))
    refine ih m (d + 1) ((List.suffix_cons q r).trans hs) (by omega) (by omega) ?_
    rw [show d + 1 + r.length = d + (r.length + 1) from by omega]
    exact h
theorem sm_xdepth {post : Int32 → Prop} {g : Nat} (hg : g ≤ K) (hI : sm_XI L K t ar ap aa km ke ki) (h : post (nI (sm_sk t g).length)) : wpX_depthOf post (nI L, nI K, fm, fe, fi, t, ar, ap, aa, km, ke, ki) (sm_ex (sm_sk t g).head?) := by
  have := sm_sk_len t g
  have hL := hI.2.1
  have hK := hI.1
  refine ⟨(sm_sk t g).length + 1, sm_xdepthL hg hI (sm_sk t g) _ 0 (List.suffix_refl _) (by omega) (by omega) ?_⟩
  rw [Nat.zero_add]
  exact h
theorem sm_xbrL {post : Int32 → SX → Prop} {g lv : Nat} (hg : g ≤ K) (hI : sm_XI L K t ar ap aa km ke ki) : ∀ (r : List Nat) (q n : Nat), (q :: r) <:+ sm_sk t g → r.length < n → lv ≤ r.length → post (nI (sm_at (q :: r) lv)) (nI L, nI K, fm, fe, fi, t, ar, ap, aa, km, ke, ki) → wX_bracketAt_47 post (nI lv) (nI L) (nI K) fm fe fi t ar ap aa km ke ki n (nI q) (nI r.length) := by
  obtain ⟨hK, hL, rr, rp, ra, rk⟩ := hI
  intro r
  induction r with
  | nil =>
    intro q n hs hn hl h
    obtain ⟨m, rfl⟩ : ∃ m, n = m + 1 := ⟨n - 1, by have : 0 < n := hn; omega⟩
    have e : lv = 0 := by have : lv ≤ 0 := hl; omega
    subst e
    exact br_t (nI_le (Nat.le_refl _) (by decide)) h
  | cons q' r ih =>
    intro q n hs hn hl h
    obtain ⟨m, rfl⟩ : ∃ m, n = m + 1 := ⟨n - 1, by have : 0 < n := Nat.lt_of_le_of_lt (Nat.zero_le _) hn; omega⟩
    obtain ⟨a, b, c⟩ := sm_sk_suf t g q (q' :: r) hs
    have hlen := sm_sk_len t q
    rw [c] at hlen
    rw [List.length_cons] at hn hl hlen
    have a1 : aa (nI q).toNatClampNeg = nI q' := by
      rw [nI_clamp (by omega), ra q (by omega) b, c]
      rfl
    refine pk_le (r.length + 1) lv (fun z => ?_) (fun z => ⟨vp_in_nI (by omega) (by omega), nm_r a1 (nm_r (pk_m1 r.length) ?_)⟩)
    · have e : sm_at (q :: q' :: r) lv = q := if_pos (by rw [List.length_cons]; exact z)
      rw [e] at h
      exact h
    · have e : sm_at (q :: q' :: r) lv = sm_at (q' :: r) lv := if_neg (by rw [List.length_cons]; omega)
      rw [e] at h
      exact ih q' m ((List.suffix_cons q _).trans hs) (by omega) (by omega) h
theorem sm_xstraysL {post : Int32 → SX → Prop} (hI : sm_XI L L t ar ap aa km ke ki) (h : post (nI (sm_cs t L)) (nI L, nI L, fm, fe, fi, t, ar, ap, aa, km, ke, ki)) : ∀ (n i : Nat), L - i < n → i ≤ L → wX_strays_12 post (nI L) (nI L) fm fe fi t ar ap aa km ke ki n (nI (sm_cs t i)) (nI i) := by
  obtain ⟨hK, hL, rr, rp, ra, rk⟩ := hI
  intro n
  induction n with
  | zero => intro i hn; exact absurd hn (Nat.not_lt_zero _)
  | succ n ih =>
    intro i hn hi
    refine pk_le L i (fun z => ?_) (fun z => ⟨vp_in_nI (by omega) (by omega), ?_⟩)
    · have : i = L := by omega
      rw [this]; exact h
    · rw [nI_clamp (by omega), rr i z]
      refine br_c (fun q => nm_r (nI_1 _) (nm_r (nI_1 i) ?_)) (fun q => nm_r (nI_1 i) ?_)
      · have e : sm_cs t (i + 1) = sm_cs t i + 1 := by show sm_cs t i + (if sm_rl t i = 3 then 1 else 0) = _; rw [if_pos q]
        rw [← e]
        exact ih (i + 1) (by omega) (by omega)
      · have e : sm_cs t (i + 1) = sm_cs t i := by show sm_cs t i + (if sm_rl t i = 3 then 1 else 0) = _; rw [if_neg q]; rfl
        rw [← e]
        exact ih (i + 1) (by omega) (by omega)
theorem sm_xdownL {post : Int32 → SX → Prop} (hI : sm_XI L L t ar ap aa km ke ki) : ∀ (n i : Nat) (c : Int32), L - i < n → i ≤ L → post (sm_dn t (L - i) i c) (nI L, nI L, fm, fe, fi, t, ar, ap, aa, km, ke, ki) → wX_down_22 post (nI L) (nI L) fm fe fi t ar ap aa km ke ki n c (nI i) := by
  obtain ⟨hK, hL, rr, rp, ra, rk⟩ := hI
  intro n
  induction n with
  | zero => intro i c hn; exact absurd hn (Nat.not_lt_zero _)
  | succ n ih =>
    intro i c hn hi h
    have hin : i < 64 → vp_in (nI i) 64 := fun z => vp_in_nI z (by omega)
    refine pk_le L i (fun z => ?_) (fun z => ⟨hin (by omega), ?_⟩)
    · have : L - i = 0 := by omega
      rw [this] at h
      exact h
    · have hc : (nI i).toNatClampNeg = i := nI_clamp (by omega)
      have hd : L - i = (L - (i + 1)) + 1 := by omega
      rw [hd] at h
      have M : ∀ c' : Int32, (sm_rl t i = 1 → post (if c' = 0 then nI (i + 1) else -3) (nI L, nI L, fm, fe, fi, t, ar, ap, aa, km, ke, ki)) → (¬ sm_rl t i = 1 → post (sm_dn t (L - (i + 1)) (i + 1) c') (nI L, nI L, fm, fe, fi, t, ar, ap, aa, km, ke, ki)) → wX_down_52 post (wX_down_22 post (nI L) (nI L) fm fe fi t ar ap aa km ke ki n) c' (nI i) (nI L) (nI L) fm fe fi t ar ap aa km ke ki := by
        intro c' f1 f2
        unfold wX_down_52
        rw [hc, rr i z]
        refine ⟨hin (by omega), br_c (fun r1 => br_c (fun c0 => ?_) (fun c0 => ?_)) (fun r1 => nm_r (nI_1 i) ?_)⟩
        · have g := f1 r1
          rw [if_pos c0] at g
          rw [nI_1]
          exact g
        · have g := f1 r1
          rw [if_neg c0] at g
          exact g
        · exact ih (i + 1) c' (by omega) (by omega) (f2 r1)
      have hdn : sm_dn t (L - (i + 1) + 1) i c = if sm_rl t i = 1 then (if c = 0 then nI (i + 1) else -3) else sm_dn t (L - (i + 1)) (i + 1) (if sm_rl t i = 2 ∨ sm_rl t i = 3 then 1 else c) := rfl
      rw [hdn] at h
      rw [hc, rr i z]
      refine br_c (fun r2 => ?_) (fun r2 => ⟨hin (by omega), br_c (fun r3 => ?_) (fun r3 => ?_)⟩)
      · rw [if_neg (by rw [r2]; decide), if_pos (Or.inl r2)] at h
        exact M 1 (fun r1 => absurd (r1.symm.trans r2) (by decide)) (fun _ => h)
      · rw [if_neg (by rw [r3]; decide), if_pos (Or.inr r3)] at h
        exact M 1 (fun r1 => absurd (r1.symm.trans r3) (by decide)) (fun _ => h)
      · refine M c (fun r1 => ?_) (fun r1 => ?_)
        · rw [if_pos r1] at h
          exact h
        · rw [if_neg r1, if_neg (fun w => w.elim r2 r3)] at h
          exact h
end
theorem sm_xforwardL {post : Int32 → SX → Prop} {t : Nat → Int32} {L : Nat} : ∀ (n i : Nat) (fm fe fi : Int32) (ar ap aa km ke ki : Nat → Int32), L - i < n → i ≤ L → sm_XI L L t ar ap aa km ke ki → (∀ u, sm_X L L t u → post (sm_fw t L (L - i) i) u) → wX_forward_20 post n (nI i) (nI L) (nI L) fm fe fi t ar ap aa km ke ki := by
  intro n
  induction n with
  | zero => intro i fm fe fi ar ap aa km ke ki hn; exact absurd hn (Nat.not_lt_zero _)
  | succ n ih =>
    intro i fm fe fi ar ap aa km ke ki hn hi hI H
    obtain ⟨hK, hL, rr, rp, ra, rk⟩ := id hI
    have hin : i < 64 → vp_in (nI i) 64 := fun z => vp_in_nI z (by omega)
    have H0 := H (nI L, nI L, fm, fe, fi, t, ar, ap, aa, km, ke, ki) ⟨rfl, rfl, rfl, hI⟩
    refine pk_le L i (fun z => ?_) (fun z => ⟨hin (by omega), ?_⟩)
    · have : L - i = 0 := by omega
      rw [this] at H0
      exact H0
    · have hd : L - i = (L - (i + 1)) + 1 := by omega
      have hf : sm_fw t L (L - (i + 1) + 1) i = if sm_rl t i = 2 ∨ sm_rl t i = 3 then -3 else sm_fv (sm_ue t L i) (sm_fw t L (L - (i + 1)) (i + 1)) := rfl
      rw [hd, hf] at H0 H
      rw [nI_clamp (by omega), rr i z]
      refine br_c (fun r2 => ?_) (fun r2 => ⟨hin (by omega), br_c (fun r3 => ?_) (fun r3 => ?_)⟩)
      · rw [if_pos (Or.inl r2)] at H0; exact H0
      · rw [if_pos (Or.inr r3)] at H0; exact H0
      · rw [if_neg (fun w => w.elim r2 r3)] at H
        refine sm_xunitEnd z ⟨rfl, rfl, rfl, hI⟩ ?_
        intro u' I'
        have H1 := H u' I'
        obtain ⟨fl, fk, fm, fe, fi, ak, ar, ap, aa, km, ke, ki⟩ := u'
        obtain ⟨rfl, rfl, rfl, hI'⟩ := I'
        cases e : sm_ue t L i with
        | none =>
          rw [e] at H
          exact br_t (by decide) (nm_r (nI_1 i) (ih (i + 1) _ _ _ _ _ _ _ _ _ (by omega) (by omega) hI' H))
        | some k =>
          have := sm_ue_lt z e
          rw [e] at H1
          refine br_f (nI_pos (n := k) (by omega)) ?_
          have e1 : nI k + 1 = nI (k + 1) := nI_1 k
          rw [show sm_ey (some k) + 1 = nI (k + 1) from e1]
          exact H1
theorem sm_xunitsL {post : Int32 → SX → Prop} {t : Nat → Int32} {L : Nat} (H : ∀ u, sm_X L L t u → post (nI (sm_cu t L L)) u) : ∀ (n i : Nat) (fm fe fi : Int32) (ar ap aa km ke ki : Nat → Int32), L - i < n → i ≤ L → sm_XI L L t ar ap aa km ke ki → wX_units_12 post n (nI (sm_cu t L i)) (nI i) (nI L) (nI L) fm fe fi t ar ap aa km ke ki := by
  intro n
  induction n with
  | zero => intro i fm fe fi ar ap aa km ke ki hn; exact absurd hn (Nat.not_lt_zero _)
  | succ n ih =>
    intro i fm fe fi ar ap aa km ke ki hn hi hI
    have hL := hI.2.1
    refine pk_le L i (fun z => ?_) (fun z => ?_)
    · have : i = L := by omega
      rw [this]
      exact H _ ⟨rfl, rfl, rfl, hI⟩
    · refine sm_xunitEnd z ⟨rfl, rfl, rfl, hI⟩ ?_
      intro u' I'
      obtain ⟨fl, fk, fm, fe, fi, ak, ar, ap, aa, km, ke, ki⟩ := u'
      obtain ⟨rfl, rfl, rfl, hI'⟩ := I'
      have hcu : sm_cu t L (i + 1) = sm_cu t L i + (if sm_ue t L i = none then 0 else 1) := rfl
      cases e : sm_ue t L i with
      | none =>
        rw [e, if_pos rfl] at hcu
        have G := ih (i + 1) fm fe fi ar ap aa km ke ki (by omega) (by omega) hI'
        rw [hcu] at G
        exact br_t (by decide) (nm_r (nI_1 i) G)
      | some k =>
        have := sm_ue_lt z e
        rw [e, if_neg (by simp)] at hcu
        have G := ih (i + 1) fm fe fi ar ap aa km ke ki (by omega) (by omega) hI'
        rw [hcu] at G
        exact br_f (nI_pos (n := k) (by omega)) (nm_r (nI_1 _) (nm_r (nI_1 i) G))
theorem sm_xbackL {post : Int32 → SX → Prop} {t : Nat → Int32} {L g : Nat} (hg : g ≤ L) : ∀ (n e : Nat) (x : Int32) (fm fe fi : Int32) (ar ap aa km ke ki : Nat → Int32), e < n → e ≤ L → x = nI e - 1 → sm_XI L L t ar ap aa km ke ki → (∀ u, sm_X L L t u → post (sm_bw t L g e) u) → wX_backward_22 post (nI g) n x (nI L) (nI L) fm fe fi t ar ap aa km ke ki := by
  intro n
  induction n with
  | zero => intro e x fm fe fi ar ap aa km ke ki hn; exact absurd hn (Nat.not_lt_zero _)
  | succ n ih =>
    intro e x fm fe fi ar ap aa km ke ki hn he hx hI H
    obtain ⟨hK, hL, rr, rp, ra, rk⟩ := id hI
    cases e with
    | zero =>
      subst hx
      exact br_t (by decide) (H _ ⟨rfl, rfl, rfl, hI⟩)
    | succ e =>
      rw [nI_pred] at hx
      subst hx
      have hin : vp_in (nI e) 64 := vp_in_nI (by omega) (by omega)
      have hb : sm_bw t L g (e + 1) = if sm_rl t e = 1 ∧ sm_ob g (sm_pt t L e) = true then -3 else sm_bv (sm_us t L e) (sm_bw t L g e) := rfl
      rw [hb] at H
      have M : ¬ (sm_rl t e = 1 ∧ sm_ob g (sm_pt t L e) = true) → wX_backward_58 post (wX_backward_22 post (nI g) n) (nI g) (nI e) (nI L) (nI L) fm fe fi t ar ap aa km ke ki := by
        intro q
        rw [if_neg q] at H
        unfold wX_backward_58
        refine sm_xunitStart (by omega) ⟨rfl, rfl, rfl, hI⟩ ?_
        intro u' I'
        have H1 := H u' I'
        obtain ⟨fl, fk, fm, fe, fi, ak, ar, ap, aa, km, ke, ki⟩ := u'
        obtain ⟨rfl, rfl, rfl, hI'⟩ := I'
        cases c : sm_us t L e with
        | none =>
          rw [c] at H
          refine br_t (by decide) (nm_e ?_)
          refine ih e _ _ _ _ _ _ _ _ _ _ (by omega) (by omega) ?_ hI' H
          exact (Int32.sub_eq_add_neg _ _).symm
        | some k =>
          have hk : k ≤ e := (sm_us_s c).1
          rw [c] at H1
          exact br_f (nI_pos (n := k) (by omega)) H1
      refine br_f (nI_pos (by omega)) ⟨hin, ?_⟩
      rw [nI_clamp (by omega), rr e (by omega), rp e (by omega)]
      refine br_c (fun r1 => ⟨hin, ?_⟩) (fun r1 => M (fun w => r1 w.1))
      cases c : sm_pt t L e with
      | none =>
        refine br_t (by decide) ?_
        have := H (nI L, nI L, fm, fe, fi, t, ar, ap, aa, km, ke, ki) ⟨rfl, rfl, rfl, hI⟩
        rw [if_pos ⟨r1, by rw [c]; rfl⟩] at this
        exact this
      | some k =>
        have hk := (sm_pt_lt c).2
        refine br_f (nI_pos (n := k) (by omega)) ⟨hin, pk_lt k g (fun z => ?_) (fun z => ?_)⟩
        · refine M (fun w => ?_)
          have w2 := w.2
          rw [c] at w2
          have : g ≤ k := of_decide_eq_true w2
          omega
        · have := H (nI L, nI L, fm, fe, fi, t, ar, ap, aa, km, ke, ki) ⟨rfl, rfl, rfl, hI⟩
          rw [if_pos ⟨r1, by rw [c]; exact decide_eq_true z⟩] at this
          exact this
end
section
/-! the reference: reading -/
def sm_F (i : Nat) (Q : Nat → Bool) (f : Nat → Int32) : Prop := ∀ p, p < 64 → f p = if p < i ∧ Q p = true then 1 else 0
def sm_q1 (t : Nat → Int32) (p : Nat) : Bool := decide (sm_rl t p = 1)
def sm_q2 (t : Nat → Int32) (p : Nat) : Bool := decide (sm_rl t p = 2 ∨ sm_rl t p = 3)
def sm_q3 (t : Nat → Int32) (p : Nat) : Bool := decide (sm_rl t p = 3)
theorem sm_F_t {i : Nat} {Q : Nat → Bool} {f : Nat → Int32} (h : sm_F i Q f) (q : Q i = true) : sm_F (i + 1) Q (upd f i 1) := by
  intro p hp
  by_cases z : p = i
  · subst z
    rw [pk_us, if_pos ⟨by omega, q⟩]
  · rw [pk_un z, h p hp]
    by_cases w : p < i ∧ Q p = true
    · rw [if_pos w, if_pos ⟨by omega, w.2⟩]
    · rw [if_neg w, if_neg (fun y => w ⟨by omega, y.2⟩)]
theorem sm_F_f {i : Nat} {Q : Nat → Bool} {f : Nat → Int32} (h : sm_F i Q f) (q : ¬ Q i = true) : sm_F (i + 1) Q f := by
  intro p hp
  rw [h p hp]
  by_cases w : p < i ∧ Q p = true
  · rw [if_pos w, if_pos ⟨by omega, w.2⟩]
  · rw [if_neg w, if_neg]
    intro y
    by_cases z : p = i
    · rw [z] at y; exact q y.2
    · exact w ⟨by omega, y.2⟩
/-- what the reference has noted when i characters are read -/
def sm_YP (i : Nat) (t : Nat → Int32) (yt : Int32) (pa jo cl sy sk : Nat → Int32) : Prop :=
  yt = nI (sm_sk t i).length ∧ (∀ p, p < 64 → pa p = sm_ey (sm_pt t i p)) ∧ sm_F i (sm_q1 t) jo ∧ sm_F i (sm_q2 t) cl ∧ sm_F i (sm_q3 t) sy ∧ (∀ j, j < (sm_sk t i).length → sk j = nI (sm_at (sm_sk t i) j))
def sm_YM (i : Nat) (t mo ec de : Nat → Int32) : Prop := ∀ j, j < i → mo j = sm_md t j ∧ ec j = sm_es t j ∧ de j = nI (sm_sk t j).length
def sm_Y (L : Nat) (t : Nat → Int32) (v : SY) : Prop := match v with
  | (fl, _, tx, _, _, _, _, _, _, _, _) => fl = nI L ∧ t = tx
/-- the reference when it has read g characters -/
def sm_Y1 (L g : Nat) (t : Nat → Int32) (v : SY) : Prop := match v with
  | (fl, yt, tx, mo, ec, de, pa, jo, cl, sy, sk) => fl = nI L ∧ t = tx ∧ sm_YM (g + 1) t mo ec de ∧ sm_YP g t yt pa jo cl sy sk
theorem sm_Y1_Y {L g : Nat} {t : Nat → Int32} {v : SY} (h : sm_Y1 L g t v) : sm_Y L t v := by
  obtain ⟨fl, yt, tx, mo, ec, de, pa, jo, cl, sy, sk⟩ := v
  exact ⟨h.1, h.2.1⟩
section
variable {i : Nat} {t pa jo cl sy sk : Nat → Int32} {yt : Int32}
theorem sm_YP_1 (h : sm_YP i t yt pa jo cl sy sk) (r : sm_rl t i = 1) : sm_YP (i + 1) t (nI ((sm_sk t i).length + 1)) pa (upd jo i 1) cl sy (upd sk (sm_sk t i).length (nI i)) := by
  obtain ⟨a, b, c, d, e, f⟩ := h
  have E := sm_sk_1 r
  refine ⟨by rw [E, List.length_cons], fun p hp => ?_, sm_F_t c (decide_eq_true r), sm_F_f d (fun z => ?_), sm_F_f e (fun z => ?_), fun j hj => ?_⟩
  · rw [sm_pt_k (by rw [r]; decide)]; exact b p hp
  · rcases of_decide_eq_true z with w | w
    · exact absurd (r.symm.trans w) (by decide)
    · exact absurd (r.symm.trans w) (by decide)
  · exact absurd (r.symm.trans (of_decide_eq_true z)) (by decide)
  · rw [E, List.length_cons] at hj
    rw [E]
    show _ = nI (if (sm_sk t i).length ≤ j then i else sm_at (sm_sk t i) j)
    by_cases z : j = (sm_sk t i).length
    · subst z
      rw [pk_us, if_pos (Nat.le_refl _)]
    · rw [pk_un z, if_neg (by omega)]
      exact f j (by omega)
theorem sm_YP_2 {q : Nat} {l : List Nat} (h : sm_YP i t yt pa jo cl sy sk) (r : sm_rl t i = 2) (E : sm_sk t i = q :: l) : sm_YP (i + 1) t (nI l.length) (upd (upd pa i (nI q)) q (nI i)) jo (upd cl i 1) sy sk := by
  obtain ⟨a, b, c, d, e, f⟩ := h
  have E2 := sm_sk_2 r E
  refine ⟨by rw [E2], fun p hp => ?_, sm_F_f c (fun z => ?_), sm_F_t d (decide_eq_true (Or.inl r)), sm_F_f e (fun z => ?_), fun j hj => ?_⟩
  · rw [sm_pt_2 r E]
    by_cases pq : p = q
    · subst pq; rw [pk_us, if_pos rfl]; rfl
    · rw [pk_un pq, if_neg pq]
      by_cases pi : p = i
      · subst pi; rw [pk_us, if_pos rfl]; rfl
      · rw [pk_un pi, if_neg pi]; exact b p hp
  · exact absurd (r.symm.trans (of_decide_eq_true z)) (by decide)
  · exact absurd (r.symm.trans (of_decide_eq_true z)) (by decide)
  · rw [E2] at hj
    rw [E2, f j (by rw [E, List.length_cons]; omega), E]
    show nI (if l.length ≤ j then q else sm_at l j) = _
    rw [if_neg (by omega)]
theorem sm_YP_3 (h : sm_YP i t yt pa jo cl sy sk) (r : sm_rl t i = 3) : sm_YP (i + 1) t yt pa jo (upd cl i 1) (upd sy i 1) sk := by
  obtain ⟨a, b, c, d, e, f⟩ := h
  have E := sm_sk_k (t := t) (n := i) (by rw [r]; decide) (by rw [r]; decide)
  refine ⟨by rw [E]; exact a, fun p hp => ?_, sm_F_f c (fun z => ?_), sm_F_t d (decide_eq_true (Or.inr r)), sm_F_t e (decide_eq_true r), by rw [E]; exact f⟩
  · rw [sm_pt_k (by rw [r]; decide)]; exact b p hp
  · exact absurd (r.symm.trans (of_decide_eq_true z)) (by decide)
theorem sm_YP_k (h : sm_YP i t yt pa jo cl sy sk) (r1 : sm_rl t i ≠ 1) (r2 : sm_rl t i ≠ 2) (r3 : sm_rl t i ≠ 3) : sm_YP (i + 1) t yt pa jo cl sy sk := by
  obtain ⟨a, b, c, d, e, f⟩ := h
  have E := sm_sk_k r1 r2
  refine ⟨by rw [E]; exact a, fun p hp => ?_, sm_F_f c (fun z => r1 (of_decide_eq_true z)), sm_F_f d (fun z => ?_), sm_F_f e (fun z => r3 (of_decide_eq_true z)), by rw [E]; exact f⟩
  · rw [sm_pt_k r2]; exact b p hp
  · rcases of_decide_eq_true z with w | w
    · exact r2 w
    · exact r3 w
end
theorem sm_YM_s {i : Nat} {t mo ec de : Nat → Int32} (h : sm_YM i t mo ec de) : sm_YM (i + 1) t (upd mo i (sm_md t i)) (upd ec i (sm_es t i)) (upd de i (nI (sm_sk t i).length)) := by
  intro j hj
  by_cases z : j = i
  · subst z; rw [pk_us, pk_us, pk_us]; exact ⟨rfl, rfl, rfl⟩
  · rw [pk_un z, pk_un z, pk_un z]; exact h j (by omega)
def sm_yr (c : Int32) : Int32 := if c = 4 then 2 else if c = 5 then 1 else if c = 6 then 3 else 0
section
variable {post : Int32 → SY → Prop} {fl yt : Int32} {t mo ec de pa jo cl sy sk : Nat → Int32}
theorem sm_y108 {c : Int32} (h : post (sm_yr c) (fl, yt, t, mo, ec, de, pa, jo, cl, sy, sk)) : wY_plain_108 post c fl yt t mo ec de pa jo cl sy sk := by
  unfold sm_yr at h
  refine br_c (fun c4 => ?_) (fun c4 => br_c (fun c5 => ?_) (fun c5 => br_c (fun c6 => ?_) (fun c6 => ?_)))
  · rw [if_pos c4] at h; exact h
  · rw [if_neg c4, if_pos c5] at h; exact h
  · rw [if_neg c4, if_neg c5, if_pos c6] at h; exact h
  · rw [if_neg c4, if_neg c5, if_neg c6] at h; exact h
theorem sm_yplain {i : Nat} (hi : i < 64) (m0 : sm_md t i = 0) (e0 : sm_es t i = 0) (P : sm_YP i t yt pa jo cl sy sk) (H : ∀ (yt : Int32) (pa jo cl sy sk : Nat → Int32), sm_YP (i + 1) t yt pa jo cl sy sk → post (sm_yr (t i)) (fl, yt, t, mo, ec, de, pa, jo, cl, sy, sk)) : wpY_plain post (fl, yt, t, mo, ec, de, pa, jo, cl, sy, sk) (nI i) := by
  have hc : (nI i).toNatClampNeg = i := nI_clamp (by omega)
  have hin : vp_in (nI i) 64 := vp_in_nI hi (by omega)
  have n1 : vp_nar .boolean 1 = 1 := rfl
  have hlen := sm_sk_len t i
  have hyt : yt = nI (sm_sk t i).length := P.1
  unfold wpY_plain
  dsimp only
  rw [hc, n1]
  refine ⟨hin, nm_e (br_c (fun c2 => ⟨hin, nm_e ⟨?_, nm_e (nm_e ?_)⟩⟩) (fun c2 => ?_))⟩
  · rw [hyt]; exact vp_in_nI (by omega) (by omega)
  · refine br_f (by rw [c2]; decide) (sm_y108 ?_)
    have G := H _ _ _ _ _ _ (sm_YP_1 P (sm_rl1.mpr ⟨m0, e0, c2⟩))
    rw [hyt, nI_1, nI_clamp (by omega)]
    exact G
  · unfold wY_plain_39
    rw [hc, n1]
    refine br_c (fun c3 => ⟨hin, nm_e ?_⟩) (fun c3 => sm_y108 (H _ _ _ _ _ _ (sm_YP_k P (fun r => c2 (sm_rl1.mp r).2.2) (fun r => c3 (sm_rl2.mp r).2.2.1) (fun r => c3 (sm_rl3.mp r).2.2.1))))
    cases E : sm_sk t i with
    | nil =>
      have y0 : yt = 0 := by rw [hyt, E]; rfl
      exact br_t y0 ⟨hin, nm_e (sm_y108 (H _ _ _ _ _ _ (sm_YP_3 P (sm_rl3.mpr ⟨m0, e0, c3, E⟩))))⟩
    | cons q l =>
      rw [E, List.length_cons] at hlen hyt
      have hq := (sm_sk_hd E).1
      have y1 : yt - 1 = nI l.length := by rw [hyt, nI_pred]
      have yin : vp_in (nI l.length) 64 := vp_in_nI (by omega) (by omega)
      have s1 : sk (nI l.length).toNatClampNeg = nI q := by
        rw [nI_clamp (by omega), P.2.2.2.2.2 l.length (by rw [E, List.length_cons]; omega), E]
        show nI (if l.length ≤ l.length then q else sm_at l l.length) = _
        rw [if_pos (Nat.le_refl _)]
      refine br_f (by rw [hyt]; exact nI_ne0 (by omega) (by omega)) (nm_r y1 ⟨yin, hin, nm_e ⟨yin, ?_, nm_e (sm_y108 ?_)⟩⟩)
      · rw [s1]; exact vp_in_nI (by omega) (by omega)
      · rw [s1, nI_clamp (by omega)]
        exact H _ _ _ _ _ _ (sm_YP_2 P (sm_rl2.mpr ⟨m0, e0, c3, by rw [E]; simp⟩) E)
end
theorem sm_yreadL {post : SY → Prop} {t : Nat → Int32} {L g : Nat} (hg : g ≤ 64) (H : ∀ v, sm_Y1 L g t v → post v) : ∀ (n i : Nat) (x2 x3 yt : Int32) (mo ec de pa jo cl sy sk : Nat → Int32), g + 1 - i < n → i ≤ g → sm_md t i = x2 → sm_es t i = x3 → sm_YM i t mo ec de → sm_YP i t yt pa jo cl sy sk → wY_read_60 post (nI g) n x2 x3 (nI i) (nI L) yt t mo ec de pa jo cl sy sk := by
  intro n
  induction n with
  | zero => intro i x2 x3 yt mo ec de pa jo cl sy sk hn; exact absurd hn (Nat.not_lt_zero _)
  | succ n ih =>
    intro i x2 x3 yt mo ec de pa jo cl sy sk hn hi h2 h3 M P
    have hc : (nI i).toNatClampNeg = i := nI_clamp (by omega)
    have hin : vp_in (nI i) 65 := vp_in_nI (by omega) (by omega)
    have e01 : x3 = 0 ∨ x3 = 1 := by rw [← h3]; exact sm_es01 t i
    have M1 : sm_YM (i + 1) t (upd mo i x2) (upd ec i x3) (upd de i yt) := by
      rw [← h2, ← h3, P.1]; exact sm_YM_s M
    have next : ∀ (x2 x3 yt : Int32) (pa jo cl sy sk : Nat → Int32), i < g → sm_md t (i + 1) = x2 → sm_es t (i + 1) = x3 → sm_YP (i + 1) t yt pa jo cl sy sk → wY_read_60 post (nI g) n x2 x3 (nI (i + 1)) (nI L) yt t (upd mo i (sm_md t i)) (upd ec i (sm_es t i)) (upd de i (nI (sm_sk t i).length)) pa jo cl sy sk := by
      intro x2 x3 yt pa jo cl sy sk hig a b P'
      exact ih (i + 1) _ _ _ _ _ _ _ _ _ _ _ (by omega) (by omega) a b (sm_YM_s M) P'
    rw [wY_read_60]
    dsimp only
    rw [hc, sm_nar e01]
    refine pk_lt g i (fun z => absurd z (by omega)) (fun z => pk_lt 64 i (fun z => absurd z (by omega)) (fun z => ⟨hin, nm_e ⟨hin, nm_e ⟨hin, nm_e (pk_le g i (fun w => nm_r (nI_1 i) ?_) (fun w => pk_le 64 i (fun z => absurd z (by omega)) (fun z => ⟨vp_in_nI (by omega) (by omega), nm_e ?_⟩)))⟩⟩⟩))
    · have ig : g = i := by omega
      obtain ⟨m, rfl⟩ : ∃ m, n = m + 1 := ⟨n - 1, by omega⟩
      refine br_t (nI_lt (by omega) (by omega)) (H _ ⟨rfl, rfl, ?_, ?_⟩)
      · rw [ig]; exact M1
      · rw [ig]; exact P
    · rw [P.1, ← h2, ← h3]
      refine br_c (fun e0 => br_c (fun m0 => ?_) (fun m0 => ?_)) (fun e0 => ?_)
      · refine sm_yplain z m0 e0 (by rw [← P.1]; exact P) ?_
        intro yt' pa' jo' cl' sy' sk' P'
        have N := fun x2 x3 a b => next x2 x3 yt' pa' jo' cl' sy' sk' w a b P'
        have hm := sm_md_s t i
        have he := sm_es_s t i
        rw [if_pos e0, if_pos m0] at hm he
        unfold sm_yr
        dsimp only
        by_cases c4 : t i = 4
        · rw [if_pos c4] at hm
          rw [if_neg (by rw [c4]; decide)] at he
          rw [if_pos c4]
          exact br_f (by decide) (br_f (by decide) (nm_e (nm_r (nI_1 i) (N _ _ hm he))))
        · rw [if_neg c4] at hm
          rw [if_neg c4]
          by_cases c5 : t i = 5
          · rw [if_neg (by rw [c5]; decide)] at hm
            rw [if_pos c5] at he
            rw [if_pos c5]
            exact br_t rfl (br_t (by decide) (nm_r (nI_1 i) (N _ _ hm he)))
          · rw [if_neg c5] at he
            rw [if_neg c5]
            by_cases c6 : t i = 6
            · rw [if_pos c6] at hm
              rw [if_pos c6]
              exact br_f (by decide) (br_f (by decide) (nm_e (nm_r (nI_1 i) (N _ _ hm he))))
            · rw [if_neg c6] at hm
              rw [if_neg c6]
              exact br_f (by decide) (br_t (by decide) (nm_r (nI_1 i) (N _ _ hm he)))
      · have P' := sm_YP_k P (fun r => m0 (sm_rl1.mp r).1) (fun r => m0 (sm_rl2.mp r).1) (fun r => m0 (sm_rl3.mp r).1)
        rw [P.1] at P'
        have N := fun x2 x3 a b => next x2 x3 _ _ _ _ _ _ w a b P'
        have hm := sm_md_s t i
        have he := sm_es_s t i
        rw [if_pos e0, if_neg m0] at hm he
        refine br_c (fun m1 => ?_) (fun m1 => ?_)
        · rw [if_pos m1] at hm he
          refine br_c (fun c5 => ?_) (fun c5 => ?_)
          · rw [if_pos c5] at he
            rw [if_neg (by rw [c5]; decide)] at hm
            refine br_f (by rw [c5]; decide) (nm_r (nI_1 i) ?_)
            rw [m1]
            have := N _ _ hm he
            rw [m1] at this
            exact this
          · rw [if_neg c5] at he
            refine br_c (fun c4 => nm_r (nI_1 i) ?_) (fun c4 => nm_r (nI_1 i) ?_)
            · rw [if_pos c4] at hm
              exact N _ _ hm he
            · rw [if_neg c4] at hm
              rw [m1]
              have := N _ _ hm he
              rw [m1] at this
              exact this
        · rw [if_neg m1] at hm he
          refine br_c (fun c7 => nm_r (nI_1 i) ?_) (fun c7 => nm_r (nI_1 i) ?_)
          · rw [if_pos c7] at hm
            rw [e0]
            have := N _ _ hm he
            rw [e0] at this
            exact this
          · rw [if_neg c7] at hm
            rw [e0]
            have := N _ _ hm he
            rw [e0] at this
            exact this
      · have P' := sm_YP_k P (fun r => e0 (sm_rl1.mp r).2.1) (fun r => e0 (sm_rl2.mp r).2.1) (fun r => e0 (sm_rl3.mp r).2.1)
        rw [P.1] at P'
        refine nm_r (nI_1 i) (next _ _ _ _ _ _ _ _ w ?_ ?_ P')
        · rw [sm_md_s, if_neg e0]
        · rw [sm_es_s, if_neg e0]
theorem sm_yread12 {post : SY → Prop} {t : Nat → Int32} {L g : Nat} (hg : g ≤ 64) (H : ∀ v, sm_Y1 L g t v → post v) : ∀ (n i : Nat) (mo ec de pa jo cl sy sk : Nat → Int32), 64 - i < n → i ≤ 64 → (∀ p, p < i → pa p = -1 ∧ jo p = 0 ∧ cl p = 0 ∧ sy p = 0) → wY_read_12 post (nI g) 0 0 (nI L) 0 n (nI i) t mo ec de pa jo cl sy sk := by
  intro n
  induction n with
  | zero => intro i mo ec de pa jo cl sy sk hn; exact absurd hn (Nat.not_lt_zero _)
  | succ n ih =>
    intro i mo ec de pa jo cl sy sk hn hi h
    have hc : (nI i).toNatClampNeg = i := nI_clamp (by omega)
    have n0 : vp_nar .boolean 0 = 0 := rfl
    rw [wY_read_12]
    dsimp only
    rw [hc, n0]
    refine pk_le 64 i (fun z => ⟨g + 2, ?_⟩) (fun z => ?_)
    · have fz : ∀ (Q : Nat → Bool) (f : Nat → Int32), (∀ p, p < 64 → f p = 0) → sm_F 0 Q f := by
        intro Q f hf p hp
        rw [if_neg (fun w => Nat.not_lt_zero _ w.1)]
        exact hf p hp
      exact sm_yreadL hg H (g + 2) 0 0 0 0 mo ec de pa jo cl sy sk (by omega) (by omega) rfl rfl (fun j hj => absurd hj (Nat.not_lt_zero _)) ⟨rfl, fun p hp => (h p (by omega)).1, fz _ _ (fun p hp => (h p (by omega)).2.1), fz _ _ (fun p hp => (h p (by omega)).2.2.1), fz _ _ (fun p hp => (h p (by omega)).2.2.2), fun j hj => absurd hj (Nat.not_lt_zero _)⟩
    · have hin : vp_in (nI i) 64 := vp_in_nI z (by omega)
      refine ⟨hin, nm_e ⟨hin, nm_e ⟨hin, nm_e ⟨hin, nm_e (nm_r (nI_1 i) ?_)⟩⟩⟩⟩
      refine ih (i + 1) _ _ _ _ _ _ _ _ (by omega) (by omega) ?_
      intro p hp
      by_cases w : p = i
      · subst w
        exact ⟨pk_us, pk_us, pk_us, pk_us⟩
      · rw [pk_un w, pk_un w, pk_un w, pk_un w]
        exact h p (by omega)
theorem sm_yread {post : SY → Prop} {t : Nat → Int32} {L g : Nat} {v : SY} {x : Int32} (hx : x = nI g) (hg : g ≤ 64) (I : sm_Y L t v) (H : ∀ v', sm_Y1 L g t v' → post v') : wpY_read post v x := by
  subst hx
  obtain ⟨fl, yt, tx, mo, ec, de, pa, jo, cl, sy, sk⟩ := v
  obtain ⟨rfl, rfl⟩ := I
  exact ⟨65, sm_yread12 hg H 65 0 mo ec de pa jo cl sy sk (by omega) (by omega) (fun p hp => absurd hp (Nat.not_lt_zero _))⟩
end
section
/-! the reference: units -/
theorem sm_es_prev {t : Nat → Int32} {i : Nat} (h : sm_es t i ≠ 0) (m : sm_md t i = 0) : 0 < i ∧ sm_rl t (i - 1) = 6 := by
  cases i with
  | zero => exact absurd rfl h
  | succ j =>
    refine ⟨by omega, ?_⟩
    show sm_rl t j = 6
    rw [sm_es_s] at h
    rw [sm_md_s] at m
    by_cases e0 : sm_es t j = 0
    · rw [if_pos e0] at h m
      by_cases m0 : sm_md t j = 0
      · rw [if_pos m0] at h
        by_cases c5 : t j = 5
        · exact sm_rl6.mpr ⟨m0, Or.inr (Or.inl c5)⟩
        · rw [if_neg c5] at h; exact absurd rfl h
      · rw [if_neg m0] at h m
        by_cases m1 : sm_md t j = 1
        · rw [if_pos m1] at h m
          by_cases c5 : t j = 5
          · rw [if_neg (by rw [c5]; decide)] at m
            exact absurd m (by decide)
          · rw [if_neg c5] at h; exact absurd rfl h
        · rw [if_neg m1] at h; exact absurd rfl h
    · rw [if_neg e0] at h; exact absurd rfl h
section
variable {post : Int32 → Prop} {yt : Int32} {t mo ec de pa jo cl sy sk : Nat → Int32} {L : Nat}
theorem sm_ywN {x : Int32} (hx : x < 0) (h : post 0) : wpY_wordy post (nI L, yt, t, mo, ec, de, pa, jo, cl, sy, sk) x := br_t hx h
theorem sm_ywO {j : Nat} (hL : L ≤ 64) (hj : j < 2 ^ 31) (hLj : L ≤ j) (h : post 0) : wpY_wordy post (nI L, yt, t, mo, ec, de, pa, jo, cl, sy, sk) (nI j) :=
  br_f (nI_pos hj) (br_t (nI_le hLj hj) h)
theorem sm_ywI {j : Nat} (hL : L ≤ 64) (hj : j < L) (M : sm_YM (L + 1) t mo ec de) (h1 : sm_rl t j = 6 → post 1) (h0 : sm_rl t j ≠ 6 → post 0) : wpY_wordy post (nI L, yt, t, mo, ec, de, pa, jo, cl, sy, sk) (nI j) := by
  obtain ⟨a, b, _⟩ := M j (by omega)
  have hc : (nI j).toNatClampNeg = j := nI_clamp (by omega)
  have i64 : vp_in (nI j) 64 := vp_in_nI (by omega) (by omega)
  have i65 : vp_in (nI j) 65 := vp_in_nI (by omega) (by omega)
  unfold wpY_wordy
  dsimp only
  rw [hc, a, b]
  refine br_f (nI_pos (by omega)) (br_f (nI_ge hj (by omega)) (br_t (nI_lt (b := 64) (by omega) (by decide)) ⟨i65, br_c (fun m0 => ⟨i64, br_c (fun c0 => ?_) (fun c0 => ⟨i64, br_c (fun c5 => ?_) (fun c5 => ⟨i65, br_c (fun e0 => ?_) (fun e0 => ?_)⟩)⟩)⟩) (fun m0 => ?_)⟩))
  · exact h1 (sm_rl6.mpr ⟨m0, Or.inl c0⟩)
  · exact h1 (sm_rl6.mpr ⟨m0, Or.inr (Or.inl c5)⟩)
  · refine h0 (fun r => ?_)
    rcases (sm_rl6.mp r).2 with z | z | z
    · exact c0 z
    · exact c5 z
    · exact z e0
  · exact h1 (sm_rl6.mpr ⟨m0, Or.inr (Or.inr e0)⟩)
  · exact h0 (fun r => m0 (sm_rl6.mp r).1)
theorem sm_y53 {w : Nat} (hL : L ≤ 64) (hw : w < L) (M : sm_YM (L + 1) t mo ec de) (h : post (if sm_es t (w + 1) = 0 then nI w else -1)) : wY_wordEnd_53 post (nI w) (nI L) yt t mo ec de pa jo cl sy sk := by
  unfold wY_wordEnd_53
  rw [nI_1, nI_clamp (by omega), (M (w + 1) (by omega)).2.1]
  refine ⟨vp_in_nI (by omega) (by omega), br_c (fun z => ?_) (fun z => ?_)⟩
  · rw [if_pos z] at h; exact h
  · rw [if_neg z] at h; exact h
theorem sm_y31 (hL : L ≤ 64) (M : sm_YM (L + 1) t mo ec de) : ∀ (n e : Nat), 63 - e < n → e < L → post (if sm_es t (sm_we t (L - 1 - e) e + 1) = 0 then nI (sm_we t (L - 1 - e) e) else -1) → wY_wordEnd_31 post (nI L) yt t mo ec de pa jo cl sy sk n (nI e) := by
  intro n
  induction n with
  | zero => intro e hn; exact absurd hn (Nat.not_lt_zero _)
  | succ n ih =>
    intro e hn he h
    have last : L - 1 - e = 0 → wY_wordEnd_53 post (nI e) (nI L) yt t mo ec de pa jo cl sy sk := by
      intro z
      rw [z] at h
      exact sm_y53 hL he M h
    refine pk_le 63 e (fun z => last (by omega)) (fun z => ?_)
    rw [nI_1]
    by_cases eL : e + 1 < L
    · have hd : L - 1 - e = (L - 1 - (e + 1)) + 1 := by omega
      rw [hd] at h
      refine sm_ywI hL eL M (fun r6 => br_f (by decide) (nm_e ?_)) (fun r6 => br_t rfl ?_)
      · have E : sm_we t (L - 1 - (e + 1) + 1) e = sm_we t (L - 1 - (e + 1)) (e + 1) := if_pos r6
        rw [E] at h
        exact ih (e + 1) (by omega) (by omega) h
      · have E : sm_we t (L - 1 - (e + 1) + 1) e = e := if_neg r6
        rw [E] at h
        exact sm_y53 hL he M h
    · exact sm_ywO hL (by omega) (by omega) (br_t rfl (last (by omega)))
theorem sm_ywordEnd {i : Nat} (hL : L ≤ 64) (hi : i < L) (M : sm_YM (L + 1) t mo ec de) (h1 : sm_rl t i = 6 → ¬ (0 < i ∧ sm_rl t (i - 1) = 6) → post (if sm_es t (sm_we t (L - 1 - i) i + 1) = 0 then nI (sm_we t (L - 1 - i) i) else -1)) (h0 : ¬ (sm_rl t i = 6 ∧ ¬ (0 < i ∧ sm_rl t (i - 1) = 6)) → post (-1)) : wpY_wordEnd post (nI L, yt, t, mo, ec, de, pa, jo, cl, sy, sk) (nI i) := by
  have hc : (nI i).toNatClampNeg = i := nI_clamp (by omega)
  have i65 : vp_in (nI i) 65 := vp_in_nI (by omega) (by omega)
  unfold wpY_wordEnd
  dsimp only
  rw [hc, (M i (by omega)).2.1]
  refine sm_ywI hL hi M (fun r6 => br_f (by decide) ?_) (fun r6 => br_t rfl (h0 (fun z => r6 z.1)))
  have G : ¬ (0 < i ∧ sm_rl t (i - 1) = 6) → vp_in (nI i) 65 ∧ ((sm_es t i = 0 → ∃ n : Nat, wY_wordEnd_31 post (nI L) yt t mo ec de pa jo cl sy sk n (nI i)) ∧ (¬ sm_es t i = 0 → post (-1))) := by
    intro hp
    refine ⟨i65, br_c (fun e0 => ⟨64, sm_y31 hL M 64 i (by omega) hi (h1 r6 hp)⟩) (fun e0 => ?_)⟩
    exact absurd (sm_es_prev e0 (sm_rl6.mp r6).1) hp
  cases i with
  | zero => exact sm_ywN (by decide) (br_t rfl (G (fun z => by omega)))
  | succ j =>
    rw [nI_pred]
    refine sm_ywI hL (by omega) M (fun q => br_f (by decide) (h0 (fun z => z.2 ⟨by omega, q⟩))) (fun q => br_t rfl (G (fun z => q z.2)))
theorem sm_y34 (hL : L ≤ 64) (M : sm_YM (L + 1) t mo ec de) : ∀ (n e : Nat), L - e < n → e ≤ L → post (sm_ey (sm_se t (L - e) e)) → wY_stringEnd_34 post (nI L) yt t mo ec de pa jo cl sy sk n (nI e) := by
  intro n
  induction n with
  | zero => intro e hn; exact absurd hn (Nat.not_lt_zero _)
  | succ n ih =>
    intro e hn he h
    refine pk_le L e (fun z => ?_) (fun z => pk_le 64 e (fun z => absurd z (by omega)) (fun _ => ?_))
    · have : L - e = 0 := by omega
      rw [this] at h
      exact h
    · have hd : L - e = (L - (e + 1)) + 1 := by omega
      obtain ⟨a, b, _⟩ := M e (by omega)
      have i64 : vp_in (nI e) 64 := vp_in_nI (by omega) (by omega)
      have i65 : vp_in (nI e) 65 := vp_in_nI (by omega) (by omega)
      rw [nI_clamp (by omega), a, b]
      rw [hd] at h
      have G : sm_rl t e ≠ 5 → wY_stringEnd_34 post (nI L) yt t mo ec de pa jo cl sy sk n (nI (e + 1)) := by
        intro r5
        have E : sm_se t (L - (e + 1) + 1) e = sm_se t (L - (e + 1)) (e + 1) := if_neg r5
        rw [E] at h
        exact ih (e + 1) (by omega) (by omega) h
      refine ⟨i64, br_c (fun c4 => ⟨i65, br_c (fun m1 => ⟨i65, br_c (fun e0 => ?_) (fun e0 => ?_)⟩) (fun m1 => ?_)⟩) (fun c4 => ?_)⟩
      · have E : sm_se t (L - (e + 1) + 1) e = some e := if_pos (sm_rl5.mpr ⟨m1, e0, c4⟩)
        rw [E] at h
        exact h
      · exact nm_r (nI_1 e) (G (fun r => e0 (sm_rl5.mp r).2.1))
      · exact nm_r (nI_1 e) (G (fun r => m1 (sm_rl5.mp r).1))
      · exact nm_r (nI_1 e) (G (fun r => c4 (sm_rl5.mp r).2.2))
theorem sm_ystringEnd {i : Nat} (hL : L ≤ 64) (hi : i < L) (M : sm_YM (L + 1) t mo ec de) (h1 : sm_rl t i = 4 → post (sm_ey (sm_se t (L - (i + 1)) (i + 1)))) (h0 : sm_rl t i ≠ 4 → post (-1)) : wpY_stringEnd post (nI L, yt, t, mo, ec, de, pa, jo, cl, sy, sk) (nI i) := by
  obtain ⟨a, b, _⟩ := M i (by omega)
  have i64 : vp_in (nI i) 64 := vp_in_nI (by omega) (by omega)
  have i65 : vp_in (nI i) 65 := vp_in_nI (by omega) (by omega)
  unfold wpY_stringEnd
  dsimp only
  rw [nI_clamp (by omega), a, b]
  refine ⟨i64, br_c (fun c4 => ⟨i65, br_c (fun m0 => ⟨i65, br_c (fun e0 => ?_) (fun e0 => ?_)⟩) (fun m0 => ?_)⟩) (fun c4 => ?_)⟩
  · exact nm_r (nI_1 i) ⟨65, sm_y34 hL M 65 (i + 1) (by omega) (by omega) (h1 (sm_rl4.mpr ⟨m0, e0, c4⟩))⟩
  · exact h0 (fun r => e0 (sm_rl4.mp r).2.1)
  · exact h0 (fun r => m0 (sm_rl4.mp r).1)
  · exact h0 (fun r => c4 (sm_rl4.mp r).2.2)
theorem sm_yunitEnd {i : Nat} (hL : L ≤ 64) (hi : i < L) (M : sm_YM (L + 1) t mo ec de) (P : sm_YP L t yt pa jo cl sy sk) (h : post (sm_ey (sm_ue t L i))) : wpY_unitEnd post (nI L, yt, t, mo, ec, de, pa, jo, cl, sy, sk) (nI i) := by
  have i64 : vp_in (nI i) 64 := vp_in_nI (by omega) (by omega)
  have hj := P.2.2.1 i (by omega)
  have hp := P.2.1 i (by omega)
  unfold wpY_unitEnd
  dsimp only
  rw [nI_clamp (by omega), hj, hp]
  refine ⟨i64, ?_⟩
  by_cases r1 : sm_rl t i = 1
  · rw [if_pos ⟨hi, decide_eq_true r1⟩]
    have E : sm_ue t L i = sm_pt t L i := if_pos r1
    rw [E] at h
    exact br_f (by decide) ⟨i64, h⟩
  · rw [if_neg (fun w => r1 (of_decide_eq_true w.2))]
    refine br_t rfl ?_
    have S : sm_ey (sm_ue t L i) = (if sm_rl t i = 4 then sm_ey (sm_se t (L - (i + 1)) (i + 1)) else -1) → wpY_stringEnd (fun r_16 => (post r_16)) (nI L, yt, t, mo, ec, de, pa, jo, cl, sy, sk) (nI i) := by
      intro E
      rw [E] at h
      refine sm_ystringEnd hL hi M (fun r4 => ?_) (fun r4 => ?_)
      · rw [if_pos r4] at h; exact h
      · rw [if_neg r4] at h; exact h
    refine sm_ywordEnd hL hi M (fun r6 q => ?_) (fun q => ?_)
    · have r4 : ¬ sm_rl t i = 4 := by rw [r6]; decide
      by_cases z : sm_es t (sm_we t (L - 1 - i) i + 1) = 0
      · have E : sm_ue t L i = some (sm_we t (L - 1 - i) i) := by unfold sm_ue; rw [if_neg r1, if_neg r4, if_pos r6, if_neg q, if_pos z]
        have w := (sm_we_s t (L - 1 - i) i).2.1
        rw [if_pos z]
        rw [E] at h
        exact br_f (nI_pos (by omega)) h
      · have E : sm_ue t L i = none := by unfold sm_ue; rw [if_neg r1, if_neg r4, if_pos r6, if_neg q, if_neg z]
        rw [if_neg z]
        exact br_t (by decide) (S (by rw [E, if_neg r4]; rfl))
    · refine br_t (by decide) (S ?_)
      by_cases r4 : sm_rl t i = 4
      · rw [if_pos r4]
        unfold sm_ue
        rw [if_neg r1, if_pos r4]
      · rw [if_neg r4]
        unfold sm_ue
        rw [if_neg r1, if_neg r4]
        by_cases r6 : sm_rl t i = 6
        · rw [if_pos r6]
          by_cases w : 0 < i ∧ sm_rl t (i - 1) = 6
          · rw [if_pos w]; rfl
          · exact absurd ⟨r6, w⟩ q
        · rw [if_neg r6]; rfl
theorem sm_yus2 {e : Nat} (hL : L ≤ 64) (he : e < L) (M : sm_YM (L + 1) t mo ec de) (P : sm_YP L t yt pa jo cl sy sk) : ∀ (d i n : Nat), d < n → i + d = e + 1 → post (sm_ey (sm_uf t L e d i)) → wY_unitStart_2 post (nI e) (nI L) yt t mo ec de pa jo cl sy sk n (nI i) := by
  intro d
  induction d with
  | zero =>
    intro i n hn hi h
    obtain ⟨m, rfl⟩ : ∃ m, n = m + 1 := ⟨n - 1, by omega⟩
    exact br_t (nI_lt (by omega) (by omega)) h
  | succ d ih =>
    intro i n hn hi h
    obtain ⟨m, rfl⟩ : ∃ m, n = m + 1 := ⟨n - 1, by omega⟩
    refine br_f (nI_nlt (by omega) (by omega)) (sm_yunitEnd hL (by omega) M P ?_)
    have hu : sm_uf t L e (d + 1) i = if sm_ue t L i = some e then some i else sm_uf t L e d (i + 1) := rfl
    rw [hu] at h
    by_cases z : sm_ue t L i = some e
    · rw [if_pos z] at h
      rw [z]
      exact br_t rfl h
    · rw [if_neg z] at h
      refine br_f (fun w => z ?_) (nm_r (nI_1 i) (ih (i + 1) m (by omega) (by omega) h))
      cases c : sm_ue t L i with
      | none =>
        rw [c] at w
        exact absurd w.symm (sm_nIm1 (by omega))
      | some k =>
        have := sm_ue_lt (by omega) c
        rw [c] at w
        have w2 : nI k = nI e := w
        rw [(nI_eq (by omega) (by omega)).mp w2]
theorem sm_yunitStart {e : Nat} (hL : L ≤ 64) (he : e < L) (M : sm_YM (L + 1) t mo ec de) (P : sm_YP L t yt pa jo cl sy sk) (h : post (sm_ey (sm_us t L e))) : wpY_unitStart post (nI L, yt, t, mo, ec, de, pa, jo, cl, sy, sk) (nI e) :=
  ⟨e + 2, sm_yus2 hL he M P (e + 1) 0 (e + 2) (by omega) (by omega) h⟩
end
end
section
/-! the reference: loops of the methods -/
section
variable {post : Int32 → SY → Prop} {yt : Int32} {t mo ec de pa jo cl sy sk : Nat → Int32} {L : Nat}
theorem sm_ystraysL (hL : L ≤ 64) (P : sm_YP L t yt pa jo cl sy sk) (h : post (nI (sm_cs t L)) (nI L, yt, t, mo, ec, de, pa, jo, cl, sy, sk)) : ∀ (n i : Nat), 64 - i < n → i ≤ 64 → wY_strays_12 post (nI L) yt t mo ec de pa jo cl sy sk n (nI (sm_cs t (min i L))) (nI i) := by
  intro n
  induction n with
  | zero => intro i hn; exact absurd hn (Nat.not_lt_zero _)
  | succ n ih =>
    intro i hn hi
    refine pk_le 64 i (fun z => ?_) (fun z => ⟨vp_in_nI (by omega) (by omega), ?_⟩)
    · rw [show min i L = L from by omega]; exact h
    · rw [nI_clamp (by omega), P.2.2.2.2.1 i z]
      have G := ih (i + 1) (by omega) (by omega)
      by_cases w : i < L ∧ sm_q3 t i = true
      · rw [if_pos w]
        have e : sm_cs t (min (i + 1) L) = sm_cs t (min i L) + 1 := by
          rw [show min (i + 1) L = i + 1 from by omega, show min i L = i from by omega]
          show sm_cs t i + (if sm_rl t i = 3 then 1 else 0) = _
          rw [if_pos (of_decide_eq_true w.2)]
        rw [e] at G
        exact br_f (by decide) (nm_r (nI_1 _) (nm_r (nI_1 i) G))
      · rw [if_neg w]
        have e : sm_cs t (min (i + 1) L) = sm_cs t (min i L) := by
          by_cases y : i < L
          · rw [show min (i + 1) L = i + 1 from by omega, show min i L = i from by omega]
            show sm_cs t i + (if sm_rl t i = 3 then 1 else 0) = _
            rw [if_neg (fun q => w ⟨y, decide_eq_true q⟩)]
            rfl
          · rw [show min (i + 1) L = L from by omega, show min i L = L from by omega]
        rw [e] at G
        exact br_t rfl (nm_r (nI_1 i) G)
theorem sm_ydownL (hL : L ≤ 64) (P : sm_YP L t yt pa jo cl sy sk) : ∀ (n i : Nat) (c : Int32), L - i < n → i ≤ L → post (sm_dn t (L - i) i c) (nI L, yt, t, mo, ec, de, pa, jo, cl, sy, sk) → wY_down_22 post (nI L) yt t mo ec de pa jo cl sy sk n c (nI i) := by
  intro n
  induction n with
  | zero => intro i c hn; exact absurd hn (Nat.not_lt_zero _)
  | succ n ih =>
    intro i c hn hi h
    refine pk_le L i (fun z => ?_) (fun z => pk_le 64 i (fun z => absurd z (by omega)) (fun _ => ?_))
    · have : L - i = 0 := by omega
      rw [this] at h
      exact h
    · have hin : vp_in (nI i) 64 := vp_in_nI (by omega) (by omega)
      have hd : L - i = (L - (i + 1)) + 1 := by omega
      have hdn : sm_dn t (L - (i + 1) + 1) i c = if sm_rl t i = 1 then (if c = 0 then nI (i + 1) else -3) else sm_dn t (L - (i + 1)) (i + 1) (if sm_rl t i = 2 ∨ sm_rl t i = 3 then 1 else c) := rfl
      rw [hd, hdn] at h
      rw [nI_clamp (by omega), P.2.2.1 i (by omega), P.2.2.2.1 i (by omega)]
      refine ⟨hin, ?_⟩
      by_cases r1 : sm_rl t i = 1
      · rw [if_pos ⟨z, decide_eq_true r1⟩]
        rw [if_pos r1] at h
        refine br_f (by decide) (br_c (fun c0 => ?_) (fun c0 => ?_))
        · rw [if_pos c0] at h
          rw [nI_1]
          exact h
        · rw [if_neg c0] at h
          exact h
      · rw [if_neg (fun w => r1 (of_decide_eq_true w.2))]
        rw [if_neg r1] at h
        refine br_t rfl ⟨hin, ?_⟩
        by_cases r2 : sm_rl t i = 2 ∨ sm_rl t i = 3
        · rw [if_pos ⟨z, decide_eq_true r2⟩]
          rw [if_pos r2] at h
          exact br_f (by decide) (nm_r (nI_1 i) (ih (i + 1) 1 (by omega) (by omega) h))
        · rw [if_neg (fun w => r2 (of_decide_eq_true w.2))]
          rw [if_neg r2] at h
          exact br_t rfl (nm_r (nI_1 i) (ih (i + 1) c (by omega) (by omega) h))
theorem sm_yforwardL (hL : L ≤ 64) (M : sm_YM (L + 1) t mo ec de) (P : sm_YP L t yt pa jo cl sy sk) : ∀ (n i : Nat), L - i < n → i ≤ L → post (sm_fw t L (L - i) i) (nI L, yt, t, mo, ec, de, pa, jo, cl, sy, sk) → wY_forward_20 post (nI L) yt t mo ec de pa jo cl sy sk n (nI i) := by
  intro n
  induction n with
  | zero => intro i hn; exact absurd hn (Nat.not_lt_zero _)
  | succ n ih =>
    intro i hn hi h
    refine pk_le L i (fun z => ?_) (fun z => pk_le 64 i (fun z => absurd z (by omega)) (fun _ => ?_))
    · have : L - i = 0 := by omega
      rw [this] at h
      exact h
    · have hin : vp_in (nI i) 64 := vp_in_nI (by omega) (by omega)
      have hd : L - i = (L - (i + 1)) + 1 := by omega
      have hf : sm_fw t L (L - (i + 1) + 1) i = if sm_rl t i = 2 ∨ sm_rl t i = 3 then -3 else sm_fv (sm_ue t L i) (sm_fw t L (L - (i + 1)) (i + 1)) := rfl
      rw [hd, hf] at h
      rw [nI_clamp (by omega), P.2.2.2.1 i (by omega)]
      refine ⟨hin, ?_⟩
      by_cases r2 : sm_rl t i = 2 ∨ sm_rl t i = 3
      · rw [if_pos ⟨z, decide_eq_true r2⟩]
        rw [if_pos r2] at h
        exact br_f (by decide) h
      · rw [if_neg (fun w => r2 (of_decide_eq_true w.2))]
        rw [if_neg r2] at h
        refine br_t rfl (sm_yunitEnd hL z M P ?_)
        cases c : sm_ue t L i with
        | none =>
          rw [c] at h
          exact br_t (by decide) (nm_r (nI_1 i) (ih (i + 1) (by omega) (by omega) h))
        | some k =>
          have := sm_ue_lt z c
          rw [c] at h
          refine br_f (nI_pos (n := k) (by omega)) ?_
          rw [show sm_ey (some k) + 1 = nI (k + 1) from nI_1 k]
          exact h
theorem sm_yunitsL (hL : L ≤ 64) (M : sm_YM (L + 1) t mo ec de) (P : sm_YP L t yt pa jo cl sy sk) (h : post (nI (sm_cu t L L)) (nI L, yt, t, mo, ec, de, pa, jo, cl, sy, sk)) : ∀ (n i : Nat), L - i < n → i ≤ L → wY_units_12 post (nI L) yt t mo ec de pa jo cl sy sk n (nI (sm_cu t L i)) (nI i) := by
  intro n
  induction n with
  | zero => intro i hn; exact absurd hn (Nat.not_lt_zero _)
  | succ n ih =>
    intro i hn hi
    refine pk_le L i (fun z => ?_) (fun z => pk_le 64 i (fun z => absurd z (by omega)) (fun _ => ?_))
    · have : i = L := by omega
      rw [this]; exact h
    · refine sm_yunitEnd hL z M P ?_
      have G := ih (i + 1) (by omega) (by omega)
      have hcu : sm_cu t L (i + 1) = sm_cu t L i + (if sm_ue t L i = none then 0 else 1) := rfl
      cases c : sm_ue t L i with
      | none =>
        rw [c, if_pos rfl] at hcu
        rw [hcu] at G
        exact br_t (by decide) (nm_r (nI_1 i) G)
      | some k =>
        have := sm_ue_lt z c
        rw [c, if_neg (by simp)] at hcu
        rw [hcu] at G
        exact br_f (nI_pos (n := k) (by omega)) (nm_r (nI_1 _) (nm_r (nI_1 i) G))
theorem sm_ybackL {g : Nat} (hg : g ≤ L) (hL : L ≤ 64) (M : sm_YM (L + 1) t mo ec de) (P : sm_YP L t yt pa jo cl sy sk) : ∀ (n e : Nat) (x : Int32), e < n → e ≤ L → x = nI e - 1 → post (sm_bw t L g e) (nI L, yt, t, mo, ec, de, pa, jo, cl, sy, sk) → wY_backward_22 post (nI g) (nI L) yt t mo ec de pa jo cl sy sk n x := by
  intro n
  induction n with
  | zero => intro e x hn; exact absurd hn (Nat.not_lt_zero _)
  | succ n ih =>
    intro e x hn he hx h
    cases e with
    | zero =>
      subst hx
      exact br_t (by decide) h
    | succ e =>
      rw [nI_pred] at hx
      subst hx
      have hin : vp_in (nI e) 64 := vp_in_nI (by omega) (by omega)
      have hb : sm_bw t L g (e + 1) = if sm_rl t e = 1 ∧ sm_ob g (sm_pt t L e) = true then -3 else sm_bv (sm_us t L e) (sm_bw t L g e) := rfl
      rw [hb] at h
      have B : ¬ (sm_rl t e = 1 ∧ sm_ob g (sm_pt t L e) = true) → wY_backward_57 post (wY_backward_22 post (nI g) (nI L) yt t mo ec de pa jo cl sy sk n) (nI g) (nI e) (nI L) yt t mo ec de pa jo cl sy sk := by
        intro q
        rw [if_neg q] at h
        unfold wY_backward_57
        refine sm_yunitStart hL (by omega) M P ?_
        cases c : sm_us t L e with
        | none =>
          rw [c] at h
          refine br_t (by decide) (nm_e ?_)
          exact ih e _ (by omega) (by omega) (Int32.sub_eq_add_neg _ _).symm h
        | some k =>
          have hk : k ≤ e := (sm_us_s c).1
          rw [c] at h
          exact br_f (nI_pos (n := k) (by omega)) h
      refine br_f (nI_pos (by omega)) ⟨hin, ?_⟩
      rw [nI_clamp (by omega), P.2.2.1 e (by omega), P.2.1 e (by omega)]
      by_cases r1 : sm_rl t e = 1
      · rw [if_pos ⟨by omega, decide_eq_true r1⟩]
        refine br_f (by decide) ⟨hin, ?_⟩
        cases c : sm_pt t L e with
        | none =>
          rw [if_pos ⟨r1, by rw [c]; rfl⟩] at h
          exact br_t (by decide) h
        | some k =>
          have hk := (sm_pt_lt c).2
          refine br_f (nI_pos (n := k) (by omega)) ⟨hin, pk_lt k g (fun z => ?_) (fun z => ?_)⟩
          · refine B (fun w => ?_)
            have w2 := w.2
            rw [c] at w2
            have : g ≤ k := of_decide_eq_true w2
            omega
          · rw [if_pos ⟨r1, by rw [c]; exact decide_eq_true z⟩] at h
            exact h
      · rw [if_neg (fun w => r1 (of_decide_eq_true w.2))]
        exact br_t rfl (B (fun w => r1 w.1))
end
end
section
/-! edits -/
theorem sm_xforgetL {post : SX → Prop} {t : Nat → Int32} {K K' : Nat} (hK : K' ≤ K) (h64 : K ≤ 64) {fl fm fe fi : Int32} {ak ar aa km ke ki : Nat → Int32} (rr : ∀ p, p < K' → ar p = sm_rl t p) (H : ∀ ap : Nat → Int32, (∀ p, p < K' → ap p = sm_ex (sm_pt t K' p)) → post (fl, nI K', fm, fe, fi, ak, ar, ap, aa, km, ke, ki)) : ∀ (n i : Nat) (ap : Nat → Int32), K' - i < n → i ≤ K' → (∀ p, p < i → ap p = sm_ex (sm_pt t K' p)) → (∀ p, i ≤ p → p < K' → ap p = sm_ex (sm_pt t K p)) → wX_forgetFrom_15 post fl (nI K') fm fe fi n (nI i) ak ar ap aa km ke ki := by
  intro n
  induction n with
  | zero => intro i ap hn; exact absurd hn (Nat.not_lt_zero _)
  | succ n ih =>
    intro i ap hn hi h1 h2
    refine pk_le K' i (fun z => ?_) (fun z => ?_)
    · have e : i = K' := by omega
      subst e
      exact H ap h1
    · have hin : vp_in (nI i) 64 := vp_in_nI (by omega) (by omega)
      rw [nI_clamp (by omega), rr i z, h2 i (Nat.le_refl _) z]
      have G : sm_ex (sm_pt t K i) = sm_ex (sm_pt t K' i) → wX_forgetFrom_15 post fl (nI K') fm fe fi n (nI (i + 1)) ak ar ap aa km ke ki := by
        intro e
        refine ih (i + 1) ap (by omega) (by omega) (fun p hp => ?_) (fun p a b => h2 p (by omega) b)
        by_cases w : p = i
        · rw [w, h2 i (Nat.le_refl _) z, e]
        · exact h1 p (by omega)
      refine ⟨hin, br_c (fun r1 => ⟨hin, ?_⟩) (fun r1 => nm_r (nI_1 i) (G ?_))⟩
      · cases c : sm_pt t K i with
        | none =>
          refine br_t (sm_m2lt (by omega)) (nm_r (nI_1 i) (G ?_))
          cases c' : sm_pt t K' i with
          | none => rw [c]
          | some k => rw [sm_pt_up hK c'] at c; exact absurd c (by simp)
        | some k =>
          have hk := (sm_pt_lt c).2
          refine pk_lt k K' (fun y => nm_r (nI_1 i) (G ?_)) (fun y => ⟨hin, nm_e (nm_r (nI_1 i) ?_)⟩)
          · rw [c, sm_pt_dn hK z y c]
          · have c' : sm_pt t K' i = none := by
              cases c' : sm_pt t K' i with
              | none => rfl
              | some m =>
                have d := sm_pt_up hK c'
                rw [c] at d
                cases d
                exact absurd (sm_pt_lt c').2 (by omega)
            refine ih (i + 1) _ (by omega) (by omega) (fun p hp => ?_) (fun p a b => ?_)
            · by_cases w : p = i
              · subst w; rw [pk_us, c']; rfl
              · rw [pk_un w]; exact h1 p (by omega)
            · rw [pk_un (by omega)]; exact h2 p (by omega) b
      · cases c : sm_pt t K i with
        | none =>
          cases c' : sm_pt t K' i with
          | none => rfl
          | some k => rw [sm_pt_up hK c'] at c; exact absurd c (by simp)
        | some k =>
          rcases sm_pt_kind c with g | g
          · exact absurd g.1 r1
          · rw [sm_pt_dn hK z (by omega) c]
theorem sm_xforget {post : SX → Prop} {t t' : Nat → Int32} {L L' K g : Nat} {fm fe fi : Int32} {ar ap aa km ke ki : Nat → Int32} (hI : sm_XI L K t ar ap aa km ke ki) (hg64 : g ≤ 64) (h1 : min K g ≤ L') (h2 : L' ≤ 64) (ht : ∀ j, j < g → t' j = t j) (H : ∀ u', sm_X L' (min K g) t' u' → post u') : wpX_forgetFrom post (nI L', nI K, fm, fe, fi, t', ar, ap, aa, km, ke, ki) (nI g) := by
  obtain ⟨hK, hL, rr, rp, ra, rk⟩ := hI
  have F : ∀ (K' : Nat) (ap' : Nat → Int32), K' = min K g → (∀ p, p < K' → ap' p = sm_ex (sm_pt t K' p)) → post (nI L', nI K', fm, fe, fi, t', ar, ap', aa, km, ke, ki) := by
    intro K' ap' e h
    refine H _ ⟨rfl, by rw [e], rfl, h1, h2, fun p hp => ?_, fun p hp => ?_, fun p hp r => ?_, fun k hk => ?_⟩
    · rw [sm_rl_cg (fun j hj => ht j (by omega))]; exact rr p (by omega)
    · rw [sm_pt_cg (fun j hj => ht j (by omega)), ← e]; exact h p (by omega)
    · rw [sm_rl_cg (fun j hj => ht j (by omega))] at r
      rw [sm_sk_cg (fun j hj => ht j (by omega))]
      exact ra p (by omega) r
    · rw [sm_md_cg (fun j hj => ht j (by omega)), sm_es_cg (fun j hj => ht j (by omega)), sm_sk_cg (fun j hj => ht j (by omega))]
      exact rk k (by omega)
  refine pk_le K g (fun z => ⟨K + 1, ?_⟩) (fun z => ⟨g + 1, ?_⟩)
  · exact sm_xforgetL (t := t) (K := K) (K' := K) (Nat.le_refl _) (by omega) rr (fun ap' h => F K ap' (by omega) h) (K + 1) 0 ap (by omega) (by omega) (fun p hp => absurd hp (Nat.not_lt_zero _)) (fun p _ hp => rp p hp)
  · exact sm_xforgetL (t := t) (K := K) (K' := g) (by omega) (by omega) (fun p hp => rr p (by omega)) (fun ap' h => F g ap' (by omega) h) (g + 1) 0 ap (by omega) (by omega) (fun p hp => absurd hp (Nat.not_lt_zero _)) (fun p _ hp => rp p (by omega))
/-- the shift of an insertion -/
def sm_sh (g : Nat) : Nat → (Nat → Int32) → Nat → Int32
  | 0, f => f
  | d + 1, f => sm_sh g d (upd f (g + d + 1) (f (g + d)))
theorem sm_sh_lo {g j : Nat} (hj : j < g) : ∀ (d : Nat) (f : Nat → Int32), sm_sh g d f j = f j := by
  intro d
  induction d with
  | zero => intro f; rfl
  | succ d ih =>
    intro f
    show sm_sh g d (upd f (g + d + 1) (f (g + d))) j = f j
    rw [ih, pk_un (by omega)]
/-- the shift of a deletion -/
def sm_dl (m : Nat) : Nat → Nat → (Nat → Int32) → Nat → Int32
  | 0, _, f => f
  | d + 1, i, f => sm_dl m d (i + 1) (upd f i (f (i + m)))
theorem sm_dl_lo {m a j : Nat} (hj : j < a) : ∀ (d i : Nat) (f : Nat → Int32), a ≤ i → sm_dl m d i f j = f j := by
  intro d
  induction d with
  | zero => intro i f _; rfl
  | succ d ih =>
    intro i f hi
    show sm_dl m d (i + 1) (upd f i (f (i + m))) j = f j
    rw [ih _ _ (by omega), pk_un (by omega)]
theorem sm_dl_0 : ∀ (d i : Nat) (f : Nat → Int32), sm_dl 0 d i f = f := by
  intro d
  induction d with
  | zero => intro i f; rfl
  | succ d ih =>
    intro i f
    show sm_dl 0 d (i + 1) (upd f i (f i)) = f
    rw [ih]
    funext j
    by_cases z : j = i
    · subst z; exact pk_us
    · exact pk_un z
section
variable {fk fm fe fi : Int32} {ar ap aa km ke ki : Nat → Int32} {L g : Nat}
theorem sm_xinsL {post : Int32 → SX → Prop} {c : Int32} (hL : L < 64) : ∀ (d n : Nat) (t : Nat → Int32), d < n → g + d ≤ L → wpX_forgetFrom (fun u => match u with | (f_length, f_known, f_mode, f_escape, f_inner, a_kind, a_role, a_partners, a_around, a_keptMode, a_keptEscape, a_keptInner) => post f_length (f_length, f_known, f_mode, f_escape, f_inner, a_kind, a_role, a_partners, a_around, a_keptMode, a_keptEscape, a_keptInner)) (nI (L + 1), fk, fm, fe, fi, upd (sm_sh g d t) g c, ar, ap, aa, km, ke, ki) (nI g) → wX_insert_37 post (nI g) c (nI L) fk fm fe fi n (nI (g + d)) t ar ap aa km ke ki := by
  intro d
  induction d with
  | zero =>
    intro n t hn hg h
    obtain ⟨m, rfl⟩ : ∃ m, n = m + 1 := ⟨n - 1, by omega⟩
    refine br_t (nI_le (by omega) (by omega)) ⟨vp_in_nI (by omega) (by omega), nm_e (nm_r (nI_1 L) ?_)⟩
    rw [nI_clamp (by omega)]
    exact h
  | succ d ih =>
    intro n t hn hg h
    obtain ⟨m, rfl⟩ : ∃ m, n = m + 1 := ⟨n - 1, by omega⟩
    refine br_f (nI_ge (by omega) (by omega)) ?_
    show vp_in (nI (g + d + 1) - 1) 64 ∧ _
    have e1 : (nI (g + (d + 1))).toNatClampNeg = g + d + 1 := nI_clamp (by omega)
    have e2 : (nI (g + d)).toNatClampNeg = g + d := nI_clamp (by omega)
    have e3 : nI (g + (d + 1)) - 1 = nI (g + d) := nI_pred (g + d)
    rw [nI_pred, e3, e1, e2]
    refine ⟨vp_in_nI (by omega) (by omega), vp_in_nI (by omega) (by omega), nm_e (nm_r (pk_m1 (g + d)) ?_)⟩
    exact ih m _ (by omega) (by omega) h
theorem sm_xdelL {post : Int32 → SX → Prop} {a m : Nat} (hL : L ≤ 64) : ∀ (d n i : Nat) (t : Nat → Int32), d < n → i + m + d = L → ((nI m ≤ 0 → post (nI (L - m)) (nI (L - m), fk, fm, fe, fi, sm_dl m d i t, ar, ap, aa, km, ke, ki)) ∧ (¬ nI m ≤ 0 → wpX_forgetFrom (fun u => match u with | (f_length, f_known, f_mode, f_escape, f_inner, a_kind, a_role, a_partners, a_around, a_keptMode, a_keptEscape, a_keptInner) => post f_length (f_length, f_known, f_mode, f_escape, f_inner, a_kind, a_role, a_partners, a_around, a_keptMode, a_keptEscape, a_keptInner)) (nI (L - m), fk, fm, fe, fi, sm_dl m d i t, ar, ap, aa, km, ke, ki) (nI a))) → wX_delete_26 post (nI a) (nI m) (nI L) fk fm fe fi n (nI (i + m)) t ar ap aa km ke ki := by
  intro d
  induction d with
  | zero =>
    intro n i t hn hi h
    obtain ⟨k, rfl⟩ : ∃ m, n = m + 1 := ⟨n - 1, by omega⟩
    exact br_t (nI_le (by omega) (by omega)) (nm_r (pk_sub (by omega)) h)
  | succ d ih =>
    intro n i t hn hi h
    obtain ⟨k, rfl⟩ : ∃ m, n = m + 1 := ⟨n - 1, by omega⟩
    refine br_f (nI_ge (by omega) (by omega)) ?_
    have e3 : nI (i + m) - nI m = nI i := by rw [pk_sub (by omega)]; exact congrArg nI (by omega)
    have e1 : (nI (i + m)).toNatClampNeg = i + m := nI_clamp (by omega)
    have e2 : (nI i).toNatClampNeg = i := nI_clamp (by omega)
    have e4 : nI (i + m) + 1 = nI (i + 1 + m) := by rw [nI_1]; exact congrArg nI (by omega)
    rw [e3, e1, e2]
    refine ⟨vp_in_nI (by omega) (by omega), vp_in_nI (by omega) (by omega), nm_e (nm_r e4 ?_)⟩
    exact ih k (i + 1) _ (by omega) (by omega) h
end
section
variable {yt : Int32} {mo ec de pa jo cl sy sk : Nat → Int32} {L g : Nat}
theorem sm_yinsL {post : Int32 → SY → Prop} {c : Int32} (hL : L < 64) : ∀ (d n : Nat) (t : Nat → Int32), d < n → g + d ≤ L → post (nI (L + 1)) (nI (L + 1), yt, upd (sm_sh g d t) g c, mo, ec, de, pa, jo, cl, sy, sk) → wY_insert_40 post (nI g) c (nI L) yt n (nI (g + d)) t mo ec de pa jo cl sy sk := by
  intro d
  induction d with
  | zero =>
    intro n t hn hg h
    obtain ⟨m, rfl⟩ : ∃ m, n = m + 1 := ⟨n - 1, by omega⟩
    refine br_t (nI_le (by omega) (by omega)) ⟨vp_in_nI (by omega) (by omega), nm_e (nm_r (nI_1 L) ?_)⟩
    rw [nI_clamp (by omega)]
    exact h
  | succ d ih =>
    intro n t hn hg h
    obtain ⟨m, rfl⟩ : ∃ m, n = m + 1 := ⟨n - 1, by omega⟩
    refine br_f (nI_ge (by omega) (by omega)) ?_
    show vp_in (nI (g + d + 1) - 1) 64 ∧ _
    have e1 : (nI (g + (d + 1))).toNatClampNeg = g + d + 1 := nI_clamp (by omega)
    have e2 : (nI (g + d)).toNatClampNeg = g + d := nI_clamp (by omega)
    have e3 : nI (g + (d + 1)) - 1 = nI (g + d) := nI_pred (g + d)
    rw [nI_pred, e3, e1, e2]
    refine ⟨vp_in_nI (by omega) (by omega), vp_in_nI (by omega) (by omega), nm_e (nm_r (pk_m1 (g + d)) ?_)⟩
    exact ih m _ (by omega) (by omega) h
theorem sm_ydelL {post : Int32 → SY → Prop} {m : Nat} (hL : L ≤ 64) : ∀ (d n i : Nat) (t : Nat → Int32), d < n → i + m + d = L → post (nI (L - m)) (nI (L - m), yt, sm_dl m d i t, mo, ec, de, pa, jo, cl, sy, sk) → wY_delete_26 post (nI m) (nI L) yt n (nI i) t mo ec de pa jo cl sy sk := by
  intro d
  induction d with
  | zero =>
    intro n i t hn hi h
    obtain ⟨k, rfl⟩ : ∃ m, n = m + 1 := ⟨n - 1, by omega⟩
    refine br_t (by rw [nI_add]; exact nI_le (by omega) (by omega)) ?_
    unfold wY_delete_68
    exact nm_r (pk_sub (by omega)) h
  | succ d ih =>
    intro n i t hn hi h
    obtain ⟨k, rfl⟩ : ∃ m, n = m + 1 := ⟨n - 1, by omega⟩
    refine br_f (by rw [nI_add]; exact nI_ge (by omega) (by omega)) (br_f (by rw [nI_add]; exact nI_ge (b := 64) (by omega) (by decide)) ?_)
    have e1 : (nI (i + m)).toNatClampNeg = i + m := nI_clamp (by omega)
    have e2 : (nI i).toNatClampNeg = i := nI_clamp (by omega)
    rw [nI_add, e1, e2]
    refine ⟨vp_in_nI (by omega) (by omega), vp_in_nI (by omega) (by omega), nm_e (nm_r (nI_1 i) ?_)⟩
    exact ih k (i + 1) _ (by omega) (by omega) h
end
end
section
/-! guards -/
theorem sm_gap (x : Int32) {L : Nat} (hL : L ≤ 64) : (x < 0 ∨ nI L < x) ∨ ∃ g, g ≤ L ∧ x = nI g := by
  by_cases h : x < 0
  · exact Or.inl (Or.inl h)
  · obtain ⟨j, hj, rfl⟩ := nI_of h
    by_cases h2 : j ≤ L
    · exact Or.inr ⟨j, h2, rfl⟩
    · exact Or.inl (Or.inr (nI_lt (by omega) hj))
theorem sm_place (x : Int32) {L : Nat} (hL : L ≤ 64) : (x < 0 ∨ nI L ≤ x) ∨ ∃ g, g < L ∧ x = nI g := by
  by_cases h : x < 0
  · exact Or.inl (Or.inl h)
  · obtain ⟨j, hj, rfl⟩ := nI_of h
    by_cases h2 : j < L
    · exact Or.inr ⟨j, h2, rfl⟩
    · exact Or.inl (Or.inr (nI_le (by omega) hj))
section
variable {post : Int32 → Prop} {u : SX} {v : SY} {L K : Nat} {t : Nat → Int32} {x : Int32} {g : Nat}
theorem sm_X_L (h : sm_X L K t u) : L ≤ 64 ∧ K ≤ L := by
  obtain ⟨fl, fk, fm, fe, fi, ak, ar, ap, aa, km, ke, ki⟩ := u
  exact ⟨h.2.2.2.2.1, h.2.2.2.1⟩
theorem sm_xgap (I : sm_X L K t u) (hg : g ≤ L) (h : post 1) : wpX_isGap post u (nI g) := by
  have hL := (sm_X_L I).1
  obtain ⟨fl, fk, fm, fe, fi, ak, ar, ap, aa, km, ke, ki⟩ := u
  obtain ⟨rfl, rfl, rfl, _⟩ := I
  exact br_f (nI_pos (by omega)) (br_f (nI_nlt hg (by omega)) h)
theorem sm_xgapB (I : sm_X L K t u) (hb : x < 0 ∨ nI L < x) (h : post 0) : wpX_isGap post u x := by
  obtain ⟨fl, fk, fm, fe, fi, ak, ar, ap, aa, km, ke, ki⟩ := u
  obtain ⟨rfl, rfl, rfl, _⟩ := I
  rcases hb with hb | hb
  · exact br_t hb h
  · exact br_c (fun _ => h) (fun _ => br_t hb h)
theorem sm_xplace (I : sm_X L K t u) (hg : g < L) (h : post 1) : wpX_isPlace post u (nI g) := by
  have hL := (sm_X_L I).1
  obtain ⟨fl, fk, fm, fe, fi, ak, ar, ap, aa, km, ke, ki⟩ := u
  obtain ⟨rfl, rfl, rfl, _⟩ := I
  exact br_f (nI_pos (by omega)) (br_f (nI_ge hg (by omega)) h)
theorem sm_xplaceB (I : sm_X L K t u) (hb : x < 0 ∨ nI L ≤ x) (h : post 0) : wpX_isPlace post u x := by
  obtain ⟨fl, fk, fm, fe, fi, ak, ar, ap, aa, km, ke, ki⟩ := u
  obtain ⟨rfl, rfl, rfl, _⟩ := I
  rcases hb with hb | hb
  · exact br_t hb h
  · exact br_c (fun _ => h) (fun _ => br_t hb h)
theorem sm_ygap (I : sm_Y L t v) (hL : L ≤ 64) (hg : g ≤ L) (h : post 0) : wpY_badGap post v (nI g) := by
  obtain ⟨fl, yt, tx, mo, ec, de, pa, jo, cl, sy, sk⟩ := v
  obtain ⟨rfl, rfl⟩ := I
  exact br_f (nI_pos (by omega)) (br_f (nI_nlt hg (by omega)) (br_t (nI_le (b := 64) (by omega) (by decide)) h))
theorem sm_ygapB (I : sm_Y L t v) (hb : x < 0 ∨ nI L < x) (h : post 1) : wpY_badGap post v x := by
  obtain ⟨fl, yt, tx, mo, ec, de, pa, jo, cl, sy, sk⟩ := v
  obtain ⟨rfl, rfl⟩ := I
  rcases hb with hb | hb
  · exact br_t hb h
  · exact br_c (fun _ => h) (fun _ => br_t hb h)
theorem sm_yplace (I : sm_Y L t v) (hL : L ≤ 64) (hg : g < L) (h : post 0) : wpY_badPosition post v (nI g) := by
  obtain ⟨fl, yt, tx, mo, ec, de, pa, jo, cl, sy, sk⟩ := v
  obtain ⟨rfl, rfl⟩ := I
  exact br_f (nI_pos (by omega)) (br_f (nI_ge hg (by omega)) (br_t (nI_lt (b := 64) (by omega) (by decide)) h))
theorem sm_yplaceB (I : sm_Y L t v) (hb : x < 0 ∨ nI L ≤ x) (h : post 1) : wpY_badPosition post v x := by
  obtain ⟨fl, yt, tx, mo, ec, de, pa, jo, cl, sy, sk⟩ := v
  obtain ⟨rfl, rfl⟩ := I
  rcases hb with hb | hb
  · exact br_t hb h
  · exact br_c (fun _ => h) (fun _ => br_t hb h)
end
/-! the class's methods -/
section
variable {post : Int32 → SX → Prop} {u : SX} {L K : Nat} {t : Nat → Int32} {x : Int32} {g : Nat}
theorem sm_xmode (I : sm_X L K t u) (hg : g ≤ L) (H : ∀ u', sm_X L (max K g) t u' → post (sm_md t g) u') : wpX_mode post u (nI g) := by
  obtain ⟨fl, fk, fm, fe, fi, ak, ar, ap, aa, km, ke, ki⟩ := u
  unfold wpX_mode
  dsimp only
  refine sm_xgap I hg (br_f (by decide) (sm_stateAt rfl hg I (fun u' I' => ?_)))
  have G := H u' (sm_XS_X I')
  obtain ⟨fl, fk, fm, fe, fi, ak, ar, ap, aa, km, ke, ki⟩ := u'
  obtain ⟨_, _, rfl, _⟩ := I'
  exact G
theorem sm_xmodeB (I : sm_X L K t u) (hb : x < 0 ∨ nI L < x) (h : post (-1) u) : wpX_mode post u x := by
  obtain ⟨fl, fk, fm, fe, fi, ak, ar, ap, aa, km, ke, ki⟩ := u
  unfold wpX_mode
  dsimp only
  exact sm_xgapB I hb (br_t rfl h)
theorem sm_xescaped (I : sm_X L K t u) (hg : g ≤ L) (H : ∀ u', sm_X L (max K g) t u' → post (sm_es t g) u') : wpX_escaped post u (nI g) := by
  obtain ⟨fl, fk, fm, fe, fi, ak, ar, ap, aa, km, ke, ki⟩ := u
  unfold wpX_escaped
  dsimp only
  refine sm_xgap I hg (br_f (by decide) (sm_stateAt rfl hg I (fun u' I' => ?_)))
  have G := H u' (sm_XS_X I')
  obtain ⟨fl, fk, fm, fe, fi, ak, ar, ap, aa, km, ke, ki⟩ := u'
  obtain ⟨_, _, _, rfl, _⟩ := I'
  dsimp only
  rcases sm_es01 t g with e | e
  · rw [e] at G
    exact br_t e (by rw [e]; exact G)
  · rw [e] at G
    exact br_f (by rw [e]; decide) (by rw [e]; exact G)
theorem sm_xescapedB (I : sm_X L K t u) (hb : x < 0 ∨ nI L < x) (h : post (-1) u) : wpX_escaped post u x := by
  obtain ⟨fl, fk, fm, fe, fi, ak, ar, ap, aa, km, ke, ki⟩ := u
  unfold wpX_escaped
  dsimp only
  exact sm_xgapB I hb (br_t rfl h)
theorem sm_xup (I : sm_X L K t u) (hg : g ≤ L) (H : ∀ u', sm_X L (max K g) t u' → post (sm_ex (sm_sk t g).head?) u') : wpX_up post u (nI g) := by
  obtain ⟨fl, fk, fm, fe, fi, ak, ar, ap, aa, km, ke, ki⟩ := u
  unfold wpX_up
  dsimp only
  refine sm_xgap I hg (br_f (by decide) (sm_stateAt rfl hg I (fun u' I' => ?_)))
  have G := H u' (sm_XS_X I')
  obtain ⟨fl, fk, fm, fe, fi, ak, ar, ap, aa, km, ke, ki⟩ := u'
  obtain ⟨_, _, _, _, rfl, _⟩ := I'
  exact G
theorem sm_xupB (I : sm_X L K t u) (hb : x < 0 ∨ nI L < x) (h : post (-1) u) : wpX_up post u x := by
  obtain ⟨fl, fk, fm, fe, fi, ak, ar, ap, aa, km, ke, ki⟩ := u
  unfold wpX_up
  dsimp only
  exact sm_xgapB I hb (br_t rfl h)
theorem sm_xdepthM (I : sm_X L K t u) (hg : g ≤ L) (H : ∀ u', sm_X L (max K g) t u' → post (nI (sm_sk t g).length) u') : wpX_depth post u (nI g) := by
  obtain ⟨fl, fk, fm, fe, fi, ak, ar, ap, aa, km, ke, ki⟩ := u
  unfold wpX_depth
  dsimp only
  refine sm_xgap I hg (br_f (by decide) (sm_stateAt rfl hg I (fun u' I' => ?_)))
  have G := H u' (sm_XS_X I')
  obtain ⟨fl, fk, fm, fe, fi, ak, ar, ap, aa, km, ke, ki⟩ := u'
  obtain ⟨rfl, rfl, rfl, rfl, rfl, rfl, hI⟩ := I'
  exact sm_xdepth (by omega) hI G
theorem sm_xdepthB (I : sm_X L K t u) (hb : x < 0 ∨ nI L < x) (h : post (-1) u) : wpX_depth post u x := by
  obtain ⟨fl, fk, fm, fe, fi, ak, ar, ap, aa, km, ke, ki⟩ := u
  unfold wpX_depth
  dsimp only
  exact sm_xgapB I hb (br_t rfl h)
/-- the answer of bracketAt -/
def sm_ba (l : List Nat) (y : Int32) : Int32 := if y < 0 then -2 else if y < nI l.length then nI (sm_at l y.toNatClampNeg) else -2
theorem sm_xbr {y : Int32} (I : sm_X L K t u) (hg : g ≤ L) (H : ∀ u', sm_X L (max K g) t u' → post (sm_ba (sm_sk t g) y) u') : wpX_bracketAt post u (nI g) y := by
  have hL := (sm_X_L I).1
  obtain ⟨fl, fk, fm, fe, fi, ak, ar, ap, aa, km, ke, ki⟩ := u
  unfold wpX_bracketAt
  dsimp only
  refine sm_xgap I hg (br_f (by decide) (sm_stateAt rfl hg I (fun u' I' => ?_)))
  have G := H u' (sm_XS_X I')
  obtain ⟨fl, fk, fm, fe, fi, ak, ar, ap, aa, km, ke, ki⟩ := u'
  obtain ⟨rfl, rfl, rfl, rfl, rfl, rfl, hI⟩ := I'
  dsimp only
  refine sm_xdepth (by omega) hI ?_
  have hlen := sm_sk_len t g
  unfold sm_ba at G
  refine br_c (fun y0 => ?_) (fun y0 => br_c (fun y1 => ?_) (fun y1 => ?_))
  · rw [if_pos y0] at G; exact G
  · rw [if_neg y0, if_pos y1] at G
    obtain ⟨lv, hlv, rfl⟩ := nI_of y0
    rw [nI_ltI hlv (by omega)] at y1
    rw [nI_clamp hlv] at G
    cases e : sm_sk t g with
    | nil => rw [e] at y1; exact absurd y1 (Nat.not_lt_zero _)
    | cons q r =>
      rw [e] at y1 G
      rw [List.length_cons] at y1
      refine nm_r (nI_pred r.length) ⟨r.length + 1, ?_⟩
      exact sm_xbrL (g := g) (by omega) hI r q _ (by rw [e]; exact List.suffix_refl _) (by omega) (by omega) G
  · rw [if_neg y0, if_neg y1] at G; exact G
theorem sm_xbrB {y : Int32} (I : sm_X L K t u) (hb : x < 0 ∨ nI L < x) (h : post (-1) u) : wpX_bracketAt post u x y := by
  obtain ⟨fl, fk, fm, fe, fi, ak, ar, ap, aa, km, ke, ki⟩ := u
  unfold wpX_bracketAt
  dsimp only
  exact sm_xgapB I hb (br_t rfl h)
theorem sm_X_len {fl fk fm fe fi : Int32} {ak ar ap aa km ke ki : Nat → Int32} (I : sm_X L K t (fl, fk, fm, fe, fi, ak, ar, ap, aa, km, ke, ki)) : fl = nI L := I.1
theorem sm_max (h : sm_X L K t u) : max K L = L := by have := (sm_X_L h).2; omega
theorem sm_xpartner (I : sm_X L K t u) (hg : g < L) (H : ∀ u', sm_X L L t u' → post (sm_ex (sm_pt t L g)) u') : wpX_partner post u (nI g) := by
  have hL := (sm_X_L I).1
  have hm := sm_max I
  obtain ⟨fl, fk, fm, fe, fi, ak, ar, ap, aa, km, ke, ki⟩ := u
  unfold wpX_partner
  dsimp only
  refine sm_xplace I hg (br_f (by decide) (sm_readTo (sm_X_len I) (Nat.le_refl _) I (fun u' I' => ?_)))
  rw [hm] at I'
  have G := H u' I'
  obtain ⟨fl, fk, fm, fe, fi, ak, ar, ap, aa, km, ke, ki⟩ := u'
  obtain ⟨rfl, rfl, rfl, hI⟩ := I'
  obtain ⟨_, _, rr, rp, ra, rk⟩ := hI
  have hin : vp_in (nI g) 64 := vp_in_nI (by omega) (by omega)
  dsimp only
  rw [nI_clamp (by omega), rr g hg, rp g hg]
  refine ⟨hin, br_c (fun r1 => ⟨hin, G⟩) (fun r1 => ⟨hin, br_c (fun r2 => ⟨hin, G⟩) (fun r2 => ?_)⟩)⟩
  cases c : sm_pt t L g with
  | none => rw [c] at G; exact G
  | some k =>
    rcases sm_pt_kind c with z | z
    · exact absurd z.1 r1
    · exact absurd z.1 r2
theorem sm_xpartnerB (I : sm_X L K t u) (hb : x < 0 ∨ nI L ≤ x) (h : post (-1) u) : wpX_partner post u x := by
  obtain ⟨fl, fk, fm, fe, fi, ak, ar, ap, aa, km, ke, ki⟩ := u
  unfold wpX_partner
  dsimp only
  exact sm_xplaceB I hb (br_t rfl h)
theorem sm_xstrays (I : sm_X L K t u) (H : ∀ u', sm_X L L t u' → post (nI (sm_cs t L)) u') : wpX_strays post u := by
  have hm := sm_max I
  obtain ⟨fl, fk, fm, fe, fi, ak, ar, ap, aa, km, ke, ki⟩ := u
  unfold wpX_strays
  dsimp only
  refine sm_readTo (sm_X_len I) (Nat.le_refl _) I (fun u' I' => ?_)
  rw [hm] at I'
  have G := H u' I'
  obtain ⟨fl, fk, fm, fe, fi, ak, ar, ap, aa, km, ke, ki⟩ := u'
  obtain ⟨rfl, rfl, rfl, hI⟩ := I'
  exact ⟨L + 1, sm_xstraysL hI G (L + 1) 0 (by omega) (by omega)⟩
theorem sm_xunits (I : sm_X L K t u) (H : ∀ u', sm_X L L t u' → post (nI (sm_cu t L L)) u') : wpX_units post u := by
  have hm := sm_max I
  obtain ⟨fl, fk, fm, fe, fi, ak, ar, ap, aa, km, ke, ki⟩ := u
  unfold wpX_units
  dsimp only
  refine sm_readTo (sm_X_len I) (Nat.le_refl _) I (fun u' I' => ?_)
  rw [hm] at I'
  obtain ⟨fl, fk, fm, fe, fi, ak, ar, ap, aa, km, ke, ki⟩ := u'
  obtain ⟨rfl, rfl, rfl, hI⟩ := I'
  exact ⟨L + 1, sm_xunitsL H (L + 1) 0 _ _ _ _ _ _ _ _ _ (by omega) (by omega) hI⟩
theorem sm_xforward (I : sm_X L K t u) (hg : g ≤ L) (H : ∀ u', sm_X L L t u' → post (sm_fw t L (L - g) g) u') : wpX_forward post u (nI g) := by
  have hm := sm_max I
  obtain ⟨fl, fk, fm, fe, fi, ak, ar, ap, aa, km, ke, ki⟩ := u
  unfold wpX_forward
  dsimp only
  refine sm_xgap I hg (br_f (by decide) (sm_readTo (sm_X_len I) (Nat.le_refl _) I (fun u' I' => ?_)))
  rw [hm] at I'
  obtain ⟨fl, fk, fm, fe, fi, ak, ar, ap, aa, km, ke, ki⟩ := u'
  obtain ⟨rfl, rfl, rfl, hI⟩ := I'
  exact ⟨L + 1, sm_xforwardL (L + 1) g _ _ _ _ _ _ _ _ _ (by omega) (by omega) hI H⟩
theorem sm_xforwardB (I : sm_X L K t u) (hb : x < 0 ∨ nI L < x) (h : post (-1) u) : wpX_forward post u x := by
  obtain ⟨fl, fk, fm, fe, fi, ak, ar, ap, aa, km, ke, ki⟩ := u
  unfold wpX_forward
  dsimp only
  exact sm_xgapB I hb (br_t rfl h)
theorem sm_xbackward (I : sm_X L K t u) (hg : g ≤ L) (H : ∀ u', sm_X L L t u' → post (sm_bw t L g g) u') : wpX_backward post u (nI g) := by
  have hm := sm_max I
  obtain ⟨fl, fk, fm, fe, fi, ak, ar, ap, aa, km, ke, ki⟩ := u
  unfold wpX_backward
  dsimp only
  refine sm_xgap I hg (br_f (by decide) (sm_readTo (sm_X_len I) (Nat.le_refl _) I (fun u' I' => ?_)))
  rw [hm] at I'
  obtain ⟨fl, fk, fm, fe, fi, ak, ar, ap, aa, km, ke, ki⟩ := u'
  obtain ⟨rfl, rfl, rfl, hI⟩ := I'
  exact nm_e ⟨g + 1, sm_xbackL hg (g + 1) g _ _ _ _ _ _ _ _ _ _ (by omega) (by omega) rfl hI H⟩
theorem sm_xbackwardB (I : sm_X L K t u) (hb : x < 0 ∨ nI L < x) (h : post (-1) u) : wpX_backward post u x := by
  obtain ⟨fl, fk, fm, fe, fi, ak, ar, ap, aa, km, ke, ki⟩ := u
  unfold wpX_backward
  dsimp only
  exact sm_xgapB I hb (br_t rfl h)
theorem sm_xdown (I : sm_X L K t u) (hg : g ≤ L) (H : ∀ u', sm_X L L t u' → post (sm_dn t (L - g) g 0) u') : wpX_down post u (nI g) := by
  have hm := sm_max I
  obtain ⟨fl, fk, fm, fe, fi, ak, ar, ap, aa, km, ke, ki⟩ := u
  unfold wpX_down
  dsimp only
  refine sm_xgap I hg (br_f (by decide) (sm_readTo (sm_X_len I) (Nat.le_refl _) I (fun u' I' => ?_)))
  rw [hm] at I'
  have G := H u' I'
  obtain ⟨fl, fk, fm, fe, fi, ak, ar, ap, aa, km, ke, ki⟩ := u'
  obtain ⟨rfl, rfl, rfl, hI⟩ := I'
  exact ⟨L + 1, sm_xdownL hI (L + 1) g 0 (by omega) (by omega) G⟩
theorem sm_xdownB (I : sm_X L K t u) (hb : x < 0 ∨ nI L < x) (h : post (-1) u) : wpX_down post u x := by
  obtain ⟨fl, fk, fm, fe, fi, ak, ar, ap, aa, km, ke, ki⟩ := u
  unfold wpX_down
  dsimp only
  exact sm_xgapB I hb (br_t rfl h)
end
/-! the reference's methods -/
section
variable {post : Int32 → SY → Prop} {v : SY} {L : Nat} {t : Nat → Int32} {x : Int32} {g : Nat}
theorem sm_ymode (I : sm_Y L t v) (hL : L ≤ 64) (hg : g ≤ L) (H : ∀ v', sm_Y L t v' → post (sm_md t g) v') : wpY_mode post v (nI g) := by
  obtain ⟨fl, yt, tx, mo, ec, de, pa, jo, cl, sy, sk⟩ := v
  unfold wpY_mode
  dsimp only
  refine sm_ygap I hL hg (br_t rfl (sm_yread rfl (by omega) I (fun v' I' => ?_)))
  have G := H v' (sm_Y1_Y I')
  obtain ⟨fl, yt, tx, mo, ec, de, pa, jo, cl, sy, sk⟩ := v'
  obtain ⟨rfl, rfl, M, P⟩ := I'
  dsimp only
  rw [nI_clamp (by omega), (M g (by omega)).1]
  exact ⟨vp_in_nI (by omega) (by omega), G⟩
theorem sm_ymodeB (I : sm_Y L t v) (hb : x < 0 ∨ nI L < x) (h : post (-1) v) : wpY_mode post v x := by
  obtain ⟨fl, yt, tx, mo, ec, de, pa, jo, cl, sy, sk⟩ := v
  unfold wpY_mode
  dsimp only
  exact sm_ygapB I hb (br_f (by decide) h)
theorem sm_yescaped (I : sm_Y L t v) (hL : L ≤ 64) (hg : g ≤ L) (H : ∀ v', sm_Y L t v' → post (sm_es t g) v') : wpY_escaped post v (nI g) := by
  obtain ⟨fl, yt, tx, mo, ec, de, pa, jo, cl, sy, sk⟩ := v
  unfold wpY_escaped
  dsimp only
  refine sm_ygap I hL hg (br_t rfl (sm_yread rfl (by omega) I (fun v' I' => ?_)))
  have G := H v' (sm_Y1_Y I')
  obtain ⟨fl, yt, tx, mo, ec, de, pa, jo, cl, sy, sk⟩ := v'
  obtain ⟨rfl, rfl, M, P⟩ := I'
  dsimp only
  rw [nI_clamp (by omega), (M g (by omega)).2.1]
  refine ⟨vp_in_nI (by omega) (by omega), ?_⟩
  rcases sm_es01 t g with e | e
  · rw [e] at G
    exact br_t e G
  · rw [e] at G
    exact br_f (by rw [e]; decide) G
theorem sm_yescapedB (I : sm_Y L t v) (hb : x < 0 ∨ nI L < x) (h : post (-1) v) : wpY_escaped post v x := by
  obtain ⟨fl, yt, tx, mo, ec, de, pa, jo, cl, sy, sk⟩ := v
  unfold wpY_escaped
  dsimp only
  exact sm_ygapB I hb (br_f (by decide) h)
theorem sm_ydepth (I : sm_Y L t v) (hL : L ≤ 64) (hg : g ≤ L) (H : ∀ v', sm_Y L t v' → post (nI (sm_sk t g).length) v') : wpY_depth post v (nI g) := by
  obtain ⟨fl, yt, tx, mo, ec, de, pa, jo, cl, sy, sk⟩ := v
  unfold wpY_depth
  dsimp only
  refine sm_ygap I hL hg (br_t rfl (sm_yread rfl (by omega) I (fun v' I' => ?_)))
  have G := H v' (sm_Y1_Y I')
  obtain ⟨fl, yt, tx, mo, ec, de, pa, jo, cl, sy, sk⟩ := v'
  obtain ⟨rfl, rfl, M, P⟩ := I'
  dsimp only
  rw [nI_clamp (by omega), (M g (by omega)).2.2]
  exact ⟨vp_in_nI (by omega) (by omega), G⟩
theorem sm_ydepthB (I : sm_Y L t v) (hb : x < 0 ∨ nI L < x) (h : post (-1) v) : wpY_depth post v x := by
  obtain ⟨fl, yt, tx, mo, ec, de, pa, jo, cl, sy, sk⟩ := v
  unfold wpY_depth
  dsimp only
  exact sm_ygapB I hb (br_f (by decide) h)
theorem sm_yup (I : sm_Y L t v) (hL : L ≤ 64) (hg : g ≤ L) (H : ∀ v', sm_Y L t v' → post (sm_ex (sm_sk t g).head?) v') : wpY_up post v (nI g) := by
  obtain ⟨fl, yt, tx, mo, ec, de, pa, jo, cl, sy, sk⟩ := v
  unfold wpY_up
  dsimp only
  refine sm_ygap I hL hg (br_t rfl (sm_yread rfl (by omega) I (fun v' I' => ?_)))
  have G := H v' (sm_Y1_Y I')
  obtain ⟨fl, yt, tx, mo, ec, de, pa, jo, cl, sy, sk⟩ := v'
  obtain ⟨rfl, rfl, M, P⟩ := I'
  have hlen := sm_sk_len t g
  have hyt := P.1
  have hst := P.2.2.2.2.2
  subst hyt
  dsimp only
  cases e : sm_sk t g with
  | nil =>
    rw [e] at G
    exact br_t rfl G
  | cons q r =>
    rw [e, List.length_cons] at hlen hst
    rw [e] at G
    rw [List.length_cons, nI_pred, nI_clamp (by omega), hst r.length (by omega)]
    refine br_f (nI_ne0 (by omega) (by omega)) ⟨vp_in_nI (by omega) (by omega), ?_⟩
    have E : sm_at (q :: r) r.length = q := if_pos (Nat.le_refl _)
    rw [E]
    exact G
theorem sm_yupB (I : sm_Y L t v) (hb : x < 0 ∨ nI L < x) (h : post (-1) v) : wpY_up post v x := by
  obtain ⟨fl, yt, tx, mo, ec, de, pa, jo, cl, sy, sk⟩ := v
  unfold wpY_up
  dsimp only
  exact sm_ygapB I hb (br_f (by decide) h)
theorem sm_ybr {y : Int32} (I : sm_Y L t v) (hL : L ≤ 64) (hg : g ≤ L) (H : ∀ v', sm_Y L t v' → post (sm_ba (sm_sk t g) y) v') : wpY_bracketAt post v (nI g) y := by
  obtain ⟨fl, yt, tx, mo, ec, de, pa, jo, cl, sy, sk⟩ := v
  unfold wpY_bracketAt
  dsimp only
  refine sm_ygap I hL hg (br_t rfl (sm_yread rfl (by omega) I (fun v' I' => ?_)))
  have G := H v' (sm_Y1_Y I')
  obtain ⟨fl, yt, tx, mo, ec, de, pa, jo, cl, sy, sk⟩ := v'
  obtain ⟨rfl, rfl, M, P⟩ := I'
  have hlen := sm_sk_len t g
  have hyt := P.1
  have hst := P.2.2.2.2.2
  subst hyt
  dsimp only
  unfold sm_ba at G
  refine br_c (fun y0 => ?_) (fun y0 => br_c (fun y1 => ?_) (fun y1 => ?_))
  · rw [if_pos y0] at G; exact G
  · rw [if_neg y0, if_pos y1] at G
    obtain ⟨lv, hlv, rfl⟩ := nI_of y0
    rw [nI_ltI hlv (by omega)] at y1
    rw [nI_clamp hlv] at G
    rw [nI_clamp hlv, hst lv y1]
    exact ⟨vp_in_nI (by omega) (by omega), G⟩
  · rw [if_neg y0, if_neg y1] at G; exact G
theorem sm_ybrB {y : Int32} (I : sm_Y L t v) (hb : x < 0 ∨ nI L < x) (h : post (-1) v) : wpY_bracketAt post v x y := by
  obtain ⟨fl, yt, tx, mo, ec, de, pa, jo, cl, sy, sk⟩ := v
  unfold wpY_bracketAt
  dsimp only
  exact sm_ygapB I hb (br_f (by decide) h)
theorem sm_Y_len {fl yt : Int32} {tx mo ec de pa jo cl sy sk : Nat → Int32} (I : sm_Y L t (fl, yt, tx, mo, ec, de, pa, jo, cl, sy, sk)) : fl = nI L := I.1
theorem sm_ypartner (I : sm_Y L t v) (hL : L ≤ 64) (hg : g < L) (H : ∀ v', sm_Y L t v' → post (sm_ex (sm_pt t L g)) v') : wpY_partner post v (nI g) := by
  obtain ⟨fl, yt, tx, mo, ec, de, pa, jo, cl, sy, sk⟩ := v
  unfold wpY_partner
  dsimp only
  refine sm_yplace I hL hg (br_t rfl (sm_yread (sm_Y_len I) hL I (fun v' I' => ?_)))
  have G := H v' (sm_Y1_Y I')
  obtain ⟨fl, yt, tx, mo, ec, de, pa, jo, cl, sy, sk⟩ := v'
  obtain ⟨rfl, rfl, M, P⟩ := I'
  have hin : vp_in (nI g) 64 := vp_in_nI (by omega) (by omega)
  dsimp only
  rw [nI_clamp (by omega), P.2.1 g (by omega)]
  refine ⟨hin, ?_⟩
  cases c : sm_pt t L g with
  | none =>
    rw [c] at G
    exact br_f (by decide) G
  | some k =>
    have := (sm_pt_lt c).2
    rw [c] at G
    exact br_t (nI_pos' (n := k) (by omega)) ⟨hin, G⟩
theorem sm_ypartnerB (I : sm_Y L t v) (hb : x < 0 ∨ nI L ≤ x) (h : post (-1) v) : wpY_partner post v x := by
  obtain ⟨fl, yt, tx, mo, ec, de, pa, jo, cl, sy, sk⟩ := v
  unfold wpY_partner
  dsimp only
  exact sm_yplaceB I hb (br_f (by decide) h)
theorem sm_ystrays (I : sm_Y L t v) (hL : L ≤ 64) (H : ∀ v', sm_Y L t v' → post (nI (sm_cs t L)) v') : wpY_strays post v := by
  obtain ⟨fl, yt, tx, mo, ec, de, pa, jo, cl, sy, sk⟩ := v
  unfold wpY_strays
  dsimp only
  refine sm_yread (sm_Y_len I) hL I (fun v' I' => ?_)
  have G := H v' (sm_Y1_Y I')
  obtain ⟨fl, yt, tx, mo, ec, de, pa, jo, cl, sy, sk⟩ := v'
  obtain ⟨rfl, rfl, M, P⟩ := I'
  refine ⟨65, ?_⟩
  have Q := sm_ystraysL (mo := mo) (ec := ec) (de := de) hL P G 65 0 (by omega) (by omega)
  rw [Nat.zero_min] at Q
  exact Q
theorem sm_yunits (I : sm_Y L t v) (hL : L ≤ 64) (H : ∀ v', sm_Y L t v' → post (nI (sm_cu t L L)) v') : wpY_units post v := by
  obtain ⟨fl, yt, tx, mo, ec, de, pa, jo, cl, sy, sk⟩ := v
  unfold wpY_units
  dsimp only
  refine sm_yread (sm_Y_len I) hL I (fun v' I' => ?_)
  have G := H v' (sm_Y1_Y I')
  obtain ⟨fl, yt, tx, mo, ec, de, pa, jo, cl, sy, sk⟩ := v'
  obtain ⟨rfl, rfl, M, P⟩ := I'
  exact ⟨L + 1, sm_yunitsL hL M P G (L + 1) 0 (by omega) (by omega)⟩
theorem sm_yforward (I : sm_Y L t v) (hL : L ≤ 64) (hg : g ≤ L) (H : ∀ v', sm_Y L t v' → post (sm_fw t L (L - g) g) v') : wpY_forward post v (nI g) := by
  obtain ⟨fl, yt, tx, mo, ec, de, pa, jo, cl, sy, sk⟩ := v
  unfold wpY_forward
  dsimp only
  refine sm_ygap I hL hg (br_t rfl (sm_yread (sm_Y_len I) hL I (fun v' I' => ?_)))
  have G := H v' (sm_Y1_Y I')
  obtain ⟨fl, yt, tx, mo, ec, de, pa, jo, cl, sy, sk⟩ := v'
  obtain ⟨rfl, rfl, M, P⟩ := I'
  exact ⟨L + 1, sm_yforwardL hL M P (L + 1) g (by omega) (by omega) G⟩
theorem sm_yforwardB (I : sm_Y L t v) (hb : x < 0 ∨ nI L < x) (h : post (-1) v) : wpY_forward post v x := by
  obtain ⟨fl, yt, tx, mo, ec, de, pa, jo, cl, sy, sk⟩ := v
  unfold wpY_forward
  dsimp only
  exact sm_ygapB I hb (br_f (by decide) h)
theorem sm_ybackward (I : sm_Y L t v) (hL : L ≤ 64) (hg : g ≤ L) (H : ∀ v', sm_Y L t v' → post (sm_bw t L g g) v') : wpY_backward post v (nI g) := by
  obtain ⟨fl, yt, tx, mo, ec, de, pa, jo, cl, sy, sk⟩ := v
  unfold wpY_backward
  dsimp only
  refine sm_ygap I hL hg (br_t rfl (sm_yread (sm_Y_len I) hL I (fun v' I' => ?_)))
  have G := H v' (sm_Y1_Y I')
  obtain ⟨fl, yt, tx, mo, ec, de, pa, jo, cl, sy, sk⟩ := v'
  obtain ⟨rfl, rfl, M, P⟩ := I'
  exact nm_e ⟨g + 1, sm_ybackL hg hL M P (g + 1) g _ (by omega) (by omega) rfl G⟩
theorem sm_ybackwardB (I : sm_Y L t v) (hb : x < 0 ∨ nI L < x) (h : post (-1) v) : wpY_backward post v x := by
  obtain ⟨fl, yt, tx, mo, ec, de, pa, jo, cl, sy, sk⟩ := v
  unfold wpY_backward
  dsimp only
  exact sm_ygapB I hb (br_f (by decide) h)
theorem sm_ydown (I : sm_Y L t v) (hL : L ≤ 64) (hg : g ≤ L) (H : ∀ v', sm_Y L t v' → post (sm_dn t (L - g) g 0) v') : wpY_down post v (nI g) := by
  obtain ⟨fl, yt, tx, mo, ec, de, pa, jo, cl, sy, sk⟩ := v
  unfold wpY_down
  dsimp only
  refine sm_ygap I hL hg (br_t rfl (sm_yread (sm_Y_len I) hL I (fun v' I' => ?_)))
  have G := H v' (sm_Y1_Y I')
  obtain ⟨fl, yt, tx, mo, ec, de, pa, jo, cl, sy, sk⟩ := v'
  obtain ⟨rfl, rfl, M, P⟩ := I'
  exact ⟨L + 1, sm_ydownL hL P (L + 1) g 0 (by omega) (by omega) G⟩
theorem sm_ydownB (I : sm_Y L t v) (hb : x < 0 ∨ nI L < x) (h : post (-1) v) : wpY_down post v x := by
  obtain ⟨fl, yt, tx, mo, ec, de, pa, jo, cl, sy, sk⟩ := v
  unfold wpY_down
  dsimp only
  exact sm_ygapB I hb (br_f (by decide) h)
end
end
section
/-! the edits as methods -/
theorem sm_kind (x : Int32) : (x < 0 ∨ 7 < x) ∨ (¬ x < 0 ∧ ¬ 7 < x ∧ x ≤ 7) := by
  by_cases h : x < 0
  · exact Or.inl (Or.inl h)
  · by_cases h2 : (7 : Int32) < x
    · exact Or.inl (Or.inr h2)
    · exact Or.inr ⟨h, h2, Int32.not_lt.mp h2⟩
theorem sm_n7 {x : Int32} (h : 7 < x) : ¬ x ≤ 7 := Int32.not_le.mpr h
theorem sm_xkind {post : Int32 → Prop} {c : Int32} (h0 : ¬ c < 0) (h7 : ¬ 7 < c) (h : post 1) : wpX_isKind post c := br_f h0 (br_f h7 h)
theorem sm_xkindB {post : Int32 → Prop} {c : Int32} (hb : c < 0 ∨ 7 < c) (h : post 0) : wpX_isKind post c := by
  rcases hb with hb | hb
  · exact br_t hb h
  · exact br_c (fun _ => h) (fun _ => br_t hb h)
section
variable {post : Int32 → SX → Prop} {u : SX} {L K : Nat} {t : Nat → Int32} {x c : Int32} {g : Nat}
theorem sm_xins (I : sm_X L K t u) (hg : g ≤ L) (h0 : ¬ c < 0) (h7 : ¬ 7 < c) (hL : L < 64) (H : ∀ u', sm_X (L + 1) (min K g) (upd (sm_sh g (L - g) t) g c) u' → post (nI (L + 1)) u') : wpX_insert post u (nI g) c := by
  obtain ⟨fl, fk, fm, fe, fi, ak, ar, ap, aa, km, ke, ki⟩ := u
  unfold wpX_insert
  dsimp only
  refine sm_xgap I hg (br_f (by decide) (sm_xkind h0 h7 (br_f (by decide) ?_)))
  obtain ⟨rfl, rfl, rfl, hI⟩ := I
  refine br_f (fun z => ?_) ⟨L + 1, ?_⟩
  · have z2 : nI L = nI 64 := z
    have := (nI_eq (by omega) (by decide)).mp z2
    omega
  · have G := sm_xinsL (post := post) (fk := nI K) (fm := fm) (fe := fe) (fi := fi) (ar := ar) (ap := ap) (aa := aa) (km := km) (ke := ke) (ki := ki) (g := g) (c := c) hL (L - g) (L + 1) t (by omega) (by omega)
    rw [show g + (L - g) = L from by omega] at G
    refine G (sm_xforget hI (by omega) (by have := hI.1; omega) (by omega) (fun j hj => ?_) (fun u' I' => ?_))
    · rw [pk_un (by omega), sm_sh_lo hj]
    · have Q := H u' I'
      obtain ⟨fl, fk, fm, fe, fi, ak, ar, ap, aa, km, ke, ki⟩ := u'
      obtain ⟨rfl, _⟩ := I'
      exact Q
theorem sm_xinsF (I : sm_X L K t u) (hg : g ≤ L) (h0 : ¬ c < 0) (h7 : ¬ 7 < c) (hL : L = 64) (H : post (-3) u) : wpX_insert post u (nI g) c := by
  obtain ⟨fl, fk, fm, fe, fi, ak, ar, ap, aa, km, ke, ki⟩ := u
  unfold wpX_insert
  dsimp only
  refine sm_xgap I hg (br_f (by decide) (sm_xkind h0 h7 (br_f (by decide) (br_t ?_ H))))
  rw [sm_X_len I, hL]
  rfl
theorem sm_xinsK (I : sm_X L K t u) (hg : g ≤ L) (hb : c < 0 ∨ 7 < c) (H : post (-2) u) : wpX_insert post u (nI g) c := by
  obtain ⟨fl, fk, fm, fe, fi, ak, ar, ap, aa, km, ke, ki⟩ := u
  unfold wpX_insert
  dsimp only
  exact sm_xgap I hg (br_f (by decide) (sm_xkindB hb (br_t rfl H)))
theorem sm_xinsB (I : sm_X L K t u) (hb : x < 0 ∨ nI L < x) (H : post (-1) u) : wpX_insert post u x c := by
  obtain ⟨fl, fk, fm, fe, fi, ak, ar, ap, aa, km, ke, ki⟩ := u
  unfold wpX_insert
  dsimp only
  exact sm_xgapB I hb (br_t rfl H)
theorem sm_xset (I : sm_X L K t u) (hg : g < L) (h0 : ¬ c < 0) (h7 : ¬ 7 < c) (H : ∀ u', sm_X L (min K g) (upd t g c) u' → post (t g) u') : wpX_set post u (nI g) c := by
  have hL := (sm_X_L I).1
  obtain ⟨fl, fk, fm, fe, fi, ak, ar, ap, aa, km, ke, ki⟩ := u
  unfold wpX_set
  dsimp only
  refine sm_xplace I hg (br_f (by decide) (sm_xkind h0 h7 (br_f (by decide) ?_)))
  obtain ⟨rfl, rfl, rfl, hI⟩ := I
  have hin : vp_in (nI g) 64 := vp_in_nI (by omega) (by omega)
  rw [nI_clamp (by omega)]
  refine ⟨hin, nm_e ⟨hin, nm_e ?_⟩⟩
  refine sm_xforget hI (by omega) (by have := hI.1; omega) hL (fun j hj => pk_un (by omega)) (fun u' I' => ?_)
  have Q := H u' I'
  obtain ⟨fl, fk, fm, fe, fi, ak, ar, ap, aa, km, ke, ki⟩ := u'
  exact Q
theorem sm_xsetK (I : sm_X L K t u) (hg : g < L) (hb : c < 0 ∨ 7 < c) (H : post (-2) u) : wpX_set post u (nI g) c := by
  obtain ⟨fl, fk, fm, fe, fi, ak, ar, ap, aa, km, ke, ki⟩ := u
  unfold wpX_set
  dsimp only
  exact sm_xplace I hg (br_f (by decide) (sm_xkindB hb (br_t rfl H)))
theorem sm_xsetB (I : sm_X L K t u) (hb : x < 0 ∨ nI L ≤ x) (H : post (-1) u) : wpX_set post u x c := by
  obtain ⟨fl, fk, fm, fe, fi, ak, ar, ap, aa, km, ke, ki⟩ := u
  unfold wpX_set
  dsimp only
  exact sm_xplaceB I hb (br_t rfl H)
theorem sm_xdel {a b : Nat} (I : sm_X L K t u) (hab : a ≤ b) (hb : b ≤ L) (H : ∀ K' u', sm_X (L - (b - a)) K' (sm_dl (b - a) (L - b) a t) u' → post (nI (L - (b - a))) u') : wpX_delete post u (nI a) (nI b) := by
  have hL := (sm_X_L I).1
  obtain ⟨fl, fk, fm, fe, fi, ak, ar, ap, aa, km, ke, ki⟩ := u
  obtain ⟨rfl, rfl, rfl, hI⟩ := I
  refine br_f (nI_pos (by omega)) (br_f (nI_nlt hab (by omega)) (br_t (nI_le hb (by omega)) (nm_r (pk_sub hab) ⟨L + 1, ?_⟩)))
  have G := sm_xdelL (post := post) (fk := nI K) (fm := fm) (fe := fe) (fi := fi) (ar := ar) (ap := ap) (aa := aa) (km := km) (ke := ke) (ki := ki) (a := a) (m := b - a) hL (L - b) (L + 1) a t (by omega) (by omega)
  rw [show a + (b - a) = b from by omega] at G
  refine G (pk_le (b - a) 0 (fun z => ?_) (fun z => ?_))
  · have e : b - a = 0 := by omega
    refine H K _ ⟨rfl, rfl, rfl, ?_⟩
    rw [e, sm_dl_0]
    exact hI
  · refine sm_xforget hI (by omega) (by omega) (by omega) (fun j hj => sm_dl_lo hj _ _ _ (Nat.le_refl _)) (fun u' I' => ?_)
    have Q := H _ u' I'
    obtain ⟨fl, fk, fm, fe, fi, ak, ar, ap, aa, km, ke, ki⟩ := u'
    obtain ⟨rfl, _⟩ := I'
    exact Q
theorem sm_xdelB {y : Int32} (I : sm_X L K t u) (hb : x < 0 ∨ y < x ∨ ¬ y ≤ nI L) (H : post (-1) u) : wpX_delete post u x y := by
  obtain ⟨fl, fk, fm, fe, fi, ak, ar, ap, aa, km, ke, ki⟩ := u
  obtain ⟨rfl, rfl, rfl, hI⟩ := I
  rcases hb with hb | hb | hb
  · exact br_t hb H
  · exact br_c (fun _ => H) (fun _ => br_t hb H)
  · exact br_c (fun _ => H) (fun _ => br_c (fun _ => H) (fun _ => br_f hb H))
theorem sm_xkindAt {post : Int32 → Prop} (I : sm_X L K t u) (hg : g < L) (H : post (t g)) : wpX_kindAt post u (nI g) := by
  have hL := (sm_X_L I).1
  obtain ⟨fl, fk, fm, fe, fi, ak, ar, ap, aa, km, ke, ki⟩ := u
  unfold wpX_kindAt
  dsimp only
  refine sm_xplace I hg (br_f (by decide) ?_)
  obtain ⟨rfl, rfl, rfl, hI⟩ := I
  rw [nI_clamp (by omega)]
  exact ⟨vp_in_nI (by omega) (by omega), H⟩
theorem sm_xkindAtB {post : Int32 → Prop} (I : sm_X L K t u) (hb : x < 0 ∨ nI L ≤ x) (H : post (-1)) : wpX_kindAt post u x := by
  obtain ⟨fl, fk, fm, fe, fi, ak, ar, ap, aa, km, ke, ki⟩ := u
  unfold wpX_kindAt
  dsimp only
  exact sm_xplaceB I hb (br_t rfl H)
end
section
variable {post : Int32 → SY → Prop} {v : SY} {L : Nat} {t : Nat → Int32} {x c : Int32} {g : Nat}
theorem sm_yins (I : sm_Y L t v) (hg : g ≤ L) (h0 : ¬ c < 0) (h7 : c ≤ 7) (hL : L < 64) (H : ∀ v', sm_Y (L + 1) (upd (sm_sh g (L - g) t) g c) v' → post (nI (L + 1)) v') : wpY_insert post v (nI g) c := by
  obtain ⟨fl, yt, tx, mo, ec, de, pa, jo, cl, sy, sk⟩ := v
  unfold wpY_insert
  dsimp only
  refine sm_ygap I (by omega) hg (br_t rfl (br_f h0 (br_t h7 ?_)))
  obtain ⟨rfl, rfl⟩ := I
  refine br_t (nI_lt (b := 64) hL (by decide)) ⟨L + 1, ?_⟩
  have G := sm_yinsL (post := post) (yt := yt) (mo := mo) (ec := ec) (de := de) (pa := pa) (jo := jo) (cl := cl) (sy := sy) (sk := sk) (g := g) (c := c) hL (L - g) (L + 1) t (by omega) (by omega) (H _ ⟨rfl, rfl⟩)
  rw [show g + (L - g) = L from by omega] at G
  exact G
theorem sm_yinsF (I : sm_Y L t v) (hg : g ≤ L) (h0 : ¬ c < 0) (h7 : c ≤ 7) (hL : L = 64) (H : post (-3) v) : wpY_insert post v (nI g) c := by
  obtain ⟨fl, yt, tx, mo, ec, de, pa, jo, cl, sy, sk⟩ := v
  unfold wpY_insert
  dsimp only
  refine sm_ygap I (by omega) hg (br_t rfl (br_f h0 (br_t h7 (br_f ?_ H))))
  rw [sm_Y_len I, hL]
  exact nI_nlt (b := 64) (Nat.le_refl _) (by decide)
theorem sm_yinsK (I : sm_Y L t v) (hL : L ≤ 64) (hg : g ≤ L) (hb : c < 0 ∨ 7 < c) (H : post (-2) v) : wpY_insert post v (nI g) c := by
  obtain ⟨fl, yt, tx, mo, ec, de, pa, jo, cl, sy, sk⟩ := v
  unfold wpY_insert
  dsimp only
  refine sm_ygap I hL hg (br_t rfl ?_)
  rcases hb with hb | hb
  · exact br_t hb H
  · exact br_c (fun _ => H) (fun _ => br_f (sm_n7 hb) H)
theorem sm_yinsB (I : sm_Y L t v) (hb : x < 0 ∨ nI L < x) (H : post (-1) v) : wpY_insert post v x c := by
  obtain ⟨fl, yt, tx, mo, ec, de, pa, jo, cl, sy, sk⟩ := v
  unfold wpY_insert
  dsimp only
  exact sm_ygapB I hb (br_f (by decide) H)
theorem sm_yset (I : sm_Y L t v) (hL : L ≤ 64) (hg : g < L) (h0 : ¬ c < 0) (h7 : c ≤ 7) (H : ∀ v', sm_Y L (upd t g c) v' → post (t g) v') : wpY_set post v (nI g) c := by
  obtain ⟨fl, yt, tx, mo, ec, de, pa, jo, cl, sy, sk⟩ := v
  unfold wpY_set
  dsimp only
  refine sm_yplace I hL hg (br_t rfl (br_f h0 (br_t h7 ?_)))
  obtain ⟨rfl, rfl⟩ := I
  have hin : vp_in (nI g) 64 := vp_in_nI (by omega) (by omega)
  rw [nI_clamp (by omega)]
  exact ⟨hin, nm_e ⟨hin, nm_e (H _ ⟨rfl, rfl⟩)⟩⟩
theorem sm_ysetK (I : sm_Y L t v) (hL : L ≤ 64) (hg : g < L) (hb : c < 0 ∨ 7 < c) (H : post (-2) v) : wpY_set post v (nI g) c := by
  obtain ⟨fl, yt, tx, mo, ec, de, pa, jo, cl, sy, sk⟩ := v
  unfold wpY_set
  dsimp only
  refine sm_yplace I hL hg (br_t rfl ?_)
  rcases hb with hb | hb
  · exact br_t hb H
  · exact br_c (fun _ => H) (fun _ => br_f (sm_n7 hb) H)
theorem sm_ysetB (I : sm_Y L t v) (hb : x < 0 ∨ nI L ≤ x) (H : post (-1) v) : wpY_set post v x c := by
  obtain ⟨fl, yt, tx, mo, ec, de, pa, jo, cl, sy, sk⟩ := v
  unfold wpY_set
  dsimp only
  exact sm_yplaceB I hb (br_f (by decide) H)
theorem sm_ydel {a b : Nat} (I : sm_Y L t v) (hL : L ≤ 64) (hab : a ≤ b) (hb : b ≤ L) (H : ∀ v', sm_Y (L - (b - a)) (sm_dl (b - a) (L - b) a t) v' → post (nI (L - (b - a))) v') : wpY_delete post v (nI a) (nI b) := by
  obtain ⟨fl, yt, tx, mo, ec, de, pa, jo, cl, sy, sk⟩ := v
  obtain ⟨rfl, rfl⟩ := I
  refine br_f (nI_pos (by omega)) (br_f (nI_nlt hab (by omega)) (br_t (nI_le hb (by omega)) (nm_r (pk_sub hab) ⟨L + 1, ?_⟩)))
  exact sm_ydelL hL (L - b) (L + 1) a t (by omega) (by omega) (H _ ⟨rfl, rfl⟩)
theorem sm_ydelB {y : Int32} (I : sm_Y L t v) (hb : x < 0 ∨ y < x ∨ ¬ y ≤ nI L) (H : post (-1) v) : wpY_delete post v x y := by
  obtain ⟨fl, yt, tx, mo, ec, de, pa, jo, cl, sy, sk⟩ := v
  obtain ⟨rfl, rfl⟩ := I
  rcases hb with hb | hb | hb
  · exact br_t hb H
  · exact br_c (fun _ => H) (fun _ => br_t hb H)
  · exact br_c (fun _ => H) (fun _ => br_c (fun _ => H) (fun _ => br_f hb H))
theorem sm_ykindAt {post : Int32 → Prop} (I : sm_Y L t v) (hL : L ≤ 64) (hg : g < L) (H : post (t g)) : wpY_kindAt post v (nI g) := by
  obtain ⟨fl, yt, tx, mo, ec, de, pa, jo, cl, sy, sk⟩ := v
  unfold wpY_kindAt
  dsimp only
  refine sm_yplace I hL hg (br_t rfl ?_)
  obtain ⟨rfl, rfl⟩ := I
  rw [nI_clamp (by omega)]
  exact ⟨vp_in_nI (by omega) (by omega), H⟩
theorem sm_ykindAtB {post : Int32 → Prop} (I : sm_Y L t v) (hb : x < 0 ∨ nI L ≤ x) (H : post (-1)) : wpY_kindAt post v x := by
  obtain ⟨fl, yt, tx, mo, ec, de, pa, jo, cl, sy, sk⟩ := v
  unfold wpY_kindAt
  dsimp only
  exact sm_yplaceB I hb (br_f (by decide) H)
end
theorem sm_del_cases (x y : Int32) {L : Nat} (hL : L ≤ 64) : (x < 0 ∨ y < x ∨ ¬ y ≤ nI L) ∨ ∃ a b, a ≤ b ∧ b ≤ L ∧ x = nI a ∧ y = nI b := by
  by_cases h0 : x < 0
  · exact Or.inl (Or.inl h0)
  · by_cases h1 : y < x
    · exact Or.inl (Or.inr (Or.inl h1))
    · by_cases h2 : y ≤ nI L
      · obtain ⟨a, ha, rfl⟩ := nI_of h0
        have hy : ¬ y < 0 := fun z => h1 (Int32.lt_of_lt_of_le z (nI_pos' ha))
        obtain ⟨b, hb, rfl⟩ := nI_of hy
        rw [nI_ltI hb ha] at h1
        rw [nI_leI hb (by omega)] at h2
        exact Or.inr ⟨a, b, by omega, h2, rfl, rfl⟩
      · exact Or.inl (Or.inr (Or.inr h2))
end
section
/-- the relation: one length, one text; the class knows the first K characters of it -/
def i_Rel (_ : Nat) (u : SX) (v : SY) : Prop := ∃ (L K : Nat) (t : Nat → Int32), sm_X L K t u ∧ sm_Y L t v
theorem i_up {k : Nat} {u : SX} {v : SY} (h : i_Rel k u v) : i_Rel (k + 3) u v := h
theorem i_vc0 : wpX_init (fun u => wpY_init (fun v => i_Rel 0 u v)) := by
  refine nm_e ?_
  refine ⟨0, 0, fun _ => 0, ⟨rfl, rfl, rfl, Nat.le_refl _, by omega, fun p hp => absurd hp (Nat.not_lt_zero _), fun p hp => absurd hp (Nat.not_lt_zero _), fun p hp => absurd hp (Nat.not_lt_zero _), fun k hk => ?_⟩, rfl, rfl⟩
  have e : k = 0 := by omega
  subst e
  exact ⟨rfl, rfl, pk_us⟩
theorem i_vc_insert {k : Nat} {u : SX} {v : SY} (I : i_Rel k u v) (hk : k + 3 ≤ 1536) (v1 : Int32) (v2 : Int32) : wpX_insert (fun r u' => wpY_insert (fun r' v' => r' = r ∧ i_Rel (k + 3) u' v') v v1 v2) u v1 v2 := by
  obtain ⟨L, K, t, hX, hY⟩ := I
  have hL := (sm_X_L hX).1
  rcases sm_gap v1 hL with hb | ⟨g, hg, rfl⟩
  · exact sm_xinsB hX hb (sm_yinsB hY hb ⟨rfl, L, K, t, hX, hY⟩)
  · rcases sm_kind v2 with hb | ⟨h0, h7, h7'⟩
    · exact sm_xinsK hX hg hb (sm_yinsK hY hL hg hb ⟨rfl, L, K, t, hX, hY⟩)
    · by_cases h : L = 64
      · exact sm_xinsF hX hg h0 h7 h (sm_yinsF hY hg h0 h7' h ⟨rfl, L, K, t, hX, hY⟩)
      · exact sm_xins hX hg h0 h7 (by omega) (fun u' hX' => sm_yins hY hg h0 h7' (by omega) (fun v' hY' => ⟨rfl, _, _, _, hX', hY'⟩))
theorem i_vc_delete {k : Nat} {u : SX} {v : SY} (I : i_Rel k u v) (hk : k + 3 ≤ 1536) (v1 : Int32) (v2 : Int32) : wpX_delete (fun r u' => wpY_delete (fun r' v' => r' = r ∧ i_Rel (k + 3) u' v') v v1 v2) u v1 v2 := by
  obtain ⟨L, K, t, hX, hY⟩ := I
  have hL := (sm_X_L hX).1
  rcases sm_del_cases v1 v2 hL with hb | ⟨a, b, hab, hb, rfl, rfl⟩
  · exact sm_xdelB hX hb (sm_ydelB hY hb ⟨rfl, L, K, t, hX, hY⟩)
  · exact sm_xdel hX hab hb (fun K' u' hX' => sm_ydel hY hL hab hb (fun v' hY' => ⟨rfl, _, _, _, hX', hY'⟩))
theorem i_vc_set {k : Nat} {u : SX} {v : SY} (I : i_Rel k u v) (hk : k + 3 ≤ 1536) (v1 : Int32) (v2 : Int32) : wpX_set (fun r u' => wpY_set (fun r' v' => r' = r ∧ i_Rel (k + 3) u' v') v v1 v2) u v1 v2 := by
  obtain ⟨L, K, t, hX, hY⟩ := I
  have hL := (sm_X_L hX).1
  rcases sm_place v1 hL with hb | ⟨g, hg, rfl⟩
  · exact sm_xsetB hX hb (sm_ysetB hY hb ⟨rfl, L, K, t, hX, hY⟩)
  · rcases sm_kind v2 with hb | ⟨h0, h7, h7'⟩
    · exact sm_xsetK hX hg hb (sm_ysetK hY hL hg hb ⟨rfl, L, K, t, hX, hY⟩)
    · exact sm_xset hX hg h0 h7 (fun u' hX' => sm_yset hY hL hg h0 h7' (fun v' hY' => ⟨rfl, _, _, _, hX', hY'⟩))
theorem i_vc_length {k : Nat} {u : SX} {v : SY} (I : i_Rel k u v) (hk : k + 3 ≤ 1536) : wpX_length (fun r => wpY_length (fun r' => r' = r ∧ i_Rel (k + 3) u v) v) u := by
  have I' := I
  obtain ⟨L, K, t, hX, hY⟩ := I'
  obtain ⟨fl, fk, fm, fe, fi, ak, ar, ap, aa, km, ke, ki⟩ := u
  obtain ⟨yl, yt, tx, mo, ec, de, pa, jo, cl, sy, sk⟩ := v
  exact ⟨(sm_Y_len hY).trans (sm_X_len hX).symm, I⟩
theorem i_vc_kindAt {k : Nat} {u : SX} {v : SY} (I : i_Rel k u v) (hk : k + 3 ≤ 1536) (v1 : Int32) : wpX_kindAt (fun r => wpY_kindAt (fun r' => r' = r ∧ i_Rel (k + 3) u v) v v1) u v1 := by
  have I' := I
  obtain ⟨L, K, t, hX, hY⟩ := I'
  have hL := (sm_X_L hX).1
  rcases sm_place v1 hL with hb | ⟨g, hg, rfl⟩
  · exact sm_xkindAtB hX hb (sm_ykindAtB hY hb ⟨rfl, I⟩)
  · exact sm_xkindAt hX hg (sm_ykindAt hY hL hg ⟨rfl, I⟩)
theorem i_vc_mode {k : Nat} {u : SX} {v : SY} (I : i_Rel k u v) (hk : k + 3 ≤ 1536) (v1 : Int32) : wpX_mode (fun r u' => wpY_mode (fun r' v' => r' = r ∧ i_Rel (k + 3) u' v') v v1) u v1 := by
  obtain ⟨L, K, t, hX, hY⟩ := I
  have hL := (sm_X_L hX).1
  rcases sm_gap v1 hL with hb | ⟨g, hg, rfl⟩
  · exact sm_xmodeB hX hb (sm_ymodeB hY hb ⟨rfl, L, K, t, hX, hY⟩)
  · exact sm_xmode hX hg (fun u' hX' => sm_ymode hY hL hg (fun v' hY' => ⟨rfl, _, _, _, hX', hY'⟩))
theorem i_vc_escaped {k : Nat} {u : SX} {v : SY} (I : i_Rel k u v) (hk : k + 3 ≤ 1536) (v1 : Int32) : wpX_escaped (fun r u' => wpY_escaped (fun r' v' => r' = r ∧ i_Rel (k + 3) u' v') v v1) u v1 := by
  obtain ⟨L, K, t, hX, hY⟩ := I
  have hL := (sm_X_L hX).1
  rcases sm_gap v1 hL with hb | ⟨g, hg, rfl⟩
  · exact sm_xescapedB hX hb (sm_yescapedB hY hb ⟨rfl, L, K, t, hX, hY⟩)
  · exact sm_xescaped hX hg (fun u' hX' => sm_yescaped hY hL hg (fun v' hY' => ⟨rfl, _, _, _, hX', hY'⟩))
theorem i_vc_depth {k : Nat} {u : SX} {v : SY} (I : i_Rel k u v) (hk : k + 3 ≤ 1536) (v1 : Int32) : wpX_depth (fun r u' => wpY_depth (fun r' v' => r' = r ∧ i_Rel (k + 3) u' v') v v1) u v1 := by
  obtain ⟨L, K, t, hX, hY⟩ := I
  have hL := (sm_X_L hX).1
  rcases sm_gap v1 hL with hb | ⟨g, hg, rfl⟩
  · exact sm_xdepthB hX hb (sm_ydepthB hY hb ⟨rfl, L, K, t, hX, hY⟩)
  · exact sm_xdepthM hX hg (fun u' hX' => sm_ydepth hY hL hg (fun v' hY' => ⟨rfl, _, _, _, hX', hY'⟩))
theorem i_vc_bracketAt {k : Nat} {u : SX} {v : SY} (I : i_Rel k u v) (hk : k + 3 ≤ 1536) (v1 : Int32) (v2 : Int32) : wpX_bracketAt (fun r u' => wpY_bracketAt (fun r' v' => r' = r ∧ i_Rel (k + 3) u' v') v v1 v2) u v1 v2 := by
  obtain ⟨L, K, t, hX, hY⟩ := I
  have hL := (sm_X_L hX).1
  rcases sm_gap v1 hL with hb | ⟨g, hg, rfl⟩
  · exact sm_xbrB hX hb (sm_ybrB hY hb ⟨rfl, L, K, t, hX, hY⟩)
  · exact sm_xbr hX hg (fun u' hX' => sm_ybr hY hL hg (fun v' hY' => ⟨rfl, _, _, _, hX', hY'⟩))
theorem i_vc_partner {k : Nat} {u : SX} {v : SY} (I : i_Rel k u v) (hk : k + 3 ≤ 1536) (v1 : Int32) : wpX_partner (fun r u' => wpY_partner (fun r' v' => r' = r ∧ i_Rel (k + 3) u' v') v v1) u v1 := by
  obtain ⟨L, K, t, hX, hY⟩ := I
  have hL := (sm_X_L hX).1
  rcases sm_place v1 hL with hb | ⟨g, hg, rfl⟩
  · exact sm_xpartnerB hX hb (sm_ypartnerB hY hb ⟨rfl, L, K, t, hX, hY⟩)
  · exact sm_xpartner hX hg (fun u' hX' => sm_ypartner hY hL hg (fun v' hY' => ⟨rfl, _, _, _, hX', hY'⟩))
theorem i_vc_strays {k : Nat} {u : SX} {v : SY} (I : i_Rel k u v) (hk : k + 3 ≤ 1536) : wpX_strays (fun r u' => wpY_strays (fun r' v' => r' = r ∧ i_Rel (k + 3) u' v') v) u := by
  obtain ⟨L, K, t, hX, hY⟩ := I
  have hL := (sm_X_L hX).1
  exact sm_xstrays hX (fun u' hX' => sm_ystrays hY hL (fun v' hY' => ⟨rfl, _, _, _, hX', hY'⟩))
theorem i_vc_forward {k : Nat} {u : SX} {v : SY} (I : i_Rel k u v) (hk : k + 3 ≤ 1536) (v1 : Int32) : wpX_forward (fun r u' => wpY_forward (fun r' v' => r' = r ∧ i_Rel (k + 3) u' v') v v1) u v1 := by
  obtain ⟨L, K, t, hX, hY⟩ := I
  have hL := (sm_X_L hX).1
  rcases sm_gap v1 hL with hb | ⟨g, hg, rfl⟩
  · exact sm_xforwardB hX hb (sm_yforwardB hY hb ⟨rfl, L, K, t, hX, hY⟩)
  · exact sm_xforward hX hg (fun u' hX' => sm_yforward hY hL hg (fun v' hY' => ⟨rfl, _, _, _, hX', hY'⟩))
theorem i_vc_backward {k : Nat} {u : SX} {v : SY} (I : i_Rel k u v) (hk : k + 3 ≤ 1536) (v1 : Int32) : wpX_backward (fun r u' => wpY_backward (fun r' v' => r' = r ∧ i_Rel (k + 3) u' v') v v1) u v1 := by
  obtain ⟨L, K, t, hX, hY⟩ := I
  have hL := (sm_X_L hX).1
  rcases sm_gap v1 hL with hb | ⟨g, hg, rfl⟩
  · exact sm_xbackwardB hX hb (sm_ybackwardB hY hb ⟨rfl, L, K, t, hX, hY⟩)
  · exact sm_xbackward hX hg (fun u' hX' => sm_ybackward hY hL hg (fun v' hY' => ⟨rfl, _, _, _, hX', hY'⟩))
theorem i_vc_up {k : Nat} {u : SX} {v : SY} (I : i_Rel k u v) (hk : k + 3 ≤ 1536) (v1 : Int32) : wpX_up (fun r u' => wpY_up (fun r' v' => r' = r ∧ i_Rel (k + 3) u' v') v v1) u v1 := by
  obtain ⟨L, K, t, hX, hY⟩ := I
  have hL := (sm_X_L hX).1
  rcases sm_gap v1 hL with hb | ⟨g, hg, rfl⟩
  · exact sm_xupB hX hb (sm_yupB hY hb ⟨rfl, L, K, t, hX, hY⟩)
  · exact sm_xup hX hg (fun u' hX' => sm_yup hY hL hg (fun v' hY' => ⟨rfl, _, _, _, hX', hY'⟩))
theorem i_vc_down {k : Nat} {u : SX} {v : SY} (I : i_Rel k u v) (hk : k + 3 ≤ 1536) (v1 : Int32) : wpX_down (fun r u' => wpY_down (fun r' v' => r' = r ∧ i_Rel (k + 3) u' v') v v1) u v1 := by
  obtain ⟨L, K, t, hX, hY⟩ := I
  have hL := (sm_X_L hX).1
  rcases sm_gap v1 hL with hb | ⟨g, hg, rfl⟩
  · exact sm_xdownB hX hb (sm_ydownB hY hb ⟨rfl, L, K, t, hX, hY⟩)
  · exact sm_xdown hX hg (fun u' hX' => sm_ydown hY hL hg (fun v' hY' => ⟨rfl, _, _, _, hX', hY'⟩))
theorem i_vc_units {k : Nat} {u : SX} {v : SY} (I : i_Rel k u v) (hk : k + 3 ≤ 1536) : wpX_units (fun r u' => wpY_units (fun r' v' => r' = r ∧ i_Rel (k + 3) u' v') v) u := by
  obtain ⟨L, K, t, hX, hY⟩ := I
  have hL := (sm_X_L hX).1
  exact sm_xunits hX (fun u' hX' => sm_yunits hY hL (fun v' hY' => ⟨rfl, _, _, _, hX', hY'⟩))
end
