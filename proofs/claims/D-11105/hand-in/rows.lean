section
/-! ===== the pure picture: leaping, answers, the search's invariant ===== -/
/-- y is the least thing from x on with p; 8 when there is none -/
def lj_F (p : Nat → Bool) (x y : Nat) : Prop := x ≤ y ∧ y ≤ 8 ∧ (∀ z, x ≤ z → z < y → p z = false) ∧ (y < 8 → p y = true)
theorem lj_Fex (p : Nat → Bool) (k : Nat) : ∀ x, x + k = 8 → ∃ y, lj_F p x y := by
  induction k with
  | zero =>
    intro x hx
    exact ⟨8, by omega, by omega, fun z h1 h2 => absurd h1 (by omega), fun h => absurd h (by omega)⟩
  | succ k ih =>
    intro x hx
    cases hp : p x with
    | true => exact ⟨x, by omega, by omega, fun z h1 h2 => absurd h1 (by omega), fun _ => hp⟩
    | false =>
      obtain ⟨y, h1, h2, h3, h4⟩ := ih (x + 1) (by omega)
      refine ⟨y, by omega, h2, fun z z1 z2 => ?_, h4⟩
      by_cases e : z = x
      · rw [e, hp]
      · exact h3 z (by omega) z2
/-- what all atoms with variable d allow, the variables before d being t -/
def lj_ok (m t : Nat → Nat) (d y : Nat) : Bool := match d with
  | 0 => m y != 0
  | 1 => y == 0
  | 2 => (m (t 0)).testBit y && m y != 0
  | _ => (m (t 2)).testBit y
def lj_p (d : Nat) : Nat := match d with
  | 0 => 4096
  | 1 => 512
  | 2 => 64
  | 3 => 8
  | _ => 1
def lj_top (n d : Nat) : Nat := n / lj_p d
def lj_dg (n d : Nat) : Nat := lj_top n (d + 1) % 8
/-- n is an answer -/
def lj_an (m : Nat → Nat) (n : Nat) : Prop := ∀ d, d < 4 → lj_ok m (lj_dg n) d (lj_dg n d) = true
def lj_pre (t : Nat → Nat) : Nat → Nat
  | 0 => 0
  | d + 1 => lj_pre t d * 8 + t d
def lj_c (d : Nat) : Nat := match d with
  | 0 => 658
  | 1 => 82
  | 2 => 10
  | _ => 1
def lj_sp (t : Nat → Nat) : Nat → Nat
  | 0 => 0
  | d + 1 => lj_sp t d + (7 - t d) * lj_c d + 1
def lj_mu (t : Nat → Nat) (d x : Nat) : Nat := lj_sp t d + (8 - x) * lj_c d + 1
theorem lj_d4 {P : Nat → Prop} (h0 : P 0) (h1 : P 1) (h2 : P 2) (h3 : P 3) : ∀ d, d < 4 → P d
  | 0, _ => h0
  | 1, _ => h1
  | 2, _ => h2
  | 3, _ => h3
  | _ + 4, h => absurd h (by omega)
theorem lj_ok_c {m t t' : Nat → Nat} {d y : Nat} (hd : d < 4) (h : ∀ e, e < d → t e = t' e) : lj_ok m t d y = lj_ok m t' d y := by
  revert h
  refine lj_d4 (P := fun d => (∀ e, e < d → t e = t' e) → lj_ok m t d y = lj_ok m t' d y) ?_ ?_ ?_ ?_ d hd
  · intro _; rfl
  · intro _; rfl
  · intro h
    show ((m (t 0)).testBit y && m y != 0) = ((m (t' 0)).testBit y && m y != 0)
    rw [h 0 (by omega)]
  · intro h
    show (m (t 2)).testBit y = (m (t' 2)).testBit y
    rw [h 2 (by omega)]
theorem lj_pre_c {t t' : Nat → Nat} : ∀ d, (∀ e, e < d → t e = t' e) → lj_pre t d = lj_pre t' d
  | 0, _ => rfl
  | d + 1, h => by
    show lj_pre t d * 8 + t d = lj_pre t' d * 8 + t' d
    rw [lj_pre_c d (fun e he => h e (by omega)), h d (by omega)]
theorem lj_sp_c {t t' : Nat → Nat} : ∀ d, (∀ e, e < d → t e = t' e) → lj_sp t d = lj_sp t' d
  | 0, _ => rfl
  | d + 1, h => by
    show lj_sp t d + (7 - t d) * lj_c d + 1 = lj_sp t' d + (7 - t' d) * lj_c d + 1
    rw [lj_sp_c d (fun e he => h e (by omega)), h d (by omega)]
theorem lj_dg_lt (n d : Nat) : lj_dg n d < 8 := Nat.mod_lt _ (by decide)
theorem lj_top_s (n : Nat) : ∀ d, d < 4 → lj_top n (d + 1) = lj_top n d * 8 + lj_dg n d := by
  refine lj_d4 ?_ ?_ ?_ ?_
  · show n / 512 = n / 4096 * 8 + n / 512 % 8
    omega
  · show n / 64 = n / 512 * 8 + n / 64 % 8
    omega
  · show n / 8 = n / 64 * 8 + n / 8 % 8
    omega
  · show n / 1 = n / 8 * 8 + n / 1 % 8
    omega
theorem lj_top_0 {n : Nat} (h : n < 4096) : lj_top n 0 = 0 := by
  show n / 4096 = 0
  omega
theorem lj_top_4 (n : Nat) : lj_top n 4 = n := by
  show n / 1 = n
  omega
theorem lj_top_mono {a b : Nat} (h : a ≤ b) (d : Nat) : lj_top a d ≤ lj_top b d := Nat.div_le_div_right h
theorem lj_top_pre {t : Nat → Nat} {n : Nat} (hn : n < 4096) : ∀ d, d ≤ 4 → (∀ e, e < d → t e < 8) → (lj_top n d = lj_pre t d ↔ ∀ e, e < d → t e = lj_dg n e)
  | 0, _, _ => ⟨fun _ e he => absurd he (by omega), fun _ => lj_top_0 hn⟩
  | d + 1, hd, ht => by
    have ih := lj_top_pre hn d (by omega) (fun e he => ht e (by omega))
    have h1 := lj_top_s n d (by omega)
    have h2 := lj_dg_lt n d
    have h3 := ht d (by omega)
    have h4 : lj_pre t (d + 1) = lj_pre t d * 8 + t d := rfl
    constructor
    · intro h e he
      have q : lj_top n d = lj_pre t d ∧ t d = lj_dg n d := by omega
      by_cases g : e = d
      · rw [g]; exact q.2
      · exact ih.mp q.1 e (by omega)
    · intro h
      have q1 := ih.mpr (fun e he => h e (by omega))
      have q2 := h d (by omega)
      omega
/-- the search's invariant -/
def lj_I (m t : Nat → Nat) (low d x : Nat) : Prop := d < 4 ∧ x ≤ 8 ∧ (∀ e, e < d → t e < 8 ∧ lj_ok m t e (t e) = true) ∧ (∀ n, low ≤ n → n < 4096 → lj_an m n → lj_pre t d * 8 + x ≤ lj_top n (d + 1)) ∧ lj_top low (d + 1) ≤ lj_pre t d * 8 + x
theorem lj_key {m t : Nat → Nat} {low d x y : Nat} (I : lj_I m t low d x) (f : lj_F (lj_ok m t d) x y) {n : Nat} (h1 : low ≤ n) (h2 : n < 4096) (h3 : lj_an m n) : lj_pre t d * 8 + y ≤ lj_top n (d + 1) := by
  obtain ⟨hd, hx, ht, hl, hg⟩ := I
  obtain ⟨f1, f2, f3, f4⟩ := f
  have a := hl n h1 h2 h3
  have b := lj_top_s n d hd
  have c := lj_dg_lt n d
  by_cases e : lj_top n d = lj_pre t d
  · have g := (lj_top_pre h2 d (by omega) (fun e he => (ht e he).1)).mp e
    have o := h3 d hd
    rw [← lj_ok_c hd g] at o
    by_cases z : lj_dg n d < y
    · have q := f3 (lj_dg n d) (by omega) z
      rw [q] at o
      exact absurd o (by decide)
    · omega
  · omega
theorem lj_cc : ∀ d, d < 3 → lj_c d = 8 * lj_c (d + 1) + 2
  | 0, _ => rfl
  | 1, _ => rfl
  | 2, _ => rfl
  | _ + 3, h => absurd h (by omega)
theorem lj_find {m t t' : Nat → Nat} {low d x y x' : Nat} (I : lj_I m t low d x) (f : lj_F (lj_ok m t d) x y) (hy : y < 8) (hd : d + 1 < 4) (e1 : ∀ e, e < d → t e = t' e) (e2 : t' d = y) (hlow : low < 4096)
    (hx : (lj_top low (d + 1) = lj_pre t' (d + 1) ∧ x' = lj_dg low (d + 1)) ∨ (lj_top low (d + 1) ≠ lj_pre t' (d + 1) ∧ x' = 0)) : lj_I m t' low (d + 1) x' ∧ lj_mu t' (d + 1) x' < lj_mu t d x := by
  have K := fun n h1 h2 h3 => lj_key I f (n := n) h1 h2 h3
  obtain ⟨_, hx8, ht, hl, hg⟩ := I
  obtain ⟨f1, f2, f3, f4⟩ := f
  have P : lj_pre t' (d + 1) = lj_pre t d * 8 + y := by
    show lj_pre t' d * 8 + t' d = _
    rw [lj_pre_c d e1, e2]
  have D := lj_dg_lt low (d + 1)
  have T := lj_top_s low (d + 1) hd
  refine ⟨⟨hd, by omega, fun e he => ?_, fun n h1 h2 h3 => ?_, by omega⟩, ?_⟩
  · by_cases g : e = d
    · rw [g, e2, ← lj_ok_c (by omega) e1]
      exact ⟨hy, f4 hy⟩
    · have q := ht e (by omega)
      rw [lj_ok_c (t' := t') (by omega) (fun e' he' => e1 e' (by omega)), e1 e (by omega)] at q
      exact q
  · have k := K n h1 h2 h3
    have T2 := lj_top_s n (d + 1) hd
    have M := lj_top_mono h1 (d + 1 + 1)
    omega
  · show lj_sp t' d + (7 - t' d) * lj_c d + 1 + (8 - x') * lj_c (d + 1) + 1 < lj_sp t d + (8 - x) * lj_c d + 1
    rw [← lj_sp_c d e1, e2]
    have c := lj_cc d (by omega)
    have u1 : (8 - x') * lj_c (d + 1) ≤ 8 * lj_c (d + 1) := Nat.mul_le_mul_right _ (by omega)
    have u2 : (8 - y) * lj_c d ≤ (8 - x) * lj_c d := Nat.mul_le_mul_right _ (by omega)
    have u3 : (8 - y) * lj_c d = (7 - y) * lj_c d + lj_c d := by
      rw [show 8 - y = (7 - y) + 1 by omega, Nat.add_mul, Nat.one_mul]
    omega
theorem lj_done {m t t' : Nat → Nat} {low x y : Nat} (I : lj_I m t low 3 x) (f : lj_F (lj_ok m t 3) x y) (hy : y < 8) (e1 : ∀ e, e < 3 → t e = t' e) (e2 : t' 3 = y) : low ≤ lj_pre t' 4 ∧ lj_pre t' 4 < 4096 ∧ lj_an m (lj_pre t' 4) ∧ ∀ k, low ≤ k → k < 4096 → lj_an m k → lj_pre t' 4 ≤ k := by
  have K := fun n h1 h2 h3 => lj_key I f (n := n) h1 h2 h3
  obtain ⟨_, hx8, ht, hl, hg⟩ := I
  obtain ⟨f1, f2, f3, f4⟩ := f
  have P : lj_pre t' 4 = lj_pre t 3 * 8 + y := by
    show lj_pre t' 3 * 8 + t' 3 = _
    rw [lj_pre_c 3 e1, e2]
  have o : ∀ e, e < 4 → t' e < 8 ∧ lj_ok m t' e (t' e) = true := by
    intro e he
    by_cases g : e = 3
    · rw [g, e2, ← lj_ok_c (by omega) e1]
      exact ⟨hy, f4 hy⟩
    · have q := ht e (by omega)
      rw [lj_ok_c (t' := t') (by omega) (fun e' he' => e1 e' (by omega)), e1 e (by omega)] at q
      exact q
  have B : lj_pre t' 4 < 4096 := by
    have b0 := (o 0 (by omega)).1
    have b1 := (o 1 (by omega)).1
    have b2 := (o 2 (by omega)).1
    have b3 := (o 3 (by omega)).1
    show (((0 * 8 + t' 0) * 8 + t' 1) * 8 + t' 2) * 8 + t' 3 < 4096
    omega
  have g := (lj_top_pre B 4 (by omega) (fun e he => (o e he).1)).mp (lj_top_4 _)
  have h4 := lj_top_4 low
  refine ⟨?_, B, fun d hd => ?_, fun k h1 h2 h3 => ?_⟩
  · rw [P]
    have hg' : lj_top low 4 ≤ lj_pre t 3 * 8 + x := hg
    omega
  · rw [← lj_ok_c hd (fun e he => g e (by omega)), ← g d hd]
    exact (o d hd).2
  · have q : lj_pre t 3 * 8 + y ≤ lj_top k 4 := K k h1 h2 h3
    rw [lj_top_4] at q
    omega
theorem lj_back {m t : Nat → Nat} {low d x y : Nat} (I : lj_I m t low (d + 1) x) (f : lj_F (lj_ok m t (d + 1)) x y) (hy : 8 ≤ y) : lj_I m t low d (t d + 1) ∧ lj_mu t d (t d + 1) < lj_mu t (d + 1) x := by
  have K := fun n h1 h2 h3 => lj_key I f (n := n) h1 h2 h3
  obtain ⟨hd, hx8, ht, hl, hg⟩ := I
  have P : lj_pre t (d + 1) = lj_pre t d * 8 + t d := rfl
  have q := (ht d (by omega)).1
  have T := lj_top_s low (d + 1) hd
  refine ⟨⟨by omega, by omega, fun e he => ht e (by omega), fun n h1 h2 h3 => ?_, by omega⟩, ?_⟩
  · have k := K n h1 h2 h3
    have T2 := lj_top_s n (d + 1) hd
    have D := lj_dg_lt n (d + 1)
    omega
  · show lj_sp t d + (8 - (t d + 1)) * lj_c d + 1 < lj_sp t d + (7 - t d) * lj_c d + 1 + (8 - x) * lj_c (d + 1) + 1
    rw [show 8 - (t d + 1) = 7 - t d by omega]
    omega
theorem lj_none {m t : Nat → Nat} {low x y : Nat} (I : lj_I m t low 0 x) (f : lj_F (lj_ok m t 0) x y) (hy : 8 ≤ y) : ∀ n, low ≤ n → n < 4096 → ¬ lj_an m n := by
  intro n h1 h2 h3
  have k := lj_key I f h1 h2 h3
  have k' : 0 * 8 + y ≤ n / 512 := k
  omega
theorem lj_I0 {m t : Nat → Nat} {low : Nat} (h : low < 4096) : lj_I m t low 0 (lj_dg low 0) := by
  have D := lj_dg_lt low 0
  have T := lj_top_s low 0 (by omega)
  have T0 := lj_top_0 h
  refine ⟨by omega, by omega, fun e he => absurd he (by omega), fun n h1 h2 h3 => ?_, ?_⟩
  · have M := lj_top_mono h1 1
    show 0 * 8 + _ ≤ lj_top n 1
    have T' : lj_top low 1 = lj_top low 0 * 8 + lj_dg low 0 := T
    omega
  · show lj_top low 1 ≤ 0 * 8 + _
    have T' : lj_top low 1 = lj_top low 0 * 8 + lj_dg low 0 := T
    omega
/-- S enumerates the answers from low on -/
def lj_E (m : Nat → Nat) : Nat → List Nat → Prop
  | low, [] => ∀ n, low ≤ n → n < 4096 → ¬ lj_an m n
  | low, n :: S => low ≤ n ∧ n < 4096 ∧ lj_an m n ∧ (∀ k, low ≤ k → k < n → ¬ lj_an m k) ∧ lj_E m (n + 1) S
def lj_hd : List Nat → Int32
  | [] => -1
  | n :: _ => nI n
theorem lj_hd_none {m : Nat → Nat} {low : Nat} {S : List Nat} (E : lj_E m low S) (h : ∀ n, low ≤ n → n < 4096 → ¬ lj_an m n) : lj_hd S = -1 := by
  cases S with
  | nil => rfl
  | cons n S =>
    obtain ⟨h1, h2, h3, _⟩ := E
    exact absurd h3 (h n h1 h2)
theorem lj_hd_some {m : Nat → Nat} {low n : Nat} {S : List Nat} (E : lj_E m low S) (h1 : low ≤ n) (h2 : n < 4096) (h3 : lj_an m n) (h4 : ∀ k, low ≤ k → k < 4096 → lj_an m k → n ≤ k) : lj_hd S = nI n := by
  cases S with
  | nil => exact absurd h3 (E n h1 h2)
  | cons k S =>
    obtain ⟨g1, g2, g3, g4, _⟩ := E
    have a := h4 k g1 g2 g3
    have b : ¬ n < k := fun z => g4 n h1 z h3
    show nI k = nI n
    rw [show k = n by omega]
end
section
/-! ===== the answers of a list of pairs, ascending ===== -/
def lj_ins (n : Nat) : List Nat → List Nat
  | [] => [n]
  | k :: S => if n < k then n :: k :: S else if n = k then k :: S else k :: lj_ins n S
theorem lj_mem_ins (n k : Nat) : ∀ S : List Nat, k ∈ lj_ins n S ↔ k = n ∨ k ∈ S
  | [] => by
    show k ∈ [n] ↔ _
    simp
  | a :: S => by
    have ih := lj_mem_ins n k S
    show k ∈ (if n < a then n :: a :: S else if n = a then a :: S else a :: lj_ins n S) ↔ _
    by_cases h : n < a
    · rw [if_pos h]
      simp
    · rw [if_neg h]
      by_cases g : n = a
      · rw [if_pos g, g]
        simp
      · rw [if_neg g, List.mem_cons, List.mem_cons, ih]
        constructor
        · rintro (u | u | u)
          · exact Or.inr (Or.inl u)
          · exact Or.inl u
          · exact Or.inr (Or.inr u)
        · rintro (u | u | u)
          · exact Or.inr (Or.inl u)
          · exact Or.inl u
          · exact Or.inr (Or.inr u)
def lj_asc : Nat → List Nat → Prop
  | _, [] => True
  | low, n :: S => low ≤ n ∧ lj_asc (n + 1) S
theorem lj_asc_ins (n : Nat) : ∀ (S : List Nat) (low : Nat), low ≤ n → lj_asc low S → lj_asc low (lj_ins n S)
  | [], low, h, _ => ⟨h, trivial⟩
  | a :: S, low, h, g => by
    obtain ⟨g1, g2⟩ := g
    show lj_asc low (if n < a then n :: a :: S else if n = a then a :: S else a :: lj_ins n S)
    by_cases z : n < a
    · rw [if_pos z]
      exact ⟨h, z, g2⟩
    · rw [if_neg z]
      by_cases y : n = a
      · rw [if_pos y]
        exact ⟨g1, g2⟩
      · rw [if_neg y]
        exact ⟨g1, lj_asc_ins n S (a + 1) (by omega) g2⟩
theorem lj_asc_le : ∀ (S : List Nat) (low k : Nat), lj_asc low S → k ∈ S → low ≤ k
  | [], _, _, _, h => absurd h (by simp)
  | a :: S, low, k, g, h => by
    obtain ⟨g1, g2⟩ := g
    rcases List.mem_cons.mp h with u | u
    · omega
    · have := lj_asc_le S (a + 1) k g2 u
      omega
theorem lj_E_of {m : Nat → Nat} : ∀ (S : List Nat) (low : Nat), lj_asc low S → (∀ n, low ≤ n → n < 4096 → (lj_an m n ↔ n ∈ S)) → (∀ n, n ∈ S → n < 4096) → lj_E m low S
  | [], low, _, h, _ => fun n h1 h2 h3 => absurd ((h n h1 h2).mp h3) (by simp)
  | a :: S, low, g, h, b => by
    obtain ⟨g1, g2⟩ := g
    have ba := b a (List.mem_cons.mpr (Or.inl rfl))
    refine ⟨g1, ba, (h a g1 ba).mpr (List.mem_cons.mpr (Or.inl rfl)), fun k k1 k2 k3 => ?_, lj_E_of S (a + 1) g2 (fun n h1 h2 => ?_) (fun n hn => b n (List.mem_cons.mpr (Or.inr hn)))⟩
    · rcases List.mem_cons.mp ((h k k1 (by omega)).mp k3) with u | u
      · omega
      · have := lj_asc_le S (a + 1) k g2 u
        omega
    · rw [h n (by omega) h2, List.mem_cons]
      constructor
      · rintro (u | u)
        · omega
        · exact u
      · exact Or.inr
def lj_cd (p q : Nat × Nat) : Nat := 512 * p.1 + 8 * p.2 + q.2
def lj_row (p : Nat × Nat) (S : List Nat) : List (Nat × Nat) → List Nat
  | [] => S
  | q :: qs => if p.2 = q.1 then lj_ins (lj_cd p q) (lj_row p S qs) else lj_row p S qs
def lj_all (ps : List (Nat × Nat)) : List (Nat × Nat) → List Nat
  | [] => []
  | p :: r => lj_row p (lj_all ps r) ps
theorem lj_mem_row (p : Nat × Nat) (S : List Nat) (n : Nat) : ∀ qs : List (Nat × Nat), n ∈ lj_row p S qs ↔ n ∈ S ∨ ∃ q, q ∈ qs ∧ p.2 = q.1 ∧ n = lj_cd p q
  | [] => by
    show n ∈ S ↔ _
    simp
  | q :: qs => by
    have ih := lj_mem_row p S n qs
    show n ∈ (if p.2 = q.1 then lj_ins (lj_cd p q) (lj_row p S qs) else lj_row p S qs) ↔ _
    constructor
    · intro h
      have hh : n = lj_cd p q ∧ p.2 = q.1 ∨ n ∈ lj_row p S qs := by
        by_cases e : p.2 = q.1
        · rw [if_pos e, lj_mem_ins] at h
          rcases h with u | u
          · exact Or.inl ⟨u, e⟩
          · exact Or.inr u
        · rw [if_neg e] at h
          exact Or.inr h
      rcases hh with u | u
      · exact Or.inr ⟨q, List.mem_cons.mpr (Or.inl rfl), u.2, u.1⟩
      · rcases ih.mp u with v | ⟨q', v1, v2⟩
        · exact Or.inl v
        · exact Or.inr ⟨q', List.mem_cons.mpr (Or.inr v1), v2⟩
    · intro h
      have hh : n = lj_cd p q ∧ p.2 = q.1 ∨ n ∈ lj_row p S qs := by
        rcases h with v | ⟨q', v1, v2, v3⟩
        · exact Or.inr (ih.mpr (Or.inl v))
        · rcases List.mem_cons.mp v1 with w | w
          · rw [w] at v2 v3
            exact Or.inl ⟨v3, v2⟩
          · exact Or.inr (ih.mpr (Or.inr ⟨q', w, v2, v3⟩))
      by_cases e : p.2 = q.1
      · rw [if_pos e, lj_mem_ins]
        rcases hh with u | u
        · exact Or.inl u.1
        · exact Or.inr u
      · rw [if_neg e]
        rcases hh with u | u
        · exact absurd u.2 e
        · exact u
theorem lj_mem_all (ps : List (Nat × Nat)) (n : Nat) : ∀ r : List (Nat × Nat), n ∈ lj_all ps r ↔ ∃ p q, p ∈ r ∧ q ∈ ps ∧ p.2 = q.1 ∧ n = lj_cd p q
  | [] => by
    show n ∈ [] ↔ _
    simp
  | p :: r => by
    have ih := lj_mem_all ps n r
    show n ∈ lj_row p (lj_all ps r) ps ↔ _
    rw [lj_mem_row, ih]
    constructor
    · rintro (⟨p', q, h1, h2⟩ | ⟨q, h1, h2⟩)
      · exact ⟨p', q, List.mem_cons.mpr (Or.inr h1), h2⟩
      · exact ⟨p, q, List.mem_cons.mpr (Or.inl rfl), h1, h2⟩
    · rintro ⟨p', q, h1, h2, h3, h4⟩
      rcases List.mem_cons.mp h1 with u | u
      · rw [u] at h3 h4
        exact Or.inr ⟨q, h2, h3, h4⟩
      · exact Or.inl ⟨p', q, u, h2, h3, h4⟩
theorem lj_asc_row (p : Nat × Nat) (S : List Nat) (h : lj_asc 0 S) : ∀ qs : List (Nat × Nat), lj_asc 0 (lj_row p S qs)
  | [] => h
  | q :: qs => by
    have ih := lj_asc_row p S h qs
    show lj_asc 0 (if p.2 = q.1 then lj_ins (lj_cd p q) (lj_row p S qs) else lj_row p S qs)
    by_cases e : p.2 = q.1
    · rw [if_pos e]
      exact lj_asc_ins _ _ 0 (by omega) ih
    · rw [if_neg e]
      exact ih
theorem lj_asc_all (ps : List (Nat × Nat)) : ∀ r : List (Nat × Nat), lj_asc 0 (lj_all ps r)
  | [] => trivial
  | p :: r => lj_asc_row p _ (lj_asc_all ps r) ps
/-- the rows' masks m hold the pairs ps -/
def lj_M (m : Nat → Nat) (ps : List (Nat × Nat)) : Prop := (∀ p, p ∈ ps → p.1 < 8 ∧ p.2 < 8) ∧ (∀ x, x < 8 → m x < 256) ∧ ∀ x, x < 8 → ∀ y, y < 8 → ((m x).testBit y = true ↔ (x, y) ∈ ps)
theorem lj_nz {v y : Nat} (h : v.testBit y = true) : (v != 0) = true := by
  cases v with
  | zero => rw [Nat.zero_testBit] at h; exact absurd h (by decide)
  | succ v => rfl
theorem lj_an_iff {m : Nat → Nat} {ps : List (Nat × Nat)} (M : lj_M m ps) {n : Nat} (hn : n < 4096) : lj_an m n ↔ n ∈ lj_all ps ps := by
  obtain ⟨M1, M2, M3⟩ := M
  rw [lj_mem_all]
  constructor
  · intro h
    have h1 : (lj_dg n 1 == 0) = true := h 1 (by omega)
    have h2 : ((m (lj_dg n 0)).testBit (lj_dg n 2) && m (lj_dg n 2) != 0) = true := h 2 (by omega)
    have h3 : (m (lj_dg n 2)).testBit (lj_dg n 3) = true := h 3 (by omega)
    rw [Bool.and_eq_true] at h2
    have g1 : lj_dg n 1 = 0 := by simpa using h1
    refine ⟨(lj_dg n 0, lj_dg n 2), (lj_dg n 2, lj_dg n 3), (M3 _ (lj_dg_lt _ _) _ (lj_dg_lt _ _)).mp h2.1, (M3 _ (lj_dg_lt _ _) _ (lj_dg_lt _ _)).mp h3, rfl, ?_⟩
    show n = 512 * lj_dg n 0 + 8 * lj_dg n 2 + lj_dg n 3
    have g1' : n / 64 % 8 = 0 := g1
    show n = 512 * (n / 512 % 8) + 8 * (n / 8 % 8) + n / 1 % 8
    omega
  · rintro ⟨⟨x, y⟩, ⟨y', z⟩, p1, q1, e, en⟩
    have e' : y = y' := e
    subst e'
    have px := M1 _ p1
    have qx := M1 _ q1
    have x8 : x < 8 := px.1
    have y8 : y < 8 := px.2
    have z8 : z < 8 := qx.2
    have en' : n = 512 * x + 8 * y + z := en
    have d0 : lj_dg n 0 = x := by
      show n / 512 % 8 = x
      omega
    have d1 : lj_dg n 1 = 0 := by
      show n / 64 % 8 = 0
      omega
    have d2 : lj_dg n 2 = y := by
      show n / 8 % 8 = y
      omega
    have d3 : lj_dg n 3 = z := by
      show n / 1 % 8 = z
      omega
    have b1 := (M3 x x8 y y8).mpr p1
    have b2 := (M3 y y8 z z8).mpr q1
    refine lj_d4 ?_ ?_ ?_ ?_
    · show (m (lj_dg n 0) != 0) = true
      rw [d0]
      exact lj_nz b1
    · show (lj_dg n 1 == 0) = true
      rw [d1]
      rfl
    · show ((m (lj_dg n 0)).testBit (lj_dg n 2) && m (lj_dg n 2) != 0) = true
      rw [d0, d2, b1, lj_nz b2]
      rfl
    · show (m (lj_dg n 2)).testBit (lj_dg n 3) = true
      rw [d2, d3]
      exact b2
theorem lj_all_lt {m : Nat → Nat} {ps : List (Nat × Nat)} (M : lj_M m ps) {n : Nat} (h : n ∈ lj_all ps ps) : n < 4096 := by
  obtain ⟨⟨x, y⟩, ⟨y', z⟩, p1, q1, _, en⟩ := (lj_mem_all ps n ps).mp h
  have px := M.1 _ p1
  have qx := M.1 _ q1
  have x8 : x < 8 := px.1
  have y8 : y < 8 := px.2
  have z8 : z < 8 := qx.2
  have en' : n = 512 * x + 8 * y + z := en
  omega
theorem lj_E_all {m : Nat → Nat} {ps : List (Nat × Nat)} (M : lj_M m ps) : lj_E m 0 (lj_all ps ps) :=
  lj_E_of _ 0 (lj_asc_all ps ps) (fun _ _ h => lj_an_iff M h) (fun _ h => lj_all_lt M h)
/-! the law's finite check -/
def lj_vs : Nat → List Nat → Nat
  | a, [] => a
  | a, n :: S => lj_vs (a ||| 2 ^ lj_dg n 2) S
def lj_pa (a b c d : Nat) : List (Nat × Nat) := [(c, d), (a, b)]
def lj_pb (a b c d : Nat) : List (Nat × Nat) := if c = a ∧ d = b then [] else [(c, d)]
def lj_b (x y : Nat) : Nat := if x = y then 1 else 0
def lj_due (a b c d : Nat) : Nat := if a = c ∧ b = d then lj_b a b else lj_b b c + lj_b d a + lj_b a b + lj_b c d
def lj_set (a b c d : Nat) : Nat := if a = c ∧ b = d then (if a = b then 2 ^ b else 0) else (if b = c ∨ a = b then 2 ^ b else 0) ||| (if d = a ∨ c = d then 2 ^ d else 0)
def lj_left (a b c d : Nat) : Nat := if a = c ∧ b = d then 0 else lj_b c d
def lj_good (a b c d : Nat) : Bool := (lj_all (lj_pa a b c d) (lj_pa a b c d)).length == lj_due a b c d && (lj_all (lj_pb a b c d) (lj_pb a b c d)).length == lj_left a b c d && lj_vs 0 (lj_all (lj_pa a b c d) (lj_pa a b c d)) == lj_set a b c d
theorem lj_law : ∀ a, a < 8 → ∀ b, b < 8 → ∀ c, c < 8 → ∀ d, d < 8 → lj_good a b c d = true := by decide +kernel
end
section
/-! ===== the small methods ===== -/
/-- the state's part that the search reads: the rows' masks m, the atoms (1,0,2), (1,2,3) -/
def lj_K (m : Nat → Nat) (a1 a3 a4 a5 : Nat → Int32) : Prop := (∀ x, x < 8 → m x < 256 ∧ a1 (8 + x) = nI (m x)) ∧ (a3 0 = nI 1 ∧ a3 1 = nI 1) ∧ (a4 0 = nI 0 ∧ a4 1 = nI 2) ∧ (a5 0 = nI 2 ∧ a5 1 = nI 3)
theorem lj_bit : ∀ v, v < 256 → ∀ y, y < 8 → (((nI v >>> (nI y &&& 31)) &&& 1) = 0 ↔ v.testBit y = false) := by decide +kernel
theorem lj_in {post : Int32 → Prop} {v y : Nat} (hv : v < 256) (hy : y < 8) (h0 : v.testBit y = false → post 0) (h1 : v.testBit y = true → post 1) : wpX_in post () (nI v) (nI y) :=
  br_c (fun z => h0 ((lj_bit v hv y hy).mp z)) (fun z => h1 (by
    cases e : v.testBit y with
    | true => rfl
    | false => exact absurd ((lj_bit v hv y hy).mpr e) z))
theorem lj_from {post : Int32 → Prop} {v x : Nat} (hv : v < 256) (hx : x ≤ 8) (H : ∀ y, lj_F v.testBit x y → post (nI y)) : wpX_from post () (nI v) (nI x) := by
  obtain ⟨y, f⟩ := lj_Fex v.testBit (8 - x) x (by omega)
  have h := H y f
  obtain ⟨f1, f2, f3, f4⟩ := f
  refine pk_loop (σ := Unit) (fun n i _ => wX_from_2 post (nI v) n (nI i)) (fun i _ => x ≤ i) y x () f1 (Nat.le_refl x) ?_ ?_
  · intro n _ _
    refine pk_le 8 y (fun z => ?_) (fun z => lj_in hv z (fun q => absurd q (by rw [f4 z]; decide)) (fun _ => br_f (by decide) h))
    have e : y = 8 := by omega
    rw [e] at h
    exact h
  · intro n i _ hi hx' hw
    exact pk_le 8 i (fun z => absurd z (by omega)) (fun z => lj_in hv z (fun _ => br_t rfl (nm_r (nI_1 i) (hw () (by omega)))) (fun q => absurd q (by rw [f3 i hx' hi]; decide)))
theorem lj_any {post : Int32 → Prop} {m : Nat → Nat} {a1 a2 a3 a4 a5 a6 a7 : Nat → Int32} (K : ∀ x, x < 8 → m x < 256 ∧ a1 (8 + x) = nI (m x)) {x : Nat} (hx : x ≤ 8) (H : ∀ y, lj_F (fun y => m y != 0) x y → post (nI y)) : wpX_nextWithAny post (nI 2, a1, a2, a3, a4, a5, a6, a7) (nI 8) (nI x) 1 := by
  obtain ⟨y, f⟩ := lj_Fex (fun y => m y != 0) (8 - x) x (by omega)
  have h := H y f
  obtain ⟨f1, f2, f3, f4⟩ := f
  have kz : ∀ i, i < 8 → a1 (nI 8 + nI i).toNatClampNeg = nI (m i) := fun i hi => by
    rw [nI_add, nI_clamp (by omega)]
    exact (K i hi).2
  refine pk_loop (σ := Unit) (fun n i _ => wX_nextWithAny_3 post (nI 8) 1 (nI 2) a1 a2 a3 a4 a5 a6 a7 n (nI i)) (fun i _ => x ≤ i) y x () f1 (Nat.le_refl x) ?_ ?_
  · intro n _ _
    refine pk_le 8 y (fun z => h) (fun z => br_f (by decide) ⟨pk_in (8 + y) 24 (by omega) (nI_add 8 y), ?_⟩)
    have hm := (K y z).1
    refine pk_eq (m y) 0 (fun q => ?_) (fun _ => h) (kz y z)
    have g := f4 z
    dsimp only at g
    rw [q] at g
    exact absurd g (by decide)
  · intro n i _ hi hx' hw
    refine pk_le 8 i (fun z => absurd z (by omega)) (fun z => br_f (by decide) ⟨pk_in (8 + i) 24 (by omega) (nI_add 8 i), ?_⟩)
    have hm := (K i z).1
    refine pk_eq (m i) 0 (fun _ => nm_r (nI_1 i) (hw () (by omega))) (fun q => ?_) (kz i z)
    have g := f3 i hx' hi
    dsimp only at g
    rw [bne_eq_false_iff_eq] at g
    exact absurd g q
theorem lj_has {post : Int32 → Prop} {a1 a2 a3 a4 a5 a6 a7 : Nat → Int32} {a v w d : Nat} (ha : a < 2) (hv : a4 a = nI v) (hw : a5 a = nI w) (v8 : v < 8) (w8 : w < 8) (d8 : d < 8) (H1 : v = d ∨ w = d → post 1) (H0 : ¬ (v = d ∨ w = d) → post 0) : wpX_has post (nI 2, a1, a2, a3, a4, a5, a6, a7) (nI a) (nI d) :=
  ⟨pk_in a 5 (by omega), pk_eq v d (fun z => H1 (Or.inl z)) (fun z => ⟨pk_in a 5 (by omega), pk_eq w d (fun z' => H1 (Or.inr z')) (fun z' => H0 (by omega)) (by rw [nI_clamp (by omega)]; exact hw)⟩) (by rw [nI_clamp (by omega)]; exact hv)⟩
theorem lj_alF {post : Int32 → Prop} {m : Nat → Nat} {a1 a2 a3 a4 a5 a6 a7 : Nat → Int32} (K : ∀ x, x < 8 → m x < 256 ∧ a1 (8 + x) = nI (m x)) {a v w x : Nat} (ha : a < 2) (h3 : a3 a = nI 1) (h4 : a4 a = nI v) (h5 : a5 a = nI w) (hvw : v < w) (hw8 : w < 8) (hx : x ≤ 8) (H : ∀ y, lj_F (fun y => m y != 0) x y → post (nI y)) : wpX_allowedFrom post (nI 2, a1, a2, a3, a4, a5, a6, a7) (nI a) (nI v) (nI x) := by
  have c : (nI a).toNatClampNeg = a := nI_clamp (by omega)
  have e3 : a3 (nI a).toNatClampNeg * 8 = nI 8 := by
    rw [c, h3]
    decide
  have e4 : a4 (nI a).toNatClampNeg = nI v := by rw [c, h4]
  have e5 : a5 (nI a).toNatClampNeg = nI w := by rw [c, h5]
  refine ⟨pk_in a 5 (by omega), nm_r e3 ⟨pk_in a 5 (by omega), nm_r e4 ⟨pk_in a 5 (by omega), nm_r e5 ?_⟩⟩⟩
  exact pk_eq v v (fun _ => pk_eq w v (fun z => absurd z (by omega)) (fun _ => pk_eq v v (fun _ => pk_le v w (fun _ => lj_any K hx H) (fun z => absurd z (by omega))) (fun z => absurd rfl z))) (fun z => absurd rfl z)
theorem lj_alS {post : Int32 → Prop} {m : Nat → Nat} {a1 a2 a3 a4 a5 a6 a7 : Nat → Int32} (K : ∀ x, x < 8 → m x < 256 ∧ a1 (8 + x) = nI (m x)) {a v d t x : Nat} (ha : a < 2) (h3 : a3 a = nI 1) (h4 : a4 a = nI v) (hv : v < d) (hd : d < 4) (h6 : a6 v = nI t) (ht : t < 8) (hx : x ≤ 8) (H : ∀ y, lj_F (m t).testBit x y → post (nI y)) : wpX_allowedFrom post (nI 2, a1, a2, a3, a4, a5, a6, a7) (nI a) (nI d) (nI x) := by
  have c : (nI a).toNatClampNeg = a := nI_clamp (by omega)
  have e3 : a3 (nI a).toNatClampNeg * 8 = nI 8 := by
    rw [c, h3]
    decide
  have e4 : a4 (nI a).toNatClampNeg = nI v := by rw [c, h4]
  have e6 : a6 (nI v).toNatClampNeg = nI t := by rw [nI_clamp (by omega), h6]
  have e1 : a1 (nI 8 + nI t).toNatClampNeg = nI (m t) := by
    rw [nI_add, nI_clamp (by omega)]
    exact (K t ht).2
  refine ⟨pk_in a 5 (by omega), nm_r e3 ⟨pk_in a 5 (by omega), nm_r e4 ⟨pk_in a 5 (by omega), nm_e ?_⟩⟩⟩
  refine pk_eq v d (fun z => absurd z (by omega)) (fun _ => pk_eq v d (fun z => absurd z (by omega)) (fun _ => pk_le d v (fun z => absurd z (by omega)) (fun _ => ⟨pk_in v 4 (by omega), ?_⟩)))
  rw [e6, e1]
  exact ⟨pk_in (8 + t) 24 (by omega) (nI_add 8 t), lj_from (K t ht).1 hx H⟩
theorem lj_digit {post : Int32 → Prop} {n d : Nat} (hn : n < 4096) (hd : d < 4) (H : post (nI (lj_dg n d))) : wpX_digit post () (nI n) (nI d) := by
  have e : (nI n >>> ((9 - (3 * nI d)) &&& 31)) &&& 7 = nI (lj_dg n d) := by
    refine lj_d4 (P := fun d => (nI n >>> ((9 - (3 * nI d)) &&& 31)) &&& 7 = nI (lj_dg n d)) ?_ ?_ ?_ ?_ d hd
    · show _ = nI (n / 512 % 8)
      rw [pk_shrN (by omega) _ 9 (by decide), pk_andN (by omega) 3 (by decide)]
    · show _ = nI (n / 64 % 8)
      rw [pk_shrN (by omega) _ 6 (by decide), pk_andN (by omega) 3 (by decide)]
    · show _ = nI (n / 8 % 8)
      rw [pk_shrN (by omega) _ 3 (by decide), pk_andN (by omega) 3 (by decide)]
    · show _ = nI (n / 1 % 8)
      rw [pk_shrN (by omega) _ 0 (by decide), pk_andN (by omega) 3 (by decide)]
  show post ((nI n >>> ((9 - (3 * nI d)) &&& 31)) &&& 7)
  rw [e]
  exact H
theorem lj_tight {post : Int32 → Prop} {f0 : Int32} {a1 a2 a3 a4 a5 a6 a7 : Nat → Int32} {t : Nat → Nat} {low d : Nat} (hl : low < 4096) (hd : d < 4) (h6 : ∀ e, e < d + 1 → t e < 8 ∧ a6 e = nI (t e)) (H1 : lj_top low (d + 1) = lj_pre t (d + 1) → post 1) (H0 : lj_top low (d + 1) ≠ lj_pre t (d + 1) → post 0) : wpX_tightUpTo post (f0, a1, a2, a3, a4, a5, a6, a7) (nI low) (nI d) := by
  have Q := lj_top_pre (t := t) hl (d + 1) (by omega) (fun e he => (h6 e he).1)
  refine pk_loop (σ := Unit) (fun n i _ => wX_tightUpTo_2 post (nI low) (nI d) f0 a1 a2 a3 a4 a5 a6 a7 n (nI i)) (fun i _ => ∀ e, e < i → t e = lj_dg low e) (d + 1) 0 () (by omega) (fun e he => absurd he (by omega)) ?_ ?_
  · intro n _ h
    exact pk_lt d (d + 1) (fun _ => H1 (Q.mpr h)) (fun z => absurd z (by omega))
  · intro n i _ hi h hw
    refine pk_lt d i (fun z => absurd z (by omega)) (fun _ => ⟨pk_in i 4 (by omega), lj_digit hl (by omega) ?_⟩)
    have g := h6 i hi
    have g8 := lj_dg_lt low i
    refine pk_eq (t i) (lj_dg low i) (fun z => nm_r (nI_1 i) (hw () (lt_s h z))) (fun z => H0 (fun q => z (Q.mp q i hi))) (by rw [nI_clamp (by omega)]; exact g.2)
theorem lj_code {post : Int32 → Prop} {f0 : Int32} {a1 a2 a3 a4 a5 a6 a7 : Nat → Int32} {t : Nat → Nat} (h6 : ∀ e, e < 4 → a6 e = nI (t e)) (H : post (nI (lj_pre t 4))) : wpX_code post (f0, a1, a2, a3, a4, a5, a6, a7) := by
  have e : (((a6 3) + (8 * (a6 2))) + (64 * (a6 1))) + (512 * (a6 0)) = nI (lj_pre t 4) := by
    rw [h6 0 (by omega), h6 1 (by omega), h6 2 (by omega), h6 3 (by omega)]
    show nI (t 3) + nI 8 * nI (t 2) + nI 64 * nI (t 1) + nI 512 * nI (t 0) = nI ((((0 * 8 + t 0) * 8 + t 1) * 8 + t 2) * 8 + t 3)
    rw [pk_mul, pk_mul, pk_mul, nI_add, nI_add, nI_add]
    congr 1
    omega
  show post ((((a6 3) + (8 * (a6 2))) + (64 * (a6 1))) + (512 * (a6 0)))
  rw [e]
  exact H
end
section
/-! ===== leap and nextFrom ===== -/
theorem lj_F_c {p q : Nat → Bool} {x y : Nat} (h : ∀ z, z < 8 → p z = q z) (f : lj_F p x y) : lj_F q x y := by
  obtain ⟨f1, f2, f3, f4⟩ := f
  exact ⟨f1, f2, fun z h1 h2 => by rw [← h z (by omega)]; exact f3 z h1 h2, fun z => by rw [← h y z]; exact f4 z⟩
theorem lj_step {post : Int32 → Prop} {J : Int32 → Int32 → Int32 → Int32 → Prop} {a1 a2 a3 a4 a5 a6 a7 : Nat → Int32} {d k y mv n : Nat} {x2 x6 any : Int32} (b : Bool) (p : Nat → Bool) (hk : k < 2) (hy : y < 8) (hm : mv < 2)
    (A : ∀ P : Int32 → Prop, P (if b then 1 else 0) → wpX_has P (nI 2, a1, a2, a3, a4, a5, a6, a7) (nI k) (nI d))
    (B : b = true → ∀ (P : Int32 → Prop) (y : Nat), y ≤ 8 → (∀ z, lj_F p y z → P (nI z)) → wpX_allowedFrom P (nI 2, a1, a2, a3, a4, a5, a6, a7) (nI k) (nI d) (nI y))
    (H0 : b = false → wX_leap_36 post J (nI d) x2 x6 (nI 2) a1 a2 a3 a4 a5 a6 a7 n any (nI y) (nI mv) (nI (k + 1)))
    (H1 : b = true → ∀ y', lj_F p y y' → wX_leap_36 post J (nI d) x2 x6 (nI 2) a1 a2 a3 a4 a5 a6 a7 n 1 (nI y') (nI (if y < y' then 1 else mv)) (nI (k + 1))) :
    wX_leap_36 post J (nI d) x2 x6 (nI 2) a1 a2 a3 a4 a5 a6 a7 (n + 1) any (nI y) (nI mv) (nI k) := by
  refine pk_le 2 k (fun z => absurd z (by omega)) (fun _ => pk_le 8 y (fun z => absurd z (by omega)) (fun _ => A _ ?_))
  cases b with
  | false => exact br_t rfl (nm_r (nI_1 k) (H0 rfl))
  | true =>
    refine br_f (by decide) (B rfl _ y (by omega) (fun z f => ?_))
    have h := H1 rfl z f
    have z8 := f.2.1
    refine pk_le z y (fun g => ?_) (fun g => ?_)
    · rw [if_neg (by omega)] at h
      refine nm_r (?_ : nI mv ||| 0 = nI mv) (nm_r (nI_1 k) h)
      exact Int32.or_zero
    · rw [if_pos g] at h
      refine nm_r (?_ : nI mv ||| 1 = nI 1) (nm_r (nI_1 k) h)
      rcases (by omega : mv = 0 ∨ mv = 1) with e | e
      · rw [e]; decide
      · rw [e]; decide
theorem lj_stop {post : Int32 → Prop} {J : Int32 → Int32 → Int32 → Int32 → Prop} {a1 a2 a3 a4 a5 a6 a7 : Nat → Int32} {k y n : Nat} {x1 x2 x6 any mv : Int32} (hk : k ≤ 2) (hy : y ≤ 8) (h : k = 2 ∨ y = 8) (H : J any (nI y) mv (x6 + 1)) :
    wX_leap_36 post J x1 x2 x6 (nI 2) a1 a2 a3 a4 a5 a6 a7 (n + 1) any (nI y) mv (nI k) :=
  pk_le 2 k (fun _ => nm_e H) (fun _ => pk_le 8 y (fun _ => nm_e H) (fun z => absurd h (by omega)))
def lj_qq (b0 b1 : Bool) (p0 p1 : Nat → Bool) (z : Nat) : Bool := (!b0 || p0 z) && (!b1 || p1 z)
theorem lj_round {post : Int32 → Prop} {J : Int32 → Int32 → Int32 → Int32 → Prop} {a1 a2 a3 a4 a5 a6 a7 : Nat → Int32} {d y : Nat} {x2 x6 any : Int32} (b0 b1 : Bool) (p0 p1 : Nat → Bool) (hy : y < 8)
    (A0 : ∀ P : Int32 → Prop, P (if b0 then 1 else 0) → wpX_has P (nI 2, a1, a2, a3, a4, a5, a6, a7) (nI 0) (nI d))
    (B0 : b0 = true → ∀ (P : Int32 → Prop) (y : Nat), y ≤ 8 → (∀ z, lj_F p0 y z → P (nI z)) → wpX_allowedFrom P (nI 2, a1, a2, a3, a4, a5, a6, a7) (nI 0) (nI d) (nI y))
    (A1 : ∀ P : Int32 → Prop, P (if b1 then 1 else 0) → wpX_has P (nI 2, a1, a2, a3, a4, a5, a6, a7) (nI 1) (nI d))
    (B1 : b1 = true → ∀ (P : Int32 → Prop) (y : Nat), y ≤ 8 → (∀ z, lj_F p1 y z → P (nI z)) → wpX_allowedFrom P (nI 2, a1, a2, a3, a4, a5, a6, a7) (nI 1) (nI d) (nI y))
    (H : ∀ y' mv, y ≤ y' → y' ≤ 8 → (∀ z, y ≤ z → z < y' → lj_qq b0 b1 p0 p1 z = false) → (mv = 0 ∧ y' = y ∧ lj_qq b0 b1 p0 p1 y = true ∨ mv = 1 ∧ y < y') → J (if b0 || b1 then 1 else any) (nI y') (nI mv) (x6 + 1)) :
    wX_leap_36 post J (nI d) x2 x6 (nI 2) a1 a2 a3 a4 a5 a6 a7 3 any (nI y) (nI 0) (nI 0) := by
  refine lj_step b0 p0 (by omega) hy (by omega) A0 B0 (fun e0 => ?_) (fun e0 y0 f0 => ?_)
  · subst e0
    refine lj_step b1 p1 (by omega) hy (by omega) A1 B1 (fun e1 => ?_) (fun e1 y1 f1 => ?_)
    · subst e1
      exact lj_stop (by omega) (by omega) (Or.inl rfl) (H y 0 (by omega) (by omega) (fun z h1 h2 => absurd h1 (by omega)) (Or.inl ⟨rfl, rfl, rfl⟩))
    · subst e1
      obtain ⟨g1, g2, g3, g4⟩ := f1
      refine lj_stop (by omega) g2 (Or.inl rfl) (H y1 _ g1 g2 (fun z h1 h2 => g3 z h1 h2) ?_)
      by_cases q : y < y1
      · rw [if_pos q]
        exact Or.inr ⟨rfl, q⟩
      · rw [if_neg q]
        have e : y1 = y := by omega
        refine Or.inl ⟨rfl, e, ?_⟩
        show p1 y = true
        rw [← e]
        exact g4 (by omega)
  · subst e0
    obtain ⟨g1, g2, g3, g4⟩ := f0
    by_cases q8 : y0 = 8
    · rw [if_pos (by omega)]
      refine lj_stop (by omega) g2 (Or.inr q8) (H y0 1 g1 g2 (fun z h1 h2 => ?_) (Or.inr ⟨rfl, by omega⟩))
      show (p0 z && (!b1 || p1 z)) = false
      rw [g3 z h1 h2]
      rfl
    · have y08 : y0 < 8 := by omega
      refine lj_step b1 p1 (by omega) y08 ?_ A1 B1 (fun e1 => ?_) (fun e1 y1 f1 => ?_)
      · by_cases q : y < y0
        · rw [if_pos q]; omega
        · rw [if_neg q]; omega
      · subst e1
        refine lj_stop (by omega) g2 (Or.inl rfl) (H y0 _ g1 g2 (fun z h1 h2 => ?_) ?_)
        · show (p0 z && true) = false
          rw [g3 z h1 h2]
          rfl
        · by_cases q : y < y0
          · rw [if_pos q]
            exact Or.inr ⟨rfl, q⟩
          · rw [if_neg q]
            have e : y0 = y := by omega
            refine Or.inl ⟨rfl, e, ?_⟩
            show (p0 y && true) = true
            rw [← e, g4 y08]
            rfl
      · subst e1
        obtain ⟨k1, k2, k3, k4⟩ := f1
        refine lj_stop (by omega) k2 (Or.inl rfl) (H y1 _ (by omega) k2 (fun z h1 h2 => ?_) ?_)
        · show (p0 z && p1 z) = false
          by_cases q : z < y0
          · rw [g3 z h1 q]
            rfl
          · rw [k3 z (by omega) h2, Bool.and_false]
        · by_cases q : y < y1
          · refine Or.inr ⟨?_, q⟩
            by_cases q2 : y0 < y1
            · rw [if_pos q2]
            · rw [if_neg q2, if_pos (by omega)]
          · rw [if_neg (by omega), if_neg (by omega)]
            have e : y1 = y := by omega
            have e' : y0 = y := by omega
            refine Or.inl ⟨rfl, e, ?_⟩
            show (p0 y && p1 y) = true
            have u := g4 y08
            have v := k4 (by omega)
            rw [e'] at u
            rw [e] at v
            rw [u, v]
            rfl
def lj_q (b0 b1 : Bool) (p0 p1 : Nat → Bool) (z : Nat) : Bool := if b0 || b1 then lj_qq b0 b1 p0 p1 z else z == 0
theorem lj_leapG {post : Int32 → Prop} {a1 a2 a3 a4 a5 a6 a7 : Nat → Int32} {d x : Nat} (b0 b1 : Bool) (p0 p1 : Nat → Bool) (hx : x ≤ 8)
    (A0 : ∀ P : Int32 → Prop, P (if b0 then 1 else 0) → wpX_has P (nI 2, a1, a2, a3, a4, a5, a6, a7) (nI 0) (nI d))
    (B0 : b0 = true → ∀ (P : Int32 → Prop) (y : Nat), y ≤ 8 → (∀ z, lj_F p0 y z → P (nI z)) → wpX_allowedFrom P (nI 2, a1, a2, a3, a4, a5, a6, a7) (nI 0) (nI d) (nI y))
    (A1 : ∀ P : Int32 → Prop, P (if b1 then 1 else 0) → wpX_has P (nI 2, a1, a2, a3, a4, a5, a6, a7) (nI 1) (nI d))
    (B1 : b1 = true → ∀ (P : Int32 → Prop) (y : Nat), y ≤ 8 → (∀ z, lj_F p1 y z → P (nI z)) → wpX_allowedFrom P (nI 2, a1, a2, a3, a4, a5, a6, a7) (nI 1) (nI d) (nI y))
    (H : ∀ y, lj_F (lj_q b0 b1 p0 p1) x y → post (nI y)) : wpX_leap post (nI 2, a1, a2, a3, a4, a5, a6, a7) (nI d) (nI x) := by
  have fin : ∀ i any y mv, (x ≤ y ∧ y ≤ 8 ∧ (∀ z, x ≤ z → z < y → lj_qq b0 b1 p0 p1 z = false) ∧ (mv = 0 ∧ (y < 8 → lj_qq b0 b1 p0 p1 y = true) ∨ mv = 1 ∧ x + i ≤ y) ∧ (i = 0 ∧ any = 0 ∧ y = x ∧ mv = 1 ∨ 0 < i ∧ any = (if b0 || b1 then 1 else 0))) → (y < 8 → mv = 0) → wX_leap_108 post (nI x) (nI any) (nI y) (nI 2) a1 a2 a3 a4 a5 a6 a7 := by
    intro i any y mv h hm
    obtain ⟨h1, h2, h3, h4, h5⟩ := h
    have good : (b0 || b1) = true → post (nI y) := by
      intro g
      refine H y ⟨h1, h2, fun z z1 z2 => ?_, fun z => ?_⟩
      · show (if b0 || b1 then lj_qq b0 b1 p0 p1 z else z == 0) = false
        rw [if_pos g]
        exact h3 z z1 z2
      · show (if b0 || b1 then lj_qq b0 b1 p0 p1 y else y == 0) = true
        rw [if_pos g]
        have q := hm z
        rcases h4 with u | u
        · exact u.2 z
        · omega
    have all : (b0 || b1) = false → ∀ z, lj_qq b0 b1 p0 p1 z = true := by
      intro g z
      rw [Bool.or_eq_false_iff] at g
      rw [g.1, g.2]
      rfl
    cases g : (b0 || b1) with
    | true =>
      rw [g] at h5
      have any2 : any = 0 ∨ any = 1 := by
        rcases h5 with u | u
        · exact Or.inl u.2.1
        · exact Or.inr (by simpa using u.2)
      refine pk_eq any 0 (fun z => ?_) (fun _ => good g) rfl rfl (by omega)
      rcases h5 with u | u
      · refine pk_eq x 0 (fun _ => good g) (fun _ => ?_)
        by_cases q : y < 8
        · have := hm q
          omega
        · have q' : y = 8 := by omega
          have w := good g
          rw [q'] at w
          exact w
      · have := u.2
        simp at this
        omega
    | false =>
      rw [g] at h5
      have any0 : any = 0 := by
        rcases h5 with u | u
        · exact u.2.1
        · simpa using u.2
      have yx : y = x := by
        rcases Nat.lt_or_ge x y with q | q
        · have r := h3 x (Nat.le_refl x) q
          rw [all g x] at r
          exact absurd r (by decide)
        · omega
      subst any0
      refine br_t rfl (pk_eq x 0 (fun e => ?_) (fun e => ?_))
      · refine H y ⟨h1, h2, fun z z1 z2 => absurd z1 (by omega), fun _ => ?_⟩
        show (if b0 || b1 then lj_qq b0 b1 p0 p1 y else y == 0) = true
        rw [g, yx, e]
        rfl
      · refine H 8 ⟨hx, by omega, fun z z1 z2 => ?_, fun z => absurd z (by omega)⟩
        show (if b0 || b1 then lj_qq b0 b1 p0 p1 z else z == 0) = false
        rw [g]
        show (z == 0) = false
        rw [beq_eq_false_iff_ne]
        omega
  refine pk_loop (σ := Nat × Nat × Nat) (fun n i s => wX_leap_11 post (nI d) (nI x) (nI 2) a1 a2 a3 a4 a5 a6 a7 n (nI s.1) (nI s.2.1) (nI s.2.2) (nI i))
    (fun i s => x ≤ s.2.1 ∧ s.2.1 ≤ 8 ∧ (∀ z, x ≤ z → z < s.2.1 → lj_qq b0 b1 p0 p1 z = false) ∧ (s.2.2 = 0 ∧ (s.2.1 < 8 → lj_qq b0 b1 p0 p1 s.2.1 = true) ∨ s.2.2 = 1 ∧ x + i ≤ s.2.1) ∧ (i = 0 ∧ s.1 = 0 ∧ s.2.1 = x ∧ s.2.2 = 1 ∨ 0 < i ∧ s.1 = (if b0 || b1 then 1 else 0)))
    9 0 (0, x, 1) (by omega) ⟨Nat.le_refl x, hx, fun z h1 h2 => absurd h2 (by dsimp only; omega), Or.inr ⟨rfl, Nat.le_refl x⟩, Or.inl ⟨rfl, rfl, rfl, rfl⟩⟩ ?_ ?_
  · rintro n ⟨any, y, mv⟩ h
    refine pk_lt 8 9 (fun _ => fin 9 any y mv h (fun q => ?_)) (fun z => absurd z (by omega))
    obtain ⟨h1, h2, h3, h4, h5⟩ := h
    dsimp only at h1 h2 h4
    omega
  · rintro n i ⟨any, y, mv⟩ hi h hw
    have h' := h
    obtain ⟨h1, h2, h3, h4, h5⟩ := h'
    dsimp only at h1 h2 h3 h4 h5
    refine pk_lt 8 i (fun z => absurd z (by omega)) (fun _ => pk_eq mv 0 (fun z => fin i any y mv h (fun _ => z)) (fun z => pk_le 8 y (fun q => fin i any y mv h (fun w => absurd w (by omega))) (fun q => ⟨3, ?_⟩) rfl rfl (by omega) (by omega)) rfl rfl (by omega) (by omega))
    refine lj_round (y := y) b0 b1 p0 p1 q A0 B0 A1 B1 (fun y' mv' k1 k2 k3 k4 => ?_)
    have e : (if b0 || b1 then (1 : Int32) else nI any) = nI (if b0 || b1 then 1 else 0) := by
      cases g : (b0 || b1) with
      | true => rfl
      | false =>
        rw [g] at h5
        show nI any = nI 0
        rcases h5 with u | u
        · rw [u.2.1]
        · rw [u.2]
          rfl
    rw [e, nI_1]
    refine hw (_, y', mv') ⟨by dsimp only; omega, k2, fun z z1 z2 => ?_, ?_, Or.inr ⟨by omega, rfl⟩⟩
    · have z2 : z < y' := z2
      by_cases w : z < y
      · exact h3 z z1 w
      · exact k3 z (by omega) z2
    · rcases k4 with u | u
      · refine Or.inl ⟨u.1, fun _ => ?_⟩
        show lj_qq b0 b1 p0 p1 y' = true
        rw [u.2.1]
        exact u.2.2
      · refine Or.inr ⟨u.1, ?_⟩
        show x + (i + 1) ≤ y'
        omega
theorem lj_leap {post : Int32 → Prop} {m t : Nat → Nat} {a1 a2 a3 a4 a5 a6 a7 : Nat → Int32} (K : lj_K m a1 a3 a4 a5) {d x : Nat} (hd : d < 4) (h6 : ∀ e, e < d → t e < 8 ∧ a6 e = nI (t e)) (hx : x ≤ 8) (H : ∀ y, lj_F (lj_ok m t d) x y → post (nI y)) : wpX_leap post (nI 2, a1, a2, a3, a4, a5, a6, a7) (nI d) (nI x) := by
  obtain ⟨K1, ⟨r0, r1⟩, ⟨v0, v1⟩, ⟨w0, w1⟩⟩ := K
  revert h6 H
  refine lj_d4 (P := fun d => (∀ e, e < d → t e < 8 ∧ a6 e = nI (t e)) → (∀ y, lj_F (lj_ok m t d) x y → post (nI y)) → wpX_leap post (nI 2, a1, a2, a3, a4, a5, a6, a7) (nI d) (nI x)) ?_ ?_ ?_ ?_ d hd
  · intro h6 H
    refine lj_leapG true false (fun y => m y != 0) (fun _ => true) hx ?_ ?_ ?_ ?_ ?_
    · exact fun P hP => lj_has (by omega) v0 w0 (by omega) (by omega) (by omega) (fun _ => hP) (fun z => absurd (Or.inl rfl) z)
    · exact fun _ P y hy h => lj_alF K1 (by omega) r0 v0 w0 (by omega) (by omega) hy h
    · exact fun P hP => lj_has (by omega) v1 w1 (by omega) (by omega) (by omega) (fun z => absurd z (by omega)) (fun _ => hP)
    · exact fun z => absurd z (by decide)
    · exact fun y f => H y (lj_F_c (fun z _ => by show ((m z != 0) && true) = (m z != 0); rw [Bool.and_true]) f)
  · intro h6 H
    refine lj_leapG false false (fun _ => true) (fun _ => true) hx ?_ ?_ ?_ ?_ ?_
    · exact fun P hP => lj_has (by omega) v0 w0 (by omega) (by omega) (by omega) (fun z => absurd z (by omega)) (fun _ => hP)
    · exact fun z => absurd z (by decide)
    · exact fun P hP => lj_has (by omega) v1 w1 (by omega) (by omega) (by omega) (fun z => absurd z (by omega)) (fun _ => hP)
    · exact fun z => absurd z (by decide)
    · exact fun y f => H y (lj_F_c (fun z _ => rfl) f)
  · intro h6 H
    refine lj_leapG true true (m (t 0)).testBit (fun y => m y != 0) hx ?_ ?_ ?_ ?_ ?_
    · exact fun P hP => lj_has (by omega) v0 w0 (by omega) (by omega) (by omega) (fun _ => hP) (fun z => absurd (Or.inr rfl) z)
    · exact fun _ P y hy h => lj_alS K1 (by omega) r0 v0 (by omega) (by omega) (h6 0 (by omega)).2 (h6 0 (by omega)).1 hy h
    · exact fun P hP => lj_has (by omega) v1 w1 (by omega) (by omega) (by omega) (fun _ => hP) (fun z => absurd (Or.inl rfl) z)
    · exact fun _ P y hy h => lj_alF K1 (by omega) r1 v1 w1 (by omega) (by omega) hy h
    · exact fun y f => H y (lj_F_c (fun z _ => rfl) f)
  · intro h6 H
    refine lj_leapG false true (fun _ => true) (m (t 2)).testBit hx ?_ ?_ ?_ ?_ ?_
    · exact fun P hP => lj_has (by omega) v0 w0 (by omega) (by omega) (by omega) (fun z => absurd z (by omega)) (fun _ => hP)
    · exact fun z => absurd z (by decide)
    · exact fun P hP => lj_has (by omega) v1 w1 (by omega) (by omega) (by omega) (fun _ => hP) (fun z => absurd (Or.inr rfl) z)
    · exact fun _ P y hy h => lj_alS K1 (by omega) r1 v1 (by omega) (by omega) (h6 2 (by omega)).2 (h6 2 (by omega)).1 hy h
    · exact fun y f => H y (lj_F_c (fun z _ => rfl) f)
end
section
/-! ===== nextFrom, count, answer ===== -/
theorem lj_nar : ∀ k, k < 16 → (nI k).toInt8.toInt32 = nI k := by decide +kernel
theorem lj_loop {post : Int32 → St2 → Prop} {m : Nat → Nat} {low : Nat} {S : List Nat} {a1 a2 a3 a4 a5 : Nat → Int32} (K : lj_K m a1 a3 a4 a5) (hl : low < 4096) (E : lj_E m low S) (H : ∀ a6 a7, post (lj_hd S) (nI 2, a1, a2, a3, a4, a5, a6, a7)) :
    ∀ (n d x r : Nat) (t : Nat → Nat) (a6 a7 : Nat → Int32), lj_I m t low d x → (∀ e, e < d → a6 e = nI (t e)) → a7 d = nI x → lj_mu t d x < n → r + lj_mu t d x ≤ 16000 → wX_nextFrom_36 post (nI low) (nI 2) n (nI d) (nI r) a1 a2 a3 a4 a5 a6 a7 := by
  intro n
  induction n with
  | zero => exact fun d x r t a6 a7 _ _ _ h _ => absurd h (by omega)
  | succ n ih =>
    intro d x r t a6 a7 I h6 h7 hn hr
    have hd : d < 4 := I.1
    have cd : (nI d).toNatClampNeg = d := nI_clamp (by omega)
    refine pk_le 16384 r (fun z => absurd z (by omega)) (fun _ => ⟨pk_in d 4 hd, ?_⟩)
    rw [cd, h7]
    refine lj_leap K hd (fun e he => ⟨(I.2.2.1 e he).1, h6 e he⟩) I.2.1 (fun y f => ?_)
    have y8 : y ≤ 8 := f.2.1
    refine pk_le 8 y (fun z => ?_) (fun z => ⟨pk_in d 4 hd, ?_⟩)
    · cases d with
      | zero =>
        refine nm_r (show nI 0 + (-1) = -1 by decide) (br_f (by decide) ?_)
        have h := H a6 a7
        rw [lj_hd_none E (lj_none I f z)] at h
        exact h
      | succ d =>
        have b := lj_back I f z
        have td := (I.2.2.1 d (by omega)).1
        refine nm_r (pk_m1 d) (br_t (nI_pos' (by omega)) ⟨pk_in d 4 (by omega), pk_in d 4 (by omega), ?_⟩)
        rw [nI_clamp (show d < 2 ^ 31 by omega), h6 d (by omega), nI_1, lj_nar (t d + 1) (by omega)]
        exact nm_e (nm_r (nI_1 r) (ih d (t d + 1) (r + 1) t a6 _ b.1 (fun e he => h6 e (by omega)) pk_us (by omega) (by omega)))
    · rw [lj_nar y (by omega)]
      refine nm_e ?_
      have k6 : ∀ e, e < d + 1 → (fun e => if e = d then y else t e) e < 8 ∧ upd a6 d (nI y) e = nI ((fun e => if e = d then y else t e) e) := by
        intro e he
        by_cases g : e = d
        · subst g
          dsimp only
          rw [if_pos rfl, pk_us]
          exact ⟨z, rfl⟩
        · dsimp only
          rw [if_neg g, pk_un g]
          exact ⟨(I.2.2.1 e (by omega)).1, h6 e (by omega)⟩
      have e1 : ∀ e, e < d → t e = (fun e => if e = d then y else t e) e := fun e he => by
        dsimp only
        rw [if_neg (by omega)]
      have e2 : (fun e => if e = d then y else t e) d = y := by
        dsimp only
        rw [if_pos rfl]
      revert k6 e1 e2
      generalize (fun e => if e = d then y else t e) = t'
      intro k6 e1 e2
      have go : ∀ x', ((lj_top low (d + 1) = lj_pre t' (d + 1) ∧ x' = lj_dg low (d + 1)) ∨ (lj_top low (d + 1) ≠ lj_pre t' (d + 1) ∧ x' = 0)) → d + 1 < 4 → wX_nextFrom_36 post (nI low) (nI 2) n (nI (d + 1)) (nI (r + 1)) a1 a2 a3 a4 a5 (upd a6 d (nI y)) (upd a7 (d + 1) (nI x')) := by
        intro x' hx' hd'
        have b := lj_find I f z hd' e1 e2 hl hx'
        exact ih (d + 1) x' (r + 1) t' _ _ b.1 (fun e he => (k6 e he).2) pk_us (by omega) (by omega)
      have fin : d + 1 = 4 → wpX_code (fun r_29 => post r_29 (nI 2, a1, a2, a3, a4, a5, upd a6 d (nI y), a7)) (nI 2, a1, a2, a3, a4, a5, upd a6 d (nI y), a7) := by
        intro q
        have q3 : d = 3 := by omega
        subst q3
        refine lj_code (t := t') (fun e he => (k6 e he).2) ?_
        have g := lj_done I f z e1 e2
        have h := H (upd a6 3 (nI y)) a7
        rw [lj_hd_some E g.1 g.2.1 g.2.2.1 g.2.2.2] at h
        exact h
      refine lj_tight hl hd k6 (fun q => ?_) (fun q => ?_)
      · refine nm_r (nI_1 d) (pk_eq (d + 1) 4 fin (fun w => br_f (by decide) (lj_digit hl (by omega) ⟨pk_in (d + 1) 4 (by omega), ?_⟩)))
        have g8 := lj_dg_lt low (d + 1)
        rw [nI_clamp (show d + 1 < 2 ^ 31 by omega), lj_nar (lj_dg low (d + 1)) (by omega)]
        exact nm_e (nm_r (nI_1 r) (go _ (Or.inl ⟨q, rfl⟩) (by omega)))
      · refine nm_r (nI_1 d) (pk_eq (d + 1) 4 fin (fun w => br_t rfl ⟨pk_in (d + 1) 4 (by omega), ?_⟩))
        rw [nI_clamp (show d + 1 < 2 ^ 31 by omega)]
        exact nm_r (e' := upd a7 (d + 1) (nI 0)) rfl (nm_r (nI_1 r) (go 0 (Or.inr ⟨q, rfl⟩) (by omega)))
theorem lj_next {post : Int32 → St2 → Prop} {m : Nat → Nat} {low : Nat} {S : List Nat} {a1 a2 a3 a4 a5 a6 a7 : Nat → Int32} (K : lj_K m a1 a3 a4 a5) (hl : low ≤ 4096) (E : lj_E m low S) (H : ∀ a6 a7, post (lj_hd S) (nI 2, a1, a2, a3, a4, a5, a6, a7)) : wpX_nextFrom post (nI 2, a1, a2, a3, a4, a5, a6, a7) (nI low) := by
  refine pk_lt low 4096 (fun z => br_t (nI_pos' (by omega)) ?_) (fun z => ?_)
  · have D := lj_dg_lt low 0
    refine lj_digit (d := 0) z (by omega) ?_
    rw [lj_nar (lj_dg low 0) (by omega)]
    refine nm_e ⟨6000, lj_loop K z E H 6000 0 (lj_dg low 0) 0 (fun _ => 0) a6 _ (lj_I0 z) (fun e he => absurd he (by omega)) pk_us ?_ ?_⟩
    · show 0 + (8 - lj_dg low 0) * 658 + 1 < 6000
      omega
    · show 0 + (0 + (8 - lj_dg low 0) * 658 + 1) ≤ 16000
      omega
  · have h := H a6 a7
    rw [lj_hd_none E (fun n h1 h2 => absurd h1 (by omega))] at h
    exact h
theorem lj_neg {x : Nat} (h : x < 4096) : ¬ nI x < 0 := nI_pos (by omega)
theorem lj_cnt {post : Int32 → St2 → Prop} {m : Nat → Nat} {a1 a2 a3 a4 a5 : Nat → Int32} (K : lj_K m a1 a3 a4 a5) : ∀ (S : List Nat) (low c r : Nat) (a6 a7 : Nat → Int32), lj_E m low S → r + S.length ≤ 4095 → (∀ a6 a7, post (nI (c + S.length)) (nI 2, a1, a2, a3, a4, a5, a6, a7)) → wX_count_10 post (S.length + 1) (nI c) (lj_hd S) (nI r) (nI 2) a1 a2 a3 a4 a5 a6 a7
  | [], _, c, r, a6, a7, _, hr, H => by
    have hr' : r + 0 ≤ 4095 := hr
    exact pk_le 4096 r (fun z => absurd z (by omega)) (fun _ => br_t (by decide) (H a6 a7))
  | n :: S, low, c, r, a6, a7, E, hr, H => by
    have hr' : r + (S.length + 1) ≤ 4095 := hr
    obtain ⟨g1, g2, g3, g4, g5⟩ := E
    refine pk_le 4096 r (fun z => absurd z (by omega)) (fun _ => br_f (lj_neg g2) (nm_r (nI_1 c) ?_))
    show wpX_nextFrom _ _ (nI n + 1)
    rw [nI_1 n]
    refine lj_next K (by omega) g5 (fun a6 a7 => nm_r (nI_1 r) (lj_cnt K S (n + 1) (c + 1) (r + 1) a6 a7 g5 (by omega) (fun a6 a7 => ?_)))
    rw [show c + 1 + S.length = c + (S.length + 1) by omega]
    exact H a6 a7
theorem lj_count {post : Int32 → St2 → Prop} {m : Nat → Nat} {S : List Nat} {a1 a2 a3 a4 a5 a6 a7 : Nat → Int32} (K : lj_K m a1 a3 a4 a5) (E : lj_E m 0 S) (hS : S.length ≤ 4095) (H : ∀ a6 a7, post (nI S.length) (nI 2, a1, a2, a3, a4, a5, a6, a7)) : wpX_count post (nI 2, a1, a2, a3, a4, a5, a6, a7) :=
  lj_next (low := 0) K (by omega) E (fun a6 a7 => ⟨S.length + 1, lj_cnt K S 0 0 0 a6 a7 E (by omega) (fun a6 a7 => by rw [Nat.zero_add]; exact H a6 a7)⟩)
theorem lj_answer {post : Int32 → St2 → Prop} {m : Nat → Nat} {S : List Nat} {a1 a2 a3 a4 a5 a6 a7 : Nat → Int32} (K : lj_K m a1 a3 a4 a5) (E : lj_E m 0 S) (H : ∀ a6 a7, post (lj_hd S) (nI 2, a1, a2, a3, a4, a5, a6, a7)) : wpX_answer post (nI 2, a1, a2, a3, a4, a5, a6, a7) 0 :=
  br_t (by decide) (lj_next (low := 0) K (by omega) E (fun a6 a7 => ⟨1, br_t (by decide) (H a6 a7)⟩))
end
section
/-! ===== lN n to 2^64: shifts, and, or, masks, one bit ===== -/
theorem wb_tb (n : Nat) : (lN n).toBitVec = BitVec.ofNat 64 n := rfl
theorem wb_inj {a b : Int64} (h : a.toBitVec = b.toBitVec) : a = b := Int64.toBitVec_inj.mp h
theorem wb_tn {n : Nat} (h : n < 2 ^ 64) : (lN n).toBitVec.toNat = n := by rw [wb_tb, BitVec.toNat_ofNat, Nat.mod_eq_of_lt h]
theorem wb_of (x : Int64) : ∃ n, n < 2 ^ 64 ∧ x = lN n := ⟨x.toBitVec.toNat, x.toBitVec.isLt, wb_inj (by rw [wb_tb]; simp)⟩
theorem wb_of32 (x : Int32) : ∃ n, n < 2 ^ 32 ∧ x = nI n := ⟨x.toBitVec.toNat, x.toBitVec.isLt, Int32.toBitVec_inj.mp (by show _ = BitVec.ofNat 32 _; simp)⟩
theorem wb_c : ∀ k, k < 64 → ((nI k).toInt64 &&& 63) = lN k := by decide +kernel
theorem wb_cu : ∀ k, k < 64 → ((nI k).toInt64.toUInt64 &&& Int64.toUInt64 63) = UInt64.ofNat k := by decide +kernel
theorem wb_sm : ∀ k, k < 64 → (BitVec.ofNat 64 k).smod 64 = BitVec.ofNat 64 k := by decide +kernel
theorem wb_pw {a b : Nat} (h : a ≤ b) : 2 ^ b = 2 ^ a * 2 ^ (b - a) := by rw [← Nat.pow_add]; congr 1; omega
theorem wb_lt2 {a b : Nat} (h : a < b) : 2 ^ a < 2 ^ b := Nat.pow_lt_pow_right (by decide) h
theorem wb_mod (n : Nat) : lN n = lN (n % 2 ^ 64) := wb_inj (by rw [wb_tb, wb_tb]; apply BitVec.eq_of_toNat_eq; rw [BitVec.toNat_ofNat, BitVec.toNat_ofNat, Nat.mod_mod])
theorem wb_shr {n k : Nat} (hn : n < 2 ^ 64) (hk : k < 64) : ((lN n).toUInt64 >>> ((nI k).toInt64.toUInt64 &&& Int64.toUInt64 63)).toInt64 = lN (n / 2 ^ k) := by
  rw [wb_cu k hk]
  apply wb_inj
  apply BitVec.eq_of_toNat_eq
  show ((lN n).toUInt64 >>> UInt64.ofNat k).toNat = (BitVec.ofNat 64 _).toNat
  have h1 : (UInt64.ofNat k).toNat = k := by
    show (BitVec.ofNat 64 k).toNat = k
    rw [BitVec.toNat_ofNat, Nat.mod_eq_of_lt (by omega)]
  have h2 : (lN n).toUInt64.toNat = n := wb_tn hn
  rw [UInt64.toNat_shiftRight, h1, h2, Nat.mod_eq_of_lt hk, Nat.shiftRight_eq_div_pow, BitVec.toNat_ofNat, Nat.mod_eq_of_lt (Nat.lt_of_le_of_lt (Nat.div_le_self _ _) hn)]
theorem wb_shl (n : Nat) {k : Nat} (hk : k < 64) : lN n <<< ((nI k).toInt64 &&& 63) = lN (n * 2 ^ k) := by
  rw [wb_c k hk]
  apply wb_inj
  rw [Int64.toBitVec_shiftLeft, wb_tb, wb_tb, wb_tb, wb_sm k hk]
  apply BitVec.eq_of_toNat_eq
  rw [BitVec.shiftLeft_eq', BitVec.toNat_shiftLeft, BitVec.toNat_ofNat, BitVec.toNat_ofNat, BitVec.toNat_ofNat, Nat.mod_eq_of_lt (show k < 2 ^ 64 by omega), Nat.shiftLeft_eq, Nat.mul_mod, Nat.mod_mod, ← Nat.mul_mod]
theorem wb_and {a b : Nat} (ha : a < 2 ^ 64) (hb : b < 2 ^ 64) : lN a &&& lN b = lN (a &&& b) := by
  apply wb_inj
  rw [Int64.toBitVec_and, wb_tb, wb_tb, wb_tb]
  apply BitVec.eq_of_toNat_eq
  rw [BitVec.toNat_and, BitVec.toNat_ofNat, BitVec.toNat_ofNat, BitVec.toNat_ofNat, Nat.mod_eq_of_lt ha, Nat.mod_eq_of_lt hb, Nat.mod_eq_of_lt (Nat.and_lt_two_pow _ hb)]
theorem wb_or {a b : Nat} (ha : a < 2 ^ 64) (hb : b < 2 ^ 64) : lN a ||| lN b = lN (a ||| b) := by
  apply wb_inj
  rw [Int64.toBitVec_or, wb_tb, wb_tb, wb_tb]
  apply BitVec.eq_of_toNat_eq
  rw [BitVec.toNat_or, BitVec.toNat_ofNat, BitVec.toNat_ofNat, BitVec.toNat_ofNat, Nat.mod_eq_of_lt ha, Nat.mod_eq_of_lt hb, Nat.mod_eq_of_lt (Nat.or_lt_two_pow ha hb)]
theorem wb_mask {n k : Nat} (hn : n < 2 ^ 64) (hk : k < 64) : lN n &&& lN (2 ^ k - 1) = lN (n % 2 ^ k) := by
  rw [wb_and hn (by have := wb_lt2 hk; omega), Nat.and_two_pow_sub_one_eq_mod]
theorem wb_a1 {n : Nat} (hn : n < 2 ^ 64) : lN n &&& 1 = lN (n % 2) := wb_mask (k := 1) hn (by decide)
theorem wb_bit {n k : Nat} (hn : n < 2 ^ 64) (hk : k < 64) : ((lN n).toUInt64 >>> ((nI k).toInt64.toUInt64 &&& Int64.toUInt64 63)).toInt64 &&& 1 = lN (n / 2 ^ k % 2) := by
  rw [wb_shr hn hk, wb_a1 (Nat.lt_of_le_of_lt (Nat.div_le_self _ _) hn)]
end
section
/-! ===== values, pairs ===== -/
theorem lj_nor (a b : Nat) : nI a ||| nI b = nI (a ||| b) := by
  apply Int32.toBitVec_inj.1
  show BitVec.ofNat 32 a ||| BitVec.ofNat 32 b = BitVec.ofNat 32 (a ||| b)
  apply BitVec.eq_of_getLsbD_eq
  intro i hi
  simp [hi]
theorem lj_sh1 : ∀ y, y < 8 → (1 : Int32) <<< (nI y &&& 31) = nI (2 ^ y) := by decide +kernel
theorem lj_vsl {post : Int32 → St2 → Prop} {m : Nat → Nat} {a1 a2 a3 a4 a5 : Nat → Int32} (K : lj_K m a1 a3 a4 a5) : ∀ (S : List Nat) (low c r : Nat) (a6 a7 : Nat → Int32), lj_E m low S → r + S.length ≤ 4095 → (∀ a6 a7, post (nI (lj_vs c S)) (nI 2, a1, a2, a3, a4, a5, a6, a7)) → wX_values_22 post (nI 2) (S.length + 1) (nI c) (lj_hd S) (nI r) (nI 2) a1 a2 a3 a4 a5 a6 a7
  | [], _, c, r, a6, a7, _, hr, H => by
    have hr' : r + 0 ≤ 4095 := hr
    exact pk_le 4096 r (fun z => absurd z (by omega)) (fun _ => br_t (by decide) (H a6 a7))
  | n :: S, low, c, r, a6, a7, E, hr, H => by
    have hr' : r + (S.length + 1) ≤ 4095 := hr
    obtain ⟨g1, g2, g3, g4, g5⟩ := E
    have D := lj_dg_lt n 2
    refine pk_le 4096 r (fun z => absurd z (by omega)) (fun _ => br_f (lj_neg g2) (lj_digit (n := n) (d := 2) g2 (by omega) (nm_r (e' := nI (c ||| 2 ^ lj_dg n 2)) (by rw [lj_sh1 _ D, lj_nor]) ?_)))
    show wpX_nextFrom _ _ (nI n + 1)
    rw [nI_1 n]
    exact lj_next K (by omega) g5 (fun a6 a7 => nm_r (nI_1 r) (lj_vsl K S (n + 1) _ (r + 1) a6 a7 g5 (by omega) H))
theorem lj_values {post : Int32 → St2 → Prop} {m : Nat → Nat} {S : List Nat} {a1 a2 a3 a4 a5 a6 a7 : Nat → Int32} (K : lj_K m a1 a3 a4 a5) (E : lj_E m 0 S) (hS : S.length ≤ 4095) (H : ∀ a6 a7, post (nI (lj_vs 0 S)) (nI 2, a1, a2, a3, a4, a5, a6, a7)) : wpX_values post (nI 2, a1, a2, a3, a4, a5, a6, a7) 2 := by
  refine br_f (by decide) (br_f (by decide) (br_f (by decide) ?_))
  exact lj_next (low := 0) K (by omega) E (fun a6 a7 => ⟨S.length + 1, lj_vsl K S 0 0 0 a6 a7 E (by omega) H⟩)
def lj_ps : Nat → List Nat → Nat
  | a, [] => a
  | a, n :: S => lj_ps (a ||| 2 ^ (8 * lj_dg n 0 + lj_dg n 3)) S
def lj_pc (M : Nat) : Nat → Nat
  | 0 => 0
  | k + 1 => lj_pc M k + (if M.testBit k then 1 else 0)
theorem lj_pc_le (M k : Nat) : lj_pc M k ≤ k := by
  induction k with
  | zero => exact Nat.le_refl 0
  | succ k ih =>
    show lj_pc M k + (if M.testBit k then 1 else 0) ≤ k + 1
    cases M.testBit k
    · show lj_pc M k + 0 ≤ k + 1
      omega
    · show lj_pc M k + 1 ≤ k + 1
      omega
theorem lj_pc_or (M p k : Nat) : lj_pc (M ||| 2 ^ p) k ≤ lj_pc M k + (if p < k then 1 else 0) := by
  induction k with
  | zero => exact Nat.zero_le _
  | succ k ih =>
    show lj_pc (M ||| 2 ^ p) k + (if (M ||| 2 ^ p).testBit k then 1 else 0) ≤ lj_pc M k + (if M.testBit k then 1 else 0) + (if p < k + 1 then 1 else 0)
    by_cases e : p = k
    · subst e
      rw [if_neg (by omega)] at ih
      rw [if_pos (show p < p + 1 by omega)]
      have u : (if (M ||| 2 ^ p).testBit p then 1 else 0) ≤ 1 := by split <;> omega
      omega
    · rw [Nat.testBit_or, Nat.testBit_two_pow_of_ne e, Bool.or_false]
      have v : (if p < k + 1 then 1 else 0) = (if p < k then 1 else 0) := by
        by_cases g : p < k
        · rw [if_pos g, if_pos (by omega)]
        · rw [if_neg g, if_neg (by omega)]
      rw [v]
      omega
theorem lj_pc_pos (M p : Nat) (h : M.testBit p = true) : ∀ k, p < k → 0 < lj_pc M k
  | 0, hk => absurd hk (by omega)
  | k + 1, hk => by
    show 0 < lj_pc M k + (if M.testBit k then 1 else 0)
    by_cases e : p = k
    · rw [← e, h]
      show 0 < lj_pc M p + 1
      omega
    · have := lj_pc_pos M p h k (by omega)
      omega
theorem lj_pc_0 : ∀ k, lj_pc 0 k = 0
  | 0 => rfl
  | k + 1 => by
    show lj_pc 0 k + (if (0 : Nat).testBit k then 1 else 0) = 0
    rw [lj_pc_0 k, Nat.zero_testBit]
    rfl
theorem lj_ps_le : ∀ (S : List Nat) (a : Nat), lj_pc (lj_ps a S) 64 ≤ lj_pc a 64 + S.length
  | [], a => Nat.le_refl _
  | n :: S, a => by
    show lj_pc (lj_ps (a ||| 2 ^ (8 * lj_dg n 0 + lj_dg n 3)) S) 64 ≤ lj_pc a 64 + (S.length + 1)
    have h := lj_ps_le S (a ||| 2 ^ (8 * lj_dg n 0 + lj_dg n 3))
    have g := lj_pc_or a (8 * lj_dg n 0 + lj_dg n 3) 64
    have u : (if 8 * lj_dg n 0 + lj_dg n 3 < 64 then 1 else 0) ≤ 1 := by split <;> omega
    omega
theorem lj_ps_bit (p : Nat) : ∀ (S : List Nat) (a : Nat), a.testBit p = true → (lj_ps a S).testBit p = true
  | [], _, h => h
  | n :: S, a, h => lj_ps_bit p S _ (by rw [Nat.testBit_or, h, Bool.true_or])
theorem lj_ps_lt : ∀ (S : List Nat) (a : Nat), a < 2 ^ 64 → lj_ps a S < 2 ^ 64
  | [], _, h => h
  | n :: S, a, h => lj_ps_lt S _ (Nat.or_lt_two_pow h (wb_lt2 (by have := lj_dg_lt n 0; have := lj_dg_lt n 3; omega)))
/-- what pairs(0, 3) answers -/
def lj_ways (S : List Nat) : Nat := lj_pc (lj_ps 0 S) 64
theorem lj_ways_le (S : List Nat) : lj_ways S ≤ S.length := by
  have h := lj_ps_le S 0
  rw [lj_pc_0] at h
  show lj_pc (lj_ps 0 S) 64 ≤ S.length
  omega
theorem lj_ways_pos (S : List Nat) (h : 0 < S.length) : 0 < lj_ways S := by
  cases S with
  | nil => exact absurd h (by decide)
  | cons n S =>
    have d0 := lj_dg_lt n 0
    have d3 := lj_dg_lt n 3
    refine lj_pc_pos _ (8 * lj_dg n 0 + lj_dg n 3) (lj_ps_bit _ S _ ?_) 64 (by omega)
    rw [Nat.testBit_or, Nat.testBit_two_pow_self, Bool.or_true]
theorem lj_p90 {post : Int32 → St2 → Prop} {f0 : Int32} {a1 a2 a3 a4 a5 a6 a7 : Nat → Int32} {M : Nat} (hM : M < 2 ^ 64) (H : post (nI (lj_pc M 64)) (f0, a1, a2, a3, a4, a5, a6, a7)) : ∃ n, wX_pairs_90 post (lN M) f0 a1 a2 a3 a4 a5 a6 a7 n 0 0 := by
  refine pk_loop (σ := Unit) (fun n i _ => wX_pairs_90 post (lN M) f0 a1 a2 a3 a4 a5 a6 a7 n (nI (lj_pc M i)) (nI i)) (fun _ _ => True) 64 0 () (by omega) trivial ?_ ?_
  · intro n _ _
    exact pk_le 64 64 (fun _ => H) (fun z => absurd z (by omega))
  · intro n i _ hi _ hw
    refine pk_le 64 i (fun z => absurd z (by omega)) (fun _ => nm_r (e' := nI (lj_pc M (i + 1))) ?_ (nm_r (nI_1 i) (hw () trivial)))
    rw [wb_bit hM hi, lN_i, nI_add]
    show nI (lj_pc M i + M / 2 ^ i % 2) = nI (lj_pc M i + (if M.testBit i then 1 else 0))
    rw [Nat.testBit_eq_decide_div_mod_eq]
    have h2 : M / 2 ^ i % 2 < 2 := Nat.mod_lt _ (by decide)
    revert h2
    generalize M / 2 ^ i % 2 = q
    intro h2
    rcases (by omega : q = 0 ∨ q = 1) with e | e
    · rw [e]; rfl
    · rw [e]; rfl
theorem lj_psl {post : Int32 → St2 → Prop} {m : Nat → Nat} {a1 a2 a3 a4 a5 : Nat → Int32} (K : lj_K m a1 a3 a4 a5) : ∀ (S : List Nat) (low c r : Nat) (a6 a7 : Nat → Int32), lj_E m low S → r + S.length ≤ 4095 → c < 2 ^ 64 → (∀ a6 a7, post (nI (lj_pc (lj_ps c S) 64)) (nI 2, a1, a2, a3, a4, a5, a6, a7)) → wX_pairs_30 post (nI 0) (nI 3) (S.length + 1) (lN c) (lj_hd S) (nI r) (nI 2) a1 a2 a3 a4 a5 a6 a7
  | [], _, c, r, a6, a7, _, hr, hc, H => by
    have hr' : r + 0 ≤ 4095 := hr
    exact pk_le 4096 r (fun z => absurd z (by omega)) (fun _ => br_t (by decide) (lj_p90 hc (H a6 a7)))
  | n :: S, low, c, r, a6, a7, E, hr, hc, H => by
    have hr' : r + (S.length + 1) ≤ 4095 := hr
    obtain ⟨g1, g2, g3, g4, g5⟩ := E
    have D0 := lj_dg_lt n 0
    have D3 := lj_dg_lt n 3
    have P : 8 * lj_dg n 0 + lj_dg n 3 < 64 := by omega
    have e7 : 8 * nI (lj_dg n 0) + nI (lj_dg n 3) = nI (8 * lj_dg n 0 + lj_dg n 3) := by
      show nI 8 * nI (lj_dg n 0) + nI (lj_dg n 3) = _
      rw [pk_mul, nI_add]
    have e3 : lN c ||| ((1 : Int64) <<< ((nI (8 * lj_dg n 0 + lj_dg n 3)).toInt64 &&& 63)) = lN (c ||| 2 ^ (8 * lj_dg n 0 + lj_dg n 3)) := by
      show lN c ||| (lN 1 <<< ((nI (8 * lj_dg n 0 + lj_dg n 3)).toInt64 &&& 63)) = _
      rw [wb_shl 1 P, Nat.one_mul, wb_or hc (wb_lt2 P)]
    refine pk_le 4096 r (fun z => absurd z (by omega)) (fun _ => br_f (lj_neg g2) (lj_digit (n := n) (d := 0) g2 (by omega) (lj_digit (n := n) (d := 3) g2 (by omega) (nm_r e7 (nm_r e3 ?_)))))
    show wpX_nextFrom _ _ (nI n + 1)
    rw [nI_1 n]
    exact lj_next K (by omega) g5 (fun a6 a7 => nm_r (nI_1 r) (lj_psl K S (n + 1) _ (r + 1) a6 a7 g5 (by omega) (Nat.or_lt_two_pow hc (wb_lt2 P)) H))
theorem lj_pairs {post : Int32 → St2 → Prop} {m : Nat → Nat} {S : List Nat} {a1 a2 a3 a4 a5 a6 a7 : Nat → Int32} (K : lj_K m a1 a3 a4 a5) (E : lj_E m 0 S) (hS : S.length ≤ 4095) (H : ∀ a6 a7, post (nI (lj_ways S)) (nI 2, a1, a2, a3, a4, a5, a6, a7)) : wpX_pairs post (nI 2, a1, a2, a3, a4, a5, a6, a7) 0 3 := by
  refine br_f (by decide) (br_f (by decide) (br_f (by decide) (br_f (by decide) (br_f (by decide) (br_f (by decide) ?_)))))
  exact lj_next (low := 0) K (by omega) E (fun a6 a7 => ⟨S.length + 1, lj_psl K S 0 0 0 a6 a7 E (by omega) (by decide) H⟩)
end
section
/-! ===== put, pair, atom, loss ===== -/
/-- the onward array holds the pairs ps in relation 1 -/
def lj_Q (ps : List (Nat × Nat)) (a1 : Nat → Int32) : Prop := ∃ m : Nat → Nat, lj_M m ps ∧ ∀ x, x < 8 → a1 (8 + x) = nI (m x)
def lj_A (a3 a4 a5 : Nat → Int32) : Prop := (a3 0 = nI 1 ∧ a3 1 = nI 1) ∧ (a4 0 = nI 0 ∧ a4 1 = nI 2) ∧ (a5 0 = nI 2 ∧ a5 1 = nI 3)
theorem lj_KofQ {ps : List (Nat × Nat)} {a1 a3 a4 a5 : Nat → Int32} (q : lj_Q ps a1) (A : lj_A a3 a4 a5) : ∃ m, lj_K m a1 a3 a4 a5 ∧ lj_E m 0 (lj_all ps ps) := by
  obtain ⟨m, M, h⟩ := q
  exact ⟨m, ⟨fun x hx => ⟨M.2.1 x hx, h x hx⟩, A⟩, lj_E_all M⟩
theorem lj_or16 : ∀ v, v < 256 → ∀ y, y < 8 → (nI v ||| ((1 : Int32) <<< (nI y &&& 31))).toInt16.toInt32 = nI (v ||| 2 ^ y) := by decide +kernel
theorem lj_and16 : ∀ v, v < 256 → ∀ y, y < 8 → (nI v &&& (((1 : Int32) <<< (nI y &&& 31)) ^^^ (-1))).toInt16.toInt32 = nI (v &&& (255 - 2 ^ y)) := by decide +kernel
theorem lj_t255 : ∀ y, y < 8 → ∀ z, z < 8 → (255 - 2 ^ y : Nat).testBit z = !(decide (z = y)) := by decide +kernel
theorem lj_p256 : ∀ y, y < 8 → 2 ^ y < 256 := by decide
theorem lj_M_up {m : Nat → Nat} {ps ps' : List (Nat × Nat)} {x v : Nat} (M : lj_M m ps) (hv : v < 256) (hb : ∀ p, p ∈ ps' → p.1 < 8 ∧ p.2 < 8) (h1 : ∀ z, z < 8 → (v.testBit z = true ↔ (x, z) ∈ ps')) (h2 : ∀ w, w < 8 → w ≠ x → ∀ z, ((w, z) ∈ ps' ↔ (w, z) ∈ ps)) : lj_M (fun w => if w = x then v else m w) ps' := by
  obtain ⟨M1, M2, M3⟩ := M
  refine ⟨hb, fun w hw => ?_, fun w hw z hz => ?_⟩
  · show (if w = x then v else m w) < 256
    by_cases e : w = x
    · rw [if_pos e]; exact hv
    · rw [if_neg e]; exact M2 w hw
  · show (if w = x then v else m w).testBit z = true ↔ _
    by_cases e : w = x
    · rw [if_pos e, e]; exact h1 z hz
    · rw [if_neg e, h2 w hw e z]; exact M3 w hw z hz
theorem lj_Q_up {m : Nat → Nat} {a1 : Nat → Int32} {x v : Nat} (h : ∀ w, w < 8 → a1 (8 + w) = nI (m w)) : ∀ w, w < 8 → upd a1 (8 + x) (nI v) (8 + w) = nI (if w = x then v else m w) := by
  intro w hw
  by_cases e : w = x
  · rw [if_pos e, e, pk_us]
  · rw [if_neg e, pk_un (by omega)]
    exact h w hw
theorem lj_i8 (x : Nat) : (1 : Int32) * 8 + nI x = nI (8 + x) := by
  show nI 8 + nI x = _
  exact nI_add 8 x
theorem lj_on {post : St2 → Prop} {f0 : Int32} {a1 a2 a3 a4 a5 a6 a7 : Nat → Int32} {ps ps' : List (Nat × Nat)} {x y : Nat} (q : lj_Q ps a1) (hx : x < 8) (hy : y < 8) (hp : ∀ p, p ∈ ps' ↔ p = (x, y) ∨ p ∈ ps) (H : ∀ a1' a2', lj_Q ps' a1' → post (f0, a1', a2', a3, a4, a5, a6, a7)) : wpX_put post (f0, a1, a2, a3, a4, a5, a6, a7) 1 (nI x) (nI y) 1 := by
  obtain ⟨m, M, h⟩ := q
  have hm := M.2.1 x hx
  refine nm_r (lj_i8 x) (nm_r (lj_i8 y) (br_f (by decide) ⟨pk_in (8 + x) 24 (by omega), pk_in (8 + x) 24 (by omega), ?_⟩))
  rw [nI_clamp (show 8 + x < 2 ^ 31 by omega), h x hx, lj_or16 _ hm y hy]
  refine nm_e (br_f (by decide) ⟨pk_in (8 + y) 24 (by omega), pk_in (8 + y) 24 (by omega), nm_e (H _ _ ⟨_, lj_M_up (x := x) (v := m x ||| 2 ^ y) M ?_ ?_ ?_ ?_, lj_Q_up h⟩)⟩)
  · exact Nat.or_lt_two_pow (n := 8) hm (lj_p256 y hy)
  · intro p hpp
    rcases (hp p).mp hpp with u | u
    · rw [u]; exact ⟨hx, hy⟩
    · exact M.1 p u
  · intro z hz
    rw [Nat.testBit_or, Nat.testBit_two_pow, hp (x, z), Bool.or_eq_true, M.2.2 x hx z hz, decide_eq_true_iff]
    constructor
    · rintro (u | u)
      · exact Or.inr u
      · exact Or.inl (by rw [u])
    · rintro (u | u)
      · exact Or.inr (congrArg Prod.snd u).symm
      · exact Or.inl u
  · intro w hw e z
    rw [hp (w, z)]
    constructor
    · rintro (u | u)
      · exact absurd (congrArg Prod.fst u) e
      · exact u
    · exact Or.inr
theorem lj_off {post : St2 → Prop} {f0 : Int32} {a1 a2 a3 a4 a5 a6 a7 : Nat → Int32} {ps ps' : List (Nat × Nat)} {x y : Nat} (q : lj_Q ps a1) (hx : x < 8) (hy : y < 8) (hp : ∀ p, p ∈ ps' ↔ p ≠ (x, y) ∧ p ∈ ps) (H : ∀ a1' a2', lj_Q ps' a1' → post (f0, a1', a2', a3, a4, a5, a6, a7)) : wpX_put post (f0, a1, a2, a3, a4, a5, a6, a7) 1 (nI x) (nI y) 0 := by
  obtain ⟨m, M, h⟩ := q
  have hm := M.2.1 x hx
  refine nm_r (lj_i8 x) (nm_r (lj_i8 y) (br_t rfl ⟨pk_in (8 + x) 24 (by omega), pk_in (8 + x) 24 (by omega), ?_⟩))
  rw [nI_clamp (show 8 + x < 2 ^ 31 by omega), h x hx, lj_and16 _ hm y hy]
  refine nm_e (br_t rfl ⟨pk_in (8 + y) 24 (by omega), pk_in (8 + y) 24 (by omega), nm_e (H _ _ ⟨_, lj_M_up (x := x) (v := m x &&& (255 - 2 ^ y)) M ?_ ?_ ?_ ?_, lj_Q_up h⟩)⟩)
  · exact Nat.lt_of_le_of_lt Nat.and_le_left hm
  · intro p hpp
    exact M.1 p ((hp p).mp hpp).2
  · intro z hz
    rw [Nat.testBit_and, lj_t255 y hy z hz, hp (x, z), Bool.and_eq_true, M.2.2 x hx z hz]
    constructor
    · intro u
      refine ⟨fun e => ?_, u.1⟩
      have e2 : z = y := congrArg Prod.snd e
      have v := u.2
      rw [e2] at v
      simp at v
    · intro u
      refine ⟨u.2, ?_⟩
      have n : ¬ z = y := fun e => u.1 (by rw [e])
      simp [n]
  · intro w hw e z
    rw [hp (w, z)]
    exact ⟨fun u => u.2, fun u => ⟨fun g => e (congrArg Prod.fst g), u⟩⟩
theorem lj_thing {post : Int32 → Prop} {x : Nat} (hx : x < 8) (h : post 1) : wpX_isThing post () (nI x) :=
  br_f (nI_pos (by omega)) (br_f (nI_ge (b := 8) hx (by decide)) h)
theorem lj_pair {post : Int32 → St2 → Prop} {f0 : Int32} {a1 a2 a3 a4 a5 a6 a7 : Nat → Int32} {ps : List (Nat × Nat)} {x y : Nat} (q : lj_Q ps a1) (hx : x < 8) (hy : y < 8) (H : ∀ a1' a2', lj_Q ((x, y) :: ps) a1' → post 1 (f0, a1', a2', a3, a4, a5, a6, a7)) : wpX_pair post (f0, a1, a2, a3, a4, a5, a6, a7) 1 (nI x) (nI y) 1 := by
  refine br_f (by decide) (br_f (by decide) (br_f (by decide) (lj_thing hx (br_f (by decide) (lj_thing hy (br_f (by decide) ?_))))))
  exact lj_on q hx hy (fun p => List.mem_cons) H
theorem lj_atom {post : Int32 → St2 → Prop} {a1 a2 a3 a4 a5 a6 a7 : Nat → Int32} {f v w : Nat} (hf : f < 5) (hv : v < 4) (hw : w < 4) (H : post (nI (f + 1)) (nI (f + 1), a1, a2, upd a3 f (nI 1), upd a4 f (nI v), upd a5 f (nI w), a6, a7)) : wpX_atom post (nI f, a1, a2, a3, a4, a5, a6, a7) 1 (nI v) (nI w) := by
  refine br_f (by decide) (br_f (by decide) (br_f (by decide) (br_f (nI_pos (by omega)) (br_f (nI_ge (b := 4) hv (by decide)) (br_f (by decide) (br_f (nI_pos (by omega)) (br_f (nI_ge (b := 4) hw (by decide)) (br_f (by decide) ?_))))))))
  refine br_t (nI_lt (b := 5) hf (by decide)) ?_
  rw [nI_clamp (show f < 2 ^ 31 by omega), lj_nar v (by omega), lj_nar w (by omega)]
  exact ⟨pk_in f 5 hf, nm_r (e' := upd a3 f (nI 1)) (by rw [show (1 : Int32).toInt8.toInt32 = nI 1 by decide]) ⟨pk_in f 5 hf, nm_e ⟨pk_in f 5 hf, nm_e (nm_r (nI_1 f) H)⟩⟩⟩
theorem lj_loss {post : Int32 → St2 → Prop} {a1 a2 a3 a4 a5 a6 a7 : Nat → Int32} {ps ps' : List (Nat × Nat)} {x y : Nat} (q : lj_Q ps a1) (A : lj_A a3 a4 a5) (hx : x < 8) (hy : y < 8) (hi : (x, y) ∈ ps) (h1 : ∀ p, p ∈ ps' ↔ p ≠ (x, y) ∧ p ∈ ps) (l1 : (lj_all ps ps).length ≤ 4095) (l2 : (lj_all ps' ps').length ≤ 4095)
    (H : ∀ a1' a2' a6 a7, lj_Q ps a1' → post (nI (lj_all ps ps).length - nI (lj_all ps' ps').length) (nI 2, a1', a2', a3, a4, a5, a6, a7)) : wpX_loss post (nI 2, a1, a2, a3, a4, a5, a6, a7) 1 (nI x) (nI y) := by
  obtain ⟨m, K, E⟩ := lj_KofQ q A
  refine br_f (by decide) (br_f (by decide) (br_f (by decide) (lj_thing hx (br_f (by decide) (lj_thing hy (br_f (by decide) ⟨pk_in (8 + x) 24 (by omega) (lj_i8 x), ?_⟩))))))
  obtain ⟨m', M', h'⟩ := q
  rw [lj_i8, nI_clamp (show 8 + x < 2 ^ 31 by omega), h' x hx]
  refine lj_in (M'.2.1 x hx) hy (fun z => ?_) (fun _ => br_f (by decide) (lj_count K E l1 (fun a6 a7 => ?_)))
  · have g := (M'.2.2 x hx y hy).mpr hi
    rw [z] at g
    exact absurd g (by decide)
  · refine lj_off (ps := ps) (ps' := ps') ⟨m', M', h'⟩ hx hy h1 (fun b1 b2 q2 => ?_)
    obtain ⟨m2, K2, E2⟩ := lj_KofQ q2 A
    refine lj_count K2 E2 l2 (fun c6 c7 => ?_)
    refine lj_on (ps := ps') (ps' := ps) q2 hx hy (fun p => ?_) (fun b1 b2 q3 => H b1 b2 c6 c7 q3)
    rw [h1 p]
    constructor
    · intro u
      by_cases e : p = (x, y)
      · exact Or.inl e
      · exact Or.inr ⟨e, u⟩
    · rintro (u | u)
      · rw [u]; exact hi
      · exact u.2
end
section
/-! ===== the law ===== -/
theorem lj_338 {post : Int32 → St0 → Prop} {mc ms kc ks D W : Nat} {x10 x11 x20 z0 : Int32} (hD : D ≤ 4) (hW : W ≤ D) (hP : 0 < D → 0 < W) (h0 : D = 0 → x10 < 0) (h1 : 0 < D → ¬ x10 < 0) (h11 : x11 = nI D - z0) (H : post 1 ()) : wL_lawOf_338 post mc ms (nI D) x10 x11 x20 (nI W) (nI D) x20 z0 kc ks := by
  refine br_t rfl ?_
  by_cases e : D = 0
  · refine br_t (h0 e) ?_
    refine pk_le D 0 (fun _ => ?_) (fun z => absurd z (by omega))
    refine br_t rfl (br_t h11 (br_t rfl (pk_lt D W (fun z => absurd z (by omega)) (fun _ => pk_le W 0 (fun _ => ?_) (fun z => absurd z (by omega))))))
    refine pk_le D 0 (fun _ => ?_) (fun z => absurd z (by omega))
    exact br_t rfl H
  · have p : 0 < D := by omega
    have w := hP p
    refine br_f (h1 p) ?_
    refine pk_le D 0 (fun z => absurd z (by omega)) (fun _ => ?_)
    refine br_t rfl (br_t h11 (br_t rfl (pk_lt D W (fun z => absurd z (by omega)) (fun _ => pk_le W 0 (fun z => absurd z (by omega)) (fun _ => ?_)))))
    refine pk_le D 0 (fun z => absurd z (by omega)) (fun _ => ?_)
    exact br_t rfl H
theorem lj_fl {A B : Prop} {b c : Nat} (hb : b < 8) (hc : c < 8) (h1 : b = c → lj_b b c = 1 → A) (h0 : b ≠ c → lj_b b c = 0 → B) : (nI b = nI c → A) ∧ (¬ nI b = nI c → B) :=
  pk_eq b c (fun z => h1 z (if_pos z)) (fun z => h0 z (if_neg z))
theorem lj_t0 {post : Int32 → St0 → Prop} {mc ms kc ks a b c d : Nat} {x9 x10 x11 x12 x13 : Int32} (ha : a < 8) (hb : b < 8) (hc : c < 8) (hd : d < 8) (hs : ¬ (a = c ∧ b = d))
    (G : ∀ x19 x20 z0, x19 = nI (lj_due a b c d) → x20 = nI (lj_set a b c d) → z0 = nI (lj_left a b c d) → wL_lawOf_338 post mc ms x9 x10 x11 x12 x13 x19 x20 z0 kc ks) :
    wL_lawOf_138 post mc ms (nI a) (nI b) (nI c) (nI d) x9 x10 x11 x12 x13 0 kc ks := by
  refine lj_fl hb hc (fun z1 e1 => lj_fl hd ha (fun z2 e2 => lj_fl ha hb (fun z3 e3 => lj_fl hc hd (fun z4 e4 => ?_) (fun z4 e4 => ?_)) (fun z3 e3 => lj_fl hc hd (fun z4 e4 => ?_) (fun z4 e4 => ?_))) (fun z2 e2 => lj_fl ha hb (fun z3 e3 => lj_fl hc hd (fun z4 e4 => ?_) (fun z4 e4 => ?_)) (fun z3 e3 => lj_fl hc hd (fun z4 e4 => ?_) (fun z4 e4 => ?_)))) (fun z1 e1 => lj_fl hd ha (fun z2 e2 => lj_fl ha hb (fun z3 e3 => lj_fl hc hd (fun z4 e4 => ?_) (fun z4 e4 => ?_)) (fun z3 e3 => lj_fl hc hd (fun z4 e4 => ?_) (fun z4 e4 => ?_))) (fun z2 e2 => lj_fl ha hb (fun z3 e3 => lj_fl hc hd (fun z4 e4 => ?_) (fun z4 e4 => ?_)) (fun z3 e3 => lj_fl hc hd (fun z4 e4 => ?_) (fun z4 e4 => ?_))))
  all_goals
    repeat (first | refine br_t rfl ?_ | refine br_f (by decide) ?_)
    refine G _ _ _ ?_ ?_ ?_
    · rw [lj_due, if_neg hs, e1, e2, e3, e4]
      decide
    · rw [lj_set, if_neg hs]
      first
        | rw [if_pos (show b = c ∨ a = b by omega), lj_sh1 b hb]
        | rw [if_neg (show ¬ (b = c ∨ a = b) by omega)]
      first
        | rw [if_pos (show d = a ∨ c = d by omega), lj_sh1 d hd]
        | rw [if_neg (show ¬ (d = a ∨ c = d) by omega)]
      exact lj_nor _ _
    · rw [lj_left, if_neg hs, e4]
      rfl
theorem lj_t1 {post : Int32 → St0 → Prop} {mc ms kc ks a b c d : Nat} {x9 x10 x11 x12 x13 : Int32} (ha : a < 8) (hb : b < 8) (hc : c < 8) (hd : d < 8) (hs : a = c ∧ b = d)
    (G : ∀ x19 x20 z0, x19 = nI (lj_due a b c d) → x20 = nI (lj_set a b c d) → z0 = nI (lj_left a b c d) → wL_lawOf_338 post mc ms x9 x10 x11 x12 x13 x19 x20 z0 kc ks) :
    wL_lawOf_138 post mc ms (nI a) (nI b) (nI c) (nI d) x9 x10 x11 x12 x13 1 kc ks := by
  refine lj_fl hb hc (fun z1 e1 => lj_fl hd ha (fun z2 e2 => lj_fl ha hb (fun z3 e3 => lj_fl hc hd (fun z4 e4 => ?_) (fun z4 e4 => ?_)) (fun z3 e3 => lj_fl hc hd (fun z4 e4 => ?_) (fun z4 e4 => ?_))) (fun z2 e2 => lj_fl ha hb (fun z3 e3 => lj_fl hc hd (fun z4 e4 => ?_) (fun z4 e4 => ?_)) (fun z3 e3 => lj_fl hc hd (fun z4 e4 => ?_) (fun z4 e4 => ?_)))) (fun z1 e1 => lj_fl hd ha (fun z2 e2 => lj_fl ha hb (fun z3 e3 => lj_fl hc hd (fun z4 e4 => ?_) (fun z4 e4 => ?_)) (fun z3 e3 => lj_fl hc hd (fun z4 e4 => ?_) (fun z4 e4 => ?_))) (fun z2 e2 => lj_fl ha hb (fun z3 e3 => lj_fl hc hd (fun z4 e4 => ?_) (fun z4 e4 => ?_)) (fun z3 e3 => lj_fl hc hd (fun z4 e4 => ?_) (fun z4 e4 => ?_))))
  all_goals
    repeat (first | refine br_t rfl ?_ | refine br_f (by decide) ?_)
    refine G _ _ _ ?_ ?_ ?_
    · rw [lj_due, if_pos hs, e3]
      decide
    · rw [lj_set, if_pos hs]
      first
        | rw [if_pos z3, lj_sh1 b hb]
        | rw [if_neg z3]; rfl
    · rw [lj_left, if_pos hs]
      rfl
theorem lj_Q0 : lj_Q [] (fun _ => 0) := by
  refine ⟨fun _ => 0, ⟨fun p hp => absurd hp (by simp), fun x _ => Nat.zero_lt_succ 255, fun x hx y hy => ?_⟩, fun x hx => rfl⟩
  show (0 : Nat).testBit y = true ↔ _
  rw [Nat.zero_testBit]
  simp
theorem lj_b_le (x y : Nat) : lj_b x y ≤ 1 := by
  unfold lj_b
  split <;> omega
theorem lj_due_le (a b c d : Nat) : lj_due a b c d ≤ 4 := by
  have h1 := lj_b_le b c
  have h2 := lj_b_le d a
  have h3 := lj_b_le a b
  have h4 := lj_b_le c d
  unfold lj_due
  split <;> omega
theorem lj_left_le (a b c d : Nat) : lj_left a b c d ≤ 1 := by
  have h4 := lj_b_le c d
  unfold lj_left
  split <;> omega
theorem lj_pb_mem (a b c d : Nat) (p : Nat × Nat) : p ∈ lj_pb a b c d ↔ p ≠ (a, b) ∧ p ∈ lj_pa a b c d := by
  have e : p ∈ lj_pa a b c d ↔ p = (c, d) ∨ p = (a, b) := by
    show p ∈ [(c, d), (a, b)] ↔ _
    simp
  rw [e]
  unfold lj_pb
  by_cases h : c = a ∧ d = b
  · rw [if_pos h, h.1, h.2]
    constructor
    · intro u
      exact absurd u (by simp)
    · rintro ⟨u, v | v⟩
      · exact absurd v u
      · exact absurd v u
  · rw [if_neg h, List.mem_singleton]
    constructor
    · intro u
      refine ⟨fun v => h ?_, Or.inl u⟩
      rw [u] at v
      exact ⟨congrArg Prod.fst v, congrArg Prod.snd v⟩
    · rintro ⟨u, v | v⟩
      · exact v
      · exact absurd v u
theorem lj_and7 (p : Int32) : ∃ j : Nat, j < 8 ∧ p &&& 7 = nI j := pk_andE p 3 (by decide)
theorem lj_lawOf {post : Int32 → St0 → Prop} (p0 p1 p2 p3 : Int32) (H : post 1 ()) : wpL_lawOf post 38 592 () p0 p1 p2 p3 := by
  obtain ⟨a, ha, ea⟩ := lj_and7 p0
  obtain ⟨b, hb, eb⟩ := lj_and7 p1
  obtain ⟨c, hc, ec⟩ := lj_and7 p2
  obtain ⟨d, hd, ed⟩ := lj_and7 p3
  have good := lj_law a ha b hb c hc d hd
  unfold lj_good at good
  rw [Bool.and_eq_true, Bool.and_eq_true, beq_iff_eq, beq_iff_eq, beq_iff_eq] at good
  obtain ⟨⟨g1, g2⟩, g3⟩ := good
  have due4 := lj_due_le a b c d
  have left1 := lj_left_le a b c d
  refine ⟨by decide, by decide, 37, 584, by decide, by decide, ?_⟩
  refine ⟨by decide, by decide, by decide, by decide, by decide, by decide, by decide, by decide, by decide, by decide, by decide, by decide, by decide, by decide, ?_⟩
  refine nm_r ea (nm_r eb (nm_r ec (nm_r ed ?_)))
  refine lj_pair lj_Q0 ha hb (fun a1 a2 q1 => ?_)
  refine lj_pair q1 hc hd (fun a1 a2 q2 => ?_)
  refine lj_atom (f := 0) (v := 0) (w := 2) (by omega) (by omega) (by omega) ?_
  refine lj_atom (f := 1) (v := 2) (w := 3) (by omega) (by omega) (by omega) ?_
  have A : lj_A (upd (upd (fun _ => 0) 0 (nI 1)) 1 (nI 1)) (upd (upd (fun _ => 0) 0 (nI 0)) 1 (nI 2)) (upd (upd (fun _ => 0) 0 (nI 2)) 1 (nI 3)) := ⟨⟨rfl, rfl⟩, ⟨rfl, rfl⟩, ⟨rfl, rfl⟩⟩
  obtain ⟨m, K, E⟩ := lj_KofQ (ps := lj_pa a b c d) q2 A
  refine lj_count K E (by omega) (fun a6 a7 => ?_)
  refine lj_answer K E (fun a6 a7 => ?_)
  refine lj_loss (ps := lj_pa a b c d) (ps' := lj_pb a b c d) q2 A ha hb (by show (a, b) ∈ [(c, d), (a, b)]; simp) (lj_pb_mem a b c d) (by omega) (by omega) (fun b1 b2 a6 a7 q3 => ?_)
  obtain ⟨m3, K3, E3⟩ := lj_KofQ q3 A
  refine lj_values K3 E3 (by omega) (fun a6 a7 => ?_)
  refine lj_pairs K3 E3 (by omega) (fun a6 a7 => ?_)
  have W1 := lj_ways_le (lj_all (lj_pa a b c d) (lj_pa a b c d))
  have W2 := lj_ways_pos (lj_all (lj_pa a b c d) (lj_pa a b c d))
  rw [g1, g2, g3]
  rw [g1] at W1 W2
  have hd0 : lj_due a b c d = 0 → lj_hd (lj_all (lj_pa a b c d) (lj_pa a b c d)) < 0 := by
    intro z
    rw [z] at g1
    rw [List.length_eq_zero_iff.mp g1]
    decide
  have hd1 : 0 < lj_due a b c d → ¬ lj_hd (lj_all (lj_pa a b c d) (lj_pa a b c d)) < 0 := by
    intro z
    have lt : ∀ n, n ∈ lj_all (lj_pa a b c d) (lj_pa a b c d) → n < 4096 := by
      obtain ⟨m', M', _⟩ := q3
      exact fun n hn => lj_all_lt M' hn
    revert g1 lt
    generalize lj_all (lj_pa a b c d) (lj_pa a b c d) = S
    intro g1 lt
    cases S with
    | nil =>
      have g1' : 0 = lj_due a b c d := g1
      omega
    | cons n S => exact lj_neg (lt n (List.mem_cons.mpr (Or.inl rfl)))
  have G : ∀ x19 x20 z0 : Int32, x19 = nI (lj_due a b c d) → x20 = nI (lj_set a b c d) → z0 = nI (lj_left a b c d) → wL_lawOf_338 post 38 592 (nI (lj_due a b c d)) (lj_hd (lj_all (lj_pa a b c d) (lj_pa a b c d))) (nI (lj_due a b c d) - nI (lj_left a b c d)) (nI (lj_set a b c d)) (nI (lj_ways (lj_all (lj_pa a b c d) (lj_pa a b c d)))) x19 x20 z0 (1 + 37) (8 + 584) := by
    intro x19 x20 z0 h1 h2 h3
    subst h1 h2 h3
    exact lj_338 due4 W1 W2 hd0 hd1 rfl H
  refine pk_eq a c (fun z => pk_eq b d (fun w => lj_t1 ha hb hc hd ⟨z, w⟩ G) (fun w => lj_t0 ha hb hc hd (fun g => w g.2) G)) (fun z => lj_t0 ha hb hc hd (fun g => z g.1) G)
theorem lj_cell {P : Int32 → Prop} {L k : Nat} {xs : Nat → Int32} (hL : L ≤ 4) (hk : k < 4) (h : ∀ r, P r) : wpL_cellAt P L xs () (nI k) :=
  pk_le L k (fun _ => h 0) (fun z => ⟨pk_in k L z, h _⟩)
theorem i_vc (xs : Nat → Int32) (L : Nat) (hL : L ≤ 4) : wpL_law (fun r => r = 1) L xs :=
  lj_cell (k := 0) hL (by omega) (fun r1 => lj_cell (k := 1) hL (by omega) (fun r2 => lj_cell (k := 2) hL (by omega) (fun r3 => lj_cell (k := 3) hL (by omega) (fun r4 => ⟨38, 592, by decide, by decide, lj_lawOf r1 r2 r3 r4 rfl⟩))))
end
