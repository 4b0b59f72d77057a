section
/-- the sum of p over the members of X below n -/
def sj_sum (p : Nat → Nat) (X : Nat → Bool) : Nat → Nat
  | 0 => 0
  | n + 1 => sj_sum p X n + (if X n = true then p n else 0)
theorem sj_sum_le {p : Nat → Nat} {X Y : Nat → Bool} : ∀ {n : Nat}, (∀ x, x < n → X x = true → Y x = true) → sj_sum p X n ≤ sj_sum p Y n
  | 0, _ => Nat.le_refl 0
  | n + 1, h => by
    have ih : sj_sum p X n ≤ sj_sum p Y n := sj_sum_le (fun x hx => h x (by omega))
    have hn := h n (by omega)
    show sj_sum p X n + (if X n = true then p n else 0) ≤ sj_sum p Y n + (if Y n = true then p n else 0)
    by_cases e : X n = true
    · rw [if_pos e, if_pos (hn e)]
      omega
    · rw [if_neg e]
      exact Nat.le_trans ih (Nat.le_add_right _ _)
theorem sj_sum_cg {p q : Nat → Nat} {X Y : Nat → Bool} : ∀ {n : Nat}, (∀ x, x < n → (X x = true ↔ Y x = true)) → (∀ x, x < n → X x = true → p x = q x) → sj_sum p X n = sj_sum q Y n
  | 0, _, _ => rfl
  | n + 1, h, g => by
    have ih : sj_sum p X n = sj_sum q Y n := sj_sum_cg (fun x hx => h x (by omega)) (fun x hx => g x (by omega))
    show sj_sum p X n + (if X n = true then p n else 0) = sj_sum q Y n + (if Y n = true then q n else 0)
    by_cases e : X n = true
    · rw [if_pos e, if_pos ((h n (by omega)).mp e), ih, g n (by omega) e]
    · rw [if_neg e, if_neg (fun z => e ((h n (by omega)).mpr z)), ih]
theorem sj_sum_or {p : Nat → Nat} {X Y Z : Nat → Bool} : ∀ {n : Nat}, (∀ x, x < n → (X x = true ↔ (Y x = true ∨ Z x = true))) → (∀ x, x < n → Y x = true → ¬ Z x = true) → sj_sum p X n = sj_sum p Y n + sj_sum p Z n
  | 0, _, _ => rfl
  | n + 1, h, d => by
    have ih : sj_sum p X n = sj_sum p Y n + sj_sum p Z n := sj_sum_or (fun x hx => h x (by omega)) (fun x hx => d x (by omega))
    have hn := h n (by omega)
    have dn := d n (by omega)
    show sj_sum p X n + (if X n = true then p n else 0) = (sj_sum p Y n + (if Y n = true then p n else 0)) + (sj_sum p Z n + (if Z n = true then p n else 0))
    by_cases y : Y n = true
    · rw [if_pos y, if_neg (dn y), if_pos (hn.mpr (Or.inl y))]
      omega
    · by_cases z : Z n = true
      · rw [if_neg y, if_pos z, if_pos (hn.mpr (Or.inr z))]
        omega
      · rw [if_neg y, if_neg z, if_neg (fun q => (hn.mp q).elim y z)]
        omega
theorem sj_sum_0 {p : Nat → Nat} {X : Nat → Bool} : ∀ {n : Nat}, (∀ x, x < n → ¬ X x = true) → sj_sum p X n = 0
  | 0, _ => rfl
  | n + 1, h => by
    show sj_sum p X n + (if X n = true then p n else 0) = 0
    rw [if_neg (h n (by omega)), sj_sum_0 (fun x hx => h x (by omega))]
theorem sj_sum_1 {p : Nat → Nat} {Z : Nat → Bool} {i : Nat} : ∀ {n : Nat}, i < n → (∀ x, x < n → (Z x = true ↔ x = i)) → sj_sum p Z n = p i
  | 0, hi, _ => absurd hi (by omega)
  | n + 1, hi, h => by
    show sj_sum p Z n + (if Z n = true then p n else 0) = p i
    by_cases e : n = i
    · have e0 : sj_sum p Z n = 0 := sj_sum_0 (fun x hx z => by
        have := (h x (by omega)).mp z
        omega)
      rw [if_pos ((h n (by omega)).mpr e), e0, e, Nat.zero_add]
    · rw [if_neg (fun z => e ((h n (by omega)).mp z)), sj_sum_1 (by omega) (fun x hx => h x (by omega)), Nat.add_zero]
theorem sj_sum_del {p : Nat → Nat} {X Y : Nat → Bool} {i n : Nat} (hi : i < n) (hX : X i = true) (h : ∀ x, x < n → (Y x = true ↔ (X x = true ∧ x ≠ i))) : sj_sum p X n = sj_sum p Y n + p i := by
  have e1 : sj_sum p X n = sj_sum p Y n + sj_sum p (fun x => decide (x = i)) n := sj_sum_or (fun x hx => by
      constructor
      · intro z
        by_cases e : x = i
        · exact Or.inr (decide_eq_true e)
        · exact Or.inl ((h x hx).mpr ⟨z, e⟩)
      · intro z
        rcases z with z | z
        · exact ((h x hx).mp z).1
        · have e : x = i := of_decide_eq_true z
          rw [e]
          exact hX) (fun x hx y z => ((h x hx).mp y).2 (of_decide_eq_true z))
  have e2 : sj_sum p (fun x => decide (x = i)) n = p i := sj_sum_1 hi (fun x hx => decide_eq_true_iff)
  rw [e1, e2]
theorem sj_sum_bd {p : Nat → Nat} {X : Nat → Bool} {c : Nat} : ∀ {n : Nat}, (∀ x, x < n → p x ≤ c) → sj_sum p X n ≤ c * n
  | 0, _ => Nat.le_refl 0
  | n + 1, h => by
    have ih : sj_sum p X n ≤ c * n := sj_sum_bd (fun x hx => h x (by omega))
    have hn := h n (by omega)
    show sj_sum p X n + (if X n = true then p n else 0) ≤ c * (n + 1)
    rw [Nat.mul_add, Nat.mul_one]
    by_cases e : X n = true
    · rw [if_pos e]
      omega
    · rw [if_neg e]
      omega
theorem sj_max {f : Nat → Nat} {B : Nat → Bool} : ∀ {n : Nat}, (∃ j, j < n ∧ B j = true) → ∃ m, m < n ∧ B m = true ∧ ∀ j, j < n → B j = true → f j ≤ f m
  | 0, h => by
    obtain ⟨j, hj, _⟩ := h
    omega
  | n + 1, h => by
    by_cases e : ∃ j, j < n ∧ B j = true
    · obtain ⟨m, hm, bm, g⟩ := sj_max (f := f) e
      by_cases bn : B n = true ∧ f m < f n
      · refine ⟨n, by omega, bn.1, fun j hj bj => ?_⟩
        by_cases ej : j = n
        · rw [ej]
          exact Nat.le_refl _
        · have := g j (by omega) bj
          omega
      · refine ⟨m, by omega, bm, fun j hj bj => ?_⟩
        by_cases ej : j = n
        · rcases Nat.lt_or_ge (f m) (f j) with z | z
          · exact absurd ⟨by rw [← ej]; exact bj, by rw [← ej]; exact z⟩ bn
          · exact z
        · exact g j (by omega) bj
    · obtain ⟨j, hj, bj⟩ := h
      refine ⟨j, hj, bj, fun k hk bk => ?_⟩
      have hj' : j = n := by
        rcases Nat.lt_or_ge j n with z | z
        · exact absurd ⟨j, z, bj⟩ e
        · omega
      have hk' : k = n := by
        rcases Nat.lt_or_ge k n with z | z
        · exact absurd ⟨k, z, bk⟩ e
        · omega
      have : f k = f j := by rw [hj', hk']
      omega
/-- a busy block B under the ready times rd, that ends at e -/
def sj_Bl (rd len : Nat → Nat) (B : Nat → Bool) (e : Nat) : Prop :=
  (∃ j, j < 5 ∧ B j = true) ∧
  (∃ s, (∀ j, j < 5 → B j = true → s ≤ rd j) ∧ e = s + sj_sum len B 5) ∧
  (∀ (X : Nat → Bool) (s : Nat), (∃ j, j < 5 ∧ X j = true) → (∀ j, j < 5 → X j = true → B j = true ∧ s ≤ rd j) →
    s + sj_sum len X 5 ≤ e ∧ ((∃ j, j < 5 ∧ B j = true ∧ ¬ X j = true) → s + sj_sum len X 5 < e))
theorem sj_Bl_1 {rd len : Nat → Nat} {B : Nat → Bool} {k : Nat} (hk : k < 5) (hB : ∀ j, j < 5 → (B j = true ↔ j = k)) : sj_Bl rd len B (rd k + len k) := by
  have e : sj_sum len B 5 = len k := sj_sum_1 hk hB
  refine ⟨⟨k, hk, (hB k hk).mpr rfl⟩, ⟨rd k, fun j hj b => Nat.le_of_eq (congrArg rd ((hB j hj).mp b).symm), by rw [e]⟩, fun X s hX h => ?_⟩
  obtain ⟨x, hx, xx⟩ := hX
  have hxk : x = k := (hB x hx).mp (h x hx xx).1
  rw [hxk] at xx
  have e2 : sj_sum len X 5 = len k := sj_sum_1 hk (fun j hj => ⟨fun z => (hB j hj).mp (h j hj z).1, fun z => by rw [z]; exact xx⟩)
  have hs := (h k hk xx).2
  rw [e2]
  refine ⟨by omega, fun q => ?_⟩
  obtain ⟨j, hj, bj, nx⟩ := q
  exact absurd (by rw [(hB j hj).mp bj]; exact xx) nx
theorem sj_Bl_add {rd len : Nat → Nat} {B B' : Nat → Bool} {k t : Nat} (hk : k < 5) (hB' : ∀ j, j < 5 → (B' j = true ↔ (B j = true ∨ j = k))) (hn : ¬ B k = true)
    (hle : ∀ j, j < 5 → B j = true → rd j ≤ rd k) (ht : rd k < t) (hl : 1 ≤ len k) (h : sj_Bl rd len B t) : sj_Bl rd len B' (t + len k) := by
  obtain ⟨⟨b, hb, bb⟩, ⟨s0, hs0, he⟩, hX⟩ := h
  have eB : sj_sum len B' 5 = sj_sum len B 5 + len k := sj_sum_del hk ((hB' k hk).mpr (Or.inr rfl)) (fun j hj => ⟨fun z => ⟨(hB' j hj).mpr (Or.inl z), fun e => hn (by rw [← e]; exact z)⟩, fun z => ((hB' j hj).mp z.1).elim id (fun e => absurd e z.2)⟩)
  refine ⟨⟨b, hb, (hB' b hb).mpr (Or.inl bb)⟩, ⟨s0, fun j hj z => ?_, by omega⟩, fun X s hne hsub => ?_⟩
  · rcases (hB' j hj).mp z with z | z
    · exact hs0 j hj z
    · have h1 := hs0 b hb bb
      have h2 := hle b hb bb
      rw [z]
      omega
  · by_cases xk : X k = true
    · obtain ⟨X', hX'⟩ : ∃ X' : Nat → Bool, ∀ j, X' j = true ↔ (X j = true ∧ j ≠ k) := ⟨fun j => X j && !decide (j = k), fun j => by simp⟩
      have eX : sj_sum len X 5 = sj_sum len X' 5 + len k := sj_sum_del hk xk (fun j _ => hX' j)
      have hs := (hsub k hk xk).2
      by_cases ne : ∃ j, j < 5 ∧ X' j = true
      · have q := hX X' s ne (fun j hj z => ⟨((hB' j hj).mp (hsub j hj ((hX' j).mp z).1).1).elim id (fun e => absurd e ((hX' j).mp z).2), (hsub j hj ((hX' j).mp z).1).2⟩)
        refine ⟨by have := q.1; omega, fun w => ?_⟩
        obtain ⟨j, hj, bj, nx⟩ := w
        have jk : j ≠ k := fun e => nx (by rw [e]; exact xk)
        have := q.2 ⟨j, hj, ((hB' j hj).mp bj).elim id (fun e => absurd e jk), fun z => nx ((hX' j).mp z).1⟩
        omega
      · have z0 : sj_sum len X' 5 = 0 := sj_sum_0 (fun x hx z => ne ⟨x, hx, z⟩)
        exact ⟨by omega, fun _ => by omega⟩
    · have q := (hX X s hne (fun j hj z => ⟨((hB' j hj).mp (hsub j hj z).1).elim id (fun e => absurd (by rw [← e]; exact z) xk), (hsub j hj z).2⟩)).1
      exact ⟨by omega, fun _ => by omega⟩
theorem sj_Bl_bd {rd len : Nat → Nat} {B : Nat → Bool} {e c : Nat} (h : sj_Bl rd len B e) (hl : ∀ j, j < 5 → len j ≤ 3) (hr : ∀ j, j < 5 → B j = true → rd j ≤ c) : e ≤ c + 15 := by
  obtain ⟨⟨b, hb, bb⟩, ⟨s, hs, he⟩, _⟩ := h
  have h1 : sj_sum len B 5 ≤ 3 * 5 := sj_sum_bd hl
  have h2 := hs b hb bb
  have h3 := hr b hb bb
  omega
/-- a plan: r the moments at which the jobs may start, C the moments at which they are done -/
def sj_Feas (rel len : Nat → Nat) (fol : Nat → Nat → Bool) (S : Nat → Bool) (r C : Nat → Nat) : Prop :=
  (∀ j, j < 5 → S j = true → rel j ≤ r j) ∧
  (∀ i j, i < 5 → j < 5 → S i = true → S j = true → fol i j = true → r i + len i ≤ r j) ∧
  (∀ (X : Nat → Bool) (s : Nat), (∃ j, j < 5 ∧ X j = true) → (∀ j, j < 5 → X j = true → S j = true ∧ s ≤ r j) → ∃ j, j < 5 ∧ X j = true ∧ s + sj_sum len X 5 ≤ C j) ∧
  (∀ i j, i < 5 → j < 5 → S i = true → S j = true → fol i j = true → C i < C j)
theorem sj_low {rel len rd r C : Nat → Nat} {fol : Nat → Nat → Bool} {S B : Nat → Bool} {e : Nat} (hF : sj_Feas rel len fol S r C) (hrd : ∀ j, j < 5 → S j = true → rd j ≤ r j)
    (hB : sj_Bl rd len B e) (hBS : ∀ j, j < 5 → B j = true → S j = true) : ∃ m, m < 5 ∧ B m = true ∧ e ≤ C m ∧ ∀ j, j < 5 → B j = true → ¬ fol m j = true := by
  obtain ⟨_, _, hX, hL⟩ := hF
  obtain ⟨hne, ⟨s, hs, he⟩, _⟩ := hB
  obtain ⟨m, hm, bm, gm⟩ := sj_max (f := C) hne
  obtain ⟨x, hx, bx, gx⟩ := hX B s hne (fun j hj b => ⟨hBS j hj b, Nat.le_trans (hs j hj b) (hrd j hj (hBS j hj b))⟩)
  have := gm x hx bx
  refine ⟨m, hm, bm, by omega, fun j hj b f => ?_⟩
  have h1 := hL m j hm hj (hBS m hm bm) (hBS j hj b) f
  have h2 := gm j hj b
  omega
/-- what the blocks reach for the jobs of G: ends C within cost K -/
def sj_Ach (rd len : Nat → Nat) (fol : Nat → Nat → Bool) (cost : Nat → Nat → Int) (K : Int) (G : Nat → Bool) : Prop := ∃ C : Nat → Nat,
  (∀ (X : Nat → Bool) (s : Nat), (∃ j, j < 5 ∧ X j = true) → (∀ j, j < 5 → X j = true → G j = true ∧ s ≤ rd j) → ∃ j, j < 5 ∧ X j = true ∧ s + sj_sum len X 5 ≤ C j) ∧
  (∀ i j, i < 5 → j < 5 → G i = true → G j = true → fol i j = true → C i < C j) ∧
  (∀ j, j < 5 → G j = true → cost j (C j) ≤ K ∧ ∃ (X : Nat → Bool) (s : Nat), (∃ x, x < 5 ∧ X x = true) ∧ (∀ x, x < 5 → X x = true → G x = true ∧ s ≤ rd x) ∧ C j ≤ s + sj_sum len X 5)
theorem sj_Ach_0 {rd len : Nat → Nat} {fol : Nat → Nat → Bool} {cost : Nat → Nat → Int} {K : Int} {G : Nat → Bool} (h : ∀ j, j < 5 → ¬ G j = true) : sj_Ach rd len fol cost K G := by
  refine ⟨fun _ => 0, fun X s hne g => ?_, fun i j hi hj gi => absurd gi (h i hi), fun j hj g => absurd g (h j hj)⟩
  obtain ⟨j, hj, x⟩ := hne
  exact absurd (g j hj x).1 (h j hj)
theorem sj_comb {rd len : Nat → Nat} {fol : Nat → Nat → Bool} {cost : Nat → Nat → Int} {K : Int} {G B R Q : Nat → Bool} {e l : Nat}
    (hpos : ∀ j, j < 5 → G j = true → 1 ≤ len j)
    (hr : ∀ i j, i < 5 → j < 5 → G i = true → G j = true → fol i j = true → rd i ≤ rd j)
    (hBG : ∀ j, j < 5 → B j = true → G j = true)
    (hB : sj_Bl rd len B e) (hrest : ∀ j, j < 5 → G j = true → ¬ B j = true → e ≤ rd j)
    (hl : l < 5) (hlB : B l = true) (hnf : ∀ j, j < 5 → B j = true → ¬ fol l j = true) (hc : cost l e ≤ K)
    (hR : ∀ j, j < 5 → (R j = true ↔ (G j = true ∧ ¬ B j = true)))
    (hQ : ∀ j, j < 5 → (Q j = true ↔ (B j = true ∧ j ≠ l)))
    (h1 : sj_Ach rd len fol cost K R) (h2 : sj_Ach rd len fol cost K Q) : sj_Ach rd len fol cost K G := by
  obtain ⟨C1, x1, l1, k1⟩ := h1
  obtain ⟨C2, x2, l2, k2⟩ := h2
  obtain ⟨bne, ⟨s0, hs0, he⟩, hX⟩ := hB
  obtain ⟨C, hC⟩ : ∃ C : Nat → Nat, ∀ j, C j = if R j = true then C1 j else if j = l then e else C2 j := ⟨_, fun _ => rfl⟩
  have cR : ∀ j, R j = true → C j = C1 j := fun j z => by rw [hC, if_pos z]
  have nRB : ∀ j, j < 5 → B j = true → ¬ R j = true := fun j hj b z => ((hR j hj).mp z).2 b
  have cl : C l = e := by rw [hC, if_neg (nRB l hl hlB), if_pos rfl]
  have cQ : ∀ j, j < 5 → Q j = true → C j = C2 j := fun j hj z => by rw [hC, if_neg (nRB j hj ((hQ j hj).mp z).1), if_neg ((hQ j hj).mp z).2]
  have q_lt : ∀ j, j < 5 → Q j = true → C j < e := by
    intro j hj z
    obtain ⟨_, X, s, xne, xs, xc⟩ := k2 j hj z
    have := (hX X s xne (fun x hx xx => ⟨((hQ x hx).mp (xs x hx xx).1).1, (xs x hx xx).2⟩)).2 ⟨l, hl, hlB, fun xx => ((hQ l hl).mp (xs l hl xx).1).2 rfl⟩
    rw [cQ j hj z]
    omega
  have b_le : ∀ j, j < 5 → B j = true → C j ≤ e := by
    intro j hj b
    by_cases ej : j = l
    · exact Nat.le_of_eq (by rw [ej, cl])
    · exact Nat.le_of_lt (q_lt j hj ((hQ j hj).mpr ⟨b, ej⟩))
  have r_gt : ∀ j, j < 5 → R j = true → rd j < C j := by
    intro j hj z
    obtain ⟨x, hx, xx, hc⟩ := x1 (fun x => decide (x = j)) (rd j) ⟨j, hj, decide_eq_true rfl⟩ (fun x hx xx => by
      have ex : x = j := of_decide_eq_true xx
      rw [ex]
      exact ⟨z, Nat.le_refl _⟩)
    have ex : x = j := of_decide_eq_true xx
    have e1 : sj_sum len (fun x => decide (x = j)) 5 = len j := sj_sum_1 hj (fun y hy => decide_eq_true_iff)
    rw [e1, ex] at hc
    have := hpos j hj ((hR j hj).mp z).1
    rw [cR j z]
    omega
  refine ⟨C, fun X s xne xs => ?_, fun i j hi hj gi gj f => ?_, fun j hj g => ?_⟩
  · obtain ⟨X1, hX1⟩ : ∃ X1 : Nat → Bool, ∀ j, X1 j = true ↔ (X j = true ∧ B j = true) := ⟨fun j => X j && B j, fun j => by simp⟩
    obtain ⟨X2, hX2⟩ : ∃ X2 : Nat → Bool, ∀ j, X2 j = true ↔ (X j = true ∧ ¬ B j = true) := ⟨fun j => X j && !B j, fun j => by simp⟩
    have es : sj_sum len X 5 = sj_sum len X1 5 + sj_sum len X2 5 := sj_sum_or (fun x hx => by
      constructor
      · intro z
        by_cases b : B x = true
        · exact Or.inl ((hX1 x).mpr ⟨z, b⟩)
        · exact Or.inr ((hX2 x).mpr ⟨z, b⟩)
      · intro z
        rcases z with z | z
        · exact ((hX1 x).mp z).1
        · exact ((hX2 x).mp z).1) (fun x hx y z => ((hX2 x).mp z).2 ((hX1 x).mp y).2)
    have r2 : ∀ j, j < 5 → X2 j = true → R j = true := fun j hj z => (hR j hj).mpr ⟨(xs j hj ((hX2 j).mp z).1).1, ((hX2 j).mp z).2⟩
    by_cases n2 : ∃ j, j < 5 ∧ X2 j = true
    · by_cases n1 : ∃ j, j < 5 ∧ X1 j = true
      · have a := (hX X1 s n1 (fun j hj z => ⟨((hX1 j).mp z).2, (xs j hj ((hX1 j).mp z).1).2⟩)).1
        obtain ⟨j, hj, z, c⟩ := x1 X2 e n2 (fun j hj z => ⟨r2 j hj z, hrest j hj (xs j hj ((hX2 j).mp z).1).1 ((hX2 j).mp z).2⟩)
        exact ⟨j, hj, ((hX2 j).mp z).1, by rw [cR j (r2 j hj z)]; omega⟩
      · have z1 : sj_sum len X1 5 = 0 := sj_sum_0 (fun x hx z => n1 ⟨x, hx, z⟩)
        obtain ⟨j, hj, z, c⟩ := x1 X2 s n2 (fun j hj z => ⟨r2 j hj z, (xs j hj ((hX2 j).mp z).1).2⟩)
        exact ⟨j, hj, ((hX2 j).mp z).1, by rw [cR j (r2 j hj z)]; omega⟩
    · have xB : ∀ j, j < 5 → X j = true → B j = true := fun j hj z => by
        by_cases b : B j = true
        · exact b
        · exact absurd ⟨j, hj, (hX2 j).mpr ⟨z, b⟩⟩ n2
      by_cases xl : X l = true
      · have a := (hX X s xne (fun j hj z => ⟨xB j hj z, (xs j hj z).2⟩)).1
        exact ⟨l, hl, xl, by rw [cl]; exact a⟩
      · have xQ : ∀ j, j < 5 → X j = true → Q j = true := fun j hj z => (hQ j hj).mpr ⟨xB j hj z, fun q => xl (by rw [← q]; exact z)⟩
        obtain ⟨j, hj, z, c⟩ := x2 X s xne (fun j hj z => ⟨xQ j hj z, (xs j hj z).2⟩)
        exact ⟨j, hj, z, by rw [cQ j hj (xQ j hj z)]; exact c⟩
  · by_cases bi : B i = true
    · by_cases bj : B j = true
      · have il : i ≠ l := fun q => hnf j hj bj (by rw [← q]; exact f)
        have qi := (hQ i hi).mpr ⟨bi, il⟩
        by_cases jl : j = l
        · rw [jl, cl]
          exact q_lt i hi qi
        · have qj := (hQ j hj).mpr ⟨bj, jl⟩
          rw [cQ i hi qi, cQ j hj qj]
          exact l2 i j hi hj qi qj f
      · have a := b_le i hi bi
        have b := hrest j hj gj bj
        have c := r_gt j hj ((hR j hj).mpr ⟨gj, bj⟩)
        omega
    · have a := hrest i hi gi bi
      by_cases bj : B j = true
      · have b := (hX (fun x => decide (x = j)) (rd j) ⟨j, hj, decide_eq_true rfl⟩ (fun x hx xx => by
          have ex : x = j := of_decide_eq_true xx
          rw [ex]
          exact ⟨bj, Nat.le_refl _⟩)).1
        have e1 : sj_sum len (fun x => decide (x = j)) 5 = len j := sj_sum_1 hj (fun y hy => decide_eq_true_iff)
        rw [e1] at b
        have h1 := hpos j hj gj
        have h2 := hr i j hi hj gi gj f
        omega
      · have ri := (hR i hi).mpr ⟨gi, bi⟩
        have rj := (hR j hj).mpr ⟨gj, bj⟩
        rw [cR i ri, cR j rj]
        exact l1 i j hi hj ri rj f
  · by_cases b : B j = true
    · by_cases jl : j = l
      · exact ⟨by rw [jl, cl]; exact hc, B, s0, bne, fun x hx xx => ⟨hBG x hx xx, hs0 x hx xx⟩, Nat.le_of_eq (by rw [jl, cl, he])⟩
      · have qj := (hQ j hj).mpr ⟨b, jl⟩
        obtain ⟨a, X, s, xne, xs, xc⟩ := k2 j hj qj
        exact ⟨by rw [cQ j hj qj]; exact a, X, s, xne, fun x hx xx => ⟨hBG x hx ((hQ x hx).mp (xs x hx xx).1).1, (xs x hx xx).2⟩, by rw [cQ j hj qj]; exact xc⟩
    · have rj := (hR j hj).mpr ⟨g, b⟩
      obtain ⟨a, X, s, xne, xs, xc⟩ := k1 j hj rj
      exact ⟨by rw [cR j rj]; exact a, X, s, xne, fun x hx xx => ⟨((hR x hx).mp (xs x hx xx).1).1, (xs x hx xx).2⟩, by rw [cR j rj]; exact xc⟩
/-- there is a plan of the jobs in S with no cost above K -/
def sj_Plan (rel len : Nat → Nat) (fol : Nat → Nat → Bool) (cost : Nat → Nat → Int) (K : Int) (S : Nat → Bool) : Prop :=
  ∃ r C : Nat → Nat, sj_Feas rel len fol S r C ∧ ∀ j, j < 5 → S j = true → C j ≤ 60 ∧ cost j (C j) ≤ K
theorem sj_Plan_0 {rel len : Nat → Nat} {fol : Nat → Nat → Bool} {cost : Nat → Nat → Int} {K : Int} {S : Nat → Bool} (h : ∀ j, j < 5 → ¬ S j = true) : sj_Plan rel len fol cost K S := by
  refine ⟨fun _ => 0, fun _ => 0, ⟨fun j hj s => absurd s (h j hj), fun i j hi hj s => absurd s (h i hi), fun X s hne g => ?_, fun i j hi hj s => absurd s (h i hi)⟩, fun j hj s => absurd s (h j hj)⟩
  obtain ⟨j, hj, x⟩ := hne
  exact absurd (g j hj x).1 (h j hj)
theorem sj_Ach_Plan {rel len rd : Nat → Nat} {fol : Nat → Nat → Bool} {cost : Nat → Nat → Int} {K : Int} {S : Nat → Bool} (h : sj_Ach rd len fol cost K S)
    (hrel : ∀ j, j < 5 → S j = true → rel j ≤ rd j) (hlk : ∀ i j, i < 5 → j < 5 → S i = true → S j = true → fol i j = true → rd i + len i ≤ rd j)
    (hb : ∀ j, j < 5 → S j = true → rd j ≤ 24) (hl : ∀ j, j < 5 → len j ≤ 3) : sj_Plan rel len fol cost K S := by
  obtain ⟨C, x, l, k⟩ := h
  refine ⟨rd, C, ⟨hrel, hlk, x, l⟩, fun j hj s => ?_⟩
  obtain ⟨a, X, t, ⟨y, hy, yy⟩, xs, xc⟩ := k j hj s
  have h1 : sj_sum len X 5 ≤ 3 * 5 := sj_sum_bd hl
  have h2 := (xs y hy yy).2
  have h3 := hb y hy (xs y hy yy).1
  exact ⟨by omega, a⟩
theorem sj_Plan_mono {rel rel' len len' : Nat → Nat} {fol fol' : Nat → Nat → Bool} {cost cost' : Nat → Nat → Int} {K K' : Int} {S S' : Nat → Bool} (h : sj_Plan rel len fol cost K S)
    (hS : ∀ j, j < 5 → S' j = true → S j = true) (hrel : ∀ j, j < 5 → S' j = true → rel' j = rel j) (hlen : ∀ j, j < 5 → S' j = true → len' j = len j)
    (hf : ∀ i j, i < 5 → j < 5 → S' i = true → S' j = true → fol' i j = true → fol i j = true)
    (hc : ∀ j t, j < 5 → S' j = true → t ≤ 60 → cost j t ≤ K → cost' j t ≤ K') : sj_Plan rel' len' fol' cost' K' S' := by
  obtain ⟨r, C, ⟨h1, h2, h3, h4⟩, h5⟩ := h
  refine ⟨r, C, ⟨fun j hj s => ?_, fun i j hi hj si sj f => ?_, fun X s ne xs => ?_, fun i j hi hj si sj f => h4 i j hi hj (hS i hi si) (hS j hj sj) (hf i j hi hj si sj f)⟩, fun j hj s => ?_⟩
  · rw [hrel j hj s]
    exact h1 j hj (hS j hj s)
  · rw [hlen i hi si]
    exact h2 i j hi hj (hS i hi si) (hS j hj sj) (hf i j hi hj si sj f)
  · have e : sj_sum len' X 5 = sj_sum len X 5 := sj_sum_cg (fun x hx => Iff.rfl) (fun x hx xx => hlen x hx (xs x hx xx).1)
    rw [e]
    exact h3 X s ne (fun j hj z => ⟨hS j hj (xs j hj z).1, (xs j hj z).2⟩)
  · have g := h5 j hj (hS j hj s)
    exact ⟨g.1, hc j _ hj s g.1 g.2⟩
/-- r leaves the releases and the links open -/
def sj_rok (rel len : Nat → Nat) (fol : Nat → Nat → Bool) (S : Nat → Bool) (r : Nat → Nat) : Prop :=
  (∀ j, j < 5 → S j = true → rel j ≤ r j) ∧ (∀ i j, i < 5 → j < 5 → S i = true → S j = true → fol i j = true → r i + len i ≤ r j)
/-- the ready times in round k ahead of job i -/
def sj_Rd (rel len : Nat → Nat) (fol : Nat → Nat → Bool) (S : Nat → Bool) (rk : Nat → Nat) (k i : Nat) (rd : Nat → Nat) : Prop :=
  (∀ j, j < 5 → rel j ≤ rd j) ∧
  (∀ r, sj_rok rel len fol S r → ∀ j, j < 5 → S j = true → rd j ≤ r j) ∧
  (∀ j, j < 5 → ¬ S j = true → rd j = rel j) ∧
  (∀ a b, a < 5 → b < 5 → S a = true → S b = true → fol a b = true → rk b ≤ k → rd a + len a ≤ rd b) ∧
  (∀ a b, a < 5 → b < 5 → S a = true → S b = true → fol a b = true → rk b ≤ k + 1 → a < i → rd a + len a ≤ rd b)
theorem sj_Rd_0 {rel len rk rd : Nat → Nat} {fol : Nat → Nat → Bool} {S : Nat → Bool} (hrk : ∀ a b, a < 5 → b < 5 → fol a b = true → rk a < rk b) (h : ∀ j, j < 5 → rd j = rel j) : sj_Rd rel len fol S rk 0 0 rd := by
  refine ⟨fun j hj => Nat.le_of_eq (h j hj).symm, fun r hr j hj s => by rw [h j hj]; exact hr.1 j hj s, fun j hj _ => h j hj, fun a b ha hb sa sb f kb => ?_, fun a b ha hb sa sb f kb ai => absurd ai (by omega)⟩
  have := hrk a b ha hb f
  omega
theorem sj_Rd_push {rel len rk rd rd' : Nat → Nat} {fol : Nat → Nat → Bool} {S : Nat → Bool} {k i : Nat} (hi : i < 5) (si : S i = true) (hrk : ∀ a b, a < 5 → b < 5 → fol a b = true → rk a < rk b)
    (hd : ∀ j, j < 5 → rd' j = if (fol i j = true ∧ S j = true) ∧ rd j < rd i + len i then rd i + len i else rd j) (h : sj_Rd rel len fol S rk k i rd) : sj_Rd rel len fol S rk k (i + 1) rd' := by
  obtain ⟨h1, h2, h3, h4, h5⟩ := h
  have hy : ∀ j, j < 5 → ((fol i j = true ∧ S j = true) ∧ rd j < rd i + len i → rd' j = rd i + len i) ∧ (¬ ((fol i j = true ∧ S j = true) ∧ rd j < rd i + len i) → rd' j = rd j) := fun j hj => ⟨fun q => by rw [hd j hj, if_pos q], fun q => by rw [hd j hj, if_neg q]⟩
  have up : ∀ j, j < 5 → rd j ≤ rd' j := fun j hj => by
    by_cases q : (fol i j = true ∧ S j = true) ∧ rd j < rd i + len i
    · rw [(hy j hj).1 q]
      omega
    · rw [(hy j hj).2 q]
      exact Nat.le_refl _
  have fix : ∀ j, j < 5 → rk j ≤ k → rd' j = rd j := fun j hj hk => (hy j hj).2 (fun q => by
    have := h4 i j hi hj si q.1.2 q.1.1 hk
    omega)
  have hit : ∀ j, j < 5 → fol i j = true → S j = true → rd i + len i ≤ rd' j := fun j hj f s => by
    by_cases q : (fol i j = true ∧ S j = true) ∧ rd j < rd i + len i
    · rw [(hy j hj).1 q]
      exact Nat.le_refl _
    · rcases Nat.lt_or_ge (rd j) (rd i + len i) with z | z
      · exact absurd ⟨⟨f, s⟩, z⟩ q
      · exact Nat.le_trans z (up j hj)
  refine ⟨fun j hj => Nat.le_trans (h1 j hj) (up j hj), fun r hr j hj s => ?_, fun j hj s => ?_, fun a b ha hb sa sb f kb => ?_, fun a b ha hb sa sb f kb ai => ?_⟩
  · by_cases q : (fol i j = true ∧ S j = true) ∧ rd j < rd i + len i
    · rw [(hy j hj).1 q]
      have h6 := hr.2 i j hi hj si s q.1.1
      have h7 := h2 r hr i hi si
      omega
    · rw [(hy j hj).2 q]
      exact h2 r hr j hj s
  · rw [(hy j hj).2 (fun q => s q.1.2)]
    exact h3 j hj s
  · have := hrk a b ha hb f
    rw [fix a ha (by omega), fix b hb kb]
    exact h4 a b ha hb sa sb f kb
  · have hab := hrk a b ha hb f
    rw [fix a ha (by omega)]
    by_cases ea : a = i
    · rw [ea] at f ⊢
      exact hit b hb f sb
    · exact Nat.le_trans (h5 a b ha hb sa sb f kb (by omega)) (up b hb)
theorem sj_Rd_skip {rel len rk rd : Nat → Nat} {fol : Nat → Nat → Bool} {S : Nat → Bool} {k i : Nat} (si : ¬ S i = true) (h : sj_Rd rel len fol S rk k i rd) : sj_Rd rel len fol S rk k (i + 1) rd := by
  obtain ⟨h1, h2, h3, h4, h5⟩ := h
  refine ⟨h1, h2, h3, h4, fun a b ha hb sa sb f kb ai => ?_⟩
  by_cases ea : a = i
  · rw [ea] at sa
    exact absurd sa si
  · exact h5 a b ha hb sa sb f kb (by omega)
theorem sj_Rd_round {rel len rk rd : Nat → Nat} {fol : Nat → Nat → Bool} {S : Nat → Bool} {k : Nat} (h : sj_Rd rel len fol S rk k 5 rd) : sj_Rd rel len fol S rk (k + 1) 0 rd := by
  obtain ⟨h1, h2, h3, h4, h5⟩ := h
  exact ⟨h1, h2, h3, fun a b ha hb sa sb f kb => h5 a b ha hb sa sb f kb ha, fun a b ha hb sa sb f kb ai => absurd ai (by omega)⟩
theorem sj_Rd_bd {rel len rk rd : Nat → Nat} {fol : Nat → Nat → Bool} {S : Nat → Bool} {k i : Nat} (hrk : ∀ a b, a < 5 → b < 5 → fol a b = true → rk a < rk b) (hr5 : ∀ j, j < 5 → rk j < 5)
    (hrel : ∀ j, j < 5 → rel j ≤ 9) (hlen : ∀ j, j < 5 → len j ≤ 3) (h : sj_Rd rel len fol S rk k i rd) : ∀ j, j < 5 → rd j ≤ 21 := by
  intro j hj
  by_cases s : S j = true
  · have h1 := h.2.1 (fun j => 9 + 3 * rk j) ⟨fun j hj _ => by have := hrel j hj; show rel j ≤ 9 + 3 * rk j; omega, fun a b ha hb _ _ f => by
      have h2 := hrk a b ha hb f
      have h3 := hlen a ha
      show 9 + 3 * rk a + len a ≤ 9 + 3 * rk b
      omega⟩ j hj s
    have h2 : rd j ≤ 9 + 3 * rk j := h1
    have h3 := hr5 j hj
    omega
  · have h1 := h.2.2.1 j hj s
    have h2 := hrel j hj
    omega
/-- ranks below 5 out of any ranks -/
theorem sj_rank {fol : Nat → Nat → Bool} (f : Nat → Nat) (h : ∀ a b, a < 5 → b < 5 → fol a b = true → f a < f b) : ∃ rk : Nat → Nat, (∀ j, j < 5 → rk j < 5) ∧ ∀ a b, a < 5 → b < 5 → fol a b = true → rk a < rk b := by
  refine ⟨fun x => sj_sum (fun _ => 1) (fun y => decide (f y < f x)) 5, fun j hj => ?_, fun a b ha hb z => ?_⟩
  · have e : sj_sum (fun _ => 1) (fun _ => true) 5 = sj_sum (fun _ => 1) (fun y => decide (y ≠ j)) 5 + 1 := sj_sum_del (p := fun _ => 1) (X := fun _ => true) (Y := fun y => decide (y ≠ j)) hj rfl (fun x hx => by simp)
    have l : sj_sum (fun _ => 1) (fun y => decide (f y < f j)) 5 ≤ sj_sum (fun _ => 1) (fun y => decide (y ≠ j)) 5 := sj_sum_le (fun x hx z => by
      have z' : f x < f j := of_decide_eq_true z
      exact decide_eq_true (fun q => by rw [q] at z'; omega))
    have t : sj_sum (fun _ => 1) (fun _ => true) 5 = 5 := rfl
    show sj_sum (fun _ => 1) (fun y => decide (f y < f j)) 5 < 5
    omega
  · have fab := h a b ha hb z
    have e : sj_sum (fun _ => 1) (fun y => decide (f y < f b)) 5 = sj_sum (fun _ => 1) (fun y => decide (f y < f b ∧ y ≠ a)) 5 + 1 := sj_sum_del (p := fun _ => 1) (X := fun y => decide (f y < f b)) (Y := fun y => decide (f y < f b ∧ y ≠ a)) ha (decide_eq_true fab) (fun x hx => by simp)
    have l : sj_sum (fun _ => 1) (fun y => decide (f y < f a)) 5 ≤ sj_sum (fun _ => 1) (fun y => decide (f y < f b ∧ y ≠ a)) 5 := sj_sum_le (fun x hx z => by
      have z' : f x < f a := of_decide_eq_true z
      exact decide_eq_true ⟨by omega, fun q => by rw [q] at z'; omega⟩)
    show sj_sum (fun _ => 1) (fun y => decide (f y < f a)) 5 < sj_sum (fun _ => 1) (fun y => decide (f y < f b)) 5
    omega
/-- a link i to j more, where a closed set holds j and not i -/
theorem sj_rank_add {fol fol' : Nat → Nat → Bool} {rk : Nat → Nat} {R : Nat → Bool} {i j : Nat} (hr5 : ∀ x, x < 5 → rk x < 5) (hrk : ∀ a b, a < 5 → b < 5 → fol a b = true → rk a < rk b)
    (hi : i < 5) (hj : j < 5) (hcl : ∀ a b, a < 5 → b < 5 → R a = true → fol a b = true → R b = true) (hRj : R j = true) (hRi : ¬ R i = true)
    (hf : ∀ a b, a < 5 → b < 5 → fol' a b = true → (fol a b = true ∨ (a = i ∧ b = j))) : ∃ rk' : Nat → Nat, (∀ x, x < 5 → rk' x < 5) ∧ ∀ a b, a < 5 → b < 5 → fol' a b = true → rk' a < rk' b := by
  refine sj_rank (fun x => rk x + (if R x = true then 5 else 0)) (fun a b ha hb f => ?_)
  show rk a + (if R a = true then 5 else 0) < rk b + (if R b = true then 5 else 0)
  rcases hf a b ha hb f with q | ⟨q1, q2⟩
  · have h1 := hrk a b ha hb q
    by_cases ra : R a = true
    · rw [if_pos ra, if_pos (hcl a b ha hb ra q)]
      omega
    · rw [if_neg ra]
      by_cases rb : R b = true
      · rw [if_pos rb]
        omega
      · rw [if_neg rb]
        omega
  · rw [q1, q2, if_neg hRi, if_pos hRj]
    have := hr5 i hi
    omega
/-- the size of a set below 5 -/
def sj_pop (X : Nat → Bool) : Nat := sj_sum (fun _ => 1) X 5
theorem sj_pop_lt {X Y : Nat → Bool} {i : Nat} (hi : i < 5) (h : ∀ x, x < 5 → X x = true → Y x = true) (hY : Y i = true) (hX : ¬ X i = true) : sj_pop X < sj_pop Y := by
  have e : sj_sum (fun _ => 1) Y 5 = sj_sum (fun _ => 1) (fun y => decide (Y y = true ∧ y ≠ i)) 5 + 1 := sj_sum_del (p := fun _ => 1) (X := Y) (Y := fun y => decide (Y y = true ∧ y ≠ i)) hi hY (fun x hx => by simp)
  have l : sj_sum (fun _ => 1) X 5 ≤ sj_sum (fun _ => 1) (fun y => decide (Y y = true ∧ y ≠ i)) 5 := sj_sum_le (fun x hx z => decide_eq_true ⟨h x hx z, fun q => hX (by rw [← q]; exact z)⟩)
  show sj_sum (fun _ => 1) X 5 < sj_sum (fun _ => 1) Y 5
  omega
theorem sj_pop_5 (X : Nat → Bool) : sj_pop X ≤ 5 := sj_sum_bd (p := fun _ => 1) (c := 1) (n := 5) (fun _ _ => Nat.le_refl 1)
theorem sj_pop_all {X : Nat → Bool} (h : 5 ≤ sj_pop X) : ∀ j, j < 5 → X j = true := by
  intro j hj
  by_cases x : X j = true
  · exact x
  · have h1 := sj_pop_lt (X := X) (Y := fun _ => true) hj (fun _ _ _ => rfl) rfl x
    have h2 := sj_pop_5 (fun _ => true)
    omega
theorem sj_pop_pos {X : Nat → Bool} {i : Nat} (hi : i < 5) (h : X i = true) : 1 ≤ sj_pop X := by
  have := sj_pop_lt (X := fun _ => false) (Y := X) hi (fun x _ z => absurd z (by decide)) h (by decide)
  omega
theorem sj_pop_add {X Y : Nat → Bool} {i : Nat} (hi : i < 5) (hX : X i = true) (h : ∀ x, x < 5 → (Y x = true ↔ (X x = true ∧ x ≠ i))) : sj_pop X = sj_pop Y + 1 := sj_sum_del (p := fun _ => 1) hi hX h
theorem sj_pop_or {X Y Z : Nat → Bool} (h : ∀ x, x < 5 → (X x = true ↔ (Y x = true ∨ Z x = true))) (d : ∀ x, x < 5 → Y x = true → ¬ Z x = true) : sj_pop X = sj_pop Y + sj_pop Z := sj_sum_or h d
/-- a job of B without a follower in it -/
theorem sj_last {fol : Nat → Nat → Bool} {rk : Nat → Nat} {B : Nat → Bool} (hrk : ∀ a b, a < 5 → b < 5 → fol a b = true → rk a < rk b) (h : ∃ j, j < 5 ∧ B j = true) : ∃ m, m < 5 ∧ B m = true ∧ ∀ j, j < 5 → B j = true → ¬ fol m j = true := by
  obtain ⟨m, hm, bm, g⟩ := sj_max (f := rk) h
  refine ⟨m, hm, bm, fun j hj b f => ?_⟩
  have h1 := g j hj b
  have h2 := hrk m j hm hj f
  omega
end
section
/-! masks of five bits -/
theorem sj_bit : ∀ m, m < 32 → ∀ i, i < 5 → ((((nI m) >>> (nI i &&& 31)) &&& 1) = 0 ↔ ¬ m.testBit i = true) := by decide +kernel
theorem sj_bit1 : ∀ m, m < 32 → ∀ i, i < 5 → ((((nI m) >>> (nI i &&& 31)) &&& 1) = 1 ↔ m.testBit i = true) := by decide +kernel
theorem sj_bitW {x : Int32} {A B : Prop} (m i : Nat) (hm : m < 32) (hi : i < 5) (f : ¬ m.testBit i = true → A) (g : m.testBit i = true → B) (hx : x = nI m := by rfl) :
    (((x >>> (nI i &&& 31)) &&& 1) = 0 → A) ∧ (¬ ((x >>> (nI i &&& 31)) &&& 1) = 0 → B) := by
  subst hx
  rw [sj_bit m hm i hi]
  exact ⟨f, fun z => g (Decidable.of_not_not z)⟩
theorem sj_bitV {x : Int32} {A B : Prop} (m i : Nat) (hm : m < 32) (hi : i < 5) (f : m.testBit i = true → A) (g : ¬ m.testBit i = true → B) (hx : x = nI m := by rfl) :
    (((x >>> (nI i &&& 31)) &&& 1) = 1 → A) ∧ (¬ ((x >>> (nI i &&& 31)) &&& 1) = 1 → B) := by
  subst hx
  rw [sj_bit1 m hm i hi]
  exact ⟨f, g⟩
theorem sj_nar : ∀ m, m < 128 → (nI m).toInt8.toInt32 = nI m := by decide +kernel
/-- m with i -/
def sj_add (m i : Nat) : Nat := m ||| 1 <<< i
/-- m without i -/
def sj_del (m i : Nat) : Nat := m &&& (31 ^^^ (1 <<< i))
/-- m without k's bits -/
def sj_dif (m k : Nat) : Nat := m &&& (31 ^^^ k)
theorem sj_add_e : ∀ m, m < 32 → ∀ i, i < 5 → nI m ||| ((1 : Int32) <<< (nI i &&& 31)) = nI (sj_add m i) := by decide +kernel
theorem sj_add_l : ∀ m, m < 32 → ∀ i, i < 5 → sj_add m i < 32 := by decide +kernel
theorem sj_add_b : ∀ m, m < 32 → ∀ i, i < 5 → ∀ j, j < 5 → ((sj_add m i).testBit j = true ↔ (m.testBit j = true ∨ j = i)) := by decide +kernel
theorem sj_one_e : ∀ i, i < 5 → ((1 : Int32) <<< (nI i &&& 31)) = nI (1 <<< i) := by decide +kernel
theorem sj_one_b : ∀ i, i < 5 → 1 <<< i < 32 ∧ ∀ j, j < 5 → ((1 <<< i : Nat).testBit j = true ↔ j = i) := by decide +kernel
theorem sj_del_e : ∀ m, m < 32 → ∀ i, i < 5 → nI m &&& (((1 : Int32) <<< (nI i &&& 31)) ^^^ (-1)) = nI (sj_del m i) := by decide +kernel
theorem sj_del_l : ∀ m, m < 32 → ∀ i, i < 5 → sj_del m i < 32 := by decide +kernel
theorem sj_del_b : ∀ m, m < 32 → ∀ i, i < 5 → ∀ j, j < 5 → ((sj_del m i).testBit j = true ↔ (m.testBit j = true ∧ j ≠ i)) := by decide +kernel
theorem sj_dif_e : ∀ m, m < 32 → ∀ k, k < 32 → nI m &&& (nI k ^^^ (-1)) = nI (sj_dif m k) := by decide +kernel
theorem sj_dif_l : ∀ m, m < 32 → ∀ k, k < 32 → sj_dif m k < 32 := by decide +kernel
theorem sj_dif_b : ∀ m, m < 32 → ∀ k, k < 32 → ∀ j, j < 5 → ((sj_dif m k).testBit j = true ↔ (m.testBit j = true ∧ ¬ k.testBit j = true)) := by decide +kernel
theorem sj_and_e : ∀ m, m < 32 → ∀ k, k < 32 → nI m &&& nI k = nI (m &&& k) := by decide +kernel
theorem sj_and_l : ∀ m, m < 32 → ∀ k, k < 32 → m &&& k < 32 := by decide +kernel
theorem sj_and_b : ∀ m, m < 32 → ∀ k, k < 32 → ∀ j, j < 5 → ((m &&& k).testBit j = true ↔ (m.testBit j = true ∧ k.testBit j = true)) := by decide +kernel
theorem sj_or_e : ∀ m, m < 32 → ∀ k, k < 32 → nI m ||| nI k = nI (m ||| k) := by decide +kernel
theorem sj_or_l : ∀ m, m < 32 → ∀ k, k < 32 → m ||| k < 32 := by decide +kernel
theorem sj_or_b : ∀ m, m < 32 → ∀ k, k < 32 → ∀ j, j < 5 → ((m ||| k).testBit j = true ↔ (m.testBit j = true ∨ k.testBit j = true)) := by decide +kernel
theorem sj_ne0 : ∀ m, m < 32 → ¬ m = 0 → ∃ j, j < 5 ∧ m.testBit j = true := by
  intro m hm h
  have key : ∀ m, m < 32 → ¬ m = 0 → ¬ ∀ j, j < 5 → ¬ m.testBit j = true := by decide +kernel
  exact Classical.byContradiction (fun q => key m hm h (fun j hj z => q ⟨j, hj, z⟩))
theorem sj_eq0 {m : Nat} (h : m = 0) (j : Nat) : ¬ m.testBit j = true := by
  rw [h, Nat.zero_testBit]
  decide
theorem sj_hi {m i : Nat} (hm : m < 32) (h : m.testBit i = true) : i < 5 := by
  rcases Nat.lt_or_ge i 5 with z | z
  · exact z
  · have e : m.testBit i = false := Nat.testBit_lt_two_pow (Nat.lt_of_lt_of_le hm (Nat.pow_le_pow_right (n := 2) (i := 5) (by decide) z))
    rw [e] at h
    exact absurd h (by decide)
/-! signed values -/
def sj_iV (v : Int) : Int32 := Int32.ofInt v
theorem sj_iV_T {v : Int} (h1 : -2000000 ≤ v) (h2 : v ≤ 2000000) : (sj_iV v).toInt = v := Int32.toInt_ofInt_of_le (by omega) (by omega)
theorem sj_iV_n (n : Nat) : nI n = sj_iV (n : Int) := Int32.ofInt_eq_ofNat.symm
theorem sj_iV_le {v w : Int} (h1 : -2000000 ≤ v) (h2 : v ≤ 2000000) (h3 : -2000000 ≤ w) (h4 : w ≤ 2000000) : sj_iV v ≤ sj_iV w ↔ v ≤ w := by
  rw [Int32.le_iff_toInt_le, sj_iV_T h1 h2, sj_iV_T h3 h4]
theorem sj_iV_lt {v w : Int} (h1 : -2000000 ≤ v) (h2 : v ≤ 2000000) (h3 : -2000000 ≤ w) (h4 : w ≤ 2000000) : sj_iV v < sj_iV w ↔ v < w := by
  rw [Int32.lt_iff_toInt_lt, sj_iV_T h1 h2, sj_iV_T h3 h4]
/-- a branch by signed values -/
theorem sj_vle {x y : Int32} {A B : Prop} (v w : Int) (f : v ≤ w → A) (g : w < v → B) (hx : x = sj_iV v) (hy : y = sj_iV w) (h1 : -2000000 ≤ v) (h2 : v ≤ 2000000) (h3 : -2000000 ≤ w) (h4 : w ≤ 2000000) : (x ≤ y → A) ∧ (¬ x ≤ y → B) := by
  subst hx hy
  rw [sj_iV_le h1 h2 h3 h4]
  exact ⟨f, fun z => g (by omega)⟩
theorem sj_vlt {x y : Int32} {A B : Prop} (v w : Int) (f : v < w → A) (g : w ≤ v → B) (hx : x = sj_iV v) (hy : y = sj_iV w) (h1 : -2000000 ≤ v) (h2 : v ≤ 2000000) (h3 : -2000000 ≤ w) (h4 : w ≤ 2000000) : (x < y → A) ∧ (¬ x < y → B) := by
  subst hx hy
  rw [sj_iV_lt h1 h2 h3 h4]
  exact ⟨f, fun z => g (by omega)⟩
/-- what a finish at t costs by the rule of job j -/
def sj_cost (kd du wt : Nat → Nat) (j t : Nat) : Int :=
  if kd j = 1 then (wt j : Int) * ((t : Int) - (du j : Int)) else if t ≤ du j then 0 else if kd j = 0 then (wt j : Int) * ((t : Int) - (du j : Int)) else if kd j = 2 then 20 * (wt j : Int) else 1000
/-- the same, where one job may be forced -/
def sj_costN (kd du wt : Nat → Nat) (c3 c4 : Int32) (j t : Nat) : Int := if nI j = c3 ∧ ¬ nI t ≤ c4 then 100000 else sj_cost kd du wt j t
theorem sj_mulb {w d : Int} (h1 : 0 ≤ w) (h2 : w ≤ 5) (h3 : -30 ≤ d) (h4 : d ≤ 60) : -150 ≤ w * d ∧ w * d ≤ 300 := by
  have h : w = 0 ∨ w = 1 ∨ w = 2 ∨ w = 3 ∨ w = 4 ∨ w = 5 := by omega
  rcases h with h | h | h | h | h | h <;> (rw [h]; omega)
theorem sj_cost_bd {kd du wt : Nat → Nat} {j t : Nat} (hd : du j ≤ 30) (hw : wt j ≤ 5) (ht : t ≤ 60) : -150 ≤ sj_cost kd du wt j t ∧ sj_cost kd du wt j t ≤ 1000 := by
  have m := sj_mulb (w := (wt j : Int)) (d := (t : Int) - (du j : Int)) (by omega) (by omega) (by omega) (by omega)
  unfold sj_cost
  by_cases k1 : kd j = 1
  · rw [if_pos k1]
    omega
  · rw [if_neg k1]
    by_cases d : t ≤ du j
    · rw [if_pos d]
      omega
    · rw [if_neg d]
      by_cases k0 : kd j = 0
      · rw [if_pos k0]
        omega
      · rw [if_neg k0]
        by_cases k2 : kd j = 2
        · rw [if_pos k2]
          omega
        · rw [if_neg k2]
          omega
theorem sj_cost_mono {kd du wt : Nat → Nat} {j t t' : Nat} (hw : wt j ≤ 5) (h : t ≤ t') : sj_cost kd du wt j t ≤ sj_cost kd du wt j t' := by
  have m : (wt j : Int) * ((t : Int) - (du j : Int)) ≤ (wt j : Int) * ((t' : Int) - (du j : Int)) := Int.mul_le_mul_of_nonneg_left (by omega) (by omega)
  have p : du j < t' → 0 ≤ (wt j : Int) * ((t' : Int) - (du j : Int)) := fun h => Int.mul_nonneg (by omega) (by omega)
  unfold sj_cost
  by_cases k1 : kd j = 1
  · rw [if_pos k1, if_pos k1]
    exact m
  · rw [if_neg k1, if_neg k1]
    by_cases d : t ≤ du j
    · rw [if_pos d]
      by_cases d' : t' ≤ du j
      · rw [if_pos d'] <;> omega
      · rw [if_neg d']
        by_cases k0 : kd j = 0
        · rw [if_pos k0]
          exact p (by omega)
        · rw [if_neg k0]
          by_cases k2 : kd j = 2
          · rw [if_pos k2]
            omega
          · rw [if_neg k2]
            omega
    · rw [if_neg d, if_neg (show ¬ t' ≤ du j by omega)]
      by_cases k0 : kd j = 0
      · rw [if_pos k0, if_pos k0]
        exact m
      · rw [if_neg k0, if_neg k0]
        exact Int.le_refl _
theorem sj_costN_bd {kd du wt : Nat → Nat} {c3 c4 : Int32} {j t : Nat} (hd : du j ≤ 30) (hw : wt j ≤ 5) (ht : t ≤ 60) : -150 ≤ sj_costN kd du wt c3 c4 j t ∧ sj_costN kd du wt c3 c4 j t ≤ 100000 := by
  have := sj_cost_bd (kd := kd) hd hw ht
  unfold sj_costN
  by_cases q : nI j = c3 ∧ ¬ nI t ≤ c4
  · rw [if_pos q]
    omega
  · rw [if_neg q]
    omega
theorem sj_costN_mono {kd du wt : Nat → Nat} {c3 c4 : Int32} {j t t' : Nat} (hd : du j ≤ 30) (hw : wt j ≤ 5) (ht : t' ≤ 60) (h : t ≤ t') : sj_costN kd du wt c3 c4 j t ≤ sj_costN kd du wt c3 c4 j t' := by
  by_cases q' : nI j = c3 ∧ ¬ nI t' ≤ c4
  · have h1 := sj_costN_bd (kd := kd) (c3 := c3) (c4 := c4) hd hw (show t ≤ 60 by omega)
    have e : sj_costN kd du wt c3 c4 j t' = 100000 := if_pos q'
    omega
  · have e : sj_costN kd du wt c3 c4 j t' = sj_cost kd du wt j t' := if_neg q'
    have q : ¬ (nI j = c3 ∧ ¬ nI t ≤ c4) := by
      intro q
      refine q' ⟨q.1, fun z => q.2 ?_⟩
      rw [Int32.le_iff_toInt_le, nI_toInt (by omega)] at z ⊢
      omega
    have e2 : sj_costN kd du wt c3 c4 j t = sj_cost kd du wt j t := if_neg q
    rw [e, e2]
    exact sj_cost_mono hw h
theorem sj_costN_free {kd du wt : Nat → Nat} {c4 : Int32} {j t : Nat} (hj : j < 5) : sj_costN kd du wt (-1) c4 j t = sj_cost kd du wt j t := by
  have key : ∀ j, j < 5 → ¬ nI j = -1 := by decide +kernel
  exact if_neg (fun q => key j hj q.1)
/-- the data of the jobs, place by place -/
def sj_P (rel len kd du wt fl : Nat → Nat) (a1 a2 a3 a4 a5 a6 : Nat → Int32) : Prop := ∀ j, j < 5 →
  (a1 j = nI (rel j) ∧ rel j ≤ 9) ∧ (a2 j = nI (len j) ∧ len j ≤ 3) ∧ (a3 j = nI (kd j) ∧ kd j ≤ 3) ∧ (a4 j = nI (du j) ∧ du j ≤ 30) ∧ (a5 j = nI (wt j) ∧ wt j ≤ 5) ∧ (a6 j = nI (fl j) ∧ fl j < 32)
/-- the data and the jobs in S: lengths, and ranks for the links -/
def sj_D (rel len kd du wt fl rk : Nat → Nat) (S : Nat) (a1 a2 a3 a4 a5 a6 : Nat → Int32) : Prop := sj_P rel len kd du wt fl a1 a2 a3 a4 a5 a6 ∧ S < 32 ∧
  (∀ j, j < 5 → S.testBit j = true → 1 ≤ len j) ∧ (∀ j, j < 5 → rk j < 5) ∧ (∀ i j, i < 5 → j < 5 → (fl i).testBit j = true → rk i < rk j)
end
section
theorem sj_if {c d : Prop} [Decidable c] [Decidable d] (h : c ↔ d) (a b : Nat) : (if c then a else b) = (if d then a else b) := by
  by_cases e : d
  · rw [if_pos e, if_pos (h.mpr e)]
  · rw [if_neg e, if_neg (fun z => e (h.mp z))]
/-- the links as a relation -/
def sj_fol (fl : Nat → Nat) (i j : Nat) : Bool := (fl i).testBit j
theorem sj_ruled {post : Int32 → Prop} {c0 c1 c2 c3 c4 c5 c6 : Int32} {a1 a2 a3 a4 a5 a6 a7 a8 : Nat → Int32} {rel len kd du wt fl : Nat → Nat} {j t : Nat} (hP : sj_P rel len kd du wt fl a1 a2 a3 a4 a5 a6) (hj : j < 5) (ht : t ≤ 60) (H : post (sj_iV (sj_cost kd du wt j t))) : wpX_ruled post (c0, c1, c2, c3, c4, c5, c6, a1, a2, a3, a4, a5, a6, a7, a8) (nI j) (nI t) := by
  obtain ⟨_, _, ⟨e3, b3⟩, ⟨e4, b4⟩, ⟨e5, b5⟩, _⟩ := hP j hj
  have cl : (nI j).toNatClampNeg = j := nI_clamp (by omega)
  have i5 : vp_in (nI j) 5 := vp_in_nI hj (by omega)
  have eL : nI t - a4 (nI j).toNatClampNeg = sj_iV ((t : Int) - (du j : Int)) := by
    rw [cl, e4, sj_iV_n, sj_iV_n]
    exact (Int32.ofInt_sub _ _).symm
  have eW : a5 (nI j).toNatClampNeg * sj_iV ((t : Int) - (du j : Int)) = sj_iV ((wt j : Int) * ((t : Int) - (du j : Int))) := by
    rw [cl, e5, sj_iV_n]
    exact (Int32.ofInt_mul _ _).symm
  have e20 : (20 : Int32) = sj_iV 20 := by decide +kernel
  have eF : 20 * a5 (nI j).toNatClampNeg = sj_iV (20 * (wt j : Int)) := by
    rw [cl, e5, sj_iV_n, e20]
    exact (Int32.ofInt_mul _ _).symm
  have eK : a3 (nI j).toNatClampNeg = nI (kd j) := by rw [cl, e3]
  have e0 : (0 : Int32) = sj_iV 0 := by decide +kernel
  have e1000 : (1000 : Int32) = sj_iV 1000 := by decide +kernel
  refine ⟨i5, nm_r eL ⟨i5, nm_r eK ?_⟩⟩
  unfold sj_cost at H
  refine pk_eq (kd j) 1 (fun k1 => ⟨i5, ?_⟩) (fun k1 => ?_)
  · rw [if_pos k1] at H
    rw [eW]
    exact H
  · rw [if_neg k1] at H
    refine sj_vlt 0 ((t : Int) - (du j : Int)) (fun d => ?_) (fun d => ?_) e0 rfl (by omega) (by omega) (by omega) (by omega)
    · rw [if_neg (show ¬ t ≤ du j by omega)] at H
      refine pk_eq (kd j) 0 (fun k0 => ⟨i5, ?_⟩) (fun k0 => ?_)
      · rw [if_pos k0] at H
        rw [eW]
        exact H
      · rw [if_neg k0] at H
        refine pk_eq (kd j) 2 (fun k2 => ⟨i5, ?_⟩) (fun k2 => ?_)
        · rw [if_pos k2] at H
          rw [eF]
          exact H
        · rw [if_neg k2] at H
          rw [e1000]
          exact H
    · rw [if_pos (show t ≤ du j by omega)] at H
      rw [e0]
      exact H
theorem sj_cn {post : Int32 → Prop} {c0 c1 c2 c3 c4 c5 c6 : Int32} {a1 a2 a3 a4 a5 a6 a7 a8 : Nat → Int32} {rel len kd du wt fl : Nat → Nat} {j t : Nat} (hP : sj_P rel len kd du wt fl a1 a2 a3 a4 a5 a6) (hj : j < 5) (ht : t ≤ 60) (H : post (sj_iV (sj_costN kd du wt c3 c4 j t))) : wpX_costNow post (c0, c1, c2, c3, c4, c5, c6, a1, a2, a3, a4, a5, a6, a7, a8) (nI j) (nI t) := by
  have eN : (100000 : Int32) = sj_iV 100000 := by decide +kernel
  unfold sj_costN at H
  refine br_c (fun h1 => br_c (fun h2 => ?_) (fun h2 => ?_)) (fun h1 => ?_)
  · rw [if_neg (fun q => q.2 h2)] at H
    unfold wX_costNow_19
    exact sj_ruled hP hj ht H
  · rw [if_pos ⟨h1, h2⟩] at H
    rw [eN]
    exact H
  · rw [if_neg (fun q => h1 q.1)] at H
    unfold wX_costNow_19
    exact sj_ruled hP hj ht H
theorem sj_pushL {post : St1 → Prop} {c0 c1 c2 c3 c4 c5 c6 : Int32} {a1 a2 a3 a4 a5 a6 a7 a8 : Nat → Int32} {rd : Nat → Nat} {d q : Nat} (hd : d < 128) (hq : q < 32) (hrd : ∀ j, j < 5 → rd j ≤ 21) (h7 : ∀ j, j < 5 → a7 j = nI (rd j))
    (H : ∀ a7', (∀ j, j < 5 → a7' j = nI (if q.testBit j = true ∧ rd j < d then d else rd j)) → post (c0, c1, c2, c3, c4, c5, c6, a1, a2, a3, a4, a5, a6, a7', a8)) : ∃ n, wX_pushFollowers_27 post (nI d) (nI q) c0 c1 c2 c3 c4 c5 c6 n 0 a1 a2 a3 a4 a5 a6 a7 a8 := by
  refine pk_loop (fun n k s => wX_pushFollowers_27 post (nI d) (nI q) c0 c1 c2 c3 c4 c5 c6 n (nI k) a1 a2 a3 a4 a5 a6 s a8) (fun k s => ∀ j, j < 5 → s j = nI (if j < k ∧ q.testBit j = true ∧ rd j < d then d else rd j)) 5 0 a7 (by omega) (fun j hj => ?_) (fun n s h => ?_) (fun n k s hk h hw => ?_)
  · rw [if_neg (fun z => absurd z.1 (by omega))]
    exact h7 j hj
  · refine pk_le 5 5 (fun _ => H s (fun j hj => ?_)) (fun z => absurd z (by omega))
    rw [h j hj, sj_if (c := j < 5 ∧ q.testBit j = true ∧ rd j < d) (d := q.testBit j = true ∧ rd j < d) ⟨fun z => z.2, fun z => ⟨hj, z⟩⟩]
  · have cl : (nI k).toNatClampNeg = k := nI_clamp (by omega)
    have hk21 := hrd k hk
    have ek : s k = nI (rd k) := by rw [h k hk, if_neg (fun z => absurd z.1 (by omega))]
    have other : ∀ j, j < 5 → j ≠ k → s j = nI (if j < k + 1 ∧ q.testBit j = true ∧ rd j < d then d else rd j) := fun j hj jk => by
      rw [h j hj, sj_if (c := j < k ∧ q.testBit j = true ∧ rd j < d) (d := j < k + 1 ∧ q.testBit j = true ∧ rd j < d) ⟨fun z => ⟨by omega, z.2⟩, fun z => ⟨by omega, z.2⟩⟩]
    refine pk_le 5 k (fun z => absurd z (by omega)) (fun _ => sj_bitW q k hq hk (fun nb => nm_r (nI_1 k) (hw s (fun j hj => ?_))) (fun b => ⟨pk_in k 5 hk, pk_le d (rd k) (fun z => nm_r (nI_1 k) (hw s (fun j hj => ?_))) (fun z => ⟨pk_in k 5 hk, nm_r (e' := upd s k (nI d)) ?_ (nm_r (nI_1 k) (hw _ (fun j hj => ?_)))⟩) rfl ?_⟩))
    · by_cases jk : j = k
      · rw [jk, ek, if_neg (fun z => nb z.2.1)]
      · exact other j hj jk
    · by_cases jk : j = k
      · rw [jk, ek, if_neg (fun z => absurd z.2.2 (by omega))]
      · exact other j hj jk
    · rw [cl, sj_nar d hd]
    · by_cases jk : j = k
      · rw [jk, pk_us, if_pos ⟨by omega, b, z⟩]
      · rw [pk_un jk]
        exact other j hj jk
    · rw [cl, ek]
theorem sj_pF {post : St1 → Prop} {c0 c1 c2 c3 c4 c5 c6 : Int32} {a1 a2 a3 a4 a5 a6 a7 a8 : Nat → Int32} {rd : Nat → Nat} {li fi S i : Nat} (hi : i < 5) (h7 : ∀ j, j < 5 → a7 j = nI (rd j)) (hrd : ∀ j, j < 5 → rd j ≤ 21) (h2 : a2 i = nI li) (hl : li ≤ 3) (h6 : a6 i = nI fi) (hf : fi < 32) (hS : S < 32)
    (H : ∀ a7', (∀ j, j < 5 → a7' j = nI (if (fi.testBit j = true ∧ S.testBit j = true) ∧ rd j < rd i + li then rd i + li else rd j)) → post (c0, c1, c2, c3, c4, c5, c6, a1, a2, a3, a4, a5, a6, a7', a8)) : wpX_pushFollowers post (c0, c1, c2, c3, c4, c5, c6, a1, a2, a3, a4, a5, a6, a7, a8) (nI i) (nI S) := by
  have cl : (nI i).toNatClampNeg = i := nI_clamp (by omega)
  have i5 : vp_in (nI i) 5 := vp_in_nI hi (by omega)
  have hb := hrd i hi
  have e3 : a7 (nI i).toNatClampNeg + a2 (nI i).toNatClampNeg = nI (rd i + li) := by rw [cl, h7 i hi, h2, nI_add]
  have e4 : a6 (nI i).toNatClampNeg &&& nI S = nI (fi &&& S) := by
    rw [cl, h6]
    exact sj_and_e fi hf S hS
  refine ⟨i5, i5, nm_r e3 ⟨i5, nm_r e4 (sj_pushL (rd := rd) (by omega) (sj_and_l fi hf S hS) hrd h7 (fun a7' h => H a7' (fun j hj => ?_)))⟩⟩
  have hb := sj_and_b fi hf S hS j hj
  rw [h j hj, sj_if (c := (fi &&& S).testBit j = true ∧ rd j < rd i + li) (d := (fi.testBit j = true ∧ S.testBit j = true) ∧ rd j < rd i + li) ⟨fun z => ⟨hb.mp z.1, z.2⟩, fun z => ⟨hb.mpr z.1, z.2⟩⟩]
theorem sj_sr34 {post : St1 → Prop} {J : Int32 → Int32 → Int32 → Int32 → Int32 → Int32 → Int32 → Int32 → (Nat → Int32) → (Nat → Int32) → (Nat → Int32) → (Nat → Int32) → (Nat → Int32) → (Nat → Int32) → (Nat → Int32) → (Nat → Int32) → Prop} {c0 c1 c2 c3 c4 c5 c6 : Int32} {a1 a2 a3 a4 a5 a6 a7 a8 : Nat → Int32} {rel len kd du wt fl : Nat → Nat} {rk : Nat → Nat} {S k : Nat} (hD : sj_D rel len kd du wt fl rk S a1 a2 a3 a4 a5 a6)
    (h : ∃ rd, (∀ j, j < 5 → a7 j = nI (rd j)) ∧ sj_Rd rel len (sj_fol fl) S.testBit rk k 0 rd)
    (H : ∀ a7' rd, (∀ j, j < 5 → a7' j = nI (rd j)) → sj_Rd rel len (sj_fol fl) S.testBit rk (k + 1) 0 rd → J (nI (k + 1)) c0 c1 c2 c3 c4 c5 c6 a1 a2 a3 a4 a5 a6 a7' a8) : ∃ n, wX_setReady_34 post J (nI S) (nI k) n 0 c0 c1 c2 c3 c4 c5 c6 a1 a2 a3 a4 a5 a6 a7 a8 := by
  obtain ⟨hP, hS, hpos, hr5, hac⟩ := hD
  refine pk_loop (fun n i s => wX_setReady_34 post J (nI S) (nI k) n (nI i) c0 c1 c2 c3 c4 c5 c6 a1 a2 a3 a4 a5 a6 s a8) (fun i s => ∃ rd, (∀ j, j < 5 → s j = nI (rd j)) ∧ sj_Rd rel len (sj_fol fl) S.testBit rk k i rd) 5 0 a7 (by omega) h (fun n s h => ?_) (fun n i s hi h hw => ?_)
  · obtain ⟨rd, h7, hR⟩ := h
    exact pk_le 5 5 (fun _ => nm_r (nI_1 k) (H s rd h7 (sj_Rd_round hR))) (fun z => absurd z (by omega))
  · obtain ⟨rd, h7, hR⟩ := h
    obtain ⟨_, ⟨e2, b2⟩, _, _, _, e6, b6⟩ := hP i hi
    have hrd : ∀ j, j < 5 → rd j ≤ 21 := sj_Rd_bd hac hr5 (fun j hj => (hP j hj).1.2) (fun j hj => (hP j hj).2.1.2) hR
    refine pk_le 5 i (fun z => absurd z (by omega)) (fun _ => sj_bitW S i hS hi (fun nb => nm_r (nI_1 i) (hw s ⟨rd, h7, sj_Rd_skip nb hR⟩)) (fun b => ?_))
    refine sj_pF (rd := rd) hi h7 hrd e2 b2 e6 b6 hS (fun a7' h' => nm_r (nI_1 i) (hw a7' ⟨_, h', sj_Rd_push hi b hac (fun j hj => ?_) hR⟩))
    rfl
theorem sj_sr27 {post : St1 → Prop} {c0 c1 c2 c3 c4 c5 c6 : Int32} {a1 a2 a3 a4 a5 a6 a7 a8 : Nat → Int32} {rel len kd du wt fl : Nat → Nat} {rk : Nat → Nat} {S : Nat} (hD : sj_D rel len kd du wt fl rk S a1 a2 a3 a4 a5 a6)
    (h : ∃ rd, (∀ j, j < 5 → a7 j = nI (rd j)) ∧ sj_Rd rel len (sj_fol fl) S.testBit rk 0 0 rd)
    (H : ∀ a7' rd, (∀ j, j < 5 → a7' j = nI (rd j)) → sj_Rd rel len (sj_fol fl) S.testBit rk 5 0 rd → post (c0, c1, c2, c3, c4, c5, c6, a1, a2, a3, a4, a5, a6, a7', a8)) : ∃ n, wX_setReady_27 post (nI S) n 0 c0 c1 c2 c3 c4 c5 c6 a1 a2 a3 a4 a5 a6 a7 a8 := by
  refine pk_loop (fun n k s => wX_setReady_27 post (nI S) n (nI k) c0 c1 c2 c3 c4 c5 c6 a1 a2 a3 a4 a5 a6 s a8) (fun k s => ∃ rd, (∀ j, j < 5 → s j = nI (rd j)) ∧ sj_Rd rel len (sj_fol fl) S.testBit rk k 0 rd) 5 0 a7 (by omega) h (fun n s h => ?_) (fun n k s hk h hw => ?_)
  · obtain ⟨rd, h7, hR⟩ := h
    exact pk_le 5 5 (fun _ => H s rd h7 hR) (fun z => absurd z (by omega))
  · exact pk_le 5 k (fun z => absurd z (by omega)) (fun _ => sj_sr34 hD h (fun a7' rd h7 hR => hw a7' ⟨rd, h7, hR⟩))
theorem sj_sr {post : St1 → Prop} {c0 c1 c2 c3 c4 c5 c6 : Int32} {a1 a2 a3 a4 a5 a6 a7 a8 : Nat → Int32} {rel len kd du wt fl : Nat → Nat} {rk : Nat → Nat} {S : Nat} (hD : sj_D rel len kd du wt fl rk S a1 a2 a3 a4 a5 a6)
    (H : ∀ a7' rd, (∀ j, j < 5 → a7' j = nI (rd j)) → sj_Rd rel len (sj_fol fl) S.testBit rk 5 0 rd → post (c0, c1, c2, c3, c4, c5, c6, a1, a2, a3, a4, a5, a6, a7', a8)) : wpX_setReady post (c0, c1, c2, c3, c4, c5, c6, a1, a2, a3, a4, a5, a6, a7, a8) (nI S) := by
  refine pk_loop (fun n k s => wX_setReady_2 post (nI S) c0 c1 c2 c3 c4 c5 c6 n (nI k) a1 a2 a3 a4 a5 a6 s a8) (fun k s => ∀ j, j < k → s j = nI (rel j)) 5 0 a7 (by omega) (fun j hj => absurd hj (by omega)) (fun n s h => ?_) (fun n k s hk h hw => ?_)
  · refine pk_le 5 5 (fun _ => sj_sr27 hD ⟨rel, h, sj_Rd_0 hD.2.2.2.2 (fun _ _ => rfl)⟩ H) (fun z => absurd z (by omega))
  · have cl : (nI k).toNatClampNeg = k := nI_clamp (by omega)
    have e1 := (hD.1 k hk).1
    refine pk_le 5 k (fun z => absurd z (by omega)) (fun _ => ⟨pk_in k 5 hk, pk_in k 5 hk, nm_r (e' := upd s k (nI (rel k))) ?_ (nm_r (nI_1 k) (hw _ (fun j hj => ?_)))⟩)
    · rw [cl, e1.1, vp_nar_byte, sj_nar (rel k) (by omega)]
    · by_cases jk : j = k
      · rw [jk, pk_us]
      · rw [pk_un jk]
        exact h j (by omega)
theorem sj_eo {post : Int32 → Prop} {c0 c1 c2 c3 c4 c5 c6 : Int32} {a1 a2 a3 a4 a5 a6 a7 a8 : Nat → Int32} {rd : Nat → Nat} {g : Nat} {p0 : Int32} (hp : p0 = nI g) (hg : g < 32) (h7 : ∀ j, j < 5 → a7 j = nI (rd j)) (hrd : ∀ j, j < 5 → rd j ≤ 21)
    (H0 : (∀ j, j < 5 → ¬ g.testBit j = true) → post (-1)) (H1 : ∀ b, b < 5 → g.testBit b = true → (∀ j, j < 5 → g.testBit j = true → rd b ≤ rd j) → post (nI b)) : wpX_earliestOf post (c0, c1, c2, c3, c4, c5, c6, a1, a2, a3, a4, a5, a6, a7, a8) p0 := by
  subst hp
  refine pk_loop (fun n i s => wX_earliestOf_4 post (nI g) c0 c1 c2 c3 c4 c5 c6 a1 a2 a3 a4 a5 a6 a7 a8 n s (nI i)) (fun i s => (s = -1 ∧ ∀ j, j < i → ¬ g.testBit j = true) ∨ ∃ b, b < 5 ∧ s = nI b ∧ g.testBit b = true ∧ ∀ j, j < i → g.testBit j = true → rd b ≤ rd j) 5 0 (-1) (by omega) (Or.inl ⟨rfl, fun j hj => absurd hj (by omega)⟩) (fun n s h => ?_) (fun n i s hi h hw => ?_)
  · refine pk_le 5 5 (fun _ => ?_) (fun z => absurd z (by omega))
    rcases h with ⟨e, h⟩ | ⟨b, hb, e, gb, h⟩
    · rw [e]
      exact H0 h
    · rw [e]
      exact H1 b hb gb h
  · refine pk_le 5 i (fun z => absurd z (by omega)) (fun _ => sj_bitW g i hg hi (fun nb => nm_r (nI_1 i) (hw s ?_)) (fun gi => ?_))
    · rcases h with ⟨e, h⟩ | ⟨b, hb, e, gb, h⟩
      · refine Or.inl ⟨e, fun j hj => ?_⟩
        by_cases q : j = i
        · rw [q]
          exact nb
        · exact h j (by omega)
      · refine Or.inr ⟨b, hb, e, gb, fun j hj gj => ?_⟩
        by_cases q : j = i
        · rw [q] at gj
          exact absurd gj nb
        · exact h j (by omega) gj
    · rcases h with ⟨e, h⟩ | ⟨b, hb, e, gb, h⟩
      · subst e
        refine br_t (by decide) (nm_r (nI_1 i) (hw _ (Or.inr ⟨i, hi, rfl, gi, fun j hj gj => ?_⟩)))
        by_cases q : j = i
        · exact Nat.le_of_eq (by rw [q])
        · exact absurd gj (h j (by omega))
      · subst e
        have hb21 := hrd b hb
        have hi21 := hrd i hi
        refine br_f (nI_pos (by omega)) ⟨pk_in i 5 hi, pk_in b 5 hb, pk_le (rd b) (rd i) (fun z => nm_r (nI_1 i) (hw _ (Or.inr ⟨b, hb, rfl, gb, fun j hj gj => ?_⟩))) (fun z => nm_r (nI_1 i) (hw _ (Or.inr ⟨i, hi, rfl, gi, fun j hj gj => ?_⟩))) ?_ ?_⟩
        · by_cases q : j = i
          · rw [q]
            exact z
          · exact h j (by omega) gj
        · by_cases q : j = i
          · exact Nat.le_of_eq (by rw [q])
          · have := h j (by omega) gj
            omega
        · rw [nI_clamp (by omega), h7 b hb]
        · rw [nI_clamp (by omega), h7 i hi]
theorem sj_fb {post : Int32 → St1 → Prop} {c0 c1 c2 c3 c4 c5 c6 : Int32} {a1 a2 a3 a4 a5 a6 a7 a8 : Nat → Int32} {rd len : Nat → Nat} {g : Nat} (hg : g < 32) (hg0 : ¬ g = 0) (h7 : ∀ j, j < 5 → a7 j = nI (rd j)) (hrd : ∀ j, j < 5 → rd j ≤ 21) (h2 : ∀ j, j < 5 → a2 j = nI (len j)) (hl : ∀ j, j < 5 → len j ≤ 3)
    (hpos : ∀ j, j < 5 → g.testBit j = true → 1 ≤ len j)
    (H : ∀ B e, B < 32 → (∀ j, j < 5 → B.testBit j = true → g.testBit j = true) → sj_Bl rd len B.testBit e → (∀ j, j < 5 → g.testBit j = true → ¬ B.testBit j = true → e ≤ rd j) → e ≤ 36 → post (nI B) (c0, c1, c2, c3, c4, c5, nI e, a1, a2, a3, a4, a5, a6, a7, a8)) : wpX_firstBlock post (c0, c1, c2, c3, c4, c5, c6, a1, a2, a3, a4, a5, a6, a7, a8) (nI g) := by
  refine pk_loop (fun n k s => wX_firstBlock_7 post (nI g) c0 c1 c2 c3 c4 c5 c6 a1 a2 a3 a4 a5 a6 a7 a8 n s.1 s.2 (nI k)) (fun k s => ∃ B, B < 32 ∧ s.1 = nI B ∧ (∀ j, j < 5 → B.testBit j = true → g.testBit j = true) ∧ sj_pop B.testBit = k ∧ ((B = 0 ∧ s.2 = -1) ∨ (¬ B = 0 ∧ ∃ t, t ≤ 36 ∧ s.2 = nI t ∧ sj_Bl rd len B.testBit t ∧ ∀ j b, j < 5 → b < 5 → g.testBit j = true → ¬ B.testBit j = true → B.testBit b = true → rd b ≤ rd j))) 5 0 ((0 : Int32), (-1 : Int32)) (by omega) ⟨0, by omega, rfl, fun j _ z => absurd z (sj_eq0 rfl j), rfl, Or.inl ⟨rfl, rfl⟩⟩ (fun n s h => ?_) (fun n k s hk h hw => ?_)
  · obtain ⟨x2, x3⟩ := s
    obtain ⟨B, hB, e1, hsub, hp, hc⟩ := h
    have e1' : x2 = nI B := e1
    subst e1'
    refine pk_le 5 5 (fun _ => ?_) (fun z => absurd z (by omega))
    rcases hc with ⟨b0, _⟩ | ⟨b0, t, ht, e2, hbl, _⟩
    · subst b0
      exact absurd hp (by decide)
    · have e2' : x3 = nI t := e2
      subst e2'
      exact H B t hB hsub hbl (fun j hj _ nb => absurd (sj_pop_all (Nat.le_of_eq hp.symm) j hj) nb) ht
  · obtain ⟨x2, x3⟩ := s
    obtain ⟨B, hB, e1, hsub, hp, hc⟩ := h
    have e1' : x2 = nI B := e1
    subst e1'
    refine pk_le 5 k (fun z => absurd z (by omega)) (fun _ => sj_eo (g := sj_dif g B) (sj_dif_e g hg B hB) (sj_dif_l g hg B hB) h7 hrd (fun hem => ?_) (fun b hb gb hmin => ?_))
    · refine br_f (by decide) ?_
      rcases hc with ⟨b0, _⟩ | ⟨b0, t, ht, e2, hbl, _⟩
      · obtain ⟨j, hj, gj⟩ := sj_ne0 g hg hg0
        exact absurd ((sj_dif_b g hg B hB j hj).mpr ⟨gj, sj_eq0 b0 j⟩) (hem j hj)
      · have e2' : x3 = nI t := e2
        subst e2'
        exact H B t hB hsub hbl (fun j hj gj nb => absurd ((sj_dif_b g hg B hB j hj).mpr ⟨gj, nb⟩) (hem j hj)) ht
    · obtain ⟨gb1, gb2⟩ := (sj_dif_b g hg B hB b hb).mp gb
      have cl : (nI b).toNatClampNeg = b := nI_clamp (by omega)
      have hlb := hl b hb
      have hrb := hrd b hb
      have hadd := sj_add_b B hB b hb
      have bb : (sj_add B b).testBit b = true := (hadd b hb).mpr (Or.inr rfl)
      have nz : ¬ sj_add B b = 0 := fun z => sj_eq0 z b bb
      have hpop : sj_pop (sj_add B b).testBit = k + 1 := by
        rw [← hp]
        exact sj_pop_add hb bb (fun x hx => ⟨fun z => ⟨(hadd x hx).mpr (Or.inl z), fun q => gb2 (by rw [← q]; exact z)⟩, fun z => ((hadd x hx).mp z.1).elim id (fun q => absurd q z.2)⟩)
      have hsub' : ∀ j, j < 5 → (sj_add B b).testBit j = true → g.testBit j = true := fun j hj z => ((hadd j hj).mp z).elim (hsub j hj) (fun q => by rw [q]; exact gb1)
      have fin : ∀ t', sj_Bl rd len (sj_add B b).testBit t' → (∀ j c, j < 5 → c < 5 → g.testBit j = true → ¬ B.testBit j = true → B.testBit c = true → rd c ≤ rd j) →
          wX_firstBlock_7 post (nI g) c0 c1 c2 c3 c4 c5 c6 a1 a2 a3 a4 a5 a6 a7 a8 n (nI (sj_add B b)) (nI t') (nI (k + 1)) := fun t' hbl hord =>
        hw (nI (sj_add B b), nI t') ⟨sj_add B b, sj_add_l B hB b hb, rfl, hsub', hpop, Or.inr ⟨nz, t', sj_Bl_bd hbl hl (fun j hj _ => hrd j hj), rfl, hbl, fun j c hj hc gj nj cc => by
          have nj' : ¬ B.testBit j = true := fun z => nj ((hadd j hj).mpr (Or.inl z))
          rcases (hadd c hc).mp cc with z | z
          · exact hord j c hj hc gj nj' z
          · rw [z]
            exact hmin j hj ((sj_dif_b g hg B hB j hj).mpr ⟨gj, nj'⟩)⟩⟩
      refine br_t (nI_pos' (by omega)) ?_
      rcases hc with ⟨b0, e2⟩ | ⟨b0, t, ht, e2, hbl, hord⟩
      · have e2' : x3 = -1 := e2
        subst e2'
        refine br_f (show ¬ (0 : Int32) ≤ -1 by decide) ⟨pk_in b 5 hb, nm_r (e' := nI (rd b)) (by rw [cl, h7 b hb]) ?_⟩
        unfold wX_firstBlock_44
        refine br_t (by rw [b0]; rfl) ?_
        unfold wX_firstBlock_62
        refine nm_r (sj_add_e B hB b hb) ⟨pk_in b 5 hb, nm_r (e' := nI (rd b + len b)) (by rw [cl, h2 b hb, nI_add]) (nm_r (nI_1 k) (fin _ ?_ ?_))⟩
        · exact sj_Bl_1 hb (fun j hj => ⟨fun z => ((hadd j hj).mp z).elim (fun z => absurd z (sj_eq0 b0 j)) id, fun z => (hadd j hj).mpr (Or.inr z)⟩)
        · exact fun j c _ _ _ _ z => absurd z (sj_eq0 b0 c)
      · have e2' : x3 = nI t := e2
        subst e2'
        refine br_t (nI_pos' (by omega)) ?_
        unfold wX_firstBlock_44
        refine br_f (nI_ne0 (by omega) (by omega)) ⟨pk_in b 5 hb, pk_lt (rd b) t (fun z => ?_) (fun z => ?_) (by rw [cl, h7 b hb])⟩
        · unfold wX_firstBlock_62
          refine nm_r (sj_add_e B hB b hb) ⟨pk_in b 5 hb, nm_r (e' := nI (t + len b)) (by rw [cl, h2 b hb, nI_add]) (nm_r (nI_1 k) (fin _ ?_ hord))⟩
          exact sj_Bl_add hb hadd gb2 (fun j hj bj => hord b j hb hj gb1 gb2 bj) z (hpos b hb gb1) hbl
        · refine H B t hB hsub hbl (fun j hj gj nj => ?_) ht
          have := hmin j hj ((sj_dif_b g hg B hB j hj).mpr ⟨gj, nj⟩)
          omega
/-- the groups that wait, the last one first -/
def sj_stk (a : Nat → Int32) : List Nat → Prop
  | [] => True
  | g :: t => a t.length = nI g ∧ g < 32 ∧ ¬ g = 0 ∧ sj_stk a t
def sj_mu : List Nat → Nat
  | [] => 0
  | g :: t => sj_pop g.testBit + sj_mu t
def sj_cons (g : Nat) (L : List Nat) : List Nat := if g = 0 then L else g :: L
theorem sj_stk_upd {a : Nat → Int32} {k : Nat} {x : Int32} : ∀ {L : List Nat}, L.length ≤ k → sj_stk a L → sj_stk (upd a k x) L
  | [], _, _ => trivial
  | g :: t, hk, h => by
    have hk' : t.length + 1 ≤ k := hk
    refine ⟨?_, h.2.1, h.2.2.1, sj_stk_upd (by omega) h.2.2.2⟩
    rw [pk_un (by omega)]
    exact h.1
theorem sj_stk_mu {a : Nat → Int32} : ∀ {L : List Nat}, sj_stk a L → L.length ≤ sj_mu L
  | [], _ => Nat.le_refl 0
  | g :: t, h => by
    have h1 := sj_stk_mu h.2.2.2
    obtain ⟨j, hj, b⟩ := sj_ne0 g h.2.1 h.2.2.1
    have h2 := sj_pop_pos hj b
    show t.length + 1 ≤ sj_pop g.testBit + sj_mu t
    omega
theorem sj_cons_mu (g : Nat) (L : List Nat) : sj_mu (sj_cons g L) = sj_pop g.testBit + sj_mu L := by
  unfold sj_cons
  by_cases h : g = 0
  · have e : sj_pop (Nat.testBit 0) = 0 := by decide
    rw [if_pos h, h, e, Nat.zero_add]
  · rw [if_neg h]
    rfl
theorem sj_cons_mem {g x : Nat} {L : List Nat} (h : x ∈ sj_cons g L) : x = g ∨ x ∈ L := by
  unfold sj_cons at h
  by_cases e : g = 0
  · rw [if_pos e] at h
    exact Or.inr h
  · rw [if_neg e] at h
    exact List.mem_cons.mp h
theorem sj_cons_in {g x : Nat} {L : List Nat} (h : x ∈ L) : x ∈ sj_cons g L := by
  unfold sj_cons
  by_cases e : g = 0
  · rw [if_pos e]
    exact h
  · rw [if_neg e]
    exact List.mem_cons_of_mem _ h
theorem sj_cons_hd {g : Nat} {L : List Nat} (h : ¬ g = 0) : g ∈ sj_cons g L := by
  unfold sj_cons
  rw [if_neg h]
  exact List.mem_cons_self
theorem sj_push {post : St1 → Prop} {c0 c1 c2 c3 c4 c5 c6 : Int32} {a1 a2 a3 a4 a5 a6 a7 a8 : Nat → Int32} {g : Nat} {L : List Nat} {p0 : Int32} (hp : p0 = nI g) (hg : g < 32) (h5 : c5 = nI L.length) (hL : L.length < 16) (hs : sj_stk a8 L)
    (H : ∀ c5' a8', c5' = nI (sj_cons g L).length → sj_stk a8' (sj_cons g L) → post (c0, c1, c2, c3, c4, c5', c6, a1, a2, a3, a4, a5, a6, a7, a8')) : wpX_push post (c0, c1, c2, c3, c4, c5, c6, a1, a2, a3, a4, a5, a6, a7, a8) p0 := by
  subst hp
  subst h5
  refine pk_eq g 0 (fun z => ?_) (fun z => ?_)
  · have e : sj_cons g L = L := if_pos z
    rw [e] at H
    exact H _ _ rfl hs
  · have e : sj_cons g L = g :: L := if_neg z
    rw [e] at H
    refine pk_le 16 L.length (fun q => absurd q (by omega)) (fun q => ⟨pk_in L.length 16 hL, nm_r (e' := upd a8 L.length (nI g)) (by rw [nI_clamp (by omega), sj_nar g (by omega)]) (nm_r (nI_1 _) (H _ _ rfl ⟨pk_us, hg, z, sj_stk_upd (Nat.le_refl _) hs⟩))⟩)
theorem sj_cl {post : Int32 → Prop} {c0 c1 c2 c3 c4 c5 c6 : Int32} {a1 a2 a3 a4 a5 a6 a7 a8 : Nat → Int32} {rel len kd du wt fl : Nat → Nat} {B e : Nat} (hP : sj_P rel len kd du wt fl a1 a2 a3 a4 a5 a6) (hB : B < 32) (he : e ≤ 60) (hne : ∃ m, m < 5 ∧ B.testBit m = true ∧ fl m &&& B = 0)
    (H : ∀ b, b < 5 → B.testBit b = true → fl b &&& B = 0 → (∀ j, j < 5 → B.testBit j = true → fl j &&& B = 0 → sj_costN kd du wt c3 c4 b e ≤ sj_costN kd du wt c3 c4 j e) → post (nI b)) : wpX_cheapestLast post (c0, c1, c2, c3, c4, c5, c6, a1, a2, a3, a4, a5, a6, a7, a8) (nI B) (nI e) := by
  have eN : (100001 : Int32) = sj_iV 100001 := by decide +kernel
  have bd : ∀ j, j < 5 → -150 ≤ sj_costN kd du wt c3 c4 j e ∧ sj_costN kd du wt c3 c4 j e ≤ 100000 := fun j hj => sj_costN_bd (hP j hj).2.2.2.1.2 (hP j hj).2.2.2.2.1.2 he
  refine pk_loop (fun n i s => wX_cheapestLast_9 post (nI B) (nI e) c0 c1 c2 c3 c4 c5 c6 a1 a2 a3 a4 a5 a6 a7 a8 n s.1 s.2 (nI i)) (fun i s => (s = ((0 : Int32), (100001 : Int32)) ∧ ∀ j, j < i → B.testBit j = true → ¬ fl j &&& B = 0) ∨ ∃ b, b < 5 ∧ s = (nI b, sj_iV (sj_costN kd du wt c3 c4 b e)) ∧ B.testBit b = true ∧ fl b &&& B = 0 ∧ ∀ j, j < i → B.testBit j = true → fl j &&& B = 0 → sj_costN kd du wt c3 c4 b e ≤ sj_costN kd du wt c3 c4 j e) 5 0 ((0 : Int32), (100001 : Int32)) (by omega) (Or.inl ⟨rfl, fun j hj => absurd hj (by omega)⟩) (fun n s h => ?_) (fun n i s hi h hw => ?_)
  · refine pk_le 5 5 (fun _ => ?_) (fun z => absurd z (by omega))
    rcases h with ⟨_, h⟩ | ⟨b, hb, es, bb, nb, h⟩
    · obtain ⟨m, hm, bm, nm⟩ := hne
      exact absurd nm (h m hm bm)
    · rw [es]
      exact H b hb bb nb h
  · obtain ⟨_, _, _, _, _, e6, b6⟩ := hP i hi
    have cl : (nI i).toNatClampNeg = i := nI_clamp (by omega)
    have hand := sj_and_l (fl i) b6 B hB
    have skip : ¬ (B.testBit i = true ∧ fl i &&& B = 0) → wX_cheapestLast_9 post (nI B) (nI e) c0 c1 c2 c3 c4 c5 c6 a1 a2 a3 a4 a5 a6 a7 a8 n s.1 s.2 (nI (i + 1)) := fun q => hw s (by
      rcases h with ⟨es, h⟩ | ⟨b, hb, es, bb, nb, h⟩
      · refine Or.inl ⟨es, fun j hj bj nj => ?_⟩
        by_cases ji : j = i
        · rw [ji] at bj nj
          exact q ⟨bj, nj⟩
        · exact h j (by omega) bj nj
      · refine Or.inr ⟨b, hb, es, bb, nb, fun j hj bj nj => ?_⟩
        by_cases ji : j = i
        · rw [ji] at bj nj
          exact absurd ⟨bj, nj⟩ q
        · exact h j (by omega) bj nj)
    refine pk_le 5 i (fun z => absurd z (by omega)) (fun _ => sj_bitW B i hB hi (fun nb => ?_) (fun bi => ?_))
    · unfold wX_cheapestLast_29
      exact br_t rfl (nm_r (nI_1 i) (skip (fun q => nb q.1)))
    · unfold wX_cheapestLast_29
      refine br_f (by decide) ⟨pk_in i 5 hi, pk_eq (fl i &&& B) 0 (fun z => sj_cn hP hi he ?_) (fun z => nm_r (nI_1 i) (skip (fun q => z q.2))) (by rw [cl, e6]; exact sj_and_e (fl i) b6 B hB)⟩
      have bi' := bd i hi
      rcases h with ⟨es, h⟩ | ⟨b, hb, es, bb, nb, h⟩
      · subst es
        refine sj_vle 100001 (sj_costN kd du wt c3 c4 i e) (fun q => absurd q (by omega)) (fun q => nm_r (nI_1 i) (hw (nI i, sj_iV (sj_costN kd du wt c3 c4 i e)) (Or.inr ⟨i, hi, rfl, bi, z, fun j hj bj nj => ?_⟩))) eN rfl (by omega) (by omega) (by omega) (by omega)
        by_cases ji : j = i
        · exact Int.le_of_eq (by rw [ji])
        · exact absurd nj (h j (by omega) bj)
      · subst es
        have bb' := bd b hb
        refine sj_vle (sj_costN kd du wt c3 c4 b e) (sj_costN kd du wt c3 c4 i e) (fun q => nm_r (nI_1 i) (hw (nI b, sj_iV (sj_costN kd du wt c3 c4 b e)) (Or.inr ⟨b, hb, rfl, bb, nb, fun j hj bj nj => ?_⟩))) (fun q => nm_r (nI_1 i) (hw (nI i, sj_iV (sj_costN kd du wt c3 c4 i e)) (Or.inr ⟨i, hi, rfl, bi, z, fun j hj bj nj => ?_⟩))) rfl rfl (by omega) (by omega) (by omega) (by omega)
        · by_cases ji : j = i
          · rw [ji]
            exact q
          · exact h j (by omega) bj nj
        · by_cases ji : j = i
          · exact Int.le_of_eq (by rw [ji])
          · have := h j (by omega) bj nj
            omega
end
section
/-- v is the least greatest cost of S -/
def sj_W (rel len : Nat → Nat) (fol : Nat → Nat → Bool) (cost : Nat → Nat → Int) (S : Nat → Bool) (v : Int) : Prop :=
  -100000 ≤ v ∧ v ≤ 100000 ∧ (∀ K, -100000 ≤ K → sj_Plan rel len fol cost K S → v ≤ K) ∧ sj_Plan rel len fol cost v S
theorem sj_lw23 {post : Int32 → St1 → Prop} {c0 c1 c2 c3 c4 c5 c6 : Int32} {a1 a2 a3 a4 a5 a6 a7 a8 : Nat → Int32} {rel len kd du wt fl : Nat → Nat} {rk rd : Nat → Nat} {S : Nat} (hD : sj_D rel len kd du wt fl rk S a1 a2 a3 a4 a5 a6) (h7 : ∀ j, j < 5 → a7 j = nI (rd j))
    (hR : sj_Rd rel len (sj_fol fl) S.testBit rk 5 0 rd) (hS0 : ¬ S = 0) (h8 : a8 0 = nI S)
    (H : ∀ v c5' c6' a8', sj_W rel len (sj_fol fl) (sj_costN kd du wt c3 c4) S.testBit v → post (sj_iV v) (c0, c1, c2, c3, c4, c5', c6', a1, a2, a3, a4, a5, a6, a7, a8')) : ∃ n, wX_leastWorst_23 post n (-100000) 0 c0 c1 c2 c3 c4 1 c6 a1 a2 a3 a4 a5 a6 a7 a8 := by
  obtain ⟨hP, hS, hpos, hr5, hac⟩ := hD
  have hlen : ∀ j, j < 5 → len j ≤ 3 := fun j hj => (hP j hj).2.1.2
  have hrd : ∀ j, j < 5 → rd j ≤ 21 := sj_Rd_bd hac hr5 (fun j hj => (hP j hj).1.2) hlen hR
  have hlk : ∀ i j, i < 5 → j < 5 → S.testBit i = true → S.testBit j = true → sj_fol fl i j = true → rd i + len i ≤ rd j := fun i j hi hj si sj f => hR.2.2.2.1 i j hi hj si sj f (Nat.le_of_lt (hr5 j hj))
  have eM : (-100000 : Int32) = sj_iV (-100000) := by decide +kernel
  have done : ∀ v x5 x6 y8, -100000 ≤ v → v ≤ 100000 → (∀ K, -100000 ≤ K → sj_Plan rel len (sj_fol fl) (sj_costN kd du wt c3 c4) K S.testBit → v ≤ K) → sj_Ach rd len (sj_fol fl) (sj_costN kd du wt c3 c4) v S.testBit → post (sj_iV v) (c0, c1, c2, c3, c4, x5, x6, a1, a2, a3, a4, a5, a6, a7, y8) := fun v x5 x6 y8 h1 h2 h3 h4 =>
    H v x5 x6 y8 ⟨h1, h2, h3, sj_Ach_Plan h4 (fun j hj _ => hR.1 j hj) hlk (fun j hj _ => Nat.le_trans (hrd j hj) (by omega)) hlen⟩
  refine pk_loop (σ := Int32 × Int32 × Int32 × (Nat → Int32)) (fun n i s => wX_leastWorst_23 post n s.1 (nI i) c0 c1 c2 c3 c4 s.2.1 s.2.2.1 a1 a2 a3 a4 a5 a6 a7 s.2.2.2)
    (fun i s => ∃ v L, s.1 = sj_iV v ∧ -100000 ≤ v ∧ v ≤ 100000 ∧ s.2.1 = nI L.length ∧ sj_stk s.2.2.2 L ∧ (∀ g, g ∈ L → ∀ j, j < 5 → g.testBit j = true → S.testBit j = true) ∧ sj_mu L + i ≤ 5 ∧
      (∀ K, -100000 ≤ K → sj_Plan rel len (sj_fol fl) (sj_costN kd du wt c3 c4) K S.testBit → v ≤ K) ∧
      (∀ K, v ≤ K → (∀ g, g ∈ L → sj_Ach rd len (sj_fol fl) (sj_costN kd du wt c3 c4) K g.testBit) → sj_Ach rd len (sj_fol fl) (sj_costN kd du wt c3 c4) K S.testBit))
    5 0 ((-100000 : Int32), (1 : Int32), c6, a8) (by omega) ⟨-100000, [S], eM, by omega, by omega, rfl, ⟨h8, hS, hS0, trivial⟩, fun g hg j hj z => ?_, ?_, fun K hK _ => hK, fun K _ h => h S List.mem_cons_self⟩ (fun n s h => ?_) (fun n i s hi h hw => ?_)
  · rw [List.mem_singleton.mp hg] at z
    exact z
  · have := sj_pop_5 S.testBit
    show sj_pop S.testBit + 0 + 0 ≤ 5
    omega
  · obtain ⟨x2, x5, x6, y8⟩ := s
    obtain ⟨v, L, e1, v1, v2, e5, hst, hsub, hmu, hT1, hT2⟩ := h
    have e1' : x2 = sj_iV v := e1
    subst e1'
    have e5' : x5 = nI L.length := e5
    subst e5'
    have hlL := sj_stk_mu hst
    refine pk_le 40 5 (fun z => absurd z (by omega)) (fun _ => pk_le L.length 0 (fun z => ?_) (fun z => absurd z (by omega)))
    have eL : L = [] := List.eq_nil_of_length_eq_zero (by omega)
    subst eL
    exact done v _ _ _ v1 v2 hT1 (hT2 v (Int.le_refl v) (fun g hg => absurd hg List.not_mem_nil))
  · obtain ⟨x2, x5, x6, y8⟩ := s
    obtain ⟨v, L, e1, v1, v2, e5, hst, hsub, hmu, hT1, hT2⟩ := h
    have e1' : x2 = sj_iV v := e1
    subst e1'
    have e5' : x5 = nI L.length := e5
    subst e5'
    have hlL := sj_stk_mu hst
    refine pk_le 40 i (fun z => absurd z (by omega)) (fun _ => pk_le L.length 0 (fun z => ?_) (fun z => ?_))
    · have eL : L = [] := List.eq_nil_of_length_eq_zero (by omega)
      subst eL
      exact done v _ _ _ v1 v2 hT1 (hT2 v (Int.le_refl v) (fun g hg => absurd hg List.not_mem_nil))
    · obtain ⟨g, t, eL⟩ : ∃ g t, L = g :: t := by
        cases L with
        | nil => exact absurd z (by decide)
        | cons g t => exact ⟨g, t, rfl⟩
      subst eL
      obtain ⟨e8, hg, hg0, hst'⟩ := hst
      have hmu' : sj_pop g.testBit + sj_mu t + i ≤ 5 := hmu
      have hlt := sj_stk_mu hst'
      have htl : t.length + 1 ≤ 5 := by
        have : (g :: t).length = t.length + 1 := rfl
        omega
      have gS : ∀ j, j < 5 → g.testBit j = true → S.testBit j = true := hsub g List.mem_cons_self
      refine nm_r (nI_pred t.length) ⟨pk_in t.length 16 (by omega), nm_r (e' := nI g) (by rw [nI_clamp (by omega)]; exact e8) ?_⟩
      refine sj_fb (rd := rd) (len := len) hg hg0 h7 hrd (fun j hj => (hP j hj).2.1.1) hlen (fun j hj gj => hpos j hj (gS j hj gj)) (fun B e hB hBg hBl hrest he => ?_)
      refine sj_push (g := sj_dif g B) (L := t) (sj_dif_e g hg B hB) (sj_dif_l g hg B hB) rfl (by omega) hst' (fun c5' a8' hc5 hst2 => ?_)
      have noF : ∀ m, m < 5 → (∀ j, j < 5 → B.testBit j = true → ¬ sj_fol fl m j = true) → fl m &&& B = 0 := fun m hm q => by
        by_cases z : fl m &&& B = 0
        · exact z
        · obtain ⟨j, hj, bj⟩ := sj_ne0 _ (sj_and_l (fl m) (hP m hm).2.2.2.2.2.2 B hB) z
          have := (sj_and_b (fl m) (hP m hm).2.2.2.2.2.2 B hB j hj).mp bj
          exact absurd this.1 (q j hj this.2)
      have hex : ∃ m, m < 5 ∧ B.testBit m = true ∧ fl m &&& B = 0 := by
        obtain ⟨m, hm, bm, q⟩ := sj_last (fol := sj_fol fl) hac hBl.1
        exact ⟨m, hm, bm, noF m hm q⟩
      refine sj_cl hP hB (by omega) hex (fun l hl bl nl hmin => ?_)
      refine sj_cn hP hl (by omega) ?_
      have bdl : -150 ≤ sj_costN kd du wt c3 c4 l e ∧ sj_costN kd du wt c3 c4 l e ≤ 100000 := sj_costN_bd (hP l hl).2.2.2.1.2 (hP l hl).2.2.2.2.1.2 (by omega)
      have low : ∀ K, sj_Plan rel len (sj_fol fl) (sj_costN kd du wt c3 c4) K S.testBit → sj_costN kd du wt c3 c4 l e ≤ K := fun K hK => by
        obtain ⟨r, C, hF, hC⟩ := hK
        obtain ⟨m, hm, bm, em, q⟩ := sj_low hF (fun j hj sj => hR.2.1 r ⟨hF.1, hF.2.1⟩ j hj sj) hBl (fun j hj bj => gS j hj (hBg j hj bj))
        have h1 := hmin m hm bm (noF m hm q)
        have h2 := hC m hm (gS m hm (hBg m hm bm))
        have h3 := sj_costN_mono (kd := kd) (c3 := c3) (c4 := c4) (hP m hm).2.2.2.1.2 (hP m hm).2.2.2.2.1.2 h2.1 em
        exact Int.le_trans h1 (Int.le_trans h3 h2.2)
      have popg : sj_pop g.testBit = sj_pop B.testBit + sj_pop (sj_dif g B).testBit := sj_pop_or (fun x hx => by
        have q := sj_dif_b g hg B hB x hx
        constructor
        · intro gx
          by_cases bx : B.testBit x = true
          · exact Or.inl bx
          · exact Or.inr (q.mpr ⟨gx, bx⟩)
        · intro w
          rcases w with w | w
          · exact hBg x hx w
          · exact (q.mp w).1) (fun x hx bx w => ((sj_dif_b g hg B hB x hx).mp w).2 bx)
      have popB : sj_pop B.testBit = sj_pop (sj_del B l).testBit + 1 := sj_pop_add hl bl (fun x hx => sj_del_b B hB l hl x hx)
      have mu2 := sj_cons_mu (sj_dif g B) t
      have len2 := sj_stk_mu hst2
      have fin : ∀ v', v ≤ v' → sj_costN kd du wt c3 c4 l e ≤ v' → v' ≤ 100000 → (∀ K, -100000 ≤ K → sj_Plan rel len (sj_fol fl) (sj_costN kd du wt c3 c4) K S.testBit → v' ≤ K) →
          wX_leastWorst_111 post (wX_leastWorst_23 post n) (sj_iV v') (nI i) (nI B) (nI l) c0 c1 c2 c3 c4 c5' (nI e) a1 a2 a3 a4 a5 a6 a7 a8' := fun v' w1 w2 w3 w4 => by
        unfold wX_leastWorst_111
        refine sj_push (g := sj_del B l) (L := sj_cons (sj_dif g B) t) (sj_del_e B hB l hl) (sj_del_l B hB l hl) hc5 (by omega) hst2 (fun c5'' a8'' hc52 hst3 => nm_r (nI_1 i) (hw (sj_iV v', c5'', nI e, a8'') ⟨v', sj_cons (sj_del B l) (sj_cons (sj_dif g B) t), rfl, by omega, w3, hc52, hst3, fun x hx j hj xj => ?_, ?_, w4, fun K hK hall => ?_⟩))
        · rcases sj_cons_mem hx with q | q
          · rw [q] at xj
            exact gS j hj (hBg j hj ((sj_del_b B hB l hl j hj).mp xj).1)
          · rcases sj_cons_mem q with q | q
            · rw [q] at xj
              exact gS j hj ((sj_dif_b g hg B hB j hj).mp xj).1
            · exact hsub x (List.mem_cons_of_mem _ q) j hj xj
        · rw [sj_cons_mu, mu2]
          omega
        · refine hT2 K (by omega) (fun x hx => ?_)
          rcases List.mem_cons.mp hx with q | q
          · rw [q]
            refine sj_comb (B := B.testBit) (R := (sj_dif g B).testBit) (Q := (sj_del B l).testBit) (e := e) (l := l) (fun j hj gj => hpos j hj (gS j hj gj)) (fun a b ha hb ga gb f => ?_) hBg hBl hrest hl bl (fun j hj bj f => ?_) (by omega) (fun j hj => sj_dif_b g hg B hB j hj) (fun j hj => sj_del_b B hB l hl j hj) ?_ ?_
            · have := hlk a b ha hb (gS a ha ga) (gS b hb gb) f
              omega
            · exact sj_eq0 nl j ((sj_and_b (fl l) (hP l hl).2.2.2.2.2.2 B hB j hj).mpr ⟨f, bj⟩)
            · by_cases z0 : sj_dif g B = 0
              · exact sj_Ach_0 (fun j _ => sj_eq0 z0 j)
              · exact hall _ (sj_cons_in (sj_cons_hd z0))
            · by_cases z0 : sj_del B l = 0
              · exact sj_Ach_0 (fun j _ => sj_eq0 z0 j)
              · exact hall _ (sj_cons_hd z0)
          · exact hall x (sj_cons_in (sj_cons_in q))
      exact sj_vle (sj_costN kd du wt c3 c4 l e) v (fun z => fin v (Int.le_refl v) z v2 hT1) (fun z => fin _ (Int.le_of_lt z) (Int.le_refl _) bdl.2 (fun K _ hK => low K hK)) rfl rfl (by omega) (by omega) (by omega) (by omega)
theorem sj_lw {post : Int32 → St1 → Prop} {c0 c1 c2 c3 c4 c5 c6 : Int32} {a1 a2 a3 a4 a5 a6 a7 a8 : Nat → Int32} {rel len kd du wt fl : Nat → Nat} {rk : Nat → Nat} {S : Nat} {p0 : Int32} (hp : p0 = nI S) (hD : sj_D rel len kd du wt fl rk S a1 a2 a3 a4 a5 a6) (hS0 : ¬ S = 0)
    (H : ∀ v c5' c6' a7' a8', sj_W rel len (sj_fol fl) (sj_costN kd du wt c3 c4) S.testBit v → post (sj_iV v) (c0, c1, c2, c3, c4, c5', c6', a1, a2, a3, a4, a5, a6, a7', a8')) : wpX_leastWorst post (c0, c1, c2, c3, c4, c5, c6, a1, a2, a3, a4, a5, a6, a7, a8) p0 := by
  subst hp
  unfold wpX_leastWorst
  have hS := hD.2.1
  refine sj_sr hD (fun a7' rd h7 hR => nm_r (e' := upd a8 0 (nI S)) (by rw [sj_nar S (by omega)]) ?_)
  exact sj_lw23 (c5 := c5) hD h7 hR hS0 pk_us (fun v c5' c6' a8' hW => H v c5' c6' a7' a8' hW)
theorem sj_wc {post : Int32 → St1 → Prop} {c0 c1 c2 c3 c4 c5 c6 : Int32} {a1 a2 a3 a4 a5 a6 a7 a8 : Nat → Int32} {rel len kd du wt fl : Nat → Nat} {rk : Nat → Nat} {S c : Nat} (hD : sj_D rel len kd du wt fl rk S a1 a2 a3 a4 a5 a6) (h1 : c1 = nI c) (hc : c ≤ 127) (h2 : c2 = nI S)
    (H1 : ∀ c5' c6' a7' a8', sj_Plan rel len (sj_fol fl) (sj_costN kd du wt c3 c4) (c : Int) S.testBit → post 1 (c0, c1, c2, c3, c4, c5', c6', a1, a2, a3, a4, a5, a6, a7', a8'))
    (H0 : ∀ c5' c6' a7' a8', ¬ sj_Plan rel len (sj_fol fl) (sj_costN kd du wt c3 c4) (c : Int) S.testBit → post 0 (c0, c1, c2, c3, c4, c5', c6', a1, a2, a3, a4, a5, a6, a7', a8')) : wpX_withinCap post (c0, c1, c2, c3, c4, c5, c6, a1, a2, a3, a4, a5, a6, a7, a8) := by
  subst h2
  have hS := hD.2.1
  refine pk_eq S 0 (fun z => H1 _ _ _ _ (sj_Plan_0 (fun j _ => sj_eq0 z j))) (fun z => ?_)
  refine sj_lw rfl hD z (fun v c5' c6' a7' a8' hW => ?_)
  obtain ⟨w1, w2, w3, w4⟩ := hW
  refine sj_vlt (c : Int) v (fun q => H0 _ _ _ _ (fun hp => ?_)) (fun q => H1 _ _ _ _ ?_) (by rw [h1]; exact sj_iV_n c) rfl (by omega) (by omega) (by omega) (by omega)
  · have := w3 (c : Int) (by omega) hp
    omega
  · exact sj_Plan_mono w4 (fun _ _ s => s) (fun _ _ _ => rfl) (fun _ _ _ => rfl) (fun _ _ _ _ _ _ f => f) (fun j t _ _ _ h => Int.le_trans h q)
/-- a plan within c that ends job i by t -/
def sj_PF (rel len kd du wt fl : Nat → Nat) (S c i t : Nat) : Prop :=
  ∃ r C : Nat → Nat, sj_Feas rel len (sj_fol fl) S.testBit r C ∧ (∀ j, j < 5 → S.testBit j = true → C j ≤ 60 ∧ sj_cost kd du wt j (C j) ≤ (c : Int)) ∧ C i ≤ t
theorem sj_PF_iff {rel len kd du wt fl : Nat → Nat} {S c i t : Nat} (hi : i < 5) (si : S.testBit i = true) (hc : c ≤ 127) (ht : t ≤ 60) : sj_Plan rel len (sj_fol fl) (sj_costN kd du wt (nI i) (nI t)) (c : Int) S.testBit ↔ sj_PF rel len kd du wt fl S c i t := by
  constructor
  · intro h
    obtain ⟨r, C, hF, hC⟩ := h
    have key : ∀ j, j < 5 → S.testBit j = true → C j ≤ 60 ∧ sj_cost kd du wt j (C j) ≤ (c : Int) ∧ (j = i → C j ≤ t) := fun j hj sj => by
      have h1 := hC j hj sj
      have h2 := h1.2
      unfold sj_costN at h2
      by_cases q : nI j = nI i ∧ ¬ nI (C j) ≤ nI t
      · rw [if_pos q] at h2
        omega
      · rw [if_neg q] at h2
        refine ⟨h1.1, h2, fun e => ?_⟩
        rcases Nat.lt_or_ge t (C j) with z | z
        · exact absurd ⟨by rw [e], nI_ge z (by omega)⟩ q
        · exact z
    exact ⟨r, C, hF, fun j hj sj => ⟨(key j hj sj).1, (key j hj sj).2.1⟩, (key i hi si).2.2 rfl⟩
  · intro h
    obtain ⟨r, C, hF, hC, hi'⟩ := h
    refine ⟨r, C, hF, fun j hj sj => ⟨(hC j hj sj).1, ?_⟩⟩
    have h1 := hC j hj sj
    have e : sj_costN kd du wt (nI i) (nI t) j (C j) = sj_cost kd du wt j (C j) := if_neg (fun q => by
      have e : j = i := (nI_eq (by omega) (by omega)).mp q.1
      rw [e] at q
      exact q.2 (nI_le hi' (by omega)))
    rw [e]
    exact h1.2
theorem sj_PF_mono {rel len kd du wt fl : Nat → Nat} {S c i t t' : Nat} (h : t ≤ t') (hp : sj_PF rel len kd du wt fl S c i t) : sj_PF rel len kd du wt fl S c i t' := by
  obtain ⟨r, C, hF, hC, hi⟩ := hp
  exact ⟨r, C, hF, hC, Nat.le_trans hi h⟩
theorem sj_Feas_ge {rel len r C : Nat → Nat} {fol : Nat → Nat → Bool} {S : Nat → Bool} {i : Nat} (h : sj_Feas rel len fol S r C) (hi : i < 5) (si : S i = true) : r i + len i ≤ C i := by
  obtain ⟨x, hx, xx, hc⟩ := h.2.2.1 (fun x => decide (x = i)) (r i) ⟨i, hi, decide_eq_true rfl⟩ (fun x hx xx => by
    have ex : x = i := of_decide_eq_true xx
    rw [ex]
    exact ⟨si, Nat.le_refl _⟩)
  have ex : x = i := of_decide_eq_true xx
  have e1 : sj_sum len (fun x => decide (x = i)) 5 = len i := sj_sum_1 hi (fun y hy => decide_eq_true_iff)
  rw [e1, ex] at hc
  exact hc
/-- f is the earliest finish of job i -/
def sj_EF (rel len kd du wt fl : Nat → Nat) (S c i f : Nat) : Prop := 1 ≤ f ∧ f ≤ 60 ∧ sj_PF rel len kd du wt fl S c i f ∧ ∀ t, t < f → ¬ sj_PF rel len kd du wt fl S c i t
theorem sj_EF_cost {rel len kd du wt fl : Nat → Nat} {S c i f : Nat} (hi : i < 5) (si : S.testBit i = true) (h : sj_EF rel len kd du wt fl S c i f) : sj_cost kd du wt i f ≤ (c : Int) := by
  obtain ⟨f1, f2, ⟨r, C, hF, hC, hi'⟩, hmin⟩ := h
  have e : C i = f := by
    rcases Nat.lt_or_ge (C i) f with z | z
    · exact absurd ⟨r, C, hF, hC, Nat.le_refl _⟩ (hmin (C i) z)
    · omega
  rw [← e]
  exact (hC i hi si).2
theorem sj_EF_lt {rel len kd du wt fl : Nat → Nat} {S c i j f f' : Nat} (hi : i < 5) (hj : j < 5) (si : S.testBit i = true) (sj : S.testBit j = true) (hl : (fl i).testBit j = true) (h : sj_EF rel len kd du wt fl S c i f) (h' : sj_EF rel len kd du wt fl S c j f') : f < f' := by
  obtain ⟨f1, f2, _, hmin⟩ := h
  obtain ⟨_, _, ⟨r, C, hF, hC, hj'⟩, _⟩ := h'
  have h1 := hF.2.2.2 i j hi hj si sj hl
  rcases Nat.lt_or_ge (C i) f with z | z
  · exact absurd ⟨r, C, hF, hC, Nat.le_refl _⟩ (hmin (C i) z)
  · omega
theorem sj_ef25 {post : Int32 → St1 → Prop} {c0 c1 c2 c3 c4 c5 c6 : Int32} {a1 a2 a3 a4 a5 a6 a7 a8 : Nat → Int32} {rel len kd du wt fl : Nat → Nat} {rk : Nat → Nat} {S c i : Nat} (hD : sj_D rel len kd du wt fl rk S a1 a2 a3 a4 a5 a6) (h1 : c1 = nI c) (hc : c ≤ 127) (h2 : c2 = nI S) (hi : i < 5) (si : S.testBit i = true) (h3 : c3 = nI i)
    (h60 : sj_PF rel len kd du wt fl S c i 60) (H : ∀ f c4' c5' c6' a7' a8', sj_EF rel len kd du wt fl S c i f → post (nI f) (c0, c1, c2, -1, c4', c5', c6', a1, a2, a3, a4, a5, a6, a7', a8')) : ∃ n, wX_earliestFinish_25 post n 1 60 0 c0 c1 c2 c3 c4 c5 c6 a1 a2 a3 a4 a5 a6 a7 a8 := by
  subst h3
  have h0 : ∀ t, t < 1 → ¬ sj_PF rel len kd du wt fl S c i t := fun t ht hp => by
    obtain ⟨r, C, hF, hC, hi'⟩ := hp
    have q1 := sj_Feas_ge hF hi si
    have q2 := hD.2.2.1 i hi si
    omega
  refine pk_loop (σ := Int32 × Int32 × Int32 × Int32 × Int32 × (Nat → Int32) × (Nat → Int32)) (fun n k s => wX_earliestFinish_25 post n s.1 s.2.1 (nI k) c0 c1 c2 (nI i) s.2.2.1 s.2.2.2.1 s.2.2.2.2.1 a1 a2 a3 a4 a5 a6 s.2.2.2.2.2.1 s.2.2.2.2.2.2)
    (fun k s => ∃ lo hi : Nat, s.1 = nI lo ∧ s.2.1 = nI hi ∧ 1 ≤ lo ∧ lo ≤ hi ∧ hi ≤ 60 ∧ sj_PF rel len kd du wt fl S c i hi ∧ (∀ t, t < lo → ¬ sj_PF rel len kd du wt fl S c i t) ∧
      ((k = 0 ∧ hi - lo ≤ 59) ∨ (k = 1 ∧ hi - lo ≤ 29) ∨ (k = 2 ∧ hi - lo ≤ 14) ∨ (k = 3 ∧ hi - lo ≤ 7) ∨ (k = 4 ∧ hi - lo ≤ 3) ∨ (k = 5 ∧ hi - lo ≤ 1) ∨ (k = 6 ∧ hi - lo = 0)))
    6 0 ((1 : Int32), (60 : Int32), c4, c5, c6, a7, a8) (by omega) ⟨1, 60, rfl, rfl, by omega, by omega, by omega, h60, h0, Or.inl ⟨rfl, by omega⟩⟩ (fun n s h => ?_) (fun n k s hk h hw => ?_)
  · obtain ⟨x2, x3, x4, x5, x6, y7, y8⟩ := s
    obtain ⟨lo, hi', e1, e2, l1, l2, l3, hp, hn, hk⟩ := h
    have e1' : x2 = nI lo := e1
    subst e1'
    have e2' : x3 = nI hi' := e2
    subst e2'
    refine pk_le 7 6 (fun z => absurd z (by omega)) (fun _ => pk_le hi' lo (fun z => ?_) (fun z => absurd z (by omega)))
    have e : lo = hi' := by omega
    exact H lo _ _ _ _ _ ⟨l1, by omega, by rw [e]; exact hp, hn⟩
  · obtain ⟨x2, x3, x4, x5, x6, y7, y8⟩ := s
    obtain ⟨lo, hi', e1, e2, l1, l2, l3, hp, hn, hkk⟩ := h
    have e1' : x2 = nI lo := e1
    subst e1'
    have e2' : x3 = nI hi' := e2
    subst e2'
    refine pk_le 7 k (fun z => absurd z (by omega)) (fun _ => pk_le hi' lo (fun z => ?_) (fun z => ?_))
    · have e : lo = hi' := by omega
      exact H lo _ _ _ _ _ ⟨l1, by omega, by rw [e]; exact hp, hn⟩
    · have eM : (nI lo + nI hi') >>> ((1 : Int32) &&& 31) = nI ((lo + hi') / 2) := by
        rw [nI_add]
        exact pk_shrN (by omega) _ 1 (by decide)
      obtain ⟨m, hm⟩ : ∃ m, m = (lo + hi') / 2 := ⟨_, rfl⟩
      rw [← hm] at eM
      refine nm_r eM ?_
      refine sj_wc hD h1 hc h2 (fun c5' c6' a7' a8' hpl => ?_) (fun c5' c6' a7' a8' hpl => ?_)
      · have hq := (sj_PF_iff hi si hc (show m ≤ 60 by omega)).mp hpl
        refine br_f (by decide) (nm_r (nI_1 k) (hw (nI lo, nI m, nI m, c5', c6', a7', a8') ⟨lo, m, rfl, rfl, l1, by omega, by omega, hq, hn, by omega⟩))
      · have hq : ¬ sj_PF rel len kd du wt fl S c i m := fun q => hpl ((sj_PF_iff hi si hc (show m ≤ 60 by omega)).mpr q)
        refine br_t rfl (nm_r (nI_1 m) (nm_r (nI_1 k) (hw (nI (m + 1), nI hi', nI m, c5', c6', a7', a8') ⟨m + 1, hi', rfl, rfl, by omega, by omega, l3, hp, fun t ht q => hq (sj_PF_mono (by omega) q), by omega⟩)))
end
section
/-- the state between two turns, by its picture -/
def sj_I (c n S : Nat) (rel len kd du wt fl rk : Nat → Nat) (c0 c1 c2 c3 : Int32) (a1 a2 a3 a4 a5 a6 : Nat → Int32) : Prop :=
  (c0 = nI n ∧ n ≤ 5) ∧ (c1 = nI c ∧ c ≤ 127) ∧ (c2 = nI S ∧ ∀ j, S.testBit j = true → j < n) ∧ c3 = -1 ∧ sj_D rel len kd du wt fl rk S a1 a2 a3 a4 a5 a6 ∧
  (∀ i j, i < 5 → j < 5 → (fl i).testBit j = true → S.testBit i = true ∧ S.testBit j = true) ∧ sj_Plan rel len (sj_fol fl) (sj_cost kd du wt) (c : Int) S.testBit
theorem sj_Plan_free {rel len kd du wt fl : Nat → Nat} {c4 : Int32} {K : Int} {S : Nat → Bool} : sj_Plan rel len (sj_fol fl) (sj_costN kd du wt (-1) c4) K S ↔ sj_Plan rel len (sj_fol fl) (sj_cost kd du wt) K S :=
  ⟨fun h => sj_Plan_mono h (fun _ _ s => s) (fun _ _ _ => rfl) (fun _ _ _ => rfl) (fun _ _ _ _ _ _ f => f) (fun j t hj _ _ h => by rw [← sj_costN_free (c4 := c4) hj]; exact h),
   fun h => sj_Plan_mono h (fun _ _ s => s) (fun _ _ _ => rfl) (fun _ _ _ => rfl) (fun _ _ _ _ _ _ f => f) (fun j t hj _ _ h => by rw [sj_costN_free (c4 := c4) hj]; exact h)⟩
theorem sj_holds {post : Int32 → Prop} {c0 c1 c2 c3 c4 c5 c6 : Int32} {a1 a2 a3 a4 a5 a6 a7 a8 : Nat → Int32} {rel len kd du wt fl : Nat → Nat} {rk : Nat → Nat} {c n S i : Nat} (hI : sj_I c n S rel len kd du wt fl rk c0 c1 c2 c3 a1 a2 a3 a4 a5 a6) (hi : i < 8)
    (H1 : i < 5 → S.testBit i = true → post 1) (H0 : ¬ S.testBit i = true → post 0) : wpX_holds post (c0, c1, c2, c3, c4, c5, c6, a1, a2, a3, a4, a5, a6, a7, a8) (nI i) := by
  obtain ⟨⟨e0, hn⟩, _, ⟨e2, hSn⟩, _, hD, _⟩ := hI
  subst e0
  subst e2
  exact br_f (nI_pos (by omega)) (pk_le n i (fun z => H0 (fun q => by have := hSn i q; omega)) (fun z => sj_bitW S i hD.2.1 (by omega) (fun nb => H0 nb) (fun b => H1 (by omega) b)))
theorem sj_linked {post : Int32 → Prop} {c0 c1 c2 c3 c4 c5 c6 : Int32} {a1 a2 a3 a4 a5 a6 a7 a8 : Nat → Int32} {rel len kd du wt fl : Nat → Nat} {rk : Nat → Nat} {c n S i j : Nat} (hI : sj_I c n S rel len kd du wt fl rk c0 c1 c2 c3 a1 a2 a3 a4 a5 a6) (hi : i < 8) (hj : j < 8)
    (H1 : i < 5 → j < 5 → S.testBit i = true → S.testBit j = true → (fl i).testBit j = true → post 1) (H0 : (i < 5 → j < 5 → ¬ (fl i).testBit j = true) → post 0) : wpX_linked post (c0, c1, c2, c3, c4, c5, c6, a1, a2, a3, a4, a5, a6, a7, a8) (nI i) (nI j) := by
  unfold wpX_linked
  have hl := hI.2.2.2.2.2.1
  refine sj_holds hI hi (fun hi5 si => br_f (by decide) ?_) (fun ni => br_t rfl (H0 (fun hi5 hj5 q => ni (hl i j hi5 hj5 q).1)))
  refine sj_holds hI hj (fun hj5 sj => br_f (by decide) ?_) (fun nj => br_t rfl (H0 (fun hi5 hj5 q => nj (hl i j hi5 hj5 q).2)))
  obtain ⟨e6, b6⟩ := (hI.2.2.2.2.1.1 i hi5).2.2.2.2.2
  exact ⟨pk_in i 5 hi5, sj_bitW (fl i) j b6 hj5 (fun nb => H0 (fun _ _ => nb)) (fun b => H1 hi5 hj5 si sj b) (by rw [nI_clamp (by omega), e6])⟩
theorem sj_ef {post : Int32 → St1 → Prop} {c0 c1 c2 c3 c4 c5 c6 : Int32} {a1 a2 a3 a4 a5 a6 a7 a8 : Nat → Int32} {rel len kd du wt fl : Nat → Nat} {rk : Nat → Nat} {c n S i : Nat} (hI : sj_I c n S rel len kd du wt fl rk c0 c1 c2 c3 a1 a2 a3 a4 a5 a6) (hi : i < 5) (si : S.testBit i = true)
    (H : ∀ f c4' c5' c6' a7' a8', sj_EF rel len kd du wt fl S c i f → post (nI f) (c0, c1, c2, -1, c4', c5', c6', a1, a2, a3, a4, a5, a6, a7', a8')) : wpX_earliestFinish post (c0, c1, c2, c3, c4, c5, c6, a1, a2, a3, a4, a5, a6, a7, a8) (nI i) := by
  unfold wpX_earliestFinish
  refine sj_holds hI (by omega) (fun _ _ => br_f (by decide) ?_) (fun nb => absurd si nb)
  obtain ⟨_, ⟨e1, hc⟩, ⟨e2, _⟩, _, hD, _, hp⟩ := hI
  obtain ⟨r, C, hF, hC⟩ := hp
  exact sj_ef25 hD e1 hc e2 hi si rfl ⟨r, C, hF, hC, (hC i hi si).1⟩ H
theorem sj_I_T {c n S : Nat} {rel len kd du wt fl rk : Nat → Nat} {c0 c1 c2 c3 : Int32} {a1 a2 a3 a4 a5 a6 : Nat → Int32} (hI : sj_I c n S rel len kd du wt fl rk c0 c1 c2 c3 a1 a2 a3 a4 a5 a6) : sj_I c n S rel len kd du wt fl rk c0 c1 c2 (-1) a1 a2 a3 a4 a5 a6 := by
  obtain ⟨h0, h1, h2, _, h⟩ := hI
  exact ⟨h0, h1, h2, rfl, h⟩
theorem sj_costAt {post : Int32 → Prop} {c0 c1 c2 c3 c4 c5 c6 : Int32} {a1 a2 a3 a4 a5 a6 a7 a8 : Nat → Int32} {rel len kd du wt fl : Nat → Nat} {rk : Nat → Nat} {c n S i t : Nat} (hI : sj_I c n S rel len kd du wt fl rk c0 c1 c2 c3 a1 a2 a3 a4 a5 a6) (hi : i < 5) (si : S.testBit i = true) (ht : t ≤ 60)
    (H : post (sj_iV (sj_cost kd du wt i t))) : wpX_costAt post (c0, c1, c2, c3, c4, c5, c6, a1, a2, a3, a4, a5, a6, a7, a8) (nI i) (nI t) := by
  unfold wpX_costAt
  refine sj_holds hI (by omega) (fun _ _ => br_f (by decide) ?_) (fun nb => absurd si nb)
  exact br_f (nI_pos (by omega)) (pk_le t 60 (fun _ => sj_ruled hI.2.2.2.2.1.1 hi ht H) (fun z => absurd z (by omega)))
theorem sj_ww {post : Int32 → St1 → Prop} {c0 c1 c2 c3 c4 c5 c6 : Int32} {a1 a2 a3 a4 a5 a6 a7 a8 : Nat → Int32} {rel len kd du wt fl : Nat → Nat} {rk : Nat → Nat} {c n S i : Nat} {w : Int} (hI : sj_I c n S rel len kd du wt fl rk c0 c1 c2 c3 a1 a2 a3 a4 a5 a6) (hi : i < 5) (si : S.testBit i = true)
    (hw : sj_Plan rel len (sj_fol fl) (sj_cost kd du wt) w S.testBit) (H : ∀ v c5' c6' a7' a8', -100000 ≤ v → v ≤ w → v ≤ 100000 → post (sj_iV v) (c0, c1, c2, c3, c4, c5', c6', a1, a2, a3, a4, a5, a6, a7', a8')) : wpX_worstWithout post (c0, c1, c2, c3, c4, c5, c6, a1, a2, a3, a4, a5, a6, a7, a8) (nI i) := by
  unfold wpX_worstWithout
  refine sj_holds hI (by omega) (fun _ _ => br_f (by decide) ?_) (fun nb => absurd si nb)
  obtain ⟨_, _, ⟨e2, _⟩, e3, hD, _, _⟩ := hI
  obtain ⟨hP, hS, hpos, hr5, hac⟩ := hD
  subst e2
  subst e3
  have w0 : -150 ≤ w := by
    obtain ⟨r, C, hF, hC⟩ := hw
    have h1 := hC i hi si
    have h2 := sj_cost_bd (kd := kd) (hP i hi).2.2.2.1.2 (hP i hi).2.2.2.2.1.2 h1.1
    omega
  have eN : (-2000 : Int32) = sj_iV (-2000) := by decide +kernel
  have hl := sj_del_l S hS i hi
  have hb := sj_del_b S hS i hi
  refine nm_r (sj_del_e S hS i hi) (pk_eq (sj_del S i) 0 (fun z => ?_) (fun z => ?_))
  · rw [eN]
    exact H (-2000) _ _ _ _ (by omega) (by omega) (by omega)
  · refine sj_lw rfl ⟨hP, hl, fun j hj q => hpos j hj ((hb j hj).mp q).1, hr5, hac⟩ z (fun v c5' c6' a7' a8' hW => H v c5' c6' a7' a8' hW.1 (hW.2.2.1 w (by omega) ?_) hW.2.1)
    exact sj_Plan_mono (sj_Plan_free.mpr hw) (fun j hj s => ((hb j hj).mp s).1) (fun _ _ _ => rfl) (fun _ _ _ => rfl) (fun _ _ _ _ _ _ f => f) (fun _ _ _ _ _ h => h)
theorem sj_co24 {post : Int32 → St1 → Prop} {c0 c1 c2 c3 c4 c5 c6 : Int32} {a1 a2 a3 a4 a5 a6 a7 a8 : Nat → Int32} {rel len kd du wt fl : Nat → Nat} {rk : Nat → Nat} {c n S : Nat} {w : Int} (hI : sj_I c n S rel len kd du wt fl rk c0 c1 c2 c3 a1 a2 a3 a4 a5 a6) (w1 : -100000 ≤ w) (w2 : w ≤ 100000)
    (hw : ∀ i, i < 5 → S.testBit i = true → sj_Plan rel len (sj_fol fl) (sj_cost kd du wt) w S.testBit)
    (H : ∀ c4' c5' c6' a7' a8', post 1 (c0, c1, c2, -1, c4', c5', c6', a1, a2, a3, a4, a5, a6, a7', a8')) : ∃ m, wL_costs_24 post (nI c) (nI S) (sj_iV w) m 0 c0 c1 c2 c3 c4 c5 c6 a1 a2 a3 a4 a5 a6 a7 a8 := by
  have e3 : c3 = -1 := hI.2.2.2.1
  subst e3
  have hc := hI.2.1.2
  refine pk_loop (σ := Int32 × Int32 × Int32 × (Nat → Int32) × (Nat → Int32)) (fun m i s => wL_costs_24 post (nI c) (nI S) (sj_iV w) m (nI i) c0 c1 c2 (-1) s.1 s.2.1 s.2.2.1 a1 a2 a3 a4 a5 a6 s.2.2.2.1 s.2.2.2.2) (fun _ _ => True) 5 0 (c4, c5, c6, a7, a8) (by omega) trivial (fun m s _ => ?_) (fun m i s hi _ hw' => ?_)
  · exact pk_le 5 5 (fun _ => H _ _ _ _ _) (fun z => absurd z (by omega))
  · refine pk_le 5 i (fun z => absurd z (by omega)) (fun _ => sj_bitV S i hI.2.2.2.2.1.2.1 hi (fun si => ?_) (fun _ => nm_r (nI_1 i) (hw' s trivial)))
    refine sj_ww hI hi si (hw i hi si) (fun v c5' c6' a7' a8' v1 v2 v3 => ?_)
    refine sj_ef hI hi si (fun f c4' c5' c6' a7' a8' hE => ?_)
    have hf1 := hE.1
    have hf2 := hE.2.1
    have hcost := sj_EF_cost hi si hE
    have hbd := sj_cost_bd (kd := kd) (hI.2.2.2.2.1.1 i hi).2.2.2.1.2 (hI.2.2.2.2.1.1 i hi).2.2.2.2.1.2 hf2
    refine sj_costAt hI hi si hf2 ?_
    refine sj_vlt w v (fun z => absurd z (by omega)) (fun _ => ?_) rfl rfl (by omega) (by omega) (by omega) (by omega)
    refine pk_lt f 1 (fun z => absurd z (by omega)) (fun _ => pk_lt 60 f (fun z => absurd z (by omega)) (fun _ => ?_))
    refine sj_vle (sj_cost kd du wt i f) (c : Int) (fun _ => nm_r (nI_1 i) (hw' (c4', c5', c6', a7', a8') trivial)) (fun z => absurd z (by omega)) rfl (sj_iV_n c) (by omega) (by omega) (by omega) (by omega)
theorem sj_costs {post : Int32 → St1 → Prop} {c0 c1 c2 c3 c4 c5 c6 : Int32} {a1 a2 a3 a4 a5 a6 a7 a8 : Nat → Int32} {rel len kd du wt fl : Nat → Nat} {rk : Nat → Nat} {c n S : Nat} (hI : sj_I c n S rel len kd du wt fl rk c0 c1 c2 c3 a1 a2 a3 a4 a5 a6)
    (H : ∀ c4' c5' c6' a7' a8', post 1 (c0, c1, c2, -1, c4', c5', c6', a1, a2, a3, a4, a5, a6, a7', a8')) : wpL_costs post (c0, c1, c2, c3, c4, c5, c6, a1, a2, a3, a4, a5, a6, a7, a8) (nI c) := by
  have hI0 := hI
  obtain ⟨_, ⟨_, hc⟩, ⟨e2, _⟩, e3, hD, _, hp⟩ := hI0
  subst e2
  subst e3
  have hS := hD.2.1
  unfold wpL_costs
  dsimp only
  unfold wpX_jobs
  dsimp only
  unfold wpX_worst
  dsimp only
  have eN : (-2000 : Int32) = sj_iV (-2000) := by decide +kernel
  refine pk_eq S 0 (fun z => ?_) (fun z => ?_)
  · refine pk_eq S 0 (fun _ => ?_) (fun q => absurd z q)
    rw [eN]
    exact sj_co24 hI (by omega) (by omega) (fun i _ si => absurd si (sj_eq0 z i)) H
  · refine sj_lw rfl hD z (fun v c5' c6' a7' a8' hW => ?_)
    have hv := hW.2.2.1 (c : Int) (by omega) (sj_Plan_free.mpr hp)
    refine pk_eq S 0 (fun q => absurd q z) (fun _ => ?_)
    refine sj_vle v (c : Int) (fun _ => ?_) (fun q => absurd q (by omega)) rfl (sj_iV_n c) (by have := hW.1; omega) (by have := hW.2.1; omega) (by omega) (by omega)
    exact sj_co24 hI hW.1 hW.2.1 (fun i _ _ => sj_Plan_free.mp hW.2.2.2) H
theorem sj_li9 {post : Int32 → St1 → Prop} {J : Int32 → Int32 → Int32 → Int32 → Int32 → Int32 → Int32 → Int32 → (Nat → Int32) → (Nat → Int32) → (Nat → Int32) → (Nat → Int32) → (Nat → Int32) → (Nat → Int32) → (Nat → Int32) → (Nat → Int32) → Prop} {c0 c1 c2 c3 c4 c5 c6 : Int32} {a1 a2 a3 a4 a5 a6 a7 a8 : Nat → Int32} {rel len kd du wt fl : Nat → Nat} {rk : Nat → Nat} {c n S i : Nat} (hI : sj_I c n S rel len kd du wt fl rk c0 c1 c2 c3 a1 a2 a3 a4 a5 a6) (hi : i < 5)
    (H : ∀ c4' c5' c6' a7' a8', J (nI (i + 1)) c0 c1 c2 (-1) c4' c5' c6' a1 a2 a3 a4 a5 a6 a7' a8') : ∃ m, wL_links_9 post J (nI i) m 0 c0 c1 c2 c3 c4 c5 c6 a1 a2 a3 a4 a5 a6 a7 a8 := by
  have e3 : c3 = -1 := hI.2.2.2.1
  subst e3
  refine pk_loop (σ := Int32 × Int32 × Int32 × (Nat → Int32) × (Nat → Int32)) (fun m j s => wL_links_9 post J (nI i) m (nI j) c0 c1 c2 (-1) s.1 s.2.1 s.2.2.1 a1 a2 a3 a4 a5 a6 s.2.2.2.1 s.2.2.2.2) (fun _ _ => True) 5 0 (c4, c5, c6, a7, a8) (by omega) trivial (fun m s _ => ?_) (fun m j s hj _ hw => ?_)
  · exact pk_le 5 5 (fun _ => nm_r (nI_1 i) (H _ _ _ _ _)) (fun z => absurd z (by omega))
  · refine pk_le 5 j (fun z => absurd z (by omega)) (fun _ => ?_)
    refine sj_linked hI (by omega) (by omega) (fun _ _ si sj hl => br_f (by decide) ?_) (fun _ => br_t rfl (nm_r (nI_1 j) (hw s trivial)))
    refine sj_ef hI hi si (fun f c4' c5' c6' a7' a8' hE => ?_)
    refine sj_ef hI hj sj (fun f' c4' c5' c6' a7' a8' hE' => ?_)
    have hlt := sj_EF_lt hi hj si sj hl hE hE'
    have hf := hE'.2.1
    refine pk_le f' f (fun z => absurd z (by omega)) (fun _ => ?_)
    refine sj_linked hI (by omega) (by omega) (fun _ _ _ _ hl' => ?_) (fun _ => br_t rfl (nm_r (nI_1 j) (hw (c4', c5', c6', a7', a8') trivial)))
    have h1 := hI.2.2.2.2.1.2.2.2.2 i j hi hj hl
    have h2 := hI.2.2.2.2.1.2.2.2.2 j i hj hi hl'
    omega
theorem sj_links {post : Int32 → St1 → Prop} {c0 c1 c2 c3 c4 c5 c6 : Int32} {a1 a2 a3 a4 a5 a6 a7 a8 : Nat → Int32} {rel len kd du wt fl : Nat → Nat} {rk : Nat → Nat} {c n S : Nat} (hI : sj_I c n S rel len kd du wt fl rk c0 c1 c2 c3 a1 a2 a3 a4 a5 a6)
    (H : ∀ c4' c5' c6' a7' a8', post 1 (c0, c1, c2, -1, c4', c5', c6', a1, a2, a3, a4, a5, a6, a7', a8')) : wpL_links post (c0, c1, c2, c3, c4, c5, c6, a1, a2, a3, a4, a5, a6, a7, a8) := by
  have e3 : c3 = -1 := hI.2.2.2.1
  subst e3
  refine pk_loop (σ := Int32 × Int32 × Int32 × (Nat → Int32) × (Nat → Int32)) (fun m i s => wL_links_2 post m (nI i) c0 c1 c2 (-1) s.1 s.2.1 s.2.2.1 a1 a2 a3 a4 a5 a6 s.2.2.2.1 s.2.2.2.2) (fun _ _ => True) 5 0 (c4, c5, c6, a7, a8) (by omega) trivial (fun m s _ => ?_) (fun m i s hi _ hw => ?_)
  · exact pk_le 5 5 (fun _ => H _ _ _ _ _) (fun z => absurd z (by omega))
  · exact pk_le 5 i (fun z => absurd z (by omega)) (fun _ => sj_li9 hI hi (fun c4' c5' c6' a7' a8' => hw (c4', c5', c6', a7', a8') trivial))
end
section
/-- the state between two turns -/
def sj_St (c : Nat) (c0 c1 c2 c3 : Int32) (a1 a2 a3 a4 a5 a6 : Nat → Int32) : Prop := ∃ n S rel len kd du wt fl rk, sj_I c n S rel len kd du wt fl rk c0 c1 c2 c3 a1 a2 a3 a4 a5 a6
/-- f with v at i -/
def sj_up (f : Nat → Nat) (i v : Nat) : Nat → Nat := fun j => if j = i then v else f j
theorem sj_up_s {f : Nat → Nat} {i v : Nat} : sj_up f i v i = v := if_pos rfl
theorem sj_up_n {f : Nat → Nat} {i v j : Nat} (h : j ≠ i) : sj_up f i v j = f j := if_neg h
theorem sj_up_a {a : Nat → Int32} {f : Nat → Nat} {i v j : Nat} (h : a j = nI (f j)) : upd a i (nI v) j = nI (sj_up f i v j) := by
  by_cases e : j = i
  · rw [e, pk_us, sj_up_s]
  · rw [pk_un e, sj_up_n e, h]
theorem sj_up_le {f : Nat → Nat} {i v j b : Nat} (h : f j ≤ b) (hv : v ≤ b) : sj_up f i v j ≤ b := by
  by_cases e : j = i
  · rw [e, sj_up_s]
    exact hv
  · rw [sj_up_n e]
    exact h
theorem sj_back {a : Nat → Int32} {f : Nat → Nat} {i j : Nat} {x : Int32} (h : a j = nI (f j)) : upd (upd a i x) i (nI (f i)) j = nI (f j) := by
  by_cases e : j = i
  · rw [e, pk_us]
  · rw [pk_un e, pk_un e, h]
theorem sj_P_rule {rel len kd du wt fl : Nat → Nat} {a1 a2 a3 a4 a5 a6 : Nat → Int32} {i k d w : Nat} (hP : sj_P rel len kd du wt fl a1 a2 a3 a4 a5 a6) (hk : k ≤ 3) (hd : d ≤ 30) (hw : w ≤ 5) :
    sj_P rel len (sj_up kd i k) (sj_up du i d) (sj_up wt i w) fl a1 a2 (upd a3 i (nI k)) (upd a4 i (nI d)) (upd a5 i (nI w)) a6 := fun j hj => by
  obtain ⟨h1, h2, h3, h4, h5, h6⟩ := hP j hj
  exact ⟨h1, h2, ⟨sj_up_a h3.1, sj_up_le h3.2 hk⟩, ⟨sj_up_a h4.1, sj_up_le h4.2 hd⟩, ⟨sj_up_a h5.1, sj_up_le h5.2 hw⟩, h6⟩
theorem sj_P_enter {rel len kd du wt fl : Nat → Nat} {a1 a2 a3 a4 a5 a6 : Nat → Int32} {i r p : Nat} (hP : sj_P rel len kd du wt fl a1 a2 a3 a4 a5 a6) (hr : r ≤ 9) (hp : p ≤ 3) :
    sj_P (sj_up rel i r) (sj_up len i p) kd du wt (sj_up fl i 0) (upd a1 i (nI r)) (upd a2 i (nI p)) a3 a4 a5 (upd a6 i (nI 0)) := fun j hj => by
  obtain ⟨h1, h2, h3, h4, h5, h6⟩ := hP j hj
  exact ⟨⟨sj_up_a h1.1, sj_up_le h1.2 hr⟩, ⟨sj_up_a h2.1, sj_up_le h2.2 hp⟩, h3, h4, h5, ⟨sj_up_a h6.1, Nat.lt_succ_of_le (sj_up_le (b := 31) (Nat.le_of_lt_succ h6.2) (by omega))⟩⟩
theorem sj_P_fl {rel len kd du wt fl fl' : Nat → Nat} {a1 a2 a3 a4 a5 a6 a6' : Nat → Int32} (hP : sj_P rel len kd du wt fl a1 a2 a3 a4 a5 a6) (h : ∀ j, j < 5 → a6' j = nI (fl' j) ∧ fl' j < 32) :
    sj_P rel len kd du wt fl' a1 a2 a3 a4 a5 a6' := fun j hj => by
  obtain ⟨h1, h2, h3, h4, h5, h6⟩ := hP j hj
  exact ⟨h1, h2, h3, h4, h5, h j hj⟩
/-- fewer jobs, fewer links -/
theorem sj_I_less {c n S S' : Nat} {rel len kd du wt fl fl' rk : Nat → Nat} {c0 c1 c2 c3 : Int32} {a1 a2 a3 a4 a5 a6 a6' : Nat → Int32} (hI : sj_I c n S rel len kd du wt fl rk c0 c1 c2 c3 a1 a2 a3 a4 a5 a6) (hS' : S' < 32)
    (hsub : ∀ j, S'.testBit j = true → S.testBit j = true) (h6 : ∀ j, j < 5 → a6' j = nI (fl' j) ∧ fl' j < 32)
    (hfl : ∀ a b, a < 5 → b < 5 → (fl' a).testBit b = true → (fl a).testBit b = true ∧ S'.testBit a = true ∧ S'.testBit b = true) : sj_I c n S' rel len kd du wt fl' rk c0 c1 (nI S') c3 a1 a2 a3 a4 a5 a6' := by
  obtain ⟨h0, h1, ⟨_, h2⟩, h3, ⟨hP, hS, hpos, hr5, hac⟩, hl, hp⟩ := hI
  refine ⟨h0, h1, ⟨rfl, fun j hj => h2 j (hsub j hj)⟩, h3, ⟨sj_P_fl hP h6, hS', fun j hj s => hpos j hj (hsub j s), hr5, fun a b ha hb f => hac a b ha hb (hfl a b ha hb f).1⟩, fun a b ha hb f => (hfl a b ha hb f).2, ?_⟩
  exact sj_Plan_mono hp (fun j _ s => hsub j s) (fun _ _ _ => rfl) (fun _ _ _ => rfl) (fun a b ha hb _ _ f => (hfl a b ha hb f).1) (fun _ _ _ _ _ h => h)
theorem sj_rule {post : St1 → Prop} {c0 c1 c2 c3 c4 c5 c6 : Int32} {a1 a2 a3 a4 a5 a6 a7 a8 : Nat → Int32} {i k d w : Nat} (hi : i < 5) (hk : k < 128) (hd : d < 128) (hw : w < 128) (H : post (c0, c1, c2, c3, c4, c5, c6, a1, a2, upd a3 i (nI k), upd a4 i (nI d), upd a5 i (nI w), a6, a7, a8)) : wpX_rule post (c0, c1, c2, c3, c4, c5, c6, a1, a2, a3, a4, a5, a6, a7, a8) (nI i) (nI k) (nI d) (nI w) := by
  have i5 : vp_in (nI i) 5 := vp_in_nI hi (by omega)
  have cl : (nI i).toNatClampNeg = i := nI_clamp (by omega)
  exact ⟨i5, nm_r (by rw [cl, sj_nar k hk]) ⟨i5, nm_r (by rw [cl, sj_nar d hd]) ⟨i5, nm_r (by rw [cl, sj_nar w hw]) H⟩⟩⟩
theorem sj_setRule {post : Int32 → St1 → Prop} {c0 c1 c2 c3 c4 c5 c6 : Int32} {a1 a2 a3 a4 a5 a6 a7 a8 : Nat → Int32} {c i k d w : Nat} (hSt : sj_St c c0 c1 c2 c3 a1 a2 a3 a4 a5 a6) (hi : i < 8) (hk : k ≤ 3) (hd : d < 32) (hw1 : 1 ≤ w) (hw : w ≤ 4)
    (H : ∀ (r : Int32) (c0 c1 c2 c3 c4 c5 c6 : Int32) (a1 a2 a3 a4 a5 a6 a7 a8 : Nat → Int32), sj_St c c0 c1 c2 c3 a1 a2 a3 a4 a5 a6 → post r (c0, c1, c2, c3, c4, c5, c6, a1, a2, a3, a4, a5, a6, a7, a8)) : wpX_setRule post (c0, c1, c2, c3, c4, c5, c6, a1, a2, a3, a4, a5, a6, a7, a8) (nI i) (nI k) (nI d) (nI w) := by
  have same : ∀ r, post r (c0, c1, c2, c3, c4, c5, c6, a1, a2, a3, a4, a5, a6, a7, a8) := fun r => H r c0 c1 c2 c3 c4 c5 c6 a1 a2 a3 a4 a5 a6 a7 a8 hSt
  obtain ⟨n, S, rel, len, kd, du, wt, fl, rk, hI⟩ := hSt
  unfold wpX_setRule
  refine sj_holds hI hi (fun hi5 si => br_f (by decide) ?_) (fun _ => br_t rfl (same _))
  refine br_f (nI_pos (by omega)) (pk_lt 3 k (fun z => absurd z (by omega)) (fun _ => br_f (nI_pos (by omega)) (pk_lt 30 d (fun _ => same _) (fun hd30 => pk_lt w 1 (fun z => absurd z (by omega)) (fun _ => pk_le w 5 (fun _ => ?_) (fun z => absurd z (by omega)))))))
  obtain ⟨h0, ⟨e1, hc⟩, ⟨e2, hSn⟩, e3, ⟨hP, hS, hpos, hr5, hac⟩, hl, hp⟩ := hI
  subst e3
  have i5 : vp_in (nI i) 5 := vp_in_nI hi5 (by omega)
  have cl : (nI i).toNatClampNeg = i := nI_clamp (by omega)
  obtain ⟨_, _, ⟨e3, b3⟩, ⟨e4, b4⟩, ⟨e5, b5⟩, _⟩ := hP i hi5
  refine ⟨i5, nm_r (e' := nI (kd i)) (by rw [cl, e3]) ⟨i5, nm_r (e' := nI (du i)) (by rw [cl, e4]) ⟨i5, nm_r (e' := nI (wt i)) (by rw [cl, e5]) ?_⟩⟩⟩
  refine sj_rule hi5 (by omega) (by omega) (by omega) ?_
  have hP' := sj_P_rule (i := i) hP hk hd30 (show w ≤ 5 by omega)
  refine sj_wc ⟨hP', hS, hpos, hr5, hac⟩ e1 hc e2 (fun c5' c6' a7' a8' hpl => br_f (by decide) (H _ _ _ _ _ _ _ _ _ _ _ _ _ _ _ _ ?_)) (fun c5' c6' a7' a8' _ => br_t rfl (sj_rule hi5 (by omega) (by omega) (by omega) (H _ _ _ _ _ _ _ _ _ _ _ _ _ _ _ _ ?_)))
  · exact ⟨n, S, rel, len, _, _, _, fl, rk, h0, ⟨e1, hc⟩, ⟨e2, hSn⟩, rfl, ⟨hP', hS, hpos, hr5, hac⟩, hl, sj_Plan_free.mp hpl⟩
  · refine ⟨n, S, rel, len, kd, du, wt, fl, rk, h0, ⟨e1, hc⟩, ⟨e2, hSn⟩, rfl, ⟨fun j hj => ?_, hS, hpos, hr5, hac⟩, hl, hp⟩
    obtain ⟨g1, g2, g3, g4, g5, g6⟩ := hP j hj
    exact ⟨g1, g2, ⟨sj_back g3.1, g3.2⟩, ⟨sj_back g4.1, g4.2⟩, ⟨sj_back g5.1, g5.2⟩, g6⟩
theorem sj_free {post : Int32 → Prop} {c0 c1 c2 c3 c4 c5 c6 : Int32} {a1 a2 a3 a4 a5 a6 a7 a8 : Nat → Int32} {rel len kd du wt fl : Nat → Nat} {rk : Nat → Nat} {c n S : Nat} (hI : sj_I c n S rel len kd du wt fl rk c0 c1 c2 c3 a1 a2 a3 a4 a5 a6) (H0 : post (-1)) (H1 : ∀ i, i < 5 → i < n → ¬ S.testBit i = true → post (nI i)) : wpX_freeNumber post (c0, c1, c2, c3, c4, c5, c6, a1, a2, a3, a4, a5, a6, a7, a8) := by
  obtain ⟨⟨e0, hn⟩, _, ⟨e2, hSn⟩, _, hD, _⟩ := hI
  subst e0
  subst e2
  refine pk_loop (σ := Unit) (fun m i _ => wX_freeNumber_2 post (nI n) c1 (nI S) c3 c4 c5 c6 a1 a2 a3 a4 a5 a6 a7 a8 m (nI i)) (fun _ _ => True) n 0 () (by omega) trivial (fun m s _ => ?_) (fun m i s hi _ hw => ?_)
  · exact pk_le n n (fun _ => H0) (fun z => absurd z (by omega))
  · exact pk_le n i (fun z => absurd z (by omega)) (fun _ => sj_bitW S i hD.2.1 (by omega) (fun nb => H1 i (by omega) hi nb) (fun _ => nm_r (nI_1 i) (hw () trivial)))
theorem sj_addel : ∀ m, m < 32 → ∀ i, i < 5 → ¬ m.testBit i = true → sj_del (sj_add m i) i = m := by decide +kernel
theorem sj_enter {post : Int32 → St1 → Prop} {c0 c1 c2 c3 c4 c5 c6 : Int32} {a1 a2 a3 a4 a5 a6 a7 a8 : Nat → Int32} {c r p k d : Nat} (hSt : sj_St c c0 c1 c2 c3 a1 a2 a3 a4 a5 a6) (hr : r ≤ 9) (hp1 : 1 ≤ p) (hp3 : p ≤ 3) (hk : k ≤ 3) (hd : d ≤ 30)
    (H : ∀ (r : Int32) (c0 c1 c2 c3 c4 c5 c6 : Int32) (a1 a2 a3 a4 a5 a6 a7 a8 : Nat → Int32), sj_St c c0 c1 c2 c3 a1 a2 a3 a4 a5 a6 → post r (c0, c1, c2, c3, c4, c5, c6, a1, a2, a3, a4, a5, a6, a7, a8)) : wpX_enter post (c0, c1, c2, c3, c4, c5, c6, a1, a2, a3, a4, a5, a6, a7, a8) (nI r) (nI p) (nI k) (nI d) := by
  have same : ∀ r, post r (c0, c1, c2, c3, c4, c5, c6, a1, a2, a3, a4, a5, a6, a7, a8) := fun r => H r c0 c1 c2 c3 c4 c5 c6 a1 a2 a3 a4 a5 a6 a7 a8 hSt
  obtain ⟨n, S, rel, len, kd, du, wt, fl, rk, hI⟩ := hSt
  unfold wpX_enter
  refine sj_free hI (br_f (by decide) (same _)) (fun i hi hin ni => br_t (nI_pos' (by omega)) ?_)
  obtain ⟨h0, ⟨e1, hc⟩, ⟨e2, hSn⟩, e3, ⟨hP, hS, hpos, hr5, hac⟩, hl, hp⟩ := hI
  subst e3
  subst e2
  have i5 : vp_in (nI i) 5 := vp_in_nI hi (by omega)
  have cl : (nI i).toNatClampNeg = i := nI_clamp (by omega)
  refine ⟨i5, nm_r (e' := upd a1 i (nI r)) (by rw [cl, sj_nar r (by omega)]) ⟨i5, nm_r (e' := upd a2 i (nI p)) (by rw [cl, sj_nar p (by omega)]) ⟨i5, nm_r (e' := upd a6 i (nI 0)) (by rw [cl, nI_0]) ?_⟩⟩⟩
  refine sj_rule (w := 1) hi (by omega) (by omega) (by omega) (nm_r (sj_add_e S hS i hi) ?_)
  have hP' := sj_P_rule (i := i) (w := 1) (sj_P_enter (i := i) hP hr hp3) hk hd (by omega)
  have hab := sj_add_b S hS i hi
  have hal := sj_add_l S hS i hi
  have flN : ∀ a b, a < 5 → b < 5 → ((sj_up fl i 0) a).testBit b = true → (fl a).testBit b = true := fun a b ha hb f => by
    by_cases e : a = i
    · rw [e, sj_up_s] at f
      exact absurd f (sj_eq0 rfl b)
    · rw [sj_up_n e] at f
      exact f
  have hac' : ∀ a b, a < 5 → b < 5 → ((sj_up fl i 0) a).testBit b = true → rk a < rk b := fun a b ha hb f => hac a b ha hb (flN a b ha hb f)
  have nS : ∀ j, S.testBit j = true → j ≠ i := fun j s q => ni (by rw [← q]; exact s)
  have hpos' : ∀ j, j < 5 → (sj_add S i).testBit j = true → 1 ≤ sj_up len i p j := fun j hj s => by
    by_cases e : j = i
    · rw [e, sj_up_s]
      exact hp1
    · rw [sj_up_n e]
      exact hpos j hj (((hab j hj).mp s).elim id (fun q => absurd q e))
  refine sj_wc ⟨hP', hal, hpos', hr5, hac'⟩ e1 hc rfl (fun c5' c6' a7' a8' hpl => br_f (by decide) (H _ _ _ _ _ _ _ _ _ _ _ _ _ _ _ _ ?_)) (fun c5' c6' a7' a8' _ => br_t rfl (nm_r (e' := nI S) ?_ (H _ _ _ _ _ _ _ _ _ _ _ _ _ _ _ _ ?_)))
  · refine ⟨n, sj_add S i, _, _, _, _, _, _, rk, h0, ⟨e1, hc⟩, ⟨rfl, fun j s => ?_⟩, rfl, ⟨hP', hal, hpos', hr5, hac'⟩, fun a b ha hb f => ?_, sj_Plan_free.mp hpl⟩
    · rcases (hab j (sj_hi hal s)).mp s with q | q
      · exact hSn j q
      · rw [q]
        exact hin
    · have q := hl a b ha hb (flN a b ha hb f)
      exact ⟨(hab a ha).mpr (Or.inl q.1), (hab b hb).mpr (Or.inl q.2)⟩
  · rw [sj_del_e _ hal i hi, sj_addel S hS i hi ni]
  · refine ⟨n, S, _, _, _, _, _, _, rk, h0, ⟨e1, hc⟩, ⟨rfl, hSn⟩, rfl, ⟨hP', hS, fun j hj s => hpos' j hj ((hab j hj).mpr (Or.inl s)), hr5, hac'⟩, fun a b ha hb f => hl a b ha hb (flN a b ha hb f), ?_⟩
    refine sj_Plan_mono hp (fun _ _ s => s) (fun j _ s => sj_up_n (nS j s)) (fun j _ s => sj_up_n (nS j s)) (fun a b ha hb _ _ f => flN a b ha hb f) (fun j t _ s _ h => ?_)
    unfold sj_cost at h ⊢
    rw [sj_up_n (nS j s), sj_up_n (nS j s), sj_up_n (nS j s)]
    exact h
theorem sj_addJ {post : Int32 → St1 → Prop} {c0 c1 c2 c3 c4 c5 c6 : Int32} {a1 a2 a3 a4 a5 a6 a7 a8 : Nat → Int32} {c r p : Nat} (hSt : sj_St c c0 c1 c2 c3 a1 a2 a3 a4 a5 a6) (hr : r ≤ 9) (hp1 : 1 ≤ p) (hp3 : p ≤ 3)
    (H : ∀ (r : Int32) (c0 c1 c2 c3 c4 c5 c6 : Int32) (a1 a2 a3 a4 a5 a6 a7 a8 : Nat → Int32), sj_St c c0 c1 c2 c3 a1 a2 a3 a4 a5 a6 → post r (c0, c1, c2, c3, c4, c5, c6, a1, a2, a3, a4, a5, a6, a7, a8)) : wpX_add post (c0, c1, c2, c3, c4, c5, c6, a1, a2, a3, a4, a5, a6, a7, a8) (nI r) (nI p) := by
  refine br_f (nI_pos (by omega)) (pk_lt 9 r (fun z => absurd z (by omega)) (fun _ => pk_lt p 1 (fun z => absurd z (by omega)) (fun _ => pk_le p 3 (fun _ => ?_) (fun z => absurd z (by omega)))))
  exact sj_enter (k := 0) (d := 0) hSt hr hp1 hp3 (by omega) (by omega) H
theorem sj_addR {post : Int32 → St1 → Prop} {c0 c1 c2 c3 c4 c5 c6 : Int32} {a1 a2 a3 a4 a5 a6 a7 a8 : Nat → Int32} {c p k d : Nat} (hSt : sj_St c c0 c1 c2 c3 a1 a2 a3 a4 a5 a6) (hp1 : 1 ≤ p) (hp3 : p ≤ 3) (hk : k ≤ 3) (hd : d < 32)
    (H : ∀ (r : Int32) (c0 c1 c2 c3 c4 c5 c6 : Int32) (a1 a2 a3 a4 a5 a6 a7 a8 : Nat → Int32), sj_St c c0 c1 c2 c3 a1 a2 a3 a4 a5 a6 → post r (c0, c1, c2, c3, c4, c5, c6, a1, a2, a3, a4, a5, a6, a7, a8)) : wpX_addRuled post (c0, c1, c2, c3, c4, c5, c6, a1, a2, a3, a4, a5, a6, a7, a8) (nI p) (nI k) (nI d) := by
  refine pk_lt p 1 (fun z => absurd z (by omega)) (fun _ => pk_lt 3 p (fun z => absurd z (by omega)) (fun _ => br_f (nI_pos (by omega)) (pk_lt 3 k (fun z => absurd z (by omega)) (fun _ => br_f (nI_pos (by omega)) (pk_le d 30 (fun z => ?_) (fun _ => H _ c0 c1 c2 c3 c4 c5 c6 a1 a2 a3 a4 a5 a6 a7 a8 hSt))))))
  exact sj_enter (r := 0) hSt (by omega) hp1 hp3 hk z H
theorem sj_unlink {post : Int32 → St1 → Prop} {c0 c1 c2 c3 c4 c5 c6 : Int32} {a1 a2 a3 a4 a5 a6 a7 a8 : Nat → Int32} {c i j : Nat} (hSt : sj_St c c0 c1 c2 c3 a1 a2 a3 a4 a5 a6) (hi : i < 8) (hj : j < 8)
    (H : ∀ (r : Int32) (c0 c1 c2 c3 c4 c5 c6 : Int32) (a1 a2 a3 a4 a5 a6 a7 a8 : Nat → Int32), sj_St c c0 c1 c2 c3 a1 a2 a3 a4 a5 a6 → post r (c0, c1, c2, c3, c4, c5, c6, a1, a2, a3, a4, a5, a6, a7, a8)) : wpX_unlink post (c0, c1, c2, c3, c4, c5, c6, a1, a2, a3, a4, a5, a6, a7, a8) (nI i) (nI j) := by
  have same : ∀ r, post r (c0, c1, c2, c3, c4, c5, c6, a1, a2, a3, a4, a5, a6, a7, a8) := fun r => H r c0 c1 c2 c3 c4 c5 c6 a1 a2 a3 a4 a5 a6 a7 a8 hSt
  obtain ⟨n, S, rel, len, kd, du, wt, fl, rk, hI⟩ := hSt
  unfold wpX_unlink
  refine sj_linked hI hi hj (fun hi5 hj5 si sj hl => br_f (by decide) ?_) (fun _ => br_t rfl (same _))
  have i5 : vp_in (nI i) 5 := vp_in_nI hi5 (by omega)
  have cl : (nI i).toNatClampNeg = i := nI_clamp (by omega)
  have hP := hI.2.2.2.2.1.1
  have e2 := hI.2.2.1.1
  subst e2
  obtain ⟨e6, b6⟩ := (hP i hi5).2.2.2.2.2
  have hdl := sj_del_l (fl i) b6 j hj5
  refine ⟨i5, i5, nm_r (e' := upd a6 i (nI (sj_del (fl i) j))) (by rw [cl, e6, sj_del_e (fl i) b6 j hj5, sj_nar _ (by omega)]) (H _ _ _ _ _ _ _ _ _ _ _ _ _ _ _ _ ?_)⟩
  refine ⟨n, S, rel, len, kd, du, wt, sj_up fl i (sj_del (fl i) j), rk, sj_I_less hI hI.2.2.2.2.1.2.1 (fun _ s => s) (fun a ha => ⟨sj_up_a (hP a ha).2.2.2.2.2.1, Nat.lt_succ_of_le (sj_up_le (b := 31) (Nat.le_of_lt_succ (hP a ha).2.2.2.2.2.2) (by omega))⟩) (fun a b ha hb f => ?_)⟩
  have g : (fl a).testBit b = true := by
    by_cases e : a = i
    · rw [e, sj_up_s] at f
      rw [e]
      exact ((sj_del_b (fl i) b6 j hj5 b hb).mp f).1
    · rw [sj_up_n e] at f
      exact f
  exact ⟨g, hI.2.2.2.2.2.1 a b ha hb g⟩
theorem sj_rm33 {post : Int32 → St1 → Prop} {c0 c1 c2 c3 c4 c5 c6 : Int32} {a1 a2 a3 a4 a5 a6 a7 a8 : Nat → Int32} {f : Nat → Nat} {i : Nat} (hi : i < 5) (h6 : ∀ j, j < 5 → a6 j = nI (f j) ∧ f j < 32) (H : ∀ a6', (∀ j, j < 5 → a6' j = nI (sj_del (f j) i)) → post 1 (c0, c1, c2, c3, c4, c5, c6, a1, a2, a3, a4, a5, a6', a7, a8)) : ∃ m, wX_remove_33 post (nI i) c0 c1 c2 c3 c4 c5 c6 m 0 a1 a2 a3 a4 a5 a6 a7 a8 := by
  refine pk_loop (fun m k s => wX_remove_33 post (nI i) c0 c1 c2 c3 c4 c5 c6 m (nI k) a1 a2 a3 a4 a5 s a7 a8) (fun k s => (∀ j, j < 5 → j < k → s j = nI (sj_del (f j) i)) ∧ ∀ j, j < 5 → k ≤ j → s j = nI (f j)) 5 0 a6 (by omega) ⟨fun j _ hj => absurd hj (by omega), fun j hj _ => (h6 j hj).1⟩ (fun m s h => ?_) (fun m k s hk h hw => ?_)
  · exact pk_le 5 5 (fun _ => H s (fun j hj => h.1 j hj hj)) (fun z => absurd z (by omega))
  · have cl : (nI k).toNatClampNeg = k := nI_clamp (by omega)
    have b6 := (h6 k hk).2
    have hdl := sj_del_l (f k) b6 i hi
    refine pk_le 5 k (fun z => absurd z (by omega)) (fun _ => ⟨pk_in k 5 hk, pk_in k 5 hk, nm_r (e' := upd s k (nI (sj_del (f k) i))) ?_ (nm_r (nI_1 k) (hw _ ⟨fun j hj jk => ?_, fun j hj jk => ?_⟩))⟩)
    · rw [cl, h.2 k hk (Nat.le_refl k), sj_del_e (f k) b6 i hi, sj_nar _ (by omega)]
    · by_cases e : j = k
      · rw [e, pk_us]
      · rw [pk_un e]
        exact h.1 j hj (by omega)
    · rw [pk_un (by omega)]
      exact h.2 j hj (by omega)
theorem sj_remove {post : Int32 → St1 → Prop} {c0 c1 c2 c3 c4 c5 c6 : Int32} {a1 a2 a3 a4 a5 a6 a7 a8 : Nat → Int32} {c i : Nat} (hSt : sj_St c c0 c1 c2 c3 a1 a2 a3 a4 a5 a6) (hi : i < 8)
    (H : ∀ (r : Int32) (c0 c1 c2 c3 c4 c5 c6 : Int32) (a1 a2 a3 a4 a5 a6 a7 a8 : Nat → Int32), sj_St c c0 c1 c2 c3 a1 a2 a3 a4 a5 a6 → post r (c0, c1, c2, c3, c4, c5, c6, a1, a2, a3, a4, a5, a6, a7, a8)) : wpX_remove post (c0, c1, c2, c3, c4, c5, c6, a1, a2, a3, a4, a5, a6, a7, a8) (nI i) := by
  have same : ∀ r, post r (c0, c1, c2, c3, c4, c5, c6, a1, a2, a3, a4, a5, a6, a7, a8) := fun r => H r c0 c1 c2 c3 c4 c5 c6 a1 a2 a3 a4 a5 a6 a7 a8 hSt
  obtain ⟨n, S, rel, len, kd, du, wt, fl, rk, hI⟩ := hSt
  unfold wpX_remove
  refine sj_holds hI hi (fun hi5 si => br_f (by decide) ?_) (fun _ => br_t rfl (same _))
  have i5 : vp_in (nI i) 5 := vp_in_nI hi5 (by omega)
  have cl : (nI i).toNatClampNeg = i := nI_clamp (by omega)
  have hP := hI.2.2.2.2.1.1
  have hS := hI.2.2.2.2.1.2.1
  have e2 := hI.2.2.1.1
  subst e2
  have hal := sj_del_l S hS i hi5
  have hab := sj_del_b S hS i hi5
  have hup : ∀ j, j < 5 → sj_up fl i 0 j < 32 := fun j hj => Nat.lt_succ_of_le (sj_up_le (b := 31) (Nat.le_of_lt_succ (hP j hj).2.2.2.2.2.2) (by omega))
  refine nm_r (sj_del_e S hS i hi5) ⟨i5, nm_r (e' := upd a6 i (nI 0)) (by rw [cl, nI_0]) ?_⟩
  refine sj_rm33 (f := sj_up fl i 0) hi5 (fun j hj => ⟨sj_up_a (hP j hj).2.2.2.2.2.1, hup j hj⟩) (fun a6' h6 => H _ _ _ _ _ _ _ _ _ _ _ _ _ _ _ _ ?_)
  refine ⟨n, sj_del S i, rel, len, kd, du, wt, fun j => sj_del (sj_up fl i 0 j) i, rk, sj_I_less hI hal (fun j s => ((hab j (sj_hi hal s)).mp s).1) (fun j hj => ⟨h6 j hj, sj_del_l _ (hup j hj) i hi5⟩) (fun a b ha hb f => ?_)⟩
  have g := (sj_del_b _ (hup a ha) i hi5 b hb).mp f
  have ai : a ≠ i := fun q => by
    have g1 := g.1
    rw [q, sj_up_s] at g1
    exact sj_eq0 rfl b g1
  have g1 := g.1
  rw [sj_up_n ai] at g1
  have q := hI.2.2.2.2.2.1 a b ha hb g1
  exact ⟨g1, (hab a ha).mpr ⟨q.1, ai⟩, (hab b hb).mpr ⟨q.2, g.2⟩⟩
theorem sj_re14 {post : Int32 → Prop} {J : Int32 → Int32 → Prop} {c0 c1 c2 c3 c4 c5 c6 : Int32} {a1 a2 a3 a4 a5 a6 a7 a8 : Nat → Int32} {fl : Nat → Nat} {m k : Nat} (h6 : ∀ i, i < 5 → a6 i = nI (fl i) ∧ fl i < 32) (hm : m < 32)
    (H : ∀ m', m' < 32 → (∀ b, b < 5 → m.testBit b = true → m'.testBit b = true) → (∀ a b, a < 5 → b < 5 → m.testBit a = true → (fl a).testBit b = true → m'.testBit b = true) →
      ((∀ a b, a < 5 → b < 5 → m.testBit a = true → (fl a).testBit b = true → m.testBit b = true) → ∀ b, b < 5 → m'.testBit b = true → m.testBit b = true) → J (nI m') (nI (k + 1))) : ∃ n, wX_reachable_14 post J (nI k) c0 c1 c2 c3 c4 c5 c6 a1 a2 a3 a4 a5 a6 a7 a8 n (nI m) 0 := by
  refine pk_loop (fun n a s => wX_reachable_14 post J (nI k) c0 c1 c2 c3 c4 c5 c6 a1 a2 a3 a4 a5 a6 a7 a8 n s (nI a)) (fun i s => ∃ m', m' < 32 ∧ s = nI m' ∧ (∀ b, b < 5 → m.testBit b = true → m'.testBit b = true) ∧ (∀ a b, a < i → b < 5 → m.testBit a = true → (fl a).testBit b = true → m'.testBit b = true) ∧
      ((∀ a b, a < 5 → b < 5 → m.testBit a = true → (fl a).testBit b = true → m.testBit b = true) → ∀ b, b < 5 → m'.testBit b = true → m.testBit b = true)) 5 0 (nI m) (by omega) ⟨m, hm, rfl, fun _ _ h => h, fun a b ha => absurd ha (by omega), fun _ _ _ h => h⟩ (fun n s h => ?_) (fun n i s hi h hw => ?_)
  · obtain ⟨m', hm', e, g1, g2, g3⟩ := h
    subst e
    exact pk_le 5 5 (fun _ => nm_r (nI_1 k) (H m' hm' g1 g2 g3)) (fun z => absurd z (by omega))
  · obtain ⟨m', hm', e, g1, g2, g3⟩ := h
    subst e
    obtain ⟨e6, b6⟩ := h6 i hi
    have hob := sj_or_b m' hm' (fl i) b6
    refine pk_le 5 i (fun z => absurd z (by omega)) (fun _ => sj_bitW m' i hm' hi (fun nb => nm_r (nI_1 i) (hw _ ⟨m', hm', rfl, g1, fun a b ha hb ma f => ?_, g3⟩)) (fun bi => ⟨pk_in i 5 hi, nm_r (e' := nI (m' ||| fl i)) ?_ (nm_r (nI_1 i) (hw _ ⟨m' ||| fl i, sj_or_l m' hm' (fl i) b6, rfl, fun b hb mb => (hob b hb).mpr (Or.inl (g1 b hb mb)), fun a b ha hb ma f => ?_, fun hcl b hb q => ?_⟩))⟩))
    · by_cases e : a = i
      · rw [e] at ma
        exact absurd (g1 i hi ma) nb
      · exact g2 a b (by omega) hb ma f
    · rw [nI_clamp (by omega), e6]
      exact sj_or_e m' hm' (fl i) b6
    · by_cases e : a = i
      · rw [e] at f
        exact (hob b hb).mpr (Or.inr f)
      · exact (hob b hb).mpr (Or.inl (g2 a b (by omega) hb ma f))
    · rcases (hob b hb).mp q with q | q
      · exact g3 hcl b hb q
      · exact hcl i b hi hb (g3 hcl i hi bi) q
theorem sj_reach {post : Int32 → Prop} {c0 c1 c2 c3 c4 c5 c6 : Int32} {a1 a2 a3 a4 a5 a6 a7 a8 : Nat → Int32} {fl : Nat → Nat} {j : Nat} (h6 : ∀ i, i < 5 → a6 i = nI (fl i) ∧ fl i < 32) (hj : j < 5)
    (H : ∀ R, R < 32 → R.testBit j = true → (∀ a b, a < 5 → b < 5 → R.testBit a = true → (fl a).testBit b = true → R.testBit b = true) → post (nI R)) : wpX_reachable post (c0, c1, c2, c3, c4, c5, c6, a1, a2, a3, a4, a5, a6, a7, a8) (nI j) := by
  have h1 := sj_one_b j hj
  refine nm_r (sj_one_e j hj) ?_
  refine pk_loop (fun n k s => wX_reachable_6 post c0 c1 c2 c3 c4 c5 c6 a1 a2 a3 a4 a5 a6 a7 a8 n s (nI k)) (fun k s => ∃ m, m < 32 ∧ s = nI m ∧ m.testBit j = true ∧ ((∀ a b, a < 5 → b < 5 → m.testBit a = true → (fl a).testBit b = true → m.testBit b = true) ∨ k + 1 ≤ sj_pop m.testBit)) 5 0 (nI (1 <<< j)) (by omega) ⟨1 <<< j, h1.1, rfl, (h1.2 j hj).mpr rfl, Or.inr (sj_pop_pos hj ((h1.2 j hj).mpr rfl))⟩ (fun n s h => ?_) (fun n k s hk h hw => ?_)
  · obtain ⟨m, hm, e, mj, hc⟩ := h
    subst e
    refine pk_le 5 5 (fun _ => H m hm mj ?_) (fun z => absurd z (by omega))
    rcases hc with hc | hc
    · exact hc
    · have := sj_pop_5 m.testBit
      omega
  · obtain ⟨m, hm, e, mj, hc⟩ := h
    subst e
    refine pk_le 5 k (fun z => absurd z (by omega)) (fun _ => sj_re14 h6 hm (fun m' hm' g1 g2 g3 => hw (nI m') ⟨m', hm', rfl, g1 j hj mj, ?_⟩))
    rcases hc with hc | hc
    · exact Or.inl (fun a b ha hb ma f => g1 b hb (hc a b ha hb (g3 hc a ha ma) f))
    · by_cases q : ∃ b, b < 5 ∧ m'.testBit b = true ∧ ¬ m.testBit b = true
      · obtain ⟨b, hb, b1, b2⟩ := q
        have := sj_pop_lt hb g1 b1 b2
        exact Or.inr (by omega)
      · refine Or.inl (fun a b ha hb ma f => g2 a b ha hb ?_ f)
        by_cases z : m.testBit a = true
        · exact z
        · exact absurd ⟨a, ha, ma, z⟩ q
theorem sj_link {post : Int32 → St1 → Prop} {c0 c1 c2 c3 c4 c5 c6 : Int32} {a1 a2 a3 a4 a5 a6 a7 a8 : Nat → Int32} {c i j : Nat} (hSt : sj_St c c0 c1 c2 c3 a1 a2 a3 a4 a5 a6) (hi : i < 8) (hj : j < 8)
    (H : ∀ (r : Int32) (c0 c1 c2 c3 c4 c5 c6 : Int32) (a1 a2 a3 a4 a5 a6 a7 a8 : Nat → Int32), sj_St c c0 c1 c2 c3 a1 a2 a3 a4 a5 a6 → post r (c0, c1, c2, c3, c4, c5, c6, a1, a2, a3, a4, a5, a6, a7, a8)) : wpX_link post (c0, c1, c2, c3, c4, c5, c6, a1, a2, a3, a4, a5, a6, a7, a8) (nI i) (nI j) := by
  have same : ∀ r, post r (c0, c1, c2, c3, c4, c5, c6, a1, a2, a3, a4, a5, a6, a7, a8) := fun r => H r c0 c1 c2 c3 c4 c5 c6 a1 a2 a3 a4 a5 a6 a7 a8 hSt
  obtain ⟨n, S, rel, len, kd, du, wt, fl, rk, hI⟩ := hSt
  unfold wpX_link
  refine sj_holds hI hi (fun hi5 si => br_f (by decide) ?_) (fun _ => br_t rfl (same _))
  refine sj_holds hI hj (fun hj5 sj => br_f (by decide) ?_) (fun _ => br_t rfl (same _))
  refine pk_eq i j (fun _ => same _) (fun hij => ?_)
  refine sj_linked hI hi hj (fun _ _ _ _ _ => br_f (by decide) (same _)) (fun hnl => br_t rfl ?_)
  obtain ⟨h0, ⟨e1, hc⟩, ⟨e2, hSn⟩, e3, ⟨hP, hS, hpos, hr5, hac⟩, hl, hp⟩ := hI
  subst e3
  subst e2
  have nl : ¬ (fl i).testBit j = true := hnl hi5 hj5
  have i5 : vp_in (nI i) 5 := vp_in_nI hi5 (by omega)
  have cl : (nI i).toNatClampNeg = i := nI_clamp (by omega)
  obtain ⟨e6, b6⟩ := (hP i hi5).2.2.2.2.2
  have hal := sj_add_l (fl i) b6 j hj5
  have hab := sj_add_b (fl i) b6 j hj5
  refine sj_reach (fun a ha => (hP a ha).2.2.2.2.2) hj5 (fun R hR Rj hcl => sj_bitW R i hR hi5 (fun nRi => ?_) (fun _ => same _))
  refine ⟨i5, i5, nm_r (e' := upd a6 i (nI (sj_add (fl i) j))) (by rw [cl, e6, sj_add_e (fl i) b6 j hj5, sj_nar _ (by omega)]) ?_⟩
  have hf : ∀ a b, a < 5 → b < 5 → ((sj_up fl i (sj_add (fl i) j)) a).testBit b = true → ((fl a).testBit b = true ∨ (a = i ∧ b = j)) := fun a b ha hb f => by
    by_cases e : a = i
    · rw [e, sj_up_s] at f
      rcases (hab b hb).mp f with q | q
      · exact Or.inl (by rw [e]; exact q)
      · exact Or.inr ⟨e, q⟩
    · rw [sj_up_n e] at f
      exact Or.inl f
  obtain ⟨rk', hr5', hac'⟩ := sj_rank_add (fol := sj_fol fl) (fol' := sj_fol (sj_up fl i (sj_add (fl i) j))) (R := R.testBit) hr5 hac hi5 hj5 hcl Rj nRi hf
  have hP' : sj_P rel len kd du wt (sj_up fl i (sj_add (fl i) j)) a1 a2 a3 a4 a5 (upd a6 i (nI (sj_add (fl i) j))) := sj_P_fl hP (fun a ha => ⟨sj_up_a (hP a ha).2.2.2.2.2.1, Nat.lt_succ_of_le (sj_up_le (b := 31) (Nat.le_of_lt_succ (hP a ha).2.2.2.2.2.2) (by omega))⟩)
  refine sj_wc ⟨hP', hS, hpos, hr5', hac'⟩ e1 hc rfl (fun c5' c6' a7' a8' hpl => br_f (by decide) (H _ _ _ _ _ _ _ _ _ _ _ _ _ _ _ _ ?_)) (fun c5' c6' a7' a8' _ => br_t rfl ⟨i5, i5, nm_r (e' := upd (upd a6 i (nI (sj_add (fl i) j))) i (nI (fl i))) ?_ (H _ _ _ _ _ _ _ _ _ _ _ _ _ _ _ _ ?_)⟩)
  · refine ⟨n, S, rel, len, kd, du, wt, _, rk', h0, ⟨e1, hc⟩, ⟨rfl, hSn⟩, rfl, ⟨hP', hS, hpos, hr5', hac'⟩, fun a b ha hb f => ?_, sj_Plan_free.mp hpl⟩
    rcases hf a b ha hb f with q | ⟨q1, q2⟩
    · exact hl a b ha hb q
    · rw [q1, q2]
      exact ⟨si, sj⟩
  · rw [cl, pk_us, sj_del_e _ hal j hj5, sj_addel (fl i) b6 j hj5 nl, sj_nar _ (by omega)]
  · exact ⟨n, S, rel, len, kd, du, wt, fl, rk, h0, ⟨e1, hc⟩, ⟨rfl, hSn⟩, rfl, ⟨sj_P_fl hP (fun a ha => ⟨sj_back (hP a ha).2.2.2.2.2.1, (hP a ha).2.2.2.2.2.2⟩), hS, hpos, hr5, hac⟩, hl, hp⟩
end
section
theorem sj_turn {post : St1 → Prop} {c0 c1 c2 c3 c4 c5 c6 : Int32} {a1 a2 a3 a4 a5 a6 a7 a8 : Nat → Int32} {c w : Nat} (hSt : sj_St c c0 c1 c2 c3 a1 a2 a3 a4 a5 a6) (p2 p3 : Int32) (hw : w < 16)
    (H : ∀ (c0 c1 c2 c3 c4 c5 c6 : Int32) (a1 a2 a3 a4 a5 a6 a7 a8 : Nat → Int32), sj_St c c0 c1 c2 c3 a1 a2 a3 a4 a5 a6 → post (c0, c1, c2, c3, c4, c5, c6, a1, a2, a3, a4, a5, a6, a7, a8)) : wpL_turn post (c0, c1, c2, c3, c4, c5, c6, a1, a2, a3, a4, a5, a6, a7, a8) (nI w) p2 p3 := by
  obtain ⟨x, hx, ex⟩ := pk_andE p2 (m := 65535) 16 (by decide)
  obtain ⟨y, hy, ey⟩ := pk_andE p3 (m := 65535) 16 (by decide)
  obtain ⟨d, hd, ed⟩ := pk_andE (p2 >>> ((4 : Int32) &&& 31)) (m := 31) 5 (by decide)
  obtain ⟨i, hi, ei⟩ := pk_andE p3 (m := 7) 3 (by decide)
  obtain ⟨j, hj, ej⟩ := pk_andE (p3 >>> ((3 : Int32) &&& 31)) (m := 7) 3 (by decide)
  obtain ⟨k, hk, ek⟩ := pk_andE p3 (m := 3) 2 (by decide)
  obtain ⟨v, hv, ev⟩ := pk_andE (p2 >>> ((9 : Int32) &&& 31)) (m := 3) 2 (by decide)
  have e4 : 1 + ((p2 &&& 65535) - (p2 &&& 65535) / 3 * 3) = nI (1 + x % 3) := by
    rw [ex]
    have q : nI x - nI x / nI 3 * nI 3 = nI (x % 3) := pk_rem (by omega) (by omega) (by omega)
    have q' : nI x - nI x / 3 * 3 = nI (x % 3) := q
    rw [q']
    exact nI_add 1 (x % 3)
  have e5 : (p3 &&& 65535) - (p3 &&& 65535) / 10 * 10 = nI (y % 10) := by
    rw [ey]
    exact pk_rem (d := 10) (by omega) (by omega) (by omega)
  have ev' : 1 + ((p2 >>> ((9 : Int32) &&& 31)) &&& 3) = nI (1 + v) := by
    rw [ev]
    exact nI_add 1 v
  have H' : ∀ (r : Int32) (c0 c1 c2 c3 c4 c5 c6 : Int32) (a1 a2 a3 a4 a5 a6 a7 a8 : Nat → Int32), sj_St c c0 c1 c2 c3 a1 a2 a3 a4 a5 a6 → post (c0, c1, c2, c3, c4, c5, c6, a1, a2, a3, a4, a5, a6, a7, a8) := fun _ => H
  refine ⟨by decide, nm_r e4 ⟨by decide, nm_r e5 (nm_r ed (nm_r ei (nm_r ej ?_)))⟩⟩
  refine pk_le 5 w (fun _ => pk_le 7 w (fun _ => pk_le 10 w (fun _ => pk_le 13 w (fun _ => pk_le 15 w (fun _ => ?_) (fun _ => ?_)) (fun _ => ?_)) (fun _ => ?_)) (fun _ => ?_)) (fun _ => ?_)
  · exact sj_remove hSt (by omega) H'
  · exact sj_unlink hSt (by omega) (by omega) H'
  · exact sj_link hSt (by omega) (by omega) H'
  · rw [ek, ev']
    exact sj_setRule hSt (by omega) (by omega) (by omega) (by omega) (by omega) H'
  · rw [ek]
    exact sj_addR hSt (by omega) (by omega) (by omega) (by omega) H'
  · exact sj_addJ hSt (by omega) (by omega) (by omega) H'
theorem sj_law47 {xs : Nat → Int32} {L c kc ks : Nat} (hL : L ≤ 260) : ∀ (m k : Nat) (c0 c1 c2 c3 c4 c5 c6 : Int32) (a1 a2 a3 a4 a5 a6 a7 a8 : Nat → Int32), k ≤ 300 → L - k < m → sj_St c c0 c1 c2 c3 a1 a2 a3 a4 a5 a6 → wL_law_47 (fun r => r = 1) L xs (nI c) kc ks m (nI k) c0 c1 c2 c3 c4 c5 c6 a1 a2 a3 a4 a5 a6 a7 a8 := by
  intro m
  induction m with
  | zero =>
    intro k c0 c1 c2 c3 c4 c5 c6 a1 a2 a3 a4 a5 a6 a7 a8 _ h
    omega
  | succ m ih =>
    intro k c0 c1 c2 c3 c4 c5 c6 a1 a2 a3 a4 a5 a6 a7 a8 hk hm hSt
    have e1 : nI k + 1 = nI (k + 1) := nI_add k 1
    have e2 : nI k + 2 = nI (k + 2) := nI_add k 2
    have e3 : nI k + 3 = nI (k + 3) := nI_add k 3
    refine pk_le L (k + 2) (fun z => ?_) (fun z => ?_) rfl e2
    · obtain ⟨n, S, rel, len, kd, du, wt, fl, rk, hI⟩ := hSt
      exact sj_links hI (fun _ _ _ _ _ => rfl)
    · obtain ⟨w, hw, ew⟩ := pk_andE (xs (nI k).toNatClampNeg) (m := 15) 4 (by decide)
      refine ⟨pk_in k L (by omega), pk_in (k + 1) L (by omega) e1, pk_in (k + 2) L (by omega) e2, ?_⟩
      rw [ew]
      refine sj_turn hSt _ _ (by omega) (fun c0 c1 c2 c3 c4 c5 c6 a1 a2 a3 a4 a5 a6 a7 a8 hSt' => ?_)
      obtain ⟨n, S, rel, len, kd, du, wt, fl, rk, hI⟩ := hSt'
      exact sj_costs hI (fun c4' c5' c6' a7' a8' => br_f (by decide) (nm_r e3 (ih (k + 3) _ _ _ _ _ _ _ _ _ _ _ _ _ _ _ (by omega) (by omega) ⟨n, S, rel, len, kd, du, wt, fl, rk, sj_I_T hI⟩)))
theorem sj_law33 {xs : Nat → Int32} {L c z : Nat} (hL : L ≤ 260) (hc : c ≤ 127) (hz : 1 ≤ z) (hz7 : z ≤ 7) : wL_law_33 (fun r => r = 1) L xs (nI c) (nI z) 0 0 := by
  have fin : ∀ z', z' ≤ 5 → ∃ fu, wL_law_47 (fun r => r = 1) L xs (nI c) (0 + 1 + 8) (0 + 15 + 51) fu 2 (nI z') (nI c) 0 (-1) 0 0 0 (fun _ => 0) (fun _ => 0) (fun _ => 0) (fun _ => 0) (fun _ => 0) (fun _ => 0) (fun _ => 0) (fun _ => 0) := fun z' hz' =>
    ⟨L + 1, sj_law47 hL (L + 1) 2 _ _ _ _ _ _ _ _ _ _ _ _ _ _ _ (by omega) (by omega)
      ⟨z', 0, fun _ => 0, fun _ => 0, fun _ => 0, fun _ => 0, fun _ => 0, fun _ => 0, fun _ => 0, ⟨rfl, hz'⟩, ⟨rfl, hc⟩, ⟨rfl, fun j h => absurd h (sj_eq0 rfl j)⟩, rfl,
        ⟨fun j _ => ⟨⟨rfl, Nat.zero_le 9⟩, ⟨rfl, Nat.zero_le 3⟩, ⟨rfl, Nat.zero_le 3⟩, ⟨rfl, Nat.zero_le 30⟩, ⟨rfl, Nat.zero_le 5⟩, ⟨rfl, Nat.zero_lt_succ 31⟩⟩, by omega, fun j _ h => absurd h (sj_eq0 rfl j), fun _ _ => Nat.zero_lt_succ 4, fun _ j _ _ h => absurd h (sj_eq0 rfl j)⟩,
        fun _ j _ _ h => absurd h (sj_eq0 rfl j), sj_Plan_0 (fun j _ => sj_eq0 rfl j)⟩⟩
  have e200 : (-200 : Int32) = sj_iV (-200) := by decide +kernel
  have mid : ∀ z', z' ≤ 5 → wX_init_86 (fun u => match u with | (c0, c1, c2, c3, c4, c5, c6, a1, a2, a3, a4, a5, a6, a7, a8) => ∃ fu : Nat, wL_law_47 (fun r => r = 1) L xs (nI c) (0 + 1 + 8) (0 + 15 + 51) fu 2 c0 c1 c2 c3 c4 c5 c6 a1 a2 a3 a4 a5 a6 a7 a8) 8 51 (nI c) (nI z') 8 51 0 0 0 (-1) 0 0 0 (fun _ => 0) (fun _ => 0) (fun _ => 0) (fun _ => 0) (fun _ => 0) (fun _ => 0) (fun _ => 0) (fun _ => 0) := fun z' hz' => by
    unfold wX_init_86
    exact sj_vle (-200) (c : Int) (fun _ => pk_le c 1000 (fun _ => fin z' hz') (fun q => absurd q (by omega))) (fun q => absurd q (by omega)) e200 (sj_iV_n c) (by omega) (by omega) (by omega) (by omega)
  refine ⟨by omega, by omega, 8, 51, by omega, by omega, ?_⟩
  refine ⟨by omega, by omega, by omega, by omega, by omega, by omega, by omega, by omega, by omega, by omega, by omega, by omega, by omega, by omega, by omega, by omega, ?_⟩
  exact pk_le 1 z (fun _ => pk_le z 5 (fun h => mid z h) (fun _ => mid 5 (by omega))) (fun q => absurd q (by omega))
theorem sj_law15 {xs : Nat → Int32} {L c : Nat} (hL : L ≤ 260) (hc : c ≤ 127) : wL_law_15 (fun r => r = 1) L xs (nI c) 0 0 := by
  obtain ⟨v, hv, ev⟩ := pk_andE (xs (1 : Int32).toNatClampNeg) (m := 3) 2 (by decide)
  have ev' : 3 + ((xs (1 : Int32).toNatClampNeg) &&& 3) = nI (3 + v) := by
    rw [ev]
    exact nI_add 3 v
  refine pk_le L 1 (fun _ => sj_law33 (z := 5) hL hc (by omega) (by omega)) (fun z => ⟨pk_in 1 L z, ?_⟩)
  rw [ev']
  exact sj_law33 hL hc (by omega) (by omega)
theorem i_vc (xs : Nat → Int32) (L : Nat) (hL : L ≤ 260) : wpL_law (fun r => r = 1) L xs := by
  obtain ⟨v, hv, ev⟩ := pk_andE (xs (0 : Int32).toNatClampNeg) (m := 127) 7 (by decide)
  refine pk_le L 0 (fun _ => sj_law15 (c := 0) hL (by omega)) (fun z => ⟨pk_in 0 L z, ?_⟩)
  rw [ev]
  exact sj_law15 hL (by omega)
end
