section
/-- how many v below k have P -/
def tg_N (P : Nat → Bool) : Nat → Nat
  | 0 => 0
  | k + 1 => tg_N P k + (if P k = true then 1 else 0)
theorem tg_N_s (P : Nat → Bool) (k : Nat) : tg_N P (k + 1) = tg_N P k + (if P k = true then 1 else 0) := rfl
theorem tg_N_t {P : Nat → Bool} {k : Nat} (h : P k = true) : tg_N P (k + 1) = tg_N P k + 1 := by
  rw [tg_N_s, if_pos h]
theorem tg_N_f {P : Nat → Bool} {k : Nat} (h : ¬ P k = true) : tg_N P (k + 1) = tg_N P k := by
  rw [tg_N_s, if_neg h, Nat.add_zero]
theorem tg_N_le (P : Nat → Bool) : ∀ k, tg_N P k ≤ k := by
  intro k
  induction k with
  | zero => exact Nat.le_refl 0
  | succ k ih =>
    by_cases h : P k = true
    · rw [tg_N_t h]; omega
    · rw [tg_N_f h]; omega
theorem tg_N_mono {P Q : Nat → Bool} : ∀ k, (∀ v, v < k → P v = true → Q v = true) → tg_N P k ≤ tg_N Q k := by
  intro k
  induction k with
  | zero => intro _; exact Nat.le_refl 0
  | succ k ih =>
    intro h
    have i := ih (fun v hv => h v (by omega))
    by_cases hp : P k = true
    · rw [tg_N_t hp, tg_N_t (h k (by omega) hp)]; omega
    · rw [tg_N_f hp]
      by_cases hq : Q k = true
      · rw [tg_N_t hq]; omega
      · rw [tg_N_f hq]; omega
theorem tg_N_cg {P Q : Nat → Bool} {k : Nat} (h : ∀ v, v < k → (P v = true ↔ Q v = true)) : tg_N P k = tg_N Q k :=
  Nat.le_antisymm (tg_N_mono k (fun v hv => (h v hv).mp)) (tg_N_mono k (fun v hv => (h v hv).mpr))
theorem tg_N_0 {P : Nat → Bool} : ∀ {k : Nat}, (∀ v, v < k → ¬ P v = true) → tg_N P k = 0 := by
  intro k
  induction k with
  | zero => intro _; rfl
  | succ k ih =>
    intro h
    rw [tg_N_f (h k (by omega))]
    exact ih (fun v hv => h v (by omega))
/-- one place more -/
theorem tg_N_add {P Q : Nat → Bool} {x : Nat} : ∀ {k : Nat}, x < k → ¬ P x = true → Q x = true → (∀ v, v < k → v ≠ x → (P v = true ↔ Q v = true)) → tg_N Q k = tg_N P k + 1 := by
  intro k
  induction k with
  | zero => intro h; exact absurd h (by omega)
  | succ k ih =>
    intro hx hp hq h
    by_cases e : x = k
    · subst e
      rw [tg_N_t hq, tg_N_f hp, tg_N_cg (P := Q) (Q := P) (fun v hv => (h v (by omega) (by omega)).symm)]
    · have i := ih (by omega) hp hq (fun v hv => h v (by omega))
      by_cases hk : P k = true
      · rw [tg_N_t hk, tg_N_t ((h k (by omega) (by omega)).mp hk), i]
      · rw [tg_N_f hk, tg_N_f (fun z => hk ((h k (by omega) (by omega)).mpr z)), i]
theorem tg_N_lt {P Q : Nat → Bool} {x : Nat} : ∀ {k : Nat}, x < k → ¬ P x = true → Q x = true → (∀ v, v < k → P v = true → Q v = true) → tg_N P k < tg_N Q k := by
  intro k
  induction k with
  | zero => intro h; exact absurd h (by omega)
  | succ k ih =>
    intro hx hp hq h
    by_cases e : x = k
    · subst e
      have m := tg_N_mono (P := P) (Q := Q) x (fun v hv => h v (by omega))
      rw [tg_N_t hq, tg_N_f hp]
      omega
    · have i := ih (by omega) hp hq (fun v hv => h v (by omega))
      by_cases hk : P k = true
      · rw [tg_N_t hk, tg_N_t (h k (by omega) hk)]; omega
      · rw [tg_N_f hk]
        by_cases hk2 : Q k = true
        · rw [tg_N_t hk2]; omega
        · rw [tg_N_f hk2]; omega
theorem tg_N_all : ∀ k, tg_N (fun _ => true) k = k := by
  intro k
  induction k with
  | zero => rfl
  | succ k ih => rw [tg_N_t rfl, ih]
theorem tg_N_ltk {P : Nat → Bool} {x k : Nat} (hx : x < k) (hp : ¬ P x = true) : tg_N P k < k := by
  have h := tg_N_lt (P := P) (Q := fun _ => true) hx hp rfl (fun _ _ _ => rfl)
  rw [tg_N_all] at h
  exact h
theorem tg_N_pos {P : Nat → Bool} : ∀ {k : Nat}, 0 < tg_N P k → ∃ v, v < k ∧ P v = true := by
  intro k
  induction k with
  | zero => intro h; exact absurd h (Nat.lt_irrefl 0)
  | succ k ih =>
    intro h
    by_cases hk : P k = true
    · exact ⟨k, by omega, hk⟩
    · rw [tg_N_f hk] at h
      obtain ⟨v, hv, e⟩ := ih h
      exact ⟨v, by omega, e⟩
theorem tg_N_ex {P : Nat → Bool} {x k : Nat} (hx : x < k) (hp : P x = true) : 0 < tg_N P k := by
  have h := tg_N_lt (P := fun _ => false) (Q := P) hx (fun z => absurd z (by decide)) hp (fun _ _ z => absurd z (by decide))
  omega
theorem tg_N_two {P : Nat → Bool} {x y k : Nat} (hx : x < k) (hy : y < k) (hxy : x ≠ y) (px : P x = true) (py : P y = true) : 1 < tg_N P k := by
  have h1 : 0 < tg_N (fun v => decide (v = y)) k := tg_N_ex hy (decide_eq_true rfl)
  have h2 := tg_N_lt (P := fun v => decide (v = y)) (Q := P) hx (fun z => hxy (of_decide_eq_true z)) px (fun v _ z => by rw [of_decide_eq_true z]; exact py)
  omega
theorem tg_N_gt1 {P : Nat → Bool} : ∀ {k : Nat}, 1 < tg_N P k → ∃ x y, x < k ∧ y < k ∧ x ≠ y ∧ P x = true ∧ P y = true := by
  intro k
  induction k with
  | zero => intro h; exact absurd h (show ¬ 1 < 0 by omega)
  | succ k ih =>
    intro h
    by_cases hk : P k = true
    · rw [tg_N_t hk] at h
      obtain ⟨v, hv, e⟩ := tg_N_pos (P := P) (k := k) (by omega)
      exact ⟨v, k, by omega, by omega, by omega, e, hk⟩
    · rw [tg_N_f hk] at h
      obtain ⟨x, y, h1, h2, h3, h4, h5⟩ := ih h
      exact ⟨x, y, by omega, by omega, h3, h4, h5⟩
/-- two places changed with each other -/
theorem tg_N_swap {P Q : Nat → Bool} {a b k : Nat} (ha : a < k) (hb : b < k) (hab : P a = Q b) (hba : P b = Q a) (h : ∀ v, v < k → v ≠ a → v ≠ b → P v = Q v) : tg_N P k = tg_N Q k := by
  by_cases e : P a = P b
  · refine tg_N_cg (fun v hv => ?_)
    by_cases e1 : v = a
    · rw [e1, e, hba]
    · by_cases e2 : v = b
      · rw [e2, ← e, hab]
      · rw [h v hv e1 e2]
  · have hne : a ≠ b := fun z => e (by rw [z])
    by_cases pa : P a = true
    · have pb : ¬ P b = true := fun z => e (by rw [pa, z])
      have n1 : tg_N P k = tg_N (fun v => if v = a then false else P v) k + 1 :=
        tg_N_add ha (by rw [if_pos rfl]; decide) pa (fun v _ ne => by rw [if_neg ne])
      have n2 : tg_N Q k = tg_N (fun v => if v = a then false else P v) k + 1 :=
        tg_N_add hb (by rw [if_neg (fun z => hne z.symm)]; exact pb) (by rw [← hab]; exact pa) (fun v hv ne => by
          by_cases e1 : v = a
          · rw [if_pos e1, e1, ← hba]
            exact ⟨fun z => absurd z (by decide), fun z => absurd z pb⟩
          · rw [if_neg e1, h v hv e1 ne])
      rw [n1, n2]
    · have pb : P b = true := by
        cases hb' : P b with
        | true => rfl
        | false => exact absurd (by rw [hb']; cases ha' : P a with
            | true => exact absurd ha' pa
            | false => rfl) e
      have n1 : tg_N P k = tg_N (fun v => if v = b then false else P v) k + 1 :=
        tg_N_add hb (by rw [if_pos rfl]; decide) pb (fun v _ ne => by rw [if_neg ne])
      have n2 : tg_N Q k = tg_N (fun v => if v = b then false else P v) k + 1 :=
        tg_N_add ha (by rw [if_neg hne]; exact pa) (by rw [← hba]; exact pb) (fun v hv ne => by
          by_cases e1 : v = b
          · rw [if_pos e1, e1, ← hab]
            exact ⟨fun z => absurd z (by decide), fun z => absurd z pa⟩
          · rw [if_neg e1, h v hv ne e1])
      rw [n1, n2]
end
section
/-- the labels after a regroup: the least point with the same label and the same mark -/
def tg_R (C : Nat → Nat) (m : Nat → Int64) (F : Nat → Nat) : Prop :=
  ∀ v, v < 14 → F v ≤ v ∧ C (F v) = C v ∧ m (F v) = m v ∧ ∀ u, u ≤ v → C u = C v → m u = m v → F v ≤ u
/-- a label is the least point of its group -/
def tg_Can (C : Nat → Nat) : Prop := ∀ v, v < 14 → C v ≤ v ∧ C (C v) = C v
/-- F is finer than C -/
def tg_Fin (C F : Nat → Nat) : Prop := ∀ u v, u < 14 → v < 14 → F u = F v → C u = C v
abbrev tg_used (n v : Nat) : Prop := (v < 7 ∧ v < n) ∨ (7 ≤ v ∧ v - 7 < n)
/-- a point that is not in use is alone -/
def tg_Iso (n : Nat) (C : Nat → Nat) : Prop := ∀ u v, u < 14 → v < 14 → ¬ tg_used n u → C u = C v → u = v
def tg_cx (n : Nat) (C : Nat → Nat) (c : Nat) : Nat := tg_N (fun v => decide (C v = c)) n
def tg_cy (n : Nat) (C : Nat → Nat) (c : Nat) : Nat := tg_N (fun v => decide (C (7 + v) = c)) n
def tg_Bal (n : Nat) (C : Nat → Nat) : Prop := ∀ c, tg_cx n C c = tg_cy n C c
/-- how many points of x are alone among those of x -/
def tg_sg (n : Nat) (C : Nat → Nat) : Nat := tg_N (fun v => decide (∀ u, u < n → u ≠ v → C u ≠ C v)) n
/-- how many others of group g a point sees in its own graph -/
def tg_K (n : Nat) (C : Nat → Nat) (g v : Nat) : Nat :=
  if 7 ≤ v then tg_N (fun w => decide (7 + w ≠ v ∧ C (7 + w) = g)) n else tg_N (fun w => decide (w ≠ v ∧ C w = g)) n
def tg_sh (n : Nat) (C : Nat → Nat) (x : Nat) : Prop := ∃ u, u < n ∧ u ≠ x ∧ C u = C x

theorem tg_R_eq {C F : Nat → Nat} {m : Nat → Int64} (h : tg_R C m F) {u v : Nat} (hu : u < 14) (hv : v < 14) : F u = F v ↔ C u = C v ∧ m u = m v := by
  obtain ⟨u1, u2, u3, u4⟩ := h u hu
  obtain ⟨v1, v2, v3, v4⟩ := h v hv
  constructor
  · intro e
    exact ⟨by rw [← u2, ← v2, e], by rw [← u3, ← v3, e]⟩
  · intro ⟨e1, e2⟩
    rcases Nat.le_total u v with z | z
    · have q1 : F v ≤ F u := v4 (F u) (by omega) (by rw [u2, e1]) (by rw [u3, e2])
      have q2 : F u ≤ F v := u4 (F v) (by omega) (by rw [v2, e1]) (by rw [v3, e2])
      omega
    · have q1 : F u ≤ F v := u4 (F v) (by omega) (by rw [v2, e1]) (by rw [v3, e2])
      have q2 : F v ≤ F u := v4 (F u) (by omega) (by rw [u2, e1]) (by rw [u3, e2])
      omega
theorem tg_R_can {C F : Nat → Nat} {m : Nat → Int64} (h : tg_R C m F) : tg_Can F := by
  intro v hv
  obtain ⟨v1, v2, v3, v4⟩ := h v hv
  exact ⟨v1, (tg_R_eq h (by omega) hv).mpr ⟨v2, v3⟩⟩
theorem tg_R_fin {C F : Nat → Nat} {m : Nat → Int64} (h : tg_R C m F) : tg_Fin C F := by
  intro u v hu hv e
  exact ((tg_R_eq h hu hv).mp e).1
theorem tg_R_id {C F : Nat → Nat} {m : Nat → Int64} (hc : tg_Can C) (hm : ∀ u v, u < 14 → v < 14 → C u = C v → m u = m v) (h : tg_R C m F) : ∀ v, v < 14 → F v = C v := by
  intro v hv
  obtain ⟨v1, v2, v3, v4⟩ := h v hv
  obtain ⟨c1, c2⟩ := hc v hv
  have q1 : F v ≤ C v := v4 (C v) c1 c2 (hm _ _ (by omega) hv c2)
  have q2 : C (F v) ≤ F v := (hc (F v) (by omega)).1
  omega
theorem tg_fin_r (C : Nat → Nat) : tg_Fin C C := fun _ _ _ _ e => e
theorem tg_fin_t {C D E : Nat → Nat} (h : tg_Fin C D) (k : tg_Fin D E) : tg_Fin C E := fun u v hu hv e => h u v hu hv (k u v hu hv e)
theorem tg_fin_iso {n : Nat} {C F : Nat → Nat} (h : tg_Fin C F) (k : tg_Iso n C) : tg_Iso n F := fun u v hu hv hn e => k u v hu hv hn (h u v hu hv e)
theorem tg_can_cg {C F : Nat → Nat} (e : ∀ v, v < 14 → F v = C v) (h : tg_Can C) : tg_Can F := by
  intro v hv
  obtain ⟨c1, c2⟩ := h v hv
  rw [e v hv, e (C v) (by omega)]
  exact ⟨c1, c2⟩
theorem tg_iso_cg {n : Nat} {C F : Nat → Nat} (e : ∀ v, v < 14 → F v = C v) (h : tg_Iso n C) : tg_Iso n F := by
  intro u v hu hv hn q
  rw [e u hu, e v hv] at q
  exact h u v hu hv hn q
theorem tg_cx_cg {n : Nat} {C F : Nat → Nat} (hn : n ≤ 7) (e : ∀ v, v < 14 → F v = C v) (c : Nat) : tg_cx n F c = tg_cx n C c :=
  tg_N_cg (fun v hv => by rw [e v (by omega)])
theorem tg_cy_cg {n : Nat} {C F : Nat → Nat} (hn : n ≤ 7) (e : ∀ v, v < 14 → F v = C v) (c : Nat) : tg_cy n F c = tg_cy n C c :=
  tg_N_cg (fun v hv => by rw [e (7 + v) (by omega)])
theorem tg_bal_cg {n : Nat} {C F : Nat → Nat} (hn : n ≤ 7) (e : ∀ v, v < 14 → F v = C v) (h : tg_Bal n C) : tg_Bal n F := by
  intro c
  rw [tg_cx_cg hn e, tg_cy_cg hn e]
  exact h c
/-- balance after a regroup -/
theorem tg_bal_R {n : Nat} {C F : Nat → Nat} {m : Nat → Int64} (hn : n ≤ 7) (h : tg_R C m F)
    (hb : ∀ c t, tg_N (fun v => decide (C v = c ∧ m v = t)) n = tg_N (fun w => decide (C (7 + w) = c ∧ m (7 + w) = t)) n) : tg_Bal n F := by
  intro c
  by_cases hq : ∃ q, q < 14 ∧ F q = c
  · obtain ⟨q, hq, rfl⟩ := hq
    have e1 : tg_cx n F (F q) = tg_N (fun v => decide (C v = C q ∧ m v = m q)) n :=
      tg_N_cg (fun v hv => by rw [decide_eq_true_iff, decide_eq_true_iff]; exact tg_R_eq h (by omega) hq)
    have e2 : tg_cy n F (F q) = tg_N (fun w => decide (C (7 + w) = C q ∧ m (7 + w) = m q)) n :=
      tg_N_cg (fun v hv => by rw [decide_eq_true_iff, decide_eq_true_iff]; exact tg_R_eq h (by omega) hq)
    rw [e1, e2]
    exact hb _ _
  · have e1 : tg_cx n F c = 0 := tg_N_0 (fun v hv z => hq ⟨v, by omega, of_decide_eq_true z⟩)
    have e2 : tg_cy n F c = 0 := tg_N_0 (fun v hv z => hq ⟨7 + v, by omega, of_decide_eq_true z⟩)
    rw [e1, e2]
theorem tg_K_x {n : Nat} {C : Nat → Nat} {g v : Nat} (hn : n ≤ 7) (hv : v < n) : tg_K n C g v + (if C v = g then 1 else 0) = tg_cx n C g := by
  unfold tg_K
  rw [if_neg (by omega)]
  by_cases e : C v = g
  · rw [if_pos e]
    exact (tg_N_add hv (fun z => (of_decide_eq_true z).1 rfl) (decide_eq_true e) (fun w _ ne => by
      rw [decide_eq_true_iff, decide_eq_true_iff]; exact ⟨fun z => z.2, fun z => ⟨ne, z⟩⟩)).symm
  · rw [if_neg e]
    exact tg_N_cg (fun w _ => by
      rw [decide_eq_true_iff, decide_eq_true_iff]; exact ⟨fun z => z.2, fun z => ⟨fun q => e (by rw [← q]; exact z), z⟩⟩)
theorem tg_K_y {n : Nat} {C : Nat → Nat} {g v : Nat} (hv : v < n) : tg_K n C g (7 + v) + (if C (7 + v) = g then 1 else 0) = tg_cy n C g := by
  unfold tg_K
  rw [if_pos (by omega)]
  by_cases e : C (7 + v) = g
  · rw [if_pos e]
    exact (tg_N_add hv (fun z => (of_decide_eq_true z).1 rfl) (decide_eq_true e) (fun w _ ne => by
      rw [decide_eq_true_iff, decide_eq_true_iff]; exact ⟨fun z => z.2, fun z => ⟨by omega, z⟩⟩)).symm
  · rw [if_neg e]
    exact tg_N_cg (fun w _ => by
      rw [decide_eq_true_iff, decide_eq_true_iff]; exact ⟨fun z => z.2, fun z => ⟨fun q => e (by rw [← q]; exact z), z⟩⟩)
theorem tg_K_b {n : Nat} {C : Nat → Nat} {g v : Nat} (hn : n ≤ 7) (hb : tg_Bal n C) (hv : tg_used n v) : tg_K n C g v + (if C v = g then 1 else 0) = tg_cx n C g := by
  rcases hv with ⟨_, h⟩ | ⟨h7, h⟩
  · exact tg_K_x hn h
  · obtain ⟨w, rfl⟩ : ∃ w, v = 7 + w := ⟨v - 7, by omega⟩
    rw [hb g]
    exact tg_K_y (by omega)
theorem tg_K_eq {n : Nat} {C : Nat → Nat} {g u v : Nat} (hn : n ≤ 7) (hb : tg_Bal n C) (hu : tg_used n u) (hv : tg_used n v) (e : C u = C v) : tg_K n C g u = tg_K n C g v := by
  have h1 := tg_K_b (g := g) hn hb hu
  have h2 := tg_K_b (g := g) hn hb hv
  rw [e] at h1
  omega
/-- marks by counting split nothing in a balanced state -/
theorem tg_keep {n g : Nat} {C F : Nat → Nat} {m : Nat → Int64} (hn : n ≤ 7) (hc : tg_Can C) (hb : tg_Bal n C) (hi : tg_Iso n C)
    (hm : ∀ v, v < 14 → tg_used n v → m v = lN (tg_K n C g v)) (h : tg_R C m F) : ∀ v, v < 14 → F v = C v := by
  refine tg_R_id hc (fun u v hu hv e => ?_) h
  by_cases h1 : tg_used n u
  · by_cases h2 : tg_used n v
    · rw [hm u hu h1, hm v hv h2, tg_K_eq hn hb h1 h2 e]
    · rw [hi v u hv hu h2 e.symm]
  · rw [hi u v hu hv h1 e]
theorem tg_sg_le (n : Nat) (C : Nat → Nat) : tg_sg n C ≤ n := tg_N_le _ n
theorem tg_sg_mono {n : Nat} {C F : Nat → Nat} (hn : n ≤ 7) (h : tg_Fin C F) : tg_sg n C ≤ tg_sg n F :=
  tg_N_mono n (fun v hv z => decide_eq_true (fun u hu ne e => (of_decide_eq_true z) u hu ne (h u v (by omega) (by omega) e)))
theorem tg_sg_lt {n x : Nat} {C : Nat → Nat} (hx : x < n) (h : tg_sh n C x) : tg_sg n C < n := by
  obtain ⟨u, h1, h2, h3⟩ := h
  exact tg_N_ltk hx (fun z => (of_decide_eq_true z) u h1 h2 h3)
theorem tg_sg_up {n x : Nat} {C F : Nat → Nat} (hn : n ≤ 7) (hx : x < n) (h : tg_Fin C F) (hs : tg_sh n C x) (ho : ∀ u, u < n → u ≠ x → F u ≠ F x) : tg_sg n C < tg_sg n F := by
  obtain ⟨u, h1, h2, h3⟩ := hs
  exact tg_N_lt hx (fun z => (of_decide_eq_true z) u h1 h2 h3) (decide_eq_true ho)
    (fun v hv z => decide_eq_true (fun u hu ne e => (of_decide_eq_true z) u hu ne (h u v (by omega) (by omega) e)))
/-- the marks of tryNext -/
def tg_m2 (x y : Nat) (v : Nat) : Int64 := if v = x ∨ v = y then 1 else 0
theorem tg_m2_1 {x y v : Nat} : tg_m2 x y v = 1 ↔ (v = x ∨ v = y) := by
  unfold tg_m2
  by_cases h : v = x ∨ v = y
  · rw [if_pos h]; exact ⟨fun _ => h, fun _ => rfl⟩
  · rw [if_neg h]; exact ⟨fun z => absurd z (by decide), fun z => absurd z h⟩
theorem tg_m2_0 {x y v : Nat} : tg_m2 x y v = 0 ↔ ¬ (v = x ∨ v = y) := by
  unfold tg_m2
  by_cases h : v = x ∨ v = y
  · rw [if_pos h]; exact ⟨fun z => absurd z (by decide), fun z => absurd h z⟩
  · rw [if_neg h]; exact ⟨fun _ => h, fun _ => rfl⟩
theorem tg_m2_or (x y v : Nat) : tg_m2 x y v = 1 ∨ tg_m2 x y v = 0 := by
  unfold tg_m2
  by_cases h : v = x ∨ v = y
  · rw [if_pos h]; exact Or.inl rfl
  · rw [if_neg h]; exact Or.inr rfl
theorem tg_R_cm {C F : Nat → Nat} {m m' : Nat → Int64} (e : ∀ v, v < 14 → m v = m' v) (h : tg_R C m F) : tg_R C m' F := by
  intro v hv
  obtain ⟨v1, v2, v3, v4⟩ := h v hv
  refine ⟨v1, v2, ?_, fun u hu h1 h2 => v4 u hu h1 ?_⟩
  · rw [← e _ (by omega), ← e v hv]; exact v3
  · rw [e u (by omega), e v hv]; exact h2
theorem tg_try_one {n x y : Nat} {C F : Nat → Nat} (hn : n ≤ 7) (hx : x < n) (h7 : 7 ≤ y) (h : tg_R C (tg_m2 x y) F) : ∀ u, u < n → u ≠ x → F u ≠ F x := by
  intro u hu ne e
  have q := ((tg_R_eq h (by omega) (by omega)).mp e).2
  rw [tg_m2_1.mpr (Or.inl rfl)] at q
  rcases tg_m2_1.mp q with z | z
  · exact ne z
  · omega
theorem tg_try_bal {n x y : Nat} {C F : Nat → Nat} (hn : n ≤ 7) (hx : x < n) (hy : y < n) (e : C (7 + y) = C x) (hb : tg_Bal n C) (h : tg_R C (tg_m2 x (7 + y)) F) : tg_Bal n F := by
  refine tg_bal_R hn h (fun c t => ?_)
  by_cases t1 : t = 1
  · subst t1
    by_cases ec : C x = c
    · have p1 : tg_N (fun v => decide (C v = c ∧ tg_m2 x (7 + y) v = 1)) n = tg_N (fun _ => false) n + 1 :=
        tg_N_add hx (fun z => absurd z (by decide)) (decide_eq_true ⟨ec, tg_m2_1.mpr (Or.inl rfl)⟩) (fun v hv ne => by
          rw [decide_eq_true_iff, tg_m2_1]
          exact ⟨fun z => absurd z (by decide), fun z => by rcases z.2 with q | q <;> omega⟩)
      have p2 : tg_N (fun v => decide (C (7 + v) = c ∧ tg_m2 x (7 + y) (7 + v) = 1)) n = tg_N (fun _ => false) n + 1 :=
        tg_N_add hy (fun z => absurd z (by decide)) (decide_eq_true ⟨by rw [e, ec], tg_m2_1.mpr (Or.inr rfl)⟩) (fun v hv ne => by
          rw [decide_eq_true_iff, tg_m2_1]
          exact ⟨fun z => absurd z (by decide), fun z => by rcases z.2 with q | q <;> omega⟩)
      rw [p1, p2]
    · rw [tg_N_0 (fun v hv z => ?_), tg_N_0 (fun v hv z => ?_)]
      · have z' := of_decide_eq_true z
        rcases tg_m2_1.mp z'.2 with q | q
        · omega
        · rw [q, e] at z'; exact ec z'.1
      · have z' := of_decide_eq_true z
        rcases tg_m2_1.mp z'.2 with q | q
        · rw [q] at z'; exact ec z'.1
        · omega
  · by_cases t0 : t = 0
    · subst t0
      by_cases ec : C x = c
      · have p1 : tg_cx n C c = tg_N (fun v => decide (C v = c ∧ tg_m2 x (7 + y) v = 0)) n + 1 :=
          tg_N_add hx (fun z => tg_m2_0.mp (of_decide_eq_true z).2 (Or.inl rfl)) (decide_eq_true ec) (fun v hv ne => by
            rw [decide_eq_true_iff, decide_eq_true_iff, tg_m2_0]
            exact ⟨fun z => z.1, fun z => ⟨z, by omega⟩⟩)
        have p2 : tg_cy n C c = tg_N (fun v => decide (C (7 + v) = c ∧ tg_m2 x (7 + y) (7 + v) = 0)) n + 1 :=
          tg_N_add hy (fun z => tg_m2_0.mp (of_decide_eq_true z).2 (Or.inr rfl)) (decide_eq_true (by rw [e, ec])) (fun v hv ne => by
            rw [decide_eq_true_iff, decide_eq_true_iff, tg_m2_0]
            exact ⟨fun z => z.1, fun z => ⟨z, by omega⟩⟩)
        have p3 := hb c
        omega
      · have p1 : tg_cx n C c = tg_N (fun v => decide (C v = c ∧ tg_m2 x (7 + y) v = 0)) n :=
          tg_N_cg (fun v hv => by
            rw [decide_eq_true_iff, decide_eq_true_iff, tg_m2_0]
            exact ⟨fun z => ⟨z, fun q => by
              rcases q with q | q
              · rw [q] at z; exact ec z
              · omega⟩, fun z => z.1⟩)
        have p2 : tg_cy n C c = tg_N (fun v => decide (C (7 + v) = c ∧ tg_m2 x (7 + y) (7 + v) = 0)) n :=
          tg_N_cg (fun v hv => by
            rw [decide_eq_true_iff, decide_eq_true_iff, tg_m2_0]
            exact ⟨fun z => ⟨z, fun q => by
              rcases q with q | q
              · omega
              · rw [q, e] at z; exact ec z⟩, fun z => z.1⟩)
        rw [← p1, ← p2]
        exact hb c
    · rw [tg_N_0 (fun v hv z => ?_), tg_N_0 (fun v hv z => ?_)]
      · have z' := (of_decide_eq_true z).2
        rcases tg_m2_or x (7 + y) (7 + v) with q | q
        · exact t1 (by rw [← z', q])
        · exact t0 (by rw [← z', q])
      · have z' := (of_decide_eq_true z).2
        rcases tg_m2_or x (7 + y) v with q | q
        · exact t1 (by rw [← z', q])
        · exact t0 (by rw [← z', q])
/-- a balanced state: each x has a partner -/
theorem tg_bal_y {n x : Nat} {C : Nat → Nat} (hb : tg_Bal n C) (hx : x < n) : ∃ y, y < n ∧ C (7 + y) = C x := by
  have h : 0 < tg_cx n C (C x) := tg_N_ex hx (decide_eq_true rfl)
  rw [hb] at h
  obtain ⟨y, hy, e⟩ := tg_N_pos h
  exact ⟨y, hy, of_decide_eq_true e⟩
/-- balance answers 1: one of each -/
def tg_One (n : Nat) (C : Nat → Nat) : Prop := ∀ c, c < 14 → tg_cx n C c = tg_cy n C c ∧ tg_cx n C c ≤ 1
theorem tg_one_y {n x : Nat} {C : Nat → Nat} (h : tg_One n C) (hl : C x < 14) (hx : x < n) : ∃ y, y < n ∧ C (7 + y) = C x := by
  have h1 : 0 < tg_cx n C (C x) := tg_N_ex hx (decide_eq_true rfl)
  rw [(h _ hl).1] at h1
  obtain ⟨y, hy, e⟩ := tg_N_pos h1
  exact ⟨y, hy, of_decide_eq_true e⟩
theorem tg_one_x {n y : Nat} {C : Nat → Nat} (h : tg_One n C) (hl : C (7 + y) < 14) (hy : y < n) : ∃ x, x < n ∧ C x = C (7 + y) := by
  have h1 : 0 < tg_cy n C (C (7 + y)) := tg_N_ex hy (decide_eq_true rfl)
  rw [← (h _ hl).1] at h1
  obtain ⟨x, hx, e⟩ := tg_N_pos h1
  exact ⟨x, hx, of_decide_eq_true e⟩
theorem tg_one_u {n a b : Nat} {C : Nat → Nat} (h : tg_One n C) (hl : C (7 + b) < 14) (ha : a < n) (hb : b < n) (e : C (7 + a) = C (7 + b)) : a = b := by
  rcases Nat.lt_or_ge 1 (tg_cy n C (C (7 + b))) with z | z
  · have q := h _ hl
    omega
  · apply Classical.byContradiction
    intro ne
    have q : 1 < tg_cy n C (C (7 + b)) := tg_N_two ha hb ne (decide_eq_true e) (decide_eq_true rfl)
    omega
/-- no way to lay x upon y -/
def tg_NL (n gx gy : Nat) (a1 : Nat → Int32) : Prop :=
  ∀ im : Nat → Nat, (∀ v, v < n → im v < n) → (∀ b, b < n → ∃ v, v < n ∧ im v = b) → ∃ v w, v < n ∧ w < n ∧ a1 (49 * gx + 7 * v + w) ≠ a1 (49 * gy + 7 * im v + im w)
/-- the labels and marks at the start -/
def tg_C0 (n v : Nat) : Nat := if tg_used n v then 0 else v
def tg_M (px py : Nat → Nat) : Nat → Nat → Nat
  | 0 => fun _ => 0
  | k + 1 => fun v => tg_M px py k v + (if v = px k then 4 * (k + 1) else 0) + (if v = 7 + py k then 4 * (k + 1) else 0)
theorem tg_M_s (px py : Nat → Nat) (k v : Nat) : tg_M px py (k + 1) v = tg_M px py k v + (if v = px k then 4 * (k + 1) else 0) + (if v = 7 + py k then 4 * (k + 1) else 0) := rfl
theorem tg_M_le (px py : Nat → Nat) (v : Nat) : ∀ k, k ≤ 7 → tg_M px py k v ≤ 8 * k * 7 := by
  intro k
  induction k with
  | zero => intro _; exact Nat.le_refl 0
  | succ k ih =>
    intro hk
    have i := ih (by omega)
    rw [tg_M_s]
    split <;> split <;> omega
theorem tg_M_x {px py : Nat → Nat} {v : Nat} (hv : v < 7) : ∀ k, (∀ j, j < k → px j = j) → tg_M px py k v = if v < k then 4 * (v + 1) else 0 := by
  intro k
  induction k with
  | zero => intro _; rw [if_neg (by omega)]; rfl
  | succ k ih =>
    intro h
    have i := ih (fun j hj => h j (by omega))
    rw [tg_M_s, i, h k (by omega), if_neg (show ¬ v = 7 + py k by omega)]
    by_cases e : v = k
    · rw [if_neg (by omega), if_pos e, if_pos (by omega), e]; omega
    · rw [if_neg e]
      by_cases e2 : v < k
      · rw [if_pos e2, if_pos (by omega)]; rfl
      · rw [if_neg e2, if_neg (by omega)]
theorem tg_M_y {px py : Nat → Nat} {w : Nat} : ∀ k, k ≤ 7 → (∀ j, j < k → px j = j) → (∀ j, j < k → py j = j) → tg_M px py k (7 + w) = if w < k then 4 * (w + 1) else 0 := by
  intro k
  induction k with
  | zero => intro _ _ _; rw [if_neg (by omega)]; rfl
  | succ k ih =>
    intro hk h1 h2
    have i := ih (by omega) (fun j hj => h1 j (by omega)) (fun j hj => h2 j (by omega))
    rw [tg_M_s, i, h1 k (by omega), h2 k (by omega), if_neg (show ¬ 7 + w = k by omega)]
    by_cases e : w = k
    · rw [if_neg (by omega), if_pos (by omega), if_pos (by omega), e]; omega
    · rw [if_neg (show ¬ 7 + w = 7 + k by omega)]
      by_cases e2 : w < k
      · rw [if_pos e2, if_pos (by omega)]; rfl
      · rw [if_neg e2, if_neg (by omega)]
/-- the pins of the law: nothing, or each of 0 .. a - 1 on itself and a on b -/
def tg_Pin (n p : Nat) (px py : Nat → Nat) : Prop := ∀ f : Nat → Bool, tg_N (fun v => f (tg_M px py p v)) n = tg_N (fun w => f (tg_M px py p (7 + w))) n
theorem tg_pin_0 (n : Nat) (px py : Nat → Nat) : tg_Pin n 0 px py := fun _ => rfl
theorem tg_pin_s {n a b : Nat} {px py : Nat → Nat} (hn : n ≤ 7) (hab : a ≤ b) (hb : b < n) (h1 : ∀ j, j < a + 1 → px j = j) (h2 : ∀ j, j < a → py j = j) (h3 : py a = b) : tg_Pin n (a + 1) px py := by
  intro f
  have ex : ∀ v, v < n → tg_M px py (a + 1) v = if v < a + 1 then 4 * (v + 1) else 0 := fun v hv => tg_M_x (by omega) (a + 1) h1
  have ey : ∀ w, w < n → tg_M px py (a + 1) (7 + w) = (if w < a then 4 * (w + 1) else 0) + (if w = b then 4 * (a + 1) else 0) := by
    intro w hw
    rw [tg_M_s, tg_M_y a (by omega) (fun j hj => h1 j (by omega)) h2, h3, h1 a (by omega), if_neg (show ¬ 7 + w = a by omega)]
    by_cases e : w = b
    · rw [if_pos (show 7 + w = 7 + b by omega), if_pos e]
      omega
    · rw [if_neg (show ¬ 7 + w = 7 + b by omega), if_neg e]
  refine tg_N_swap (a := a) (b := b) (by omega) hb ?_ ?_ (fun v hv na nb => ?_)
  · show f _ = f _
    rw [ex a (by omega), ey b hb, if_pos (by omega), if_neg (by omega), if_pos rfl, Nat.zero_add]
  · show f _ = f _
    rw [ex b hb, ey a (by omega)]
    by_cases e : a = b
    · rw [if_pos (by omega), if_neg (by omega), if_pos e, e, Nat.zero_add]
    · rw [if_neg (by omega), if_neg (by omega), if_neg e]
  · show f _ = f _
    rw [ex v hv, ey v hv, if_neg nb, Nat.add_zero]
    by_cases e : v < a
    · rw [if_pos e, if_pos (by omega)]; rfl
    · rw [if_neg e, if_neg (by omega)]
theorem tg_c0_iso {n : Nat} (h1 : 1 ≤ n) : tg_Iso n (tg_C0 n) := by
  intro u v hu hv hn e
  unfold tg_C0 at e
  rw [if_neg hn] at e
  have u0 : u ≠ 0 := fun z => hn (Or.inl ⟨by omega, by omega⟩)
  by_cases h2 : tg_used n v
  · rw [if_pos h2] at e; exact absurd e u0
  · rw [if_neg h2] at e; exact e
theorem tg_c0_lt {n v : Nat} (hv : v < 14) : tg_C0 n v < 14 := by
  unfold tg_C0
  split <;> omega
theorem tg_c0_bal {n p : Nat} {px py F : Nat → Nat} {m : Nat → Int64} (hn : n ≤ 7) (hm : ∀ v, v < 14 → m v = lN (tg_M px py p v)) (hp : tg_Pin n p px py) (h : tg_R (tg_C0 n) m F) : tg_Bal n F := by
  refine tg_bal_R hn h (fun c t => ?_)
  by_cases hc : c = 0
  · subst hc
    have e1 : tg_N (fun v => decide (tg_C0 n v = 0 ∧ m v = t)) n = tg_N (fun v => decide (lN (tg_M px py p v) = t)) n :=
      tg_N_cg (fun v hv => by
        rw [decide_eq_true_iff, decide_eq_true_iff, hm v (by omega)]
        exact ⟨fun z => z.2, fun z => ⟨if_pos (Or.inl ⟨by omega, hv⟩), z⟩⟩)
    have e2 : tg_N (fun v => decide (tg_C0 n (7 + v) = 0 ∧ m (7 + v) = t)) n = tg_N (fun v => decide (lN (tg_M px py p (7 + v)) = t)) n :=
      tg_N_cg (fun v hv => by
        rw [decide_eq_true_iff, decide_eq_true_iff, hm (7 + v) (by omega)]
        exact ⟨fun z => z.2, fun z => ⟨if_pos (Or.inr ⟨by omega, by omega⟩), z⟩⟩)
    rw [e1, e2]
    exact hp (fun k => decide (lN k = t))
  · rw [tg_N_0 (fun v hv z => ?_), tg_N_0 (fun v hv z => ?_)]
    · have z' := (of_decide_eq_true z).1
      unfold tg_C0 at z'
      rw [if_pos (Or.inr ⟨by omega, by omega⟩)] at z'
      exact hc z'.symm
    · have z' := (of_decide_eq_true z).1
      unfold tg_C0 at z'
      rw [if_pos (Or.inl ⟨by omega, hv⟩)] at z'
      exact hc z'.symm
end
section
variable {fn gx gy pn hb : Int32} {bs : Int64} {a1 a2 a3 a4 a5 a7 a8 a9 a10 a11 a14 : Nat → Int32} {a6 a12 a13 : Nat → Int64}
/-- the labels of level d -/
def tg_C (a4 : Nat → Int32) (d : Nat) (C : Nat → Nat) : Prop := ∀ v, v < 14 → C v < 14 ∧ a4 (14 * d + v) = nI (C v)
/-- nothing but level d is changed -/
def tg_Fr (d : Nat) (a4 b4 : Nat → Int32) : Prop := ∀ j, (j < 14 * d ∨ 14 * d + 14 ≤ j) → b4 j = a4 j
theorem tg_ix (d i : Nat) : (14 * nI d) + nI i = nI (14 * d + i) := by
  rw [show (14 : Int32) = nI 14 from rfl, pk_mul, nI_add]
theorem tg_cl {d i : Nat} (hd : d ≤ 8) (hi : i < 14) : ((14 * nI d) + nI i).toNatClampNeg = 14 * d + i := pk_cl _ (tg_ix d i)
theorem tg_i49 (g i j : Nat) : ((49 * nI g) + (7 * nI i)) + nI j = nI (49 * g + 7 * i + j) := by
  rw [show (49 : Int32) = nI 49 from rfl, show (7 : Int32) = nI 7 from rfl, pk_mul, pk_mul, nI_add, nI_add]
theorem tg_i49y (g i j : Nat) : (((49 * nI g) + (7 * (nI (7 + i) - 7))) + nI (7 + j)) - 7 = nI (49 * g + 7 * i + j) := by
  rw [show (49 : Int32) = nI 49 from rfl, show (7 : Int32) = nI 7 from rfl, pk_sub (by omega), pk_mul, pk_mul, nI_add, nI_add, pk_sub (by omega)]
  congr 1
  omega
theorem tg_isPoint {post : Int32 → Prop} {n : Nat} {x : Int32} (hn : n ≤ 7) (h1 : ∀ j, j < n → x = nI j → post 1) (h0 : (x < 0 ∨ nI n ≤ x) → post 0) :
    wpX_isPoint post (nI n, gx, gy, pn, bs, hb, a1, a2, a3, a4, a5, a6, a7, a8, a9, a10, a11, a12, a13, a14) x := by
  refine br_c (fun z => h0 (Or.inl z)) (fun z => br_c (fun q => h0 (Or.inr q)) (fun q => ?_))
  rcases pk_ix x (n := n) (by omega) with w | w | ⟨j, hj, e⟩
  · exact absurd w z
  · exact absurd w q
  · exact h1 j hj e
theorem tg_inUse {post : Int32 → Prop} {n v : Nat} (hn : n ≤ 7) (hv : v < 14) (h1 : tg_used n v → post 1) (h0 : ¬ tg_used n v → post 0) :
    wpX_inUse post (nI n, gx, gy, pn, bs, hb, a1, a2, a3, a4, a5, a6, a7, a8, a9, a10, a11, a12, a13, a14) (nI v) :=
  pk_le 7 v (fun z => pk_le n (v - 7) (fun q => h0 (fun u => by rcases u with u | u <;> omega)) (fun q => h1 (Or.inr ⟨z, q⟩)) rfl (pk_sub z))
    (fun z => pk_le n v (fun q => h0 (fun u => by rcases u with u | u <;> omega)) (fun q => h1 (Or.inl ⟨z, q⟩)))
theorem tg_shX {post : Int32 → Prop} {g i j : Nat} (hg : g < 2) (hi : i < 7) (hj : j < 7) (h : post (a1 (49 * g + 7 * i + j))) :
    wpX_shade post (fn, nI g, gy, pn, bs, hb, a1, a2, a3, a4, a5, a6, a7, a8, a9, a10, a11, a12, a13, a14) (nI i) (nI j) :=
  pk_le 7 i (fun z => absurd z (by omega)) (fun _ => ⟨pk_in (49 * g + 7 * i + j) 98 (by omega) (tg_i49 g i j), by rw [pk_cl (49 * g + 7 * i + j) (tg_i49 g i j)]; exact h⟩)
theorem tg_shY {post : Int32 → Prop} {g i j : Nat} (hg : g < 2) (hi : i < 7) (hj : j < 7) (h : post (a1 (49 * g + 7 * i + j))) :
    wpX_shade post (fn, gx, nI g, pn, bs, hb, a1, a2, a3, a4, a5, a6, a7, a8, a9, a10, a11, a12, a13, a14) (nI (7 + i)) (nI (7 + j)) :=
  pk_le 7 (7 + i) (fun _ => ⟨pk_in (49 * g + 7 * i + j) 98 (by omega) (tg_i49y g i j), by rw [pk_cl (49 * g + 7 * i + j) (tg_i49y g i j)]; exact h⟩) (fun z => absurd z (by omega))
theorem tg_rg92 {post : Int32 → St2 → Prop} {d : Nat} {F : Nat → Nat} (hd : d ≤ 8) (hF : ∀ v, v < 14 → a5 v = nI (F v))
    (hp : ∀ r b4, (∀ v, v < 14 → b4 (14 * d + v) = nI (F v)) → tg_Fr d a4 b4 → post r (fn, gx, gy, pn, bs, hb, a1, a2, a3, b4, a5, a6, a7, a8, a9, a10, a11, a12, a13, a14)) :
    ∃ k, wX_regroup_92 post (nI d) fn gx gy pn bs hb k 0 0 a1 a2 a3 a4 a5 a6 a7 a8 a9 a10 a11 a12 a13 a14 := by
  refine pk_loop (σ := Int32 × (Nat → Int32)) (fun k i s => wX_regroup_92 post (nI d) fn gx gy pn bs hb k s.1 (nI i) a1 a2 a3 s.2 a5 a6 a7 a8 a9 a10 a11 a12 a13 a14)
    (fun i s => (s.1 = 0 ∨ s.1 = 1) ∧ (∀ v, v < i → s.2 (14 * d + v) = nI (F v)) ∧ tg_Fr d a4 s.2) 14 0 (0, a4) (by omega) ⟨Or.inl rfl, fun v hv => absurd hv (by omega), fun _ _ => rfl⟩ ?_ ?_
  · rintro k ⟨r, b⟩ ⟨h1, h2, h3⟩
    refine pk_le 14 14 (fun _ => ⟨?_, hp r b h2 h3⟩) (fun z => absurd z (by omega))
    rcases h1 with e | e
    · rw [show r = 0 from e]; exact narrow_b0
    · rw [show r = 1 from e]; exact narrow_b1
  · rintro k i ⟨r, b⟩ hi ⟨h1, h2, h3⟩ hw
    refine pk_le 14 i (fun z => absurd z (by omega)) (fun _ => ⟨pk_in (14 * d + i) 128 (by omega) (tg_ix d i), pk_in i 14 hi, ?_⟩)
    rw [tg_cl hd hi, nI_clamp (show i < 2 ^ 31 by omega)]
    refine br_c (fun e => nm_r (nI_1 i) (hw (r, b) ⟨h1, fun v hv => ?_, h3⟩)) (fun e => ⟨pk_in i 14 hi, pk_in (14 * d + i) 128 (by omega) (tg_ix d i), nm_e (nm_r (nI_1 i) (hw (1, _) ⟨Or.inr rfl, fun v hv => ?_, fun j hj => ?_⟩))⟩)
    · by_cases q : v = i
      · subst q
        exact e.trans (hF v hi)
      · exact h2 v (by omega)
    · show upd b (14 * d + i) (a5 i) (14 * d + v) = nI (F v)
      by_cases q : v = i
      · subst q
        rw [pk_us]
        exact hF v hi
      · rw [pk_un (by omega)]
        exact h2 v (by omega)
    · show upd b (14 * d + i) (a5 i) j = a4 j
      rw [pk_un (by omega)]
      exact h3 j hj
theorem tg_rg18 {post : Int32 → St2 → Prop} {J : Int32 → (Nat → Int32) → (Nat → Int32) → (Nat → Int32) → (Nat → Int32) → (Nat → Int32) → (Nat → Int64) → (Nat → Int32) → (Nat → Int32) → (Nat → Int32) → (Nat → Int32) → (Nat → Int32) → (Nat → Int64) → (Nat → Int64) → (Nat → Int32) → Prop}
    {x2 : Int32} {d v : Nat} {C : Nat → Nat} (hd : d ≤ 8) (hv : v < 14) (hC : tg_C a4 d C)
    (hp : ∀ k, k ≤ v → C k = C v → a6 k = a6 v → (∀ u, u ≤ v → C u = C v → a6 u = a6 v → k ≤ u) → J (nI (v + 1)) a1 a2 a3 a4 (upd a5 v (nI k)) a6 a7 a8 a9 a10 a11 a12 a13 a14) :
    ∃ k, wX_regroup_18 post J (nI d) x2 (nI v) fn gx gy pn bs hb a1 a2 a3 a4 a5 a6 a7 a8 a9 a10 a11 a12 a13 a14 k (nI v) (nI v + (-1)) := by
  refine ⟨_, pk_loopD (σ := Int32) (fun k i s => wX_regroup_18 post J (nI d) x2 (nI v) fn gx gy pn bs hb a1 a2 a3 a4 a5 a6 a7 a8 a9 a10 a11 a12 a13 a14 k s (nI i + (-1)))
    (fun i s => i ≤ v ∧ ∃ k, s = nI k ∧ k ≤ v ∧ C k = C v ∧ a6 k = a6 v ∧ ∀ u, i ≤ u → u ≤ v → C u = C v → a6 u = a6 v → k ≤ u) ?_ ?_ v (nI v) ⟨Nat.le_refl v, v, rfl, Nat.le_refl v, rfl, rfl, fun u h1 _ _ _ => h1⟩⟩
  · rintro k s ⟨_, q, rfl, h1, h2, h3, h4⟩
    refine br_t (by decide) ⟨pk_in v 14 hv, nm_r (by rw [nI_clamp (show v < 2 ^ 31 by omega)]) (nm_r (nI_1 v) (hp q h1 h2 h3 (fun u => h4 u (by omega))))⟩
  · rintro k i s ⟨hi, q, rfl, h1, h2, h3, h4⟩ hw
    show wX_regroup_18 post J (nI d) x2 (nI v) fn gx gy pn bs hb a1 a2 a3 a4 a5 a6 a7 a8 a9 a10 a11 a12 a13 a14 (k + 1) (nI q) (nI (i + 1) + (-1))
    rw [pk_m1]
    refine br_f (nI_pos (by omega)) ⟨pk_in (14 * d + i) 128 (by omega) (tg_ix d i), pk_in (14 * d + v) 128 (by omega) (tg_ix d v), ?_⟩
    rw [tg_cl hd hv, tg_cl hd (show i < 14 by omega), nI_clamp (show i < 2 ^ 31 by omega), nI_clamp (show v < 2 ^ 31 by omega)]
    obtain ⟨c1, e1⟩ := hC i (by omega)
    obtain ⟨c2, e2⟩ := hC v hv
    refine pk_eq (C i) (C v) (fun z => ⟨pk_in i 14 (by omega), pk_in v 14 hv, br_c (fun y => nm_e ?_) (fun y => nm_e ?_)⟩) (fun z => nm_e ?_) e1 e2
    · exact hw (nI i) ⟨by omega, i, rfl, by omega, z, y, fun u g _ _ _ => g⟩
    · exact hw (nI q) ⟨by omega, q, rfl, h1, h2, h3, fun u g1 g2 g3 g4 => h4 u (by
        rcases Nat.lt_or_ge i u with w | w
        · exact w
        · exact absurd (show a6 i = a6 v by rw [← g4, show u = i by omega]) y) g2 g3 g4⟩
    · exact hw (nI q) ⟨by omega, q, rfl, h1, h2, h3, fun u g1 g2 g3 g4 => h4 u (by
        rcases Nat.lt_or_ge i u with w | w
        · exact w
        · exact absurd (show C i = C v by rw [← g3, show u = i by omega]) z) g2 g3 g4⟩
theorem tg_regroup {post : Int32 → St2 → Prop} {d : Nat} {C : Nat → Nat} (hd : d ≤ 8) (hC : tg_C a4 d C)
    (hp : ∀ r F b4 b5, tg_R C a6 F → tg_C b4 d F → tg_Fr d a4 b4 → post r (fn, gx, gy, pn, bs, hb, a1, a2, a3, b4, b5, a6, a7, a8, a9, a10, a11, a12, a13, a14)) :
    wpX_regroup post (fn, gx, gy, pn, bs, hb, a1, a2, a3, a4, a5, a6, a7, a8, a9, a10, a11, a12, a13, a14) (nI d) := by
  refine pk_loop (σ := Nat → Int32) (fun k i s => wX_regroup_4 post (nI d) 0 fn gx gy pn bs hb k (nI i) a1 a2 a3 a4 s a6 a7 a8 a9 a10 a11 a12 a13 a14)
    (fun i s => ∀ v, v < i → ∃ k, s v = nI k ∧ k ≤ v ∧ C k = C v ∧ a6 k = a6 v ∧ ∀ u, u ≤ v → C u = C v → a6 u = a6 v → k ≤ u) 14 0 a5 (by omega) (fun v hv => absurd hv (by omega)) ?_ ?_
  · intro k s h
    refine pk_le 14 14 (fun _ => ?_) (fun z => absurd z (by omega))
    have hs : ∀ v, v < 14 → s v = nI ((s v).toNatClampNeg) ∧ (s v).toNatClampNeg ≤ v ∧ C ((s v).toNatClampNeg) = C v ∧ a6 ((s v).toNatClampNeg) = a6 v ∧ ∀ u, u ≤ v → C u = C v → a6 u = a6 v → (s v).toNatClampNeg ≤ u := by
      intro v hv
      obtain ⟨q, e, h1, h2, h3, h4⟩ := h v hv
      rw [e, nI_clamp (by omega)]
      exact ⟨rfl, h1, h2, h3, h4⟩
    refine tg_rg92 hd (F := fun v => (s v).toNatClampNeg) (fun v hv => (hs v hv).1) (fun r b4 h1 h2 => hp r (fun v => (s v).toNatClampNeg) b4 s (fun v hv => (hs v hv).2) (fun v hv => ⟨?_, h1 v hv⟩) h2)
    have := (hs v hv).2.1
    show (s v).toNatClampNeg < 14
    omega
  · intro k i s hi h hw
    refine pk_le 14 i (fun z => absurd z (by omega)) (fun _ => nm_r (show nI i - 1 = nI i + (-1) from Int32.sub_eq_add_neg _ _) (tg_rg18 hd hi hC (fun q h1 h2 h3 h4 => hw _ (fun v hv => ?_))))
    by_cases e : v = i
    · subst e
      exact ⟨q, pk_us, h1, h2, h3, h4⟩
    · rw [pk_un e]
      exact h v (by omega)
end
section
variable {fn gx gy pn hb : Int32} {bs : Int64} {a1 a2 a3 a4 a5 a7 a8 a9 a10 a11 a14 : Nat → Int32} {a6 a12 a13 : Nat → Int64}
/-- nothing is painted -/
def tg_Z (a1 : Nat → Int32) : Prop := ∀ j, j < 98 → a1 j = 0
theorem tg_shade {post : Int32 → Prop} {n g h v w o : Nat} (hg : g < 2) (hh : h < 2) (hn : n ≤ 7) (hv : v < 14) (ho : (v < 7 ∧ o = 0) ∨ (7 ≤ v ∧ o = 7)) (hw : w < 7) (hp : ∀ x, (tg_Z a1 → x = 0) → post x) :
    wpX_shade post (fn, nI g, nI h, pn, bs, hb, a1, a2, a3, a4, a5, a6, a7, a8, a9, a10, a11, a12, a13, a14) (nI v) (nI (o + w)) := by
  rcases ho with ⟨h1, rfl⟩ | ⟨h1, rfl⟩
  · rw [Nat.zero_add]
    exact tg_shX hg h1 hw (hp _ (fun z => z _ (by omega)))
  · obtain ⟨u, rfl⟩ : ∃ u, v = 7 + u := ⟨v - 7, by omega⟩
    exact tg_shY hh (by omega) hw (hp _ (fun z => z _ (by omega)))
theorem tg_shadeD {post : Int32 → Prop} {g h v : Nat} (hg : g < 2) (hh : h < 2) (hv : v < 14) (hp : ∀ x, (tg_Z a1 → x = 0) → post x) :
    wpX_shade post (fn, nI g, nI h, pn, bs, hb, a1, a2, a3, a4, a5, a6, a7, a8, a9, a10, a11, a12, a13, a14) (nI v) (nI v) := by
  rcases Nat.lt_or_ge v 7 with z | z
  · have t := tg_shade (post := post) (fn := fn) (pn := pn) (bs := bs) (hb := hb) (a1 := a1) (a2 := a2) (a3 := a3) (a4 := a4) (a5 := a5) (a6 := a6) (a7 := a7) (a8 := a8) (a9 := a9) (a10 := a10) (a11 := a11) (a12 := a12) (a13 := a13) (a14 := a14) (n := 7) (w := v) (o := 0) hg hh (by omega) hv (Or.inl ⟨z, rfl⟩) z hp
    rw [Nat.zero_add] at t
    exact t
  · have t := tg_shade (post := post) (fn := fn) (pn := pn) (bs := bs) (hb := hb) (a1 := a1) (a2 := a2) (a3 := a3) (a4 := a4) (a5 := a5) (a6 := a6) (a7 := a7) (a8 := a8) (a9 := a9) (a10 := a10) (a11 := a11) (a12 := a12) (a13 := a13) (a14 := a14) (n := 7) (w := v - 7) (o := 7) hg hh (by omega) hv (Or.inr ⟨z, rfl⟩) (by omega) hp
    rw [show 7 + (v - 7) = v by omega] at t
    exact t
theorem tg_sc26 {post : St2 → Prop} {J : Int32 → (Nat → Int32) → (Nat → Int32) → (Nat → Int32) → (Nat → Int32) → (Nat → Int32) → (Nat → Int64) → (Nat → Int32) → (Nat → Int32) → (Nat → Int32) → (Nat → Int32) → (Nat → Int32) → (Nat → Int64) → (Nat → Int64) → (Nat → Int32) → Prop}
    {z0 : Int32} {n g h i : Nat} (hg : g < 2) (hh : h < 2) (hn : n ≤ 7) (hi : i < 14)
    (hp : ∀ m, (∀ v, v ≠ i → m v = a6 v) → (tg_Z a1 → m i = 0) → J (nI (i + 1)) a1 a2 a3 (upd a4 i z0) a5 m a7 a8 a9 a10 a11 a12 a13 a14) :
    wX_startClasses_26 post J (nI i) z0 (nI i) (nI n) (nI g) (nI h) pn bs hb a1 a2 a3 a4 a5 a6 a7 a8 a9 a10 a11 a12 a13 a14 := by
  unfold wX_startClasses_26
  refine ⟨pk_in i 128 (by omega), nm_r (by rw [nI_clamp (show i < 2 ^ 31 by omega)]) (tg_inUse hn hi (fun _ => br_f (by decide) ?_) (fun _ => br_t rfl ?_))⟩
  · exact tg_shadeD hg hh hi (fun x hx => ⟨pk_in i 14 hi, nm_r (by rw [nI_clamp (show i < 2 ^ 31 by omega)]) (nm_r (nI_1 i) (hp _ (fun v hv => pk_uLn hv) (fun z => by rw [pk_uLs, hx z]; rfl)))⟩)
  · exact ⟨pk_in i 14 hi, nm_r (by rw [nI_clamp (show i < 2 ^ 31 by omega)]) (nm_r (nI_1 i) (hp _ (fun v hv => pk_uLn hv) (fun z => pk_uLs)))⟩
theorem tg_sc60 {post : St2 → Prop} {n g h p : Nat} {px py : Nat → Nat} (hn : n ≤ 7) (hp7 : p ≤ 7)
    (h2 : ∀ k, k < p → px k < 7 ∧ a2 k = nI (px k)) (h3 : ∀ k, k < p → py k < 7 ∧ a3 k = nI (py k))
    (hC : tg_C a4 0 (tg_C0 n)) (h6 : tg_Z a1 → ∀ v, v < 14 → a6 v = 0)
    (hp : ∀ F b4 b5 m, tg_R (tg_C0 n) m F → tg_C b4 0 F → (tg_Z a1 → ∀ v, v < 14 → m v = lN (tg_M px py p v)) → post (nI n, nI g, nI h, nI p, bs, hb, a1, a2, a3, b4, b5, m, a7, a8, a9, a10, a11, a12, a13, a14)) :
    ∃ k, wX_startClasses_60 post (nI n) (nI g) (nI h) (nI p) bs hb k 0 a1 a2 a3 a4 a5 a6 a7 a8 a9 a10 a11 a12 a13 a14 := by
  refine pk_loop (σ := Nat → Int64) (fun k i s => wX_startClasses_60 post (nI n) (nI g) (nI h) (nI p) bs hb k (nI i) a1 a2 a3 a4 a5 s a7 a8 a9 a10 a11 a12 a13 a14)
    (fun i s => tg_Z a1 → ∀ v, v < 14 → s v = lN (tg_M px py i v)) p 0 a6 (by omega) (fun z v hv => h6 z v hv) ?_ ?_
  · intro k s hs
    exact pk_le p p (fun _ => tg_regroup (d := 0) (by omega) hC (fun r F b4 b5 q1 q2 _ => hp F b4 b5 s q1 q2 hs)) (fun z => absurd z (by omega))
  · intro k i s hi hs hw
    obtain ⟨x1, x2⟩ := h2 i hi
    obtain ⟨y1, y2⟩ := h3 i hi
    refine pk_le p i (fun z => absurd z (by omega)) (fun _ => ?_)
    have ey : 7 + nI (py i) = nI (7 + py i) := nI_add 7 (py i)
    have e4 : (4 * (nI i + 1)).toInt64 = lN (4 * (i + 1)) := by
      rw [show (4 : Int32) = nI 4 from rfl, nI_1, pk_mul, nI_l (by omega)]
    rw [nI_clamp (show i < 2 ^ 31 by omega), x2, y2, ey, nI_clamp (show px i < 2 ^ 31 by omega), nI_clamp (show 7 + py i < 2 ^ 31 by omega), e4]
    refine ⟨pk_in i 7 (by omega), pk_in (px i) 14 (by omega), pk_in (px i) 14 (by omega), nm_e ⟨pk_in i 7 (by omega), pk_in (7 + py i) 14 (by omega), pk_in (7 + py i) 14 (by omega), nm_e (nm_r (nI_1 i) (hw _ (fun z v hv => ?_)))⟩⟩
    show vp_updL (vp_updL s (px i) (s (px i) + lN (4 * (i + 1)))) (7 + py i) (vp_updL s (px i) (s (px i) + lN (4 * (i + 1))) (7 + py i) + lN (4 * (i + 1))) v = lN (tg_M px py (i + 1) v)
    have sv := hs z
    rw [tg_M_s]
    by_cases e1 : v = 7 + py i
    · rw [if_pos e1, if_neg (by omega), e1, pk_uLs, pk_uLn (by omega), sv _ (by omega), lN_add]; rfl
    · rw [if_neg e1, pk_uLn e1]
      by_cases e2 : v = px i
      · rw [if_pos e2, e2, pk_uLs, sv _ (by omega), lN_add]; rfl
      · rw [if_neg e2, pk_uLn e2]
        exact sv v hv
theorem tg_start {post : St2 → Prop} {n g h p : Nat} {px py : Nat → Nat} (hg : g < 2) (hh : h < 2) (hn : n ≤ 7) (hp7 : p ≤ 7)
    (h2 : ∀ k, k < p → px k < 7 ∧ a2 k = nI (px k)) (h3 : ∀ k, k < p → py k < 7 ∧ a3 k = nI (py k))
    (hp : ∀ F b4 b5 m, tg_R (tg_C0 n) m F → tg_C b4 0 F → (tg_Z a1 → ∀ v, v < 14 → m v = lN (tg_M px py p v)) → post (nI n, nI g, nI h, nI p, bs, hb, a1, a2, a3, b4, b5, m, a7, a8, a9, a10, a11, a12, a13, a14)) :
    wpX_startClasses post (nI n, nI g, nI h, nI p, bs, hb, a1, a2, a3, a4, a5, a6, a7, a8, a9, a10, a11, a12, a13, a14) := by
  refine pk_loop (σ := (Nat → Int32) × (Nat → Int64)) (fun k i s => wX_startClasses_2 post (nI n) (nI g) (nI h) (nI p) bs hb k (nI i) a1 a2 a3 s.1 a5 s.2 a7 a8 a9 a10 a11 a12 a13 a14)
    (fun i s => ∀ v, v < i → s.1 v = nI (tg_C0 n v) ∧ (tg_Z a1 → s.2 v = 0)) 14 0 (a4, a6) (by omega) (fun v hv => absurd hv (by omega)) ?_ ?_
  · rintro k ⟨b4, b6⟩ hs
    exact pk_le 14 14 (fun _ => tg_sc60 hn hp7 h2 h3 (fun v hv => ⟨tg_c0_lt hv, by rw [Nat.mul_zero, Nat.zero_add]; exact (hs v hv).1⟩) (fun z v hv => (hs v hv).2 z) hp) (fun z => absurd z (by omega))
  · rintro k i ⟨b4, b6⟩ hi hs hw
    refine pk_le 14 i (fun z => absurd z (by omega)) (fun _ => tg_inUse hn hi (fun u => br_f (by decide) (tg_sc26 hg hh hn hi (fun m m1 m2 => hw (_, m) (fun v hv => ?_)))) (fun u => br_t rfl (tg_sc26 hg hh hn hi (fun m m1 m2 => hw (_, m) (fun v hv => ?_)))))
    · show upd b4 i 0 v = nI (tg_C0 n v) ∧ (tg_Z a1 → m v = 0)
      by_cases e : v = i
      · subst e
        exact ⟨by rw [pk_us]; unfold tg_C0; rw [if_pos u]; rfl, m2⟩
      · rw [pk_un e, m1 v e]
        exact hs v (by omega)
    · show upd b4 i (nI i) v = nI (tg_C0 n v) ∧ (tg_Z a1 → m v = 0)
      by_cases e : v = i
      · subst e
        exact ⟨by rw [pk_us]; unfold tg_C0; rw [if_neg u], m2⟩
      · rw [pk_un e, m1 v e]
        exact hs v (by omega)
end
section
variable {fn gx gy pn hb : Int32} {bs : Int64} {a1 a2 a3 a4 a5 a7 a8 a9 a10 a11 a14 : Nat → Int32} {a6 a12 a13 : Nat → Int64}
theorem tg_one64 : (1 : Int64) <<< ((4 * (0 : Int32)).toInt64 &&& 63) = 1 := by decide
theorem tg_mb33 {post : St2 → Prop} {J : Int32 → (Nat → Int32) → (Nat → Int32) → (Nat → Int32) → (Nat → Int32) → (Nat → Int32) → (Nat → Int64) → (Nat → Int32) → (Nat → Int32) → (Nat → Int32) → (Nat → Int32) → (Nat → Int32) → (Nat → Int64) → (Nat → Int64) → (Nat → Int32) → Prop}
    {n g h d v c o : Nat} {C : Nat → Nat} (hg : g < 2) (hh : h < 2) (hn : n ≤ 7) (hd : d ≤ 8) (hv : v < 14) (hc : c < 14) (ho : (v < 7 ∧ o = 0) ∨ (7 ≤ v ∧ o = 7)) (hC : tg_C a4 d C) (h6 : a6 v = 0)
    (hp : ∀ m, (∀ u, u ≠ v → m u = a6 u) → (tg_Z a1 → tg_used n v → m v = lN (tg_N (fun w => decide (o + w ≠ v ∧ C (o + w) = c)) n)) → J (nI (v + 1)) a1 a2 a3 a4 a5 m a7 a8 a9 a10 a11 a12 a13 a14) :
    ∃ k, wX_markBy_33 post J (nI d) (nI c) (nI v) (nI o) (nI n) (nI g) (nI h) pn bs hb k (nI o) a1 a2 a3 a4 a5 a6 a7 a8 a9 a10 a11 a12 a13 a14 := by
  have ho7 : o ≤ 7 := by rcases ho with q | q <;> omega
  refine pk_loop (σ := Nat → Int64) (fun k i s => wX_markBy_33 post J (nI d) (nI c) (nI v) (nI o) (nI n) (nI g) (nI h) pn bs hb k (nI (o + i)) a1 a2 a3 a4 a5 s a7 a8 a9 a10 a11 a12 a13 a14)
    (fun i s => (∀ u, u ≠ v → s u = a6 u) ∧ (tg_Z a1 → tg_used n v → s v = lN (tg_N (fun w => decide (o + w ≠ v ∧ C (o + w) = c)) i))) n 0 a6 (by omega) ⟨fun _ _ => rfl, fun _ _ => h6⟩ ?_ ?_
  · rintro k s ⟨s1, s2⟩
    exact pk_le (o + n) (o + n) (fun _ => nm_r (nI_1 v) (hp s s1 s2)) (fun z => absurd z (by omega)) (nI_add o n)
  · rintro k i s hi ⟨s1, s2⟩ hw
    have hi14 : o + i < 14 := by omega
    obtain ⟨c1, e1⟩ := hC (o + i) hi14
    refine pk_le (o + n) (o + i) (fun z => absurd z (by omega)) (fun _ => tg_inUse hn hv (fun u => br_f (by decide) ?_) (fun u => br_t rfl (nm_r (nI_1 _) (hw s ⟨s1, fun _ q => absurd q u⟩)))) (nI_add o n)
    refine pk_eq (o + i) v (fun z => nm_r (nI_1 _) (hw s ⟨s1, fun q1 q2 => ?_⟩)) (fun z => ⟨pk_in (14 * d + (o + i)) 128 (by omega) (tg_ix d (o + i)), ?_⟩)
    · rw [tg_N_f (fun y => (of_decide_eq_true y).1 z)]
      exact s2 q1 q2
    · rw [tg_cl hd hi14]
      refine pk_eq (C (o + i)) c (fun y => ⟨pk_in v 14 hv, tg_shade hg hh hn hv ho (by omega) (fun x hx => ⟨pk_in v 14 hv, ?_⟩)⟩) (fun y => nm_r (nI_1 _) (hw s ⟨s1, fun q1 q2 => ?_⟩)) e1
      · refine nm_r (by rw [nI_clamp (show v < 2 ^ 31 by omega)]) (nm_r (nI_1 _) (hw _ ⟨fun u hu => ?_, fun q1 q2 => ?_⟩))
        · rw [pk_uLn hu]
          exact s1 u hu
        · rw [pk_uLs, hx q1, tg_one64, s2 q1 q2, lN_1, tg_N_t (decide_eq_true ⟨z, y⟩)]
      · rw [tg_N_f (fun x => y (of_decide_eq_true x).2)]
        exact s2 q1 q2
theorem tg_markBy {post : St2 → Prop} {n g h d c : Nat} {C : Nat → Nat} (hg : g < 2) (hh : h < 2) (hn : n ≤ 7) (hd : d ≤ 8) (hc : c < 14) (hC : tg_C a4 d C)
    (hp : ∀ m, (tg_Z a1 → ∀ v, v < 14 → tg_used n v → m v = lN (tg_K n C c v)) → post (nI n, nI g, nI h, pn, bs, hb, a1, a2, a3, a4, a5, m, a7, a8, a9, a10, a11, a12, a13, a14)) :
    wpX_markBy post (nI n, nI g, nI h, pn, bs, hb, a1, a2, a3, a4, a5, a6, a7, a8, a9, a10, a11, a12, a13, a14) (nI d) (nI c) := by
  refine pk_loop (σ := Nat → Int64) (fun k i s => wX_markBy_2 post (nI d) (nI c) (nI n) (nI g) (nI h) pn bs hb k (nI i) a1 a2 a3 a4 a5 s a7 a8 a9 a10 a11 a12 a13 a14)
    (fun i s => tg_Z a1 → ∀ v, v < i → tg_used n v → s v = lN (tg_K n C c v)) 14 0 a6 (by omega) (fun _ v hv => absurd hv (by omega)) ?_ ?_
  · intro k s hs
    exact pk_le 14 14 (fun _ => hp s hs) (fun z => absurd z (by omega))
  · intro k i s hi hs hw
    refine pk_le 14 i (fun z => absurd z (by omega)) (fun _ => ⟨pk_in i 14 hi, nm_r (by rw [nI_clamp (show i < 2 ^ 31 by omega)]) (pk_le 7 i (fun z => ?_) (fun z => ?_))⟩)
    · refine tg_mb33 (o := 7) hg hh hn hd hi hc (Or.inr ⟨z, rfl⟩) hC pk_uLs (fun m m1 m2 => hw m (fun q v hv hu => ?_))
      by_cases e : v = i
      · subst e
        rw [m2 q hu]
        unfold tg_K
        rw [if_pos z]
      · rw [m1 v e, pk_uLn e]
        exact hs q v (by omega) hu
    · refine tg_mb33 (o := 0) hg hh hn hd hi hc (Or.inl ⟨z, rfl⟩) hC pk_uLs (fun m m1 m2 => hw m (fun q v hv hu => ?_))
      by_cases e : v = i
      · subst e
        rw [m2 q hu]
        unfold tg_K
        rw [if_neg (by omega)]
        simp only [Nat.zero_add]
      · rw [m1 v e, pk_uLn e]
        exact hs q v (by omega) hu
theorem tg_fr_r (d : Nat) (a : Nat → Int32) : tg_Fr d a a := fun _ _ => rfl
theorem tg_fr_t {d : Nat} {a b c : Nat → Int32} (h : tg_Fr d a b) (k : tg_Fr d b c) : tg_Fr d a c := fun j hj => (k j hj).trans (h j hj)
/-- refine keeps what every split by counting keeps -/
theorem tg_refine {post : St2 → Prop} {n g h d : Nat} {C : Nat → Nat} (Q : (Nat → Nat) → Prop) (hg : g < 2) (hh : h < 2) (hn : n ≤ 7) (hd : d ≤ 8) (hC : tg_C a4 d C) (hQ : Q C)
    (hs : ∀ D c m F, Q D → (tg_Z a1 → ∀ v, v < 14 → tg_used n v → m v = lN (tg_K n D c v)) → tg_R D m F → Q F)
    (hp : ∀ D b4 b5 m, Q D → tg_C b4 d D → tg_Fr d a4 b4 → post (nI n, nI g, nI h, pn, bs, hb, a1, a2, a3, b4, b5, m, a7, a8, a9, a10, a11, a12, a13, a14)) :
    wpX_refine post (nI n, nI g, nI h, pn, bs, hb, a1, a2, a3, a4, a5, a6, a7, a8, a9, a10, a11, a12, a13, a14) (nI d) := by
  refine pk_loop (σ := Int32 × (Nat → Int32) × (Nat → Int32) × (Nat → Int64)) (fun k i s => wX_refine_4 post (nI d) k s.1 (nI i) (nI n) (nI g) (nI h) pn bs hb a1 a2 a3 s.2.1 s.2.2.1 s.2.2.2 a7 a8 a9 a10 a11 a12 a13 a14)
    (fun i s => ∃ D, Q D ∧ tg_C s.2.1 d D ∧ tg_Fr d a4 s.2.1) 15 0 (1, a4, a5, a6) (by omega) ⟨C, hQ, hC, tg_fr_r d a4⟩ ?_ ?_
  · rintro k ⟨x, b4, b5, m⟩ ⟨D, q1, q2, q3⟩
    exact pk_le 15 15 (fun _ => hp D b4 b5 m q1 q2 q3) (fun z => absurd z (by omega))
  · rintro k i ⟨x, b4, b5, m⟩ hi ⟨D, q1, q2, q3⟩ hw
    refine pk_le 15 i (fun z => absurd z (by omega)) (fun _ => br_c (fun _ => hp D b4 b5 m q1 q2 q3) (fun _ => ?_))
    refine pk_loop (σ := Int32 × (Nat → Int32) × (Nat → Int32) × (Nat → Int64)) (fun f j s => wX_refine_19 post (wX_refine_4 post (nI d) k) (nI d) (nI i) f s.1 (nI j) (nI n) (nI g) (nI h) pn bs hb a1 a2 a3 s.2.1 s.2.2.1 s.2.2.2 a7 a8 a9 a10 a11 a12 a13 a14)
      (fun j s => ∃ D, Q D ∧ tg_C s.2.1 d D ∧ tg_Fr d a4 s.2.1) 14 0 (0, b4, b5, m) (by omega) ⟨D, q1, q2, q3⟩ ?_ ?_
    · rintro f ⟨x, b4, b5, m⟩ q
      exact pk_le 14 14 (fun _ => nm_r (nI_1 i) (hw (x, b4, b5, m) q)) (fun z => absurd z (by omega))
    · rintro f j ⟨x, b4, b5, m⟩ hj ⟨D, q1, q2, q3⟩ hv
      refine pk_le 14 j (fun z => absurd z (by omega)) (fun _ => tg_inUse hn hj (fun u => br_f (by decide) ⟨pk_in (14 * d + j) 128 (by omega) (tg_ix d j), ?_⟩) (fun u => br_t rfl (nm_r (nI_1 j) (hv (x, b4, b5, m) ⟨D, q1, q2, q3⟩))))
      rw [tg_cl hd hj]
      obtain ⟨c1, e1⟩ := q2 j hj
      refine pk_eq (D j) j (fun z => ?_) (fun z => nm_r (nI_1 j) (hv (x, b4, b5, m) ⟨D, q1, q2, q3⟩)) e1
      refine tg_markBy hg hh hn hd hj q2 (fun m' hm' => tg_regroup hd q2 (fun r F b4' b5' r1 r2 r3 => ?_))
      have N : ∃ E, Q E ∧ tg_C b4' d E ∧ tg_Fr d a4 b4' := ⟨F, hs D j m' F q1 hm' r1, r2, tg_fr_t q3 r3⟩
      exact br_c (fun _ => br_c (fun _ => nm_r (nI_1 j) (hv (0, b4', b5', m') N)) (fun _ => nm_r (nI_1 j) (hv (1, b4', b5', m') N))) (fun _ => nm_r (nI_1 j) (hv (1, b4', b5', m') N))
end
section
variable {fn gx gy pn hb : Int32} {bs : Int64} {a1 a2 a3 a4 a5 a7 a8 a9 a10 a11 a14 : Nat → Int32} {a6 a12 a13 : Nat → Int64}
theorem tg_ix7 (d i : Nat) : ((14 * nI d) + nI i) + 7 = nI (14 * d + (7 + i)) := by
  rw [tg_ix, show (7 : Int32) = nI 7 from rfl, nI_add]
  congr 1
  omega
theorem tg_ix7' (d i : Nat) : ((14 * nI d) + 7) + nI i = nI (14 * d + (7 + i)) := by
  rw [show (7 : Int32) = nI 7 from rfl, tg_ix, nI_add]
  congr 1
  omega
theorem tg_ix14 (d i : Nat) : ((14 * nI d) + 14) + nI i = nI (14 * (d + 1) + i) := by
  rw [show ((14 : Int32) * nI d) + 14 = (14 * nI d) + nI 14 from rfl, tg_ix, nI_add]
  congr 1
theorem tg_bl51 {post : Int32 → Prop} {J4 : Int32 → Int32 → Prop} {J19 : Int32 → Int32 → Int32 → Prop} {x2 z0 : Int32} {n d c i : Nat} {y x : Nat} {C : Nat → Nat} (hn : n ≤ 7) (hd : d ≤ 8) (hc : c < 14) (hi : i < n) (hC : tg_C a4 d C)
    (hp : J19 (nI x + z0) (nI (y + (if C (7 + i) = c then 1 else 0))) (nI (i + 1))) :
    wX_balance_51 post J4 J19 (nI d) x2 (nI c) (nI y) (nI i) z0 (nI x) fn gx gy pn bs hb a1 a2 a3 a4 a5 a6 a7 a8 a9 a10 a11 a12 a13 a14 := by
  unfold wX_balance_51
  obtain ⟨c1, e1⟩ := hC (7 + i) (by omega)
  refine nm_e ⟨pk_in (14 * d + (7 + i)) 128 (by omega) (tg_ix7 d i), ?_⟩
  rw [pk_cl (14 * d + (7 + i)) (tg_ix7 d i)]
  refine pk_eq (C (7 + i)) c (fun z => nm_r (nI_1 y) (nm_r (nI_1 i) ?_)) (fun z => nm_r (nI_add y 0) (nm_r (nI_1 i) ?_)) e1
  · rw [if_pos z] at hp
    exact hp
  · rw [if_neg z] at hp
    exact hp
theorem tg_bl19 {post : Int32 → Prop} {J4 : Int32 → Int32 → Prop} {x2 : Int32} {n d c : Nat} {C : Nat → Nat} (hn : n ≤ 7) (hd : d ≤ 8) (hc : c < 14) (hC : tg_C a4 d C)
    (h0 : tg_cx n C c ≠ tg_cy n C c → post 0) (h1 : tg_cx n C c = tg_cy n C c → tg_cx n C c ≤ 1 → J4 x2 (nI (c + 1))) (h2 : tg_cx n C c = tg_cy n C c → 1 < tg_cx n C c → J4 2 (nI (c + 1))) :
    ∃ k, wX_balance_19 post J4 (nI d) x2 (nI c) (nI n) gx gy pn bs hb a1 a2 a3 a4 a5 a6 a7 a8 a9 a10 a11 a12 a13 a14 k 0 0 0 := by
  have lx := tg_N_le (fun v => decide (C v = c)) n
  have ly := tg_N_le (fun v => decide (C (7 + v) = c)) n
  refine pk_loop (σ := Unit) (fun k i _ => wX_balance_19 post J4 (nI d) x2 (nI c) (nI n) gx gy pn bs hb a1 a2 a3 a4 a5 a6 a7 a8 a9 a10 a11 a12 a13 a14 k (nI (tg_cx i C c)) (nI (tg_cy i C c)) (nI i))
    (fun _ _ => True) n 0 () (by omega) trivial ?_ ?_
  · intro k _ _
    refine pk_le n n (fun _ => pk_eq (tg_cx n C c) (tg_cy n C c) (fun e => pk_le (tg_cx n C c) 1 (fun z => nm_r (nI_1 c) (h1 e z)) (fun z => nm_r (nI_1 c) (h2 e z)) rfl rfl ?_) h0 rfl rfl ?_ ?_) (fun z => absurd z (by omega))
    · unfold tg_cx; omega
    · unfold tg_cx; omega
    · unfold tg_cy; omega
  · intro k i _ hi _ hw
    obtain ⟨c1, e1⟩ := hC i (by omega)
    have hw' : wX_balance_19 post J4 (nI d) x2 (nI c) (nI n) gx gy pn bs hb a1 a2 a3 a4 a5 a6 a7 a8 a9 a10 a11 a12 a13 a14 k (nI (tg_cx (i + 1) C c)) (nI (tg_cy (i + 1) C c)) (nI (i + 1)) := hw () trivial
    have ey : tg_cy (i + 1) C c = tg_cy i C c + (if C (7 + i) = c then 1 else 0) := by
      unfold tg_cy
      by_cases e : C (7 + i) = c
      · rw [if_pos e, tg_N_t (decide_eq_true e)]
      · rw [if_neg e, tg_N_f (fun z => e (of_decide_eq_true z))]
        rfl
    refine pk_le n i (fun z => absurd z (by omega)) (fun _ => ⟨pk_in (14 * d + i) 128 (by omega) (tg_ix d i), ?_⟩)
    rw [tg_cl hd (show i < 14 by omega)]
    refine pk_eq (C i) c (fun z => tg_bl51 hn hd hc hi hC ?_) (fun z => tg_bl51 hn hd hc hi hC ?_) e1
    · have ex : tg_cx (i + 1) C c = tg_cx i C c + 1 := tg_N_t (decide_eq_true z)
      rw [ex, ey] at hw'
      rw [nI_1]
      exact hw'
    · have ex : tg_cx (i + 1) C c = tg_cx i C c + 0 := tg_N_f (fun q => z (of_decide_eq_true q))
      rw [ex, ey, ← nI_add] at hw'
      exact hw'
theorem tg_balance {post : Int32 → Prop} {n d : Nat} {C : Nat → Nat} (hn : n ≤ 7) (hd : d ≤ 8) (hC : tg_C a4 d C)
    (h0 : (∃ c, tg_cx n C c ≠ tg_cy n C c) → post 0) (h1 : tg_One n C → post 1) (h2 : (∃ c, 1 < tg_cx n C c) → post 2) :
    wpX_balance post (nI n, gx, gy, pn, bs, hb, a1, a2, a3, a4, a5, a6, a7, a8, a9, a10, a11, a12, a13, a14) (nI d) := by
  refine pk_loop (σ := Int32) (fun k i s => wX_balance_4 post (nI d) (nI n) gx gy pn bs hb a1 a2 a3 a4 a5 a6 a7 a8 a9 a10 a11 a12 a13 a14 k s (nI i))
    (fun i s => (s = 1 ∧ ∀ c, c < i → tg_cx n C c = tg_cy n C c ∧ tg_cx n C c ≤ 1) ∨ (s = 2 ∧ ∃ c, 1 < tg_cx n C c)) 14 0 1 (by omega) (Or.inl ⟨rfl, fun c hc => absurd hc (by omega)⟩) ?_ ?_
  · intro k s hs
    refine pk_le 14 14 (fun _ => ?_) (fun z => absurd z (by omega))
    rcases hs with ⟨rfl, h⟩ | ⟨rfl, h⟩
    · exact h1 h
    · exact h2 h
  · intro k i s hi hs hw
    refine pk_le 14 i (fun z => absurd z (by omega)) (fun _ => tg_bl19 hn hd hi hC (fun e => h0 ⟨i, e⟩) (fun e q => hw s ?_) (fun e q => hw 2 (Or.inr ⟨rfl, i, q⟩)))
    rcases hs with ⟨e1, h⟩ | h
    · refine Or.inl ⟨e1, fun c hc => ?_⟩
      by_cases z : c = i
      · rw [z]; exact ⟨e, q⟩
      · exact h c (by omega)
    · exact Or.inr h
theorem tg_shared {post : Int32 → Prop} {n d v : Nat} {C : Nat → Nat} (hn : n ≤ 7) (hd : d ≤ 8) (hv : v < n) (hC : tg_C a4 d C) (h1 : tg_sh n C v → post 1) (h0 : ¬ tg_sh n C v → post 0) :
    wpX_shared post (nI n, gx, gy, pn, bs, hb, a1, a2, a3, a4, a5, a6, a7, a8, a9, a10, a11, a12, a13, a14) (nI d) (nI v) := by
  refine pk_loop (σ := Unit) (fun k i _ => wX_shared_2 post (nI d) (nI v) (nI n) gx gy pn bs hb a1 a2 a3 a4 a5 a6 a7 a8 a9 a10 a11 a12 a13 a14 k (nI i))
    (fun i _ => ∀ u, u < i → u ≠ v → C u ≠ C v) n 0 () (by omega) (fun u hu => absurd hu (by omega)) ?_ ?_
  · intro k _ h
    exact pk_le n n (fun _ => h0 (fun q => by obtain ⟨u, g1, g2, g3⟩ := q; exact h u g1 g2 g3)) (fun z => absurd z (by omega))
  · intro k i _ hi h hw
    obtain ⟨c1, e1⟩ := hC i (by omega)
    obtain ⟨c2, e2⟩ := hC v (by omega)
    refine pk_le n i (fun z => absurd z (by omega)) (fun _ => pk_eq i v (fun z => nm_r (nI_1 i) (hw () (fun u hu ne => h u (by omega) ne))) (fun z => ⟨pk_in (14 * d + i) 128 (by omega) (tg_ix d i), pk_in (14 * d + v) 128 (by omega) (tg_ix d v), ?_⟩))
    rw [tg_cl hd (show i < 14 by omega), tg_cl hd (show v < 14 by omega)]
    refine pk_eq (C i) (C v) (fun y => h1 ⟨i, hi, z, y⟩) (fun y => nm_r (nI_1 i) (hw () (fun u hu ne => ?_))) e1 e2
    by_cases q : u = i
    · rw [q]; exact y
    · exact h u (by omega) ne
theorem tg_chooseX {post : St2 → Prop} {n d : Nat} {C : Nat → Nat} (hn : n ≤ 7) (hd : d ≤ 8) (hC : tg_C a4 d C) (hs : ∃ v, v < n ∧ tg_sh n C v)
    (hp : ∀ x, x < n → tg_sh n C x → post (nI n, gx, gy, pn, bs, hb, a1, a2, a3, a4, a5, a6, upd a7 d (nI x), upd a8 d (nI 7), a9, a10, a11, a12, a13, a14)) :
    wpX_chooseX post (nI n, gx, gy, pn, bs, hb, a1, a2, a3, a4, a5, a6, a7, a8, a9, a10, a11, a12, a13, a14) (nI d) := by
  refine ⟨pk_in d 9 (by omega), nm_r (show upd a8 (nI d).toNatClampNeg 7 = upd a8 d (nI 7) by rw [nI_clamp (show d < 2 ^ 31 by omega)]; rfl) (nm_r (show nI n - 1 = nI n + (-1) from Int32.sub_eq_add_neg _ _) ?_)⟩
  refine ⟨_, pk_loopD (σ := Int32) (fun k i s => wX_chooseX_17 post (nI d) (nI n) gx gy pn bs hb a1 a2 a3 a4 a5 a6 a7 (upd a8 d (nI 7)) a9 a10 a11 a12 a13 a14 k s (nI i + (-1)))
    (fun i s => i ≤ n ∧ ∃ x, s = nI x ∧ ((x < n ∧ tg_sh n C x) ∨ (∀ v, i ≤ v → v < n → ¬ tg_sh n C v))) ?_ ?_ n 0 ⟨Nat.le_refl n, 0, rfl, Or.inr (fun v h1 h2 => absurd h1 (by omega))⟩⟩
  · rintro k s ⟨_, x, rfl, h⟩
    refine br_t (by decide) ⟨pk_in d 9 (by omega), nm_r (by rw [nI_clamp (show d < 2 ^ 31 by omega)]) ?_⟩
    rcases h with ⟨h1, h2⟩ | h
    · exact hp x h1 h2
    · obtain ⟨v, h1, h2⟩ := hs
      exact absurd h2 (h v (by omega) h1)
  · rintro k i s ⟨hi, x, rfl, h⟩ hw
    show wX_chooseX_17 post (nI d) (nI n) gx gy pn bs hb a1 a2 a3 a4 a5 a6 a7 (upd a8 d (nI 7)) a9 a10 a11 a12 a13 a14 (k + 1) (nI x) (nI (i + 1) + (-1))
    rw [pk_m1]
    refine br_f (nI_pos (by omega)) (tg_shared hn hd (show i < n by omega) hC (fun q => br_f (by decide) (nm_e (hw (nI i) ⟨by omega, i, rfl, Or.inl ⟨by omega, q⟩⟩))) (fun q => br_t rfl (nm_e (hw (nI x) ⟨by omega, x, rfl, ?_⟩))))
    rcases h with h | h
    · exact Or.inl h
    · refine Or.inr (fun v h1 h2 => ?_)
      by_cases e : v = i
      · rw [e]; exact q
      · exact h v (by omega) h2
theorem tg_tn62 {post : Int32 → St2 → Prop} {n d x y : Nat} {C : Nat → Nat} (hd : d ≤ 7) (hx : x < 14) (hy : y < 14) (hC : tg_C a4 d C)
    (hp : ∀ F b4 b5 m, tg_R C (tg_m2 x y) F → tg_C b4 (d + 1) F → tg_Fr (d + 1) a4 b4 → post 1 (nI n, gx, gy, pn, bs, hb, a1, a2, a3, b4, b5, m, a7, a8, a9, a10, a11, a12, a13, a14)) :
    ∃ k, wX_tryNext_62 post (nI d) (nI x) (nI y) (nI n) gx gy pn bs hb k 0 a1 a2 a3 a4 a5 a6 a7 a8 a9 a10 a11 a12 a13 a14 := by
  refine pk_loop (σ := (Nat → Int32) × (Nat → Int64)) (fun k i s => wX_tryNext_62 post (nI d) (nI x) (nI y) (nI n) gx gy pn bs hb k (nI i) a1 a2 a3 s.1 a5 s.2 a7 a8 a9 a10 a11 a12 a13 a14)
    (fun i s => (∀ v, v < i → s.1 (14 * (d + 1) + v) = nI (C v) ∧ s.2 v = tg_m2 x y v) ∧ tg_Fr (d + 1) a4 s.1) 14 0 (a4, a6) (by omega) ⟨fun v hv => absurd hv (by omega), fun _ _ => rfl⟩ ?_ ?_
  · rintro k ⟨b4, m⟩ ⟨h1, h2⟩
    refine pk_le 14 14 (fun _ => ?_) (fun z => absurd z (by omega))
    rw [nI_1 d]
    exact tg_regroup (d := d + 1) (by omega) (fun v hv => ⟨(hC v hv).1, (h1 v hv).1⟩) (fun r F b4' b5' r1 r2 r3 => hp F b4' b5' m (tg_R_cm (fun v hv => (h1 v hv).2) r1) r2 (tg_fr_t h2 r3))
  · rintro k i ⟨b4, m⟩ hi ⟨h1, h2⟩ hw
    refine pk_le 14 i (fun z => absurd z (by omega)) (fun _ => ⟨pk_in (14 * d + i) 128 (by omega) (tg_ix d i), pk_in (14 * (d + 1) + i) 128 (by omega) (tg_ix14 d i), ?_⟩)
    rw [pk_cl (14 * (d + 1) + i) (tg_ix14 d i), tg_cl (show d ≤ 8 by omega) hi, nI_clamp (show i < 2 ^ 31 by omega)]
    have e4 : b4 (14 * d + i) = nI (C i) := (h2 (14 * d + i) (by omega)).trans (hC i hi).2
    dsimp only
    rw [e4]
    have st : ∀ t : Int64, t = tg_m2 x y i → ((∀ v, v < i + 1 → upd b4 (14 * (d + 1) + i) (nI (C i)) (14 * (d + 1) + v) = nI (C v) ∧ vp_updL m i t v = tg_m2 x y v) ∧ tg_Fr (d + 1) a4 (upd b4 (14 * (d + 1) + i) (nI (C i)))) := by
      intro t ht
      refine ⟨fun v hv => ?_, fun j hj => ?_⟩
      · by_cases e : v = i
        · subst e
          rw [pk_us, pk_uLs]
          exact ⟨rfl, ht⟩
        · rw [pk_un (by omega), pk_uLn e]
          exact h1 v (by omega)
      · rw [pk_un (by omega)]
        exact h2 j hj
    refine nm_e (pk_eq i x (fun z => ⟨pk_in i 14 hi, nm_e (nm_r (nI_1 i) (hw (_, _) (st 1 ?_)))⟩) (fun z => pk_eq i y (fun z' => ⟨pk_in i 14 hi, nm_e (nm_r (nI_1 i) (hw (_, _) (st 1 ?_)))⟩) (fun z' => ⟨pk_in i 14 hi, nm_e (nm_r (nI_1 i) (hw (_, _) (st 0 ?_)))⟩)))
    · exact (tg_m2_1.mpr (Or.inl z)).symm
    · exact (tg_m2_1.mpr (Or.inr z')).symm
    · exact (tg_m2_0.mpr (fun q => by rcases q with q | q <;> omega)).symm
theorem tg_tryNext {post : Int32 → St2 → Prop} {n d x y : Nat} {C : Nat → Nat} (hn : n ≤ 7) (hd : d ≤ 7) (hx : x < n) (hy : y ≤ 7 + n) (hC : tg_C a4 d C) (h7 : a7 d = nI x) (h8 : a8 d = nI y)
    (h0 : (∀ w, y ≤ w → w < 7 + n → C w ≠ C x) → post 0 (nI n, gx, gy, pn, bs, hb, a1, a2, a3, a4, a5, a6, a7, a8, a9, a10, a11, a12, a13, a14))
    (h1 : ∀ w F b4 b5 m, y ≤ w → w < 7 + n → C w = C x → tg_R C (tg_m2 x w) F → tg_C b4 (d + 1) F → tg_Fr (d + 1) a4 b4 → post 1 (nI n, gx, gy, pn, bs, hb, a1, a2, a3, b4, b5, m, a7, upd a8 d (nI (w + 1)), a9, a10, a11, a12, a13, a14)) :
    wpX_tryNext post (nI n, gx, gy, pn, bs, hb, a1, a2, a3, a4, a5, a6, a7, a8, a9, a10, a11, a12, a13, a14) (nI d) := by
  refine ⟨pk_in d 9 (by omega), nm_r (show a7 (nI d).toNatClampNeg = nI x by rw [nI_clamp (show d < 2 ^ 31 by omega)]; exact h7) ⟨pk_in d 9 (by omega), nm_r (show a8 (nI d).toNatClampNeg = nI y by rw [nI_clamp (show d < 2 ^ 31 by omega)]; exact h8) ?_⟩⟩
  refine pk_loop (σ := Unit) (fun k i _ => wX_tryNext_14 post (nI d) (nI x) (nI n) gx gy pn bs hb a1 a2 a3 a4 a5 a6 a7 a8 a9 a10 a11 a12 a13 a14 k (nI i))
    (fun i _ => y ≤ i ∧ ∀ w, y ≤ w → w < i → C w ≠ C x) (7 + n) y () hy ⟨Nat.le_refl y, fun w q1 q2 => absurd q1 (by omega)⟩ ?_ ?_
  · rintro k _ ⟨_, h⟩
    exact pk_le (7 + n) (7 + n) (fun _ => h0 h) (fun z => absurd z (by omega)) (nI_add 7 n)
  · rintro k i _ hi ⟨hyi, h⟩ hw
    obtain ⟨c1, e1⟩ := hC i (by omega)
    obtain ⟨c2, e2⟩ := hC x (by omega)
    refine pk_le (7 + n) i (fun z => absurd z (by omega)) (fun _ => ⟨pk_in (14 * d + i) 128 (by omega) (tg_ix d i), pk_in (14 * d + x) 128 (by omega) (tg_ix d x), ?_⟩) (nI_add 7 n)
    rw [tg_cl (show d ≤ 8 by omega) (show i < 14 by omega), tg_cl (show d ≤ 8 by omega) (show x < 14 by omega)]
    refine pk_eq (C i) (C x) (fun z => ⟨pk_in d 9 (by omega), nm_r (show upd a8 (nI d).toNatClampNeg (nI i + 1) = upd a8 d (nI (i + 1)) by rw [nI_clamp (show d < 2 ^ 31 by omega), nI_1]) ?_⟩) (fun z => nm_r (nI_1 i) (hw () ⟨by omega, fun w q1 q2 => ?_⟩)) e1 e2
    · exact tg_tn62 hd (by omega) (by omega) hC (fun F b4 b5 m r1 r2 r3 => h1 i F b4 b5 m hyi hi z r1 r2 r3)
    · by_cases e : w = i
      · rw [e]; exact z
      · exact h w q1 (by omega)
end
section
variable {fn gx gy pn hb : Int32} {bs : Int64} {a1 a2 a3 a4 a5 a7 a8 a9 a10 a11 a14 : Nat → Int32} {a6 a12 a13 : Nat → Int64}
theorem tg_il12 {post : Int32 → St2 → Prop} {J : Int32 → (Nat → Int32) → (Nat → Int32) → (Nat → Int32) → (Nat → Int32) → (Nat → Int32) → (Nat → Int64) → (Nat → Int32) → (Nat → Int32) → (Nat → Int32) → (Nat → Int32) → (Nat → Int32) → (Nat → Int64) → (Nat → Int64) → (Nat → Int32) → Prop}
    {n d v : Nat} {C : Nat → Nat} (hn : n ≤ 7) (hd : d ≤ 8) (hv : v < n) (hC : tg_C a4 d C) (hy : ∃ y, y < n ∧ C (7 + y) = C v)
    (hp : ∀ b9 w, (∀ u, u ≠ v → b9 u = a9 u) → w < n → C (7 + w) = C v → b9 v = nI (7 + w) → J (nI (v + 1)) a1 a2 a3 a4 a5 a6 a7 a8 b9 a10 a11 a12 a13 a14) :
    ∃ k, wX_isLaying_12 post J (nI d) (nI v) (nI n) gx gy pn bs hb k 0 a1 a2 a3 a4 a5 a6 a7 a8 a9 a10 a11 a12 a13 a14 := by
  refine pk_loop (σ := Nat → Int32) (fun k i s => wX_isLaying_12 post J (nI d) (nI v) (nI n) gx gy pn bs hb k (nI i) a1 a2 a3 a4 a5 a6 a7 a8 s a10 a11 a12 a13 a14)
    (fun i s => (∀ u, u ≠ v → s u = a9 u) ∧ ((∃ w, w < i ∧ C (7 + w) = C v ∧ s v = nI (7 + w)) ∨ (∀ w, w < i → C (7 + w) ≠ C v))) n 0 a9 (by omega) ⟨fun _ _ => rfl, Or.inr (fun w hw => absurd hw (by omega))⟩ ?_ ?_
  · rintro k s ⟨s1, s2⟩
    refine pk_le n n (fun _ => nm_r (nI_1 v) ?_) (fun z => absurd z (by omega))
    rcases s2 with ⟨w, w1, w2, w3⟩ | h
    · exact hp s w s1 w1 w2 w3
    · obtain ⟨y, y1, y2⟩ := hy
      exact absurd y2 (h y y1)
  · rintro k i s hi ⟨s1, s2⟩ hw
    obtain ⟨c1, e1⟩ := hC (7 + i) (by omega)
    obtain ⟨c2, e2⟩ := hC v (by omega)
    refine pk_le n i (fun z => absurd z (by omega)) (fun _ => ⟨pk_in (14 * d + (7 + i)) 128 (by omega) (tg_ix7' d i), pk_in (14 * d + v) 128 (by omega) (tg_ix d v), ?_⟩)
    rw [pk_cl (14 * d + (7 + i)) (tg_ix7' d i), tg_cl hd (show v < 14 by omega)]
    refine pk_eq (C (7 + i)) (C v) (fun z => ⟨pk_in v 7 (by omega), nm_r (show upd s (nI v).toNatClampNeg (7 + nI i) = upd s v (nI (7 + i)) by rw [nI_clamp (show v < 2 ^ 31 by omega)]; exact congrArg _ (nI_add 7 i)) (nm_r (nI_1 i) (hw _ ⟨fun u hu => ?_, Or.inl ⟨i, by omega, z, pk_us⟩⟩))⟩) (fun z => nm_r (nI_1 i) (hw s ⟨s1, ?_⟩)) e1 e2
    · rw [pk_un hu]
      exact s1 u hu
    · rcases s2 with ⟨w, w1, w2, w3⟩ | h
      · exact Or.inl ⟨w, by omega, w2, w3⟩
      · refine Or.inr (fun w hw => ?_)
        by_cases e : w = i
        · rw [e]; exact z
        · exact h w (by omega)
theorem tg_il82 {post : Int32 → St2 → Prop} {J : Int32 → Prop} {n g h v : Nat} {im : Nat → Nat} (hg : g < 2) (hh : h < 2) (hn : n ≤ 7) (hv : v < n) (h9 : ∀ u, u < n → im u < n ∧ a9 u = nI (7 + im u))
    (h0 : ∀ w, w < n → a1 (49 * g + 7 * v + w) ≠ a1 (49 * h + 7 * im v + im w) → post 0 (nI n, nI g, nI h, pn, bs, hb, a1, a2, a3, a4, a5, a6, a7, a8, a9, a10, a11, a12, a13, a14))
    (h1 : (∀ w, w < n → a1 (49 * g + 7 * v + w) = a1 (49 * h + 7 * im v + im w)) → J (nI (v + 1))) :
    ∃ k, wX_isLaying_82 post J (nI v) (nI n) (nI g) (nI h) pn bs hb a1 a2 a3 a4 a5 a6 a7 a8 a9 a10 a11 a12 a13 a14 k 0 := by
  refine pk_loop (σ := Unit) (fun k i _ => wX_isLaying_82 post J (nI v) (nI n) (nI g) (nI h) pn bs hb a1 a2 a3 a4 a5 a6 a7 a8 a9 a10 a11 a12 a13 a14 k (nI i))
    (fun i _ => ∀ w, w < i → a1 (49 * g + 7 * v + w) = a1 (49 * h + 7 * im v + im w)) n 0 () (by omega) (fun w hw => absurd hw (by omega)) ?_ ?_
  · intro k _ q
    exact pk_le n n (fun _ => nm_r (nI_1 v) (h1 q)) (fun z => absurd z (by omega))
  · intro k i _ hi q hw
    obtain ⟨v1, v2⟩ := h9 v hv
    obtain ⟨i1, i2⟩ := h9 i hi
    refine pk_le n i (fun z => absurd z (by omega)) (fun _ => tg_shX hg (by omega) (by omega) ⟨pk_in v 7 (by omega), pk_in i 7 (by omega), ?_⟩)
    rw [nI_clamp (show v < 2 ^ 31 by omega), nI_clamp (show i < 2 ^ 31 by omega), v2, i2]
    refine tg_shY hh (by omega) (by omega) (br_c (fun e => nm_r (nI_1 i) (hw () (fun w hw => ?_))) (fun e => h0 i hi e))
    by_cases z : w = i
    · rw [z]; exact e
    · exact q w (by omega)
theorem tg_il72 {post : Int32 → St2 → Prop} {n g h : Nat} {im : Nat → Nat} (hg : g < 2) (hh : h < 2) (hn : n ≤ 7) (h9 : ∀ u, u < n → im u < n ∧ a9 u = nI (7 + im u))
    (h0 : ∀ v w, v < n → w < n → a1 (49 * g + 7 * v + w) ≠ a1 (49 * h + 7 * im v + im w) → post 0 (nI n, nI g, nI h, pn, bs, hb, a1, a2, a3, a4, a5, a6, a7, a8, a9, a10, a11, a12, a13, a14))
    (h1 : (∀ v w, v < n → w < n → a1 (49 * g + 7 * v + w) = a1 (49 * h + 7 * im v + im w)) → post 1 (nI n, nI g, nI h, pn, bs, hb, a1, a2, a3, a4, a5, a6, a7, a8, a9, a10, a11, a12, a13, a14)) :
    ∃ k, wX_isLaying_72 post (nI n) (nI g) (nI h) pn bs hb a1 a2 a3 a4 a5 a6 a7 a8 a9 a10 a11 a12 a13 a14 k 0 := by
  refine pk_loop (σ := Unit) (fun k i _ => wX_isLaying_72 post (nI n) (nI g) (nI h) pn bs hb a1 a2 a3 a4 a5 a6 a7 a8 a9 a10 a11 a12 a13 a14 k (nI i))
    (fun i _ => ∀ v w, v < i → w < n → a1 (49 * g + 7 * v + w) = a1 (49 * h + 7 * im v + im w)) n 0 () (by omega) (fun v w hv => absurd hv (by omega)) ?_ ?_
  · intro k _ q
    exact pk_le n n (fun _ => h1 q) (fun z => absurd z (by omega))
  · intro k i _ hi q hw
    refine pk_le n i (fun z => absurd z (by omega)) (fun _ => tg_il82 hg hh hn hi h9 (fun w hw => h0 i w hi hw) (fun q' => hw () (fun v w hv hw => ?_)))
    by_cases z : v = i
    · rw [z]; exact q' w hw
    · exact q v w (by omega) hw
theorem tg_isLaying {post : Int32 → St2 → Prop} {n g h d : Nat} {C : Nat → Nat} (hg : g < 2) (hh : h < 2) (hn : n ≤ 7) (hd : d ≤ 8) (hC : tg_C a4 d C) (h1 : tg_One n C)
    (hp0 : ∀ (b9 : Nat → Int32) (im : Nat → Nat), (∃ v w, v < n ∧ w < n ∧ im v < n ∧ im w < n ∧ a1 (49 * g + 7 * v + w) ≠ a1 (49 * h + 7 * im v + im w)) → post 0 (nI n, nI g, nI h, pn, bs, hb, a1, a2, a3, a4, a5, a6, a7, a8, b9, a10, a11, a12, a13, a14))
    (hp1 : ∀ (b9 : Nat → Int32) (im : Nat → Nat), (∀ v, v < n → im v < n) → (∀ b, b < n → ∃ v, v < n ∧ im v = b) → (∀ v w, v < n → w < n → a1 (49 * g + 7 * v + w) = a1 (49 * h + 7 * im v + im w)) → post 1 (nI n, nI g, nI h, pn, bs, hb, a1, a2, a3, a4, a5, a6, a7, a8, b9, a10, a11, a12, a13, a14)) :
    wpX_isLaying post (nI n, nI g, nI h, pn, bs, hb, a1, a2, a3, a4, a5, a6, a7, a8, a9, a10, a11, a12, a13, a14) (nI d) := by
  refine pk_loop (σ := Nat → Int32) (fun k i s => wX_isLaying_2 post (nI d) (nI n) (nI g) (nI h) pn bs hb k (nI i) a1 a2 a3 a4 a5 a6 a7 a8 s a10 a11 a12 a13 a14)
    (fun i s => ∀ v, v < i → ∃ w, w < n ∧ C (7 + w) = C v ∧ s v = nI (7 + w)) n 0 a9 (by omega) (fun v hv => absurd hv (by omega)) ?_ ?_
  · intro k s hs
    have hI : ∀ v, v < n → (s v).toNatClampNeg - 7 < n ∧ s v = nI (7 + ((s v).toNatClampNeg - 7)) ∧ C (7 + ((s v).toNatClampNeg - 7)) = C v := by
      intro v hv
      obtain ⟨w, w1, w2, w3⟩ := hs v hv
      rw [w3, nI_clamp (by omega), show 7 + w - 7 = w by omega]
      exact ⟨w1, rfl, w2⟩
    refine pk_le n n (fun _ => tg_il72 (im := fun v => (s v).toNatClampNeg - 7) hg hh hn (fun v hv => ⟨(hI v hv).1, (hI v hv).2.1⟩)
      (fun v w hv hw e => hp0 s (fun v => (s v).toNatClampNeg - 7) ⟨v, w, hv, hw, (hI v hv).1, (hI w hw).1, e⟩)
      (fun q => hp1 s (fun v => (s v).toNatClampNeg - 7) (fun v hv => (hI v hv).1) (fun b hb => ?_) q)) (fun z => absurd z (by omega))
    obtain ⟨x, x1, x2⟩ := tg_one_x h1 (hC (7 + b) (by omega)).1 hb
    refine ⟨x, x1, tg_one_u h1 (hC (7 + b) (by omega)).1 (hI x x1).1 hb ?_⟩
    rw [← x2]
    exact (hI x x1).2.2
  · intro k i s hi hs hw
    refine pk_le n i (fun z => absurd z (by omega)) (fun _ => tg_il12 hn hd hi hC (tg_one_y h1 (hC i (by omega)).1 hi) (fun b9 w q1 q2 q3 q4 => hw b9 (fun v hv => ?_)))
    by_cases z : v = i
    · subst z
      exact ⟨w, q2, q3, q4⟩
    · rw [q1 v z]
      exact hs v (by omega)
end
section
variable {fn gx gy pn hb : Int32} {bs : Int64} {a1 a2 a3 a4 a5 a7 a8 a9 a10 a11 a14 : Nat → Int32} {a6 a12 a13 : Nat → Int64}
/-- a level of the search that waits for its next try -/
def tg_V (n : Nat) (a4 a7 a8 : Nat → Int32) (l : Nat) : Prop :=
  ∃ C x y, tg_C a4 l C ∧ l ≤ tg_sg n C ∧ x < n ∧ a7 l = nI x ∧ 7 ≤ y ∧ y ≤ 7 + n ∧ a8 l = nI y ∧ tg_sh n C x
def tg_E (n : Nat) (a4 : Nat → Int32) (l : Nat) : Prop := ∃ C, tg_C a4 l C ∧ l ≤ tg_sg n C
theorem tg_V_fr {n l : Nat} {b4 b7 b8 : Nat → Int32} (h : tg_V n a4 a7 a8 l) (h4 : ∀ v, v < 14 → b4 (14 * l + v) = a4 (14 * l + v)) (h7 : b7 l = a7 l) (h8 : b8 l = a8 l) : tg_V n b4 b7 b8 l := by
  obtain ⟨C, x, y, q1, q2, q3, q4, q5, q6, q7, q8⟩ := h
  exact ⟨C, x, y, fun v hv => by rw [h4 v hv]; exact q1 v hv, q2, q3, h7.trans q4, q5, q6, h8.trans q7, q8⟩
theorem tg_two {n : Nat} {C : Nat → Nat} (h : ∃ c, 1 < tg_cx n C c) : ∃ v, v < n ∧ tg_sh n C v := by
  obtain ⟨c, hc⟩ := h
  obtain ⟨x, y, h1, h2, h3, h4, h5⟩ := tg_N_gt1 hc
  exact ⟨x, h1, y, h2, fun z => h3 z.symm, (of_decide_eq_true h5).trans (of_decide_eq_true h4).symm⟩
/-- exists, whatever is painted -/
theorem tg_exG {post : Int32 → St2 → Prop} {n g h p : Nat} {px py : Nat → Nat} (hg : g < 2) (hh : h < 2) (hn : n ≤ 7) (hp7 : p ≤ 7)
    (h2 : ∀ k, k < p → px k < 7 ∧ a2 k = nI (px k)) (h3 : ∀ k, k < p → py k < 7 ∧ a3 k = nI (py k))
    (hp : ∀ r b4 b5 m b7 b8 b9, (tg_NL n g h a1 → r = 0) → post r (nI n, nI g, nI h, nI p, bs, hb, a1, a2, a3, b4, b5, m, b7, b8, b9, a10, a11, a12, a13, a14)) :
    wpX_exists post (nI n, nI g, nI h, nI p, bs, hb, a1, a2, a3, a4, a5, a6, a7, a8, a9, a10, a11, a12, a13, a14) := by
  refine tg_start hg hh hn hp7 h2 h3 (fun F b4 b5 m r1 r2 _ => ?_)
  refine pk_loop (σ := Int32 × Int32 × (Nat → Int32) × (Nat → Int32) × (Nat → Int64) × (Nat → Int32) × (Nat → Int32) × (Nat → Int32))
    (fun k i s => wX_exists_10 post k s.1 s.2.1 (nI i) (nI n) (nI g) (nI h) (nI p) bs hb a1 a2 a3 s.2.2.1 s.2.2.2.1 s.2.2.2.2.1 s.2.2.2.2.2.1 s.2.2.2.2.2.2.1 s.2.2.2.2.2.2.2 a10 a11 a12 a13 a14)
    (fun i s => (∃ d, s.1 = nI d ∧ s.2.1 = 1 ∧ (∀ l, l < d → tg_V n s.2.2.1 s.2.2.2.2.2.1 s.2.2.2.2.2.2.1 l) ∧ tg_E n s.2.2.1 d) ∨ (∃ e, s.1 = nI e + (-1) ∧ s.2.1 = 0 ∧ ∀ l, l < e → tg_V n s.2.2.1 s.2.2.2.2.2.1 s.2.2.2.2.2.2.1 l))
    60000 0 (0, 1, b4, b5, m, a7, a8, a9) (by omega) (Or.inl ⟨0, rfl, rfl, fun l hl => absurd hl (by omega), F, r2, Nat.zero_le _⟩) ?_ ?_
  · rintro k ⟨x1, x2, c4, c5, c6, c7, c8, c9⟩ _
    exact pk_le 60000 60000 (fun _ => hp 0 c4 c5 c6 c7 c8 c9 (fun _ => rfl)) (fun z => absurd z (by omega))
  · rintro k i ⟨x1, x2, c4, c5, c6, c7, c8, c9⟩ hi hI hw
    refine pk_le 60000 i (fun z => absurd z (by omega)) (fun _ => ?_)
    rcases hI with ⟨d, e1, e2, hV, C, q1, q2⟩ | ⟨e, e1, e2, hV⟩
    · have e1' : x1 = nI d := e1
      have e2' : x2 = 1 := e2
      have q1' : tg_C c4 d C := q1
      have hV' : ∀ l, l < d → tg_V n c4 c7 c8 l := hV
      subst e1' e2'
      have hd7 : d ≤ 7 := by have := tg_sg_le n C; omega
      refine br_f (nI_pos (by omega)) (br_f (show ¬ (1 : Int32) = 0 by decide) (tg_refine (tg_Fin C) hg hh hn (by omega) q1' (tg_fin_r C) (fun D c m F t1 _ t3 => tg_fin_t t1 (tg_R_fin t3)) (fun D b4 b5 m t1 t2 t3 => ?_)))
      have hV2 : ∀ l, l < d → tg_V n b4 c7 c8 l := fun l hl => tg_V_fr (hV' l hl) (fun v hv => t3 _ (by omega)) rfl rfl
      have hsg : d ≤ tg_sg n D := Nat.le_trans q2 (tg_sg_mono hn t1)
      refine tg_balance hn (by omega) t2 (fun _ => br_f (by decide) (br_f (by decide) (nm_e (nm_r (nI_1 i) ?_)))) (fun o => br_t rfl (tg_isLaying hg hh hn (by omega) t2 o (fun b9 im _ => br_t rfl (br_f (by decide) (nm_e (nm_r (nI_1 i) ?_)))) (fun b9 im i1 i2 i3 => br_f (by decide) ?_))) (fun o => br_f (by decide) (br_t rfl (tg_chooseX hn (by omega) t2 (tg_two o) (fun x s1 s2 => nm_r (nI_1 i) ?_))))
      · exact hw (nI d + (-1), 0, b4, b5, m, c7, c8, c9) (Or.inr ⟨d, rfl, rfl, hV2⟩)
      · exact hw (nI d + (-1), 0, b4, b5, m, c7, c8, b9) (Or.inr ⟨d, rfl, rfl, hV2⟩)
      · refine hp 1 b4 b5 m c7 c8 b9 (fun nl => ?_)
        obtain ⟨v, w, v1, w1, ne⟩ := nl im i1 i2
        exact absurd (i3 v w v1 w1) ne
      · refine hw (nI d, 0, b4, b5, m, upd c7 d (nI x), upd c8 d (nI 7), c9) (Or.inr ⟨d + 1, (pk_m1 d).symm, rfl, fun l hl => ?_⟩)
        by_cases z : l = d
        · subst z
          exact ⟨D, x, 7, t2, hsg, s1, pk_us, Nat.le_refl 7, by omega, pk_us, s2⟩
        · exact tg_V_fr (hV2 l (by omega)) (fun _ _ => rfl) (pk_un z) (pk_un z)
    · have e1' : x1 = nI e + (-1) := e1
      have e2' : x2 = 0 := e2
      have hV' : ∀ l, l < e → tg_V n c4 c7 c8 l := hV
      subst e1' e2'
      cases e with
      | zero => exact br_t (show nI 0 + (-1) < 0 by decide) (hp 0 c4 c5 c6 c7 c8 c9 (fun _ => rfl))
      | succ d =>
        obtain ⟨C, x, y, v1, v2, v3, v4, v5, v6, v7, v8⟩ := hV' d (by omega)
        have hd6 : d < 7 := by have := tg_sg_lt v3 v8; omega
        show (_ → _) ∧ (_ → _)
        rw [pk_m1]
        refine br_f (nI_pos (by omega)) (br_t rfl (tg_tryNext hn (by omega) v3 v6 v1 v4 v7 (fun _ => br_t rfl (nm_e (nm_r (nI_1 i) ?_))) (fun w F b4 b5 m t1 t2 t3 t4 t5 t6 => br_f (by decide) (nm_r (nI_1 d) (nm_r (nI_1 i) ?_)))))
        · exact hw (nI d + (-1), 0, c4, c5, c6, c7, c8, c9) (Or.inr ⟨d, rfl, rfl, fun l hl => hV' l (by omega)⟩)
        · refine hw (nI (d + 1), 1, b4, b5, m, c7, upd c8 d (nI (w + 1)), c9) (Or.inl ⟨d + 1, rfl, rfl, fun l hl => ?_, F, t5, ?_⟩)
          · by_cases z : l = d
            · subst z
              exact ⟨C, x, w + 1, fun v hv => by show _ ∧ b4 _ = _; rw [t6 _ (by omega)]; exact v1 v hv, v2, v3, v4, by omega, by omega, pk_us, v8⟩
            · exact tg_V_fr (hV' l hl) (fun v hv => t6 _ (by omega)) rfl (pk_un z)
          · have := tg_sg_up hn v3 (tg_R_fin t4) v8 (tg_try_one hn v3 (by omega) t4)
            omega
/-- exists, nothing painted: there is a laying -/
theorem tg_exA {post : Int32 → St2 → Prop} {n g h p : Nat} {px py : Nat → Nat} (hg : g < 2) (hh : h < 2) (hn1 : 1 ≤ n) (hn : n ≤ 7) (hp7 : p ≤ 7)
    (h2 : ∀ k, k < p → px k < 7 ∧ a2 k = nI (px k)) (h3 : ∀ k, k < p → py k < 7 ∧ a3 k = nI (py k)) (hz : tg_Z a1) (hP : tg_Pin n p px py)
    (hp : ∀ b4 b5 m b7 b8 b9, post 1 (nI n, nI g, nI h, nI p, bs, hb, a1, a2, a3, b4, b5, m, b7, b8, b9, a10, a11, a12, a13, a14)) :
    wpX_exists post (nI n, nI g, nI h, nI p, bs, hb, a1, a2, a3, a4, a5, a6, a7, a8, a9, a10, a11, a12, a13, a14) := by
  refine tg_start hg hh hn hp7 h2 h3 (fun F b4 b5 m r1 r2 r3 => ?_)
  refine pk_loop (σ := Int32 × Int32 × (Nat → Int32) × (Nat → Int32) × (Nat → Int64) × (Nat → Int32) × (Nat → Int32) × (Nat → Int32))
    (fun k i s => wX_exists_10 post k s.1 s.2.1 (nI i) (nI n) (nI g) (nI h) (nI p) bs hb a1 a2 a3 s.2.2.1 s.2.2.2.1 s.2.2.2.2.1 s.2.2.2.2.2.1 s.2.2.2.2.2.2.1 s.2.2.2.2.2.2.2 a10 a11 a12 a13 a14)
    (fun i s => ∃ d C, tg_C s.2.2.1 d C ∧ tg_Can C ∧ tg_Bal n C ∧ tg_Iso n C ∧ d ≤ tg_sg n C ∧ s.1 = nI d ∧ ((s.2.1 = 1 ∧ i = 2 * d) ∨ (s.2.1 = 0 ∧ i = 2 * d + 1 ∧ ∃ x, x < n ∧ s.2.2.2.2.2.1 d = nI x ∧ s.2.2.2.2.2.2.1 d = nI 7 ∧ tg_sh n C x)))
    60000 0 (0, 1, b4, b5, m, a7, a8, a9) (by omega) ⟨0, F, r2, tg_R_can r1, tg_c0_bal hn (r3 hz) hP r1, tg_fin_iso (tg_R_fin r1) (tg_c0_iso hn1), Nat.zero_le _, rfl, Or.inl ⟨rfl, rfl⟩⟩ ?_ ?_
  · rintro k ⟨x1, x2, c4, c5, c6, c7, c8, c9⟩ ⟨d, C, _, _, _, _, q, _, z⟩
    have := tg_sg_le n C
    rcases z with ⟨_, z⟩ | ⟨_, z, _⟩ <;> omega
  · rintro k i ⟨x1, x2, c4, c5, c6, c7, c8, c9⟩ hi ⟨d, C, q1, q2, q3, q4, q5, e1, z⟩ hw
    have hd7 : d ≤ 7 := by have := tg_sg_le n C; omega
    have e1' : x1 = nI d := e1
    have q1' : tg_C c4 d C := q1
    subst e1'
    refine pk_le 60000 i (fun z => absurd z (by omega)) (fun _ => br_f (nI_pos (by omega)) ?_)
    rcases z with ⟨e2, ei⟩ | ⟨e2, ei, x, x1, x2', x3, x4⟩
    · have e2' : x2 = 1 := e2
      subst e2'
      refine br_f (show ¬ (1 : Int32) = 0 by decide) (tg_refine (fun D => tg_Fin C D ∧ tg_Can D ∧ tg_Bal n D ∧ tg_Iso n D) hg hh hn (by omega) q1' ⟨tg_fin_r C, q2, q3, q4⟩ (fun D c m F t1 t2 t3 => ?_) (fun D b4 b5 m t1 t2 t3 => ?_))
      · obtain ⟨s1, s2, s3, s4⟩ := t1
        have ke := tg_keep hn s2 s3 s4 (t2 hz) t3
        exact ⟨tg_fin_t s1 (tg_R_fin t3), tg_can_cg ke s2, tg_bal_cg hn ke s3, tg_iso_cg ke s4⟩
      · obtain ⟨s1, s2, s3, s4⟩ := t1
        have hsg : d ≤ tg_sg n D := Nat.le_trans q5 (tg_sg_mono hn s1)
        refine tg_balance hn (by omega) t2 (fun o => ?_) (fun o => br_t rfl (tg_isLaying hg hh hn (by omega) t2 o (fun b9 im o2 => ?_) (fun b9 im _ _ _ => br_f (by decide) (hp b4 b5 m c7 c8 b9)))) (fun o => br_f (by decide) (br_t rfl (tg_chooseX hn (by omega) t2 (tg_two o) (fun x x1 x2 => nm_r (nI_1 i) ?_))))
        · obtain ⟨c, hc⟩ := o
          exact absurd (s3 c) hc
        · obtain ⟨v, w, v1, w1, v2, w2, ne⟩ := o2
          exact absurd ((hz _ (by omega)).trans (hz _ (by omega)).symm) ne
        · exact hw (nI d, 0, b4, b5, m, upd c7 d (nI x), upd c8 d (nI 7), c9) ⟨d, D, t2, s2, s3, s4, hsg, rfl, Or.inr ⟨rfl, by omega, x, x1, pk_us, pk_us, x2⟩⟩
    · have e2' : x2 = 0 := e2
      subst e2'
      have hd6 : d < 7 := by have := tg_sg_lt x1 x4; omega
      refine br_t rfl (tg_tryNext hn (by omega) x1 (by omega) q1' x2' x3 (fun no => ?_) (fun w F b4 b5 m t1 t2 t3 t4 t5 t6 => br_f (by decide) (nm_r (nI_1 d) (nm_r (nI_1 i) ?_))))
      · obtain ⟨y, y1, y2⟩ := tg_bal_y q3 x1
        exact absurd y2 (no (7 + y) (by omega) (by omega))
      · obtain ⟨y, rfl⟩ : ∃ y, w = 7 + y := ⟨w - 7, by omega⟩
        have up := tg_sg_up hn x1 (tg_R_fin t4) x4 (tg_try_one hn x1 (by omega) t4)
        exact hw (nI (d + 1), 1, b4, b5, m, c7, upd c8 d (nI (7 + y + 1)), c9) ⟨d + 1, F, t5, tg_R_can t4, tg_try_bal hn x1 (by omega) t3 q3 t4, tg_fin_iso (tg_R_fin t4) q4, by omega, rfl, Or.inl ⟨rfl, by omega⟩⟩
end
section
variable {fn gx gy pn hb : Int32} {bs : Int64} {a1 a2 a3 a4 a5 a7 a8 a9 a10 a11 a14 : Nat → Int32} {a6 a12 a13 : Nat → Int64}
theorem tg_pin {post : St2 → Prop} {k : Nat} {x y : Int32} (hk : k < 7) (hp : post (fn, gx, gy, nI (k + 1), bs, hb, a1, upd a2 k x, upd a3 k y, a4, a5, a6, a7, a8, a9, a10, a11, a12, a13, a14)) :
    wpX_pin post (fn, gx, gy, nI k, bs, hb, a1, a2, a3, a4, a5, a6, a7, a8, a9, a10, a11, a12, a13, a14) x y :=
  ⟨pk_in k 7 hk, nm_r (show upd a2 (nI k).toNatClampNeg x = upd a2 k x by rw [nI_clamp (show k < 2 ^ 31 by omega)]) ⟨pk_in k 7 hk, nm_r (show upd a3 (nI k).toNatClampNeg y = upd a3 k y by rw [nI_clamp (show k < 2 ^ 31 by omega)]) (nm_r (nI_1 k) hp)⟩⟩
theorem tg_aim {post : St2 → Prop} {x y : Int32} (hp : post (fn, x, y, nI 0, bs, hb, a1, a2, a3, a4, a5, a6, a7, a8, a9, a10, a11, a12, a13, a14)) :
    wpX_aim post (fn, gx, gy, pn, bs, hb, a1, a2, a3, a4, a5, a6, a7, a8, a9, a10, a11, a12, a13, a14) x y := hp
/-- the pins are 0 on 0, 1 on 1 .. -/
def tg_Id (p : Nat) (a2 a3 : Nat → Int32) : Prop := ∀ k, k < p → a2 k = nI k ∧ a3 k = nI k
theorem tg_id_up {p : Nat} {x y : Int32} (h : tg_Id p a2 a3) : tg_Id p (upd a2 p x) (upd a3 p y) := by
  intro k hk
  rw [pk_un (by omega), pk_un (by omega)]
  exact h k hk
theorem tg_id_s {p : Nat} (h : tg_Id p a2 a3) : tg_Id (p + 1) (upd a2 p (nI p)) (upd a3 p (nI p)) := by
  intro k hk
  by_cases e : k = p
  · subst e
    exact ⟨pk_us, pk_us⟩
  · rw [pk_un e, pk_un e]
    exact h k (by omega)
theorem tg_exA1 {post : Int32 → St2 → Prop} {n g h a b : Nat} (hg : g < 2) (hh : h < 2) (hn : n ≤ 7) (hab : a ≤ b) (hb' : b < n) (hI : tg_Id a a2 a3) (hz : tg_Z a1)
    (hp : ∀ b4 b5 m b7 b8 b9, post 1 (nI n, nI g, nI h, nI (a + 1), bs, hb, a1, upd a2 a (nI a), upd a3 a (nI b), b4, b5, m, b7, b8, b9, a10, a11, a12, a13, a14)) :
    wpX_exists post (nI n, nI g, nI h, nI (a + 1), bs, hb, a1, upd a2 a (nI a), upd a3 a (nI b), a4, a5, a6, a7, a8, a9, a10, a11, a12, a13, a14) := by
  refine tg_exA (px := fun k => k) (py := fun k => if k = a then b else k) hg hh (by omega) hn (by omega) (fun k hk => ⟨?_, ?_⟩) (fun k hk => ⟨?_, ?_⟩) hz (tg_pin_s hn hab hb' (fun j _ => rfl) (fun j hj => if_neg (by omega)) (if_pos rfl)) hp
  · show k < 7
    omega
  · show upd a2 a (nI a) k = nI k
    by_cases e : k = a
    · subst e; exact pk_us
    · rw [pk_un e]; exact (hI k (by omega)).1
  · show (if k = a then b else k) < 7
    split <;> omega
  · show upd a3 a (nI b) k = nI (if k = a then b else k)
    by_cases e : k = a
    · subst e; rw [pk_us, if_pos rfl]
    · rw [pk_un e, if_neg e]; exact (hI k (by omega)).2
def tg_D (n : Nat) : Nat → Nat
  | 0 => 1
  | a + 1 => tg_D n a * (n - a)
def tg_f (n : Nat) : Nat → Nat
  | 0 => 1
  | i + 1 => tg_f n i * (if i + 2 ≤ n then i + 2 else 1)
theorem tg_fact : ∀ n, n < 8 → tg_D n n = tg_f n 6 := by decide
theorem tg_countA {post : Int32 → St2 → Prop} {n : Nat} (hn : n ≤ 7) (hz : tg_Z a1)
    (hp : ∀ b2 b3 b4 b5 m b7 b8 b9, post (nI (tg_D n n)) (nI n, nI 0, nI 0, nI n, bs, hb, a1, b2, b3, b4, b5, m, b7, b8, b9, a10, a11, a12, a13, a14)) :
    wpX_countSymmetries post (nI n, gx, gy, pn, bs, hb, a1, a2, a3, a4, a5, a6, a7, a8, a9, a10, a11, a12, a13, a14) 0 := by
  refine pk_loop (σ := (Nat → Int32) × (Nat → Int32) × (Nat → Int32) × (Nat → Int32) × (Nat → Int64) × (Nat → Int32) × (Nat → Int32) × (Nat → Int32))
    (fun k i s => wX_countSymmetries_10 post k (nI (tg_D n i)) (nI i) (nI n) (nI 0) (nI 0) (nI i) bs hb a1 s.1 s.2.1 s.2.2.1 s.2.2.2.1 s.2.2.2.2.1 s.2.2.2.2.2.1 s.2.2.2.2.2.2.1 s.2.2.2.2.2.2.2 a10 a11 a12 a13 a14)
    (fun i s => tg_Id i s.1 s.2.1) n 0 (a2, a3, a4, a5, a6, a7, a8, a9) (by omega) (fun k hk => absurd hk (by omega)) ?_ ?_
  · rintro k ⟨b2, b3, b4, b5, m, b7, b8, b9⟩ _
    exact pk_le n n (fun _ => hp b2 b3 b4 b5 m b7 b8 b9) (fun z => absurd z (by omega))
  · rintro k a ⟨b2, b3, b4, b5, m, b7, b8, b9⟩ ha hI hw
    refine pk_le n a (fun z => absurd z (by omega)) (fun _ => nm_r (nI_1 a) ?_)
    have L := pk_loop (σ := (Nat → Int32) × (Nat → Int32) × (Nat → Int32) × (Nat → Int32) × (Nat → Int64) × (Nat → Int32) × (Nat → Int32) × (Nat → Int32))
      (fun f i s => wX_countSymmetries_26 post (wX_countSymmetries_10 post k) (nI (tg_D n a)) (nI a) f (nI (i - a)) (nI i) (nI n) (nI 0) (nI 0) (nI a) bs hb a1 s.1 s.2.1 s.2.2.1 s.2.2.2.1 s.2.2.2.2.1 s.2.2.2.2.2.1 s.2.2.2.2.2.2.1 s.2.2.2.2.2.2.2 a10 a11 a12 a13 a14)
      (fun i s => a < i ∧ tg_Id a s.1 s.2.1) n (a + 1) (b2, b3, b4, b5, m, b7, b8, b9) (by omega) ⟨by omega, hI⟩ ?_ ?_
    · rw [show a + 1 - a = 1 by omega] at L
      exact L
    · rintro f ⟨b2, b3, b4, b5, m, b7, b8, b9⟩ ⟨_, hJ⟩
      exact pk_le n n (fun _ => nm_r (pk_mul _ _) (tg_pin (by omega) (nm_r (nI_1 a) (hw (upd b2 a (nI a), upd b3 a (nI a), b4, b5, m, b7, b8, b9) (tg_id_s hJ))))) (fun z => absurd z (by omega))
    · rintro f i ⟨b2, b3, b4, b5, m, b7, b8, b9⟩ hi ⟨hai, hJ⟩ hv
      refine pk_le n i (fun z => absurd z (by omega)) (fun _ => tg_pin (by omega) (tg_exA1 (by omega) (by omega) hn (show a ≤ i by omega) hi hJ hz (fun c4 c5 c6 c7 c8 c9 => br_f (by decide) (nm_r (nI_1 (i - a)) ?_))))
      have hv' := hv (upd b2 a (nI a), upd b3 a (nI i), c4, c5, c6, c7, c8, c9) ⟨by omega, tg_id_up hJ⟩
      rw [show i + 1 - a = i - a + 1 by omega] at hv'
      exact nm_r (nI_pred a) (nm_r (nI_1 i) hv')
theorem tg_layA {post : Int32 → St2 → Prop} {n : Nat} (hn1 : 1 ≤ n) (hn : n ≤ 7) (hz : tg_Z a1)
    (hp : ∀ x y z b2 b3 b4 b5 m b7 b8 b9, post (nI (tg_D n n)) (nI n, x, y, z, bs, hb, a1, b2, b3, b4, b5, m, b7, b8, b9, a10, a11, a12, a13, a14)) :
    wpX_layings post (nI n, gx, gy, pn, bs, hb, a1, a2, a3, a4, a5, a6, a7, a8, a9, a10, a11, a12, a13, a14) :=
  tg_exA (g := 0) (h := 1) (p := 0) (px := fun k => k) (py := fun k => k) (by omega) (by omega) hn1 hn (by omega) (fun k hk => absurd hk (by omega)) (fun k hk => absurd hk (by omega)) hz (tg_pin_0 n _ _)
    (fun b4 b5 m b7 b8 b9 => br_f (by decide) (tg_countA hn hz (fun c2 c3 c4 c5 c6 c7 c8 c9 => hp _ _ _ c2 c3 c4 c5 c6 c7 c8 c9)))
theorem tg_layB {post : Int32 → St2 → Prop} {n : Nat} (hn : n ≤ 7) (hl : tg_NL n 0 1 a1)
    (hp : ∀ x y z b2 b3 b4 b5 m b7 b8 b9, post 0 (nI n, x, y, z, bs, hb, a1, b2, b3, b4, b5, m, b7, b8, b9, a10, a11, a12, a13, a14)) :
    wpX_layings post (nI n, gx, gy, pn, bs, hb, a1, a2, a3, a4, a5, a6, a7, a8, a9, a10, a11, a12, a13, a14) :=
  tg_exG (g := 0) (h := 1) (p := 0) (px := fun k => k) (py := fun k => k) (by omega) (by omega) hn (by omega) (fun k hk => absurd hk (by omega)) (fun k hk => absurd hk (by omega))
    (fun r b4 b5 m b7 b8 b9 hr => br_t (hr hl) (hp _ _ _ _ _ b4 b5 m b7 b8 b9))
theorem tg_pinned {post : Int32 → Prop} {p b : Nat} (hp7 : p ≤ 7) (hb7 : b < 7) (hI : tg_Id p a2 a3) (h1 : b < p → post 1) (h0 : p ≤ b → post 0) :
    wpX_pinnedTo post (fn, gx, gy, nI p, bs, hb, a1, a2, a3, a4, a5, a6, a7, a8, a9, a10, a11, a12, a13, a14) (nI b) := by
  refine pk_loop (σ := Unit) (fun k i _ => wX_pinnedTo_2 post (nI b) fn gx gy (nI p) bs hb a1 a2 a3 a4 a5 a6 a7 a8 a9 a10 a11 a12 a13 a14 k (nI i))
    (fun i _ => i ≤ b) p 0 () (by omega) (Nat.zero_le b) ?_ ?_
  · intro k _ h
    exact pk_le p p (fun _ => h0 h) (fun z => absurd z (by omega))
  · intro k i _ hi h hw
    refine pk_le p i (fun z => absurd z (by omega)) (fun _ => ⟨pk_in i 7 (by omega), ?_⟩)
    rw [nI_clamp (show i < 2 ^ 31 by omega)]
    exact pk_eq i b (fun z => h1 (by omega)) (fun z => nm_r (nI_1 i) (hw () (show i + 1 ≤ b by omega))) (hI i hi).2
theorem tg_lpA {post : Int32 → St2 → Prop} {n g h a : Nat} (hg : g < 2) (hh : h < 2) (hn : n ≤ 7) (ha : a < n) (hI : tg_Id a a2 a3) (hz : tg_Z a1)
    (hp : ∀ b2 b3 b4 b5 m b7 b8 b9, tg_Id (a + 1) b2 b3 → post (nI a) (nI n, nI g, nI h, nI (a + 1), bs, hb, a1, b2, b3, b4, b5, m, b7, b8, b9, a10, a11, a12, a13, a14)) :
    wpX_leastPartner post (nI n, nI g, nI h, nI a, bs, hb, a1, a2, a3, a4, a5, a6, a7, a8, a9, a10, a11, a12, a13, a14) (nI a) := by
  refine pk_loop (σ := Unit) (fun k i _ => wX_leastPartner_2 post (nI a) k (nI i) (nI n) (nI g) (nI h) (nI a) bs hb a1 a2 a3 a4 a5 a6 a7 a8 a9 a10 a11 a12 a13 a14)
    (fun i _ => True) a 0 () (by omega) trivial ?_ ?_
  · intro k _ _
    refine pk_le n a (fun z => absurd z (by omega)) (fun _ => tg_pinned (by omega) (by omega) hI (fun z => absurd z (by omega)) (fun _ => br_t rfl (tg_pin (by omega) (tg_exA1 hg hh hn (Nat.le_refl a) ha hI hz (fun c4 c5 c6 c7 c8 c9 => br_f (by decide) ?_)))))
    exact hp _ _ c4 c5 c6 c7 c8 c9 (tg_id_s hI)
  · intro k i _ hi _ hw
    exact pk_le n i (fun z => absurd z (by omega)) (fun _ => tg_pinned (by omega) (by omega) hI (fun _ => br_f (by decide) (nm_r (nI_1 i) (hw () trivial))) (fun z => absurd z (by omega)))
theorem tg_lpB {post : Int32 → St2 → Prop} {n g h : Nat} (hg : g < 2) (hh : h < 2) (hn : n ≤ 7) (hl : tg_NL n g h a1)
    (hp : ∀ b2 b3 b4 b5 m b7 b8 b9, post (-1) (nI n, nI g, nI h, nI 0, bs, hb, a1, b2, b3, b4, b5, m, b7, b8, b9, a10, a11, a12, a13, a14)) :
    wpX_leastPartner post (nI n, nI g, nI h, nI 0, bs, hb, a1, a2, a3, a4, a5, a6, a7, a8, a9, a10, a11, a12, a13, a14) (nI 0) := by
  refine pk_loop (σ := (Nat → Int32) × (Nat → Int32) × (Nat → Int32) × (Nat → Int32) × (Nat → Int64) × (Nat → Int32) × (Nat → Int32) × (Nat → Int32))
    (fun k i s => wX_leastPartner_2 post (nI 0) k (nI i) (nI n) (nI g) (nI h) (nI 0) bs hb a1 s.1 s.2.1 s.2.2.1 s.2.2.2.1 s.2.2.2.2.1 s.2.2.2.2.2.1 s.2.2.2.2.2.2.1 s.2.2.2.2.2.2.2 a10 a11 a12 a13 a14)
    (fun i _ => True) n 0 (a2, a3, a4, a5, a6, a7, a8, a9) (by omega) trivial ?_ ?_
  · rintro k ⟨b2, b3, b4, b5, m, b7, b8, b9⟩ _
    exact pk_le n n (fun _ => hp b2 b3 b4 b5 m b7 b8 b9) (fun z => absurd z (by omega))
  · rintro k i ⟨b2, b3, b4, b5, m, b7, b8, b9⟩ hi _ hw
    refine pk_le n i (fun z => absurd z (by omega)) (fun _ => tg_pinned (by omega) (by omega) (fun k hk => absurd hk (by omega)) (fun z => absurd z (by omega)) (fun _ => br_t rfl (tg_pin (by omega) ?_)))
    refine tg_exG (px := fun _ => 0) (py := fun _ => i) hg hh hn (by omega) (fun k hk => ⟨by omega, ?_⟩) (fun k hk => ⟨by omega, ?_⟩) (fun r c4 c5 c6 c7 c8 c9 hr => br_t (hr hl) (nm_r (nI_pred 0) (nm_r (nI_1 i) (hw (_, _, c4, c5, c6, c7, c8, c9) trivial))))
    · rw [show k = 0 by omega, pk_us]
    · rw [show k = 0 by omega, pk_us]
theorem tg_laid0 {post : Int32 → St2 → Prop} {n : Nat} {x : Int32} (hn : n ≤ 7) (hx : x < 0 ∨ nI n ≤ x) (hp : post (-1) (nI n, gx, gy, pn, bs, hb, a1, a2, a3, a4, a5, a6, a7, a8, a9, a10, a11, a12, a13, a14)) :
    wpX_laid post (nI n, gx, gy, pn, bs, hb, a1, a2, a3, a4, a5, a6, a7, a8, a9, a10, a11, a12, a13, a14) x := by
  unfold wpX_laid
  refine tg_isPoint hn (fun j hj e => ?_) (fun _ => br_t rfl hp)
  subst e
  rcases hx with z | z
  · exact absurd z (nI_pos (by omega))
  · exact absurd z (nI_ge hj (by omega))
theorem tg_laidA {post : Int32 → St2 → Prop} {n j : Nat} (hn : n ≤ 7) (hj : j < n) (hz : tg_Z a1)
    (hp : ∀ x y z b2 b3 b4 b5 m b7 b8 b9, post (nI j) (nI n, x, y, z, bs, hb, a1, b2, b3, b4, b5, m, b7, b8, b9, a10, a11, a12, a13, a14)) :
    wpX_laid post (nI n, gx, gy, pn, bs, hb, a1, a2, a3, a4, a5, a6, a7, a8, a9, a10, a11, a12, a13, a14) (nI j) := by
  unfold wpX_laid
  refine tg_isPoint hn (fun _ _ _ => br_f (by decide) ?_) (fun z => ?_)
  · refine pk_loop (σ := Int32 × (Nat → Int32) × (Nat → Int32) × (Nat → Int32) × (Nat → Int32) × (Nat → Int64) × (Nat → Int32) × (Nat → Int32) × (Nat → Int32))
      (fun k i s => wX_laid_23 post (nI j) k s.1 1 (nI i) (nI n) (nI 0) (nI 1) (nI i) bs hb a1 s.2.1 s.2.2.1 s.2.2.2.1 s.2.2.2.2.1 s.2.2.2.2.2.1 s.2.2.2.2.2.2.1 s.2.2.2.2.2.2.2.1 s.2.2.2.2.2.2.2.2 a10 a11 a12 a13 a14)
      (fun i s => (0 < i → s.1 = nI (i - 1)) ∧ tg_Id i s.2.1 s.2.2.1) (j + 1) 0 (-1, a2, a3, a4, a5, a6, a7, a8, a9) (by omega) ⟨fun z => absurd z (by omega), fun k hk => absurd hk (by omega)⟩ ?_ ?_
    · rintro k ⟨x, b2, b3, b4, b5, m, b7, b8, b9⟩ ⟨e, _⟩
      have e' : x = nI j := e (by omega)
      subst e'
      exact pk_lt j (j + 1) (fun _ => hp _ _ _ b2 b3 b4 b5 m b7 b8 b9) (fun z => absurd z (by omega))
    · rintro k i ⟨x, b2, b3, b4, b5, m, b7, b8, b9⟩ hi ⟨_, hI⟩ hw
      refine pk_lt j i (fun z => absurd z (by omega)) (fun _ => br_f (by decide) (tg_lpA (by omega) (by omega) hn (by omega) hI hz (fun c2 c3 c4 c5 c6 c7 c8 c9 hI' => br_f (nI_pos (by omega)) (nm_r (nI_1 i) ?_))))
      exact hw (nI i, c2, c3, c4, c5, c6, c7, c8, c9) ⟨fun _ => rfl, hI'⟩
  · rcases z with z | z
    · exact absurd z (nI_pos (by omega))
    · exact absurd z (nI_ge hj (by omega))
theorem tg_laidB {post : Int32 → St2 → Prop} {n j : Nat} (hn : n ≤ 7) (hj : j < n) (hl : tg_NL n 0 1 a1)
    (hp : ∀ x y z b2 b3 b4 b5 m b7 b8 b9, post (-1) (nI n, x, y, z, bs, hb, a1, b2, b3, b4, b5, m, b7, b8, b9, a10, a11, a12, a13, a14)) :
    wpX_laid post (nI n, gx, gy, pn, bs, hb, a1, a2, a3, a4, a5, a6, a7, a8, a9, a10, a11, a12, a13, a14) (nI j) := by
  unfold wpX_laid
  refine tg_isPoint hn (fun _ _ _ => br_f (by decide) ?_) (fun z => ?_)
  · refine ⟨2, ?_⟩
    exact pk_lt j 0 (fun z => absurd z (by omega)) (fun _ => br_f (by decide) (tg_lpB (g := 0) (h := 1) (by omega) (by omega) hn hl (fun c2 c3 c4 c5 c6 c7 c8 c9 => br_t (by decide) (nm_e (br_c (fun _ => hp _ _ _ c2 c3 c4 c5 c6 c7 c8 c9) (fun _ => br_t rfl (hp _ _ _ c2 c3 c4 c5 c6 c7 c8 c9)))))))
  · rcases z with z | z
    · exact absurd z (nI_pos (by omega))
    · exact absurd z (nI_ge hj (by omega))
theorem tg_sym {post : Int32 → St2 → Prop} {x : Int32} (h0 : ¬ x = 0) (h1 : ¬ x = 1) (hp : post (-1) (fn, gx, gy, pn, bs, hb, a1, a2, a3, a4, a5, a6, a7, a8, a9, a10, a11, a12, a13, a14)) :
    wpX_symmetries post (fn, gx, gy, pn, bs, hb, a1, a2, a3, a4, a5, a6, a7, a8, a9, a10, a11, a12, a13, a14) x := by
  refine br_c (fun _ => hp) (fun z => br_c (fun q => ?_) (fun _ => hp))
  obtain ⟨j, hj, rfl⟩ := nI_of z
  have hj1 : j ≤ 1 := (nI_leI (b := 1) hj (by omega)).mp q
  rcases Nat.lt_or_ge j 1 with w | w
  · exact absurd (show nI j = 0 by rw [show j = 0 by omega]; rfl) h0
  · exact absurd (show nI j = 1 by rw [show j = 1 by omega]; rfl) h1
theorem tg_factL {post : Int32 → Prop} {n : Nat} (hn : n ≤ 7) (hp : post (nI (tg_f n 6))) : wpL_factorial post () (nI n) := by
  refine pk_loop (σ := Unit) (fun k i _ => wL_factorial_4 post (nI n) k (nI (tg_f n i)) (nI (i + 2))) (fun _ _ => True) 6 0 () (by omega) trivial ?_ ?_
  · intro k _ _
    exact pk_lt 7 8 (fun _ => hp) (fun z => absurd z (by omega))
  · intro k i _ hi _ hw
    have hw' : wL_factorial_4 post (nI n) k (nI (tg_f n i * (if i + 2 ≤ n then i + 2 else 1))) (nI (i + 2 + 1)) := hw () trivial
    refine pk_lt 7 (i + 2) (fun z => absurd z (by omega)) (fun _ => pk_lt n (i + 2) (fun z => nm_r (nI_1 (i + 2)) ?_) (fun z => nm_r (pk_mul _ _) (nm_r (nI_1 (i + 2)) ?_)))
    · rw [if_neg (by omega), Nat.mul_one] at hw'
      exact hw'
    · rw [if_pos z] at hw'
      exact hw'
theorem tg_can1 {post : Int32 → St2 → Prop} {n i j : Nat} (hn : n ≤ 7) (hi : i < n) (hj : j < n)
    (hp : ∀ r u, ¬ r = (-1) → post r u) :
    wpX_canLay post (nI n, gx, gy, pn, bs, hb, a1, a2, a3, a4, a5, a6, a7, a8, a9, a10, a11, a12, a13, a14) (nI i) (nI j) (nI i) (nI j) := by
  have no : ∀ {k : Nat}, k < n → (nI k < 0 ∨ nI n ≤ nI k) → False := fun {k} hk z => by
    rcases z with z | z
    · exact absurd z (nI_pos (by omega))
    · exact absurd z (nI_ge hk (by omega))
  unfold wpX_canLay
  refine tg_isPoint hn (fun _ _ _ => br_f (by decide) (tg_isPoint hn (fun _ _ _ => br_f (by decide) (tg_isPoint hn (fun _ _ _ => br_f (by decide) (tg_isPoint hn (fun _ _ _ => br_f (by decide) (br_t rfl ?_)) (fun z => absurd z (no hj)))) (fun z => absurd z (no hi)))) (fun z => absurd z (no hj)))) (fun z => absurd z (no hi))
  refine br_t rfl (br_t rfl (tg_aim (tg_pin (k := 0) (by omega) (br_t rfl ?_))))
  refine tg_exG (g := 0) (h := 1) (px := fun _ => i) (py := fun _ => j) (by omega) (by omega) hn (by omega) (fun k hk => ⟨by omega, ?_⟩) (fun k hk => ⟨by omega, ?_⟩) (fun r c4 c5 c6 c7 c8 c9 _ => br_c (fun _ => hp 0 _ (by decide)) (fun _ => hp 1 _ (by decide)))
  · rw [show k = 0 by omega, pk_us]
  · rw [show k = 0 by omega, pk_us]
theorem tg_can0 {post : Int32 → St2 → Prop} {n : Nat} {x y : Int32} (hn : n ≤ 7) (hx : (x < 0 ∨ nI n ≤ x) ∨ (y < 0 ∨ nI n ≤ y))
    (hp : ∀ u, post (-1) u) :
    wpX_canLay post (nI n, gx, gy, pn, bs, hb, a1, a2, a3, a4, a5, a6, a7, a8, a9, a10, a11, a12, a13, a14) x y x y := by
  have no : ∀ {k : Nat}, k < n → (nI k < 0 ∨ nI n ≤ nI k) → False := fun {k} hk z => by
    rcases z with z | z
    · exact absurd z (nI_pos (by omega))
    · exact absurd z (nI_ge hk (by omega))
  unfold wpX_canLay
  refine tg_isPoint hn (fun i hi ei => br_f (by decide) (tg_isPoint hn (fun j hj ej => ?_) (fun _ => br_t rfl (hp _)))) (fun _ => br_t rfl (hp _))
  subst ei ej
  rcases hx with z | z
  · exact absurd z (no hi)
  · exact absurd z (no hj)
end
section
variable {fn gx gy pn hb : Int32} {bs : Int64} {a1 a2 a3 a4 a5 a7 a8 a9 a10 a11 a14 : Nat → Int32} {a6 a12 a13 : Nat → Int64}
variable {post : Int32 → St0 → Prop} {mc ms kc ks n : Nat} {x0 x1 x2 x3 x4 x7 x8 x9 x10 z : Int32}
/-- the law's flag: is it a point -/
def tg_Fl (n : Nat) (x f : Int32) : Prop := (∃ i, i < n ∧ x = nI i ∧ f = 1) ∨ ((x < 0 ∨ nI n ≤ x) ∧ f = 0)
theorem tg_nopt {k : Nat} (hn : n ≤ 7) (hk : k < n) (z : nI k < 0 ∨ nI n ≤ nI k) : False := by
  rcases z with z | z
  · exact absurd z (nI_pos (by omega))
  · exact absurd z (nI_ge hk (by omega))
theorem tg_fits1 {ps : Int32 → Prop} {g i j : Nat} (hg : g < 2) (hn : n ≤ 7) (hi : i < n) (hj : j < n) (hp : ps 1) :
    wpX_fits ps (nI n, gx, gy, pn, bs, hb, a1, a2, a3, a4, a5, a6, a7, a8, a9, a10, a11, a12, a13, a14) (nI g) (nI i) (nI j) := by
  refine br_f (nI_pos (by omega)) (pk_lt 1 g (fun z => absurd z (by omega)) (fun _ => ?_))
  exact tg_isPoint hn (fun _ _ _ => br_f (by decide) (tg_isPoint hn (fun _ _ _ => br_f (by decide) hp) (fun z => absurd z (tg_nopt hn hj)))) (fun z => absurd z (tg_nopt hn hi))
theorem tg_fits0 {ps : Int32 → Prop} {x y z : Int32} (hn : n ≤ 7) (hx : (¬ x = 0 ∧ ¬ x = 1) ∨ (y < 0 ∨ nI n ≤ y) ∨ (z < 0 ∨ nI n ≤ z)) (hp : ps 0) :
    wpX_fits ps (nI n, gx, gy, pn, bs, hb, a1, a2, a3, a4, a5, a6, a7, a8, a9, a10, a11, a12, a13, a14) x y z := by
  refine br_c (fun _ => hp) (fun h0 => br_c (fun _ => hp) (fun h1 => ?_))
  refine tg_isPoint hn (fun i hi ei => br_f (by decide) (tg_isPoint hn (fun j hj ej => ?_) (fun _ => br_t rfl hp))) (fun _ => br_t rfl hp)
  subst ei ej
  rcases hx with ⟨q0, q1⟩ | q | q
  · obtain ⟨k, hk, rfl⟩ := nI_of h0
    have k1 : k ≤ 1 := by
      rcases Nat.lt_or_ge 1 k with w | w
      · exact absurd (nI_lt (a := 1) w hk) h1
      · exact w
    rcases Nat.lt_or_ge k 1 with w | w
    · exact absurd (show nI k = 0 by rw [show k = 0 by omega]; rfl) q0
    · exact absurd (show nI k = 1 by rw [show k = 1 by omega]; rfl) q1
  · exact absurd q (tg_nopt hn hi)
  · exact absurd q (tg_nopt hn hj)
theorem tg_paint1 {ps : Int32 → St2 → Prop} {g i j : Nat} {c : Int32} (hg : g < 2) (hn : n ≤ 7) (hi : i < n) (hj : j < n)
    (hp : ps (a1 (49 * g + 7 * i + j)) (nI n, gx, gy, pn, bs, hb, upd (upd a1 (49 * g + 7 * i + j) (c &&& 3)) (49 * g + 7 * j + i) (c &&& 3), a2, a3, a4, a5, a6, a7, a8, a9, a10, a11, a12, a13, a14)) :
    wpX_paint ps (nI n, gx, gy, pn, bs, hb, a1, a2, a3, a4, a5, a6, a7, a8, a9, a10, a11, a12, a13, a14) (nI g) (nI i) (nI j) c := by
  unfold wpX_paint
  refine tg_fits1 hg hn hi hj (br_f (by decide) ?_)
  rw [pk_cl (49 * g + 7 * i + j) (tg_i49 g i j), pk_cl (49 * g + 7 * j + i) (tg_i49 g j i)]
  exact ⟨pk_in (49 * g + 7 * i + j) 98 (by omega) (tg_i49 g i j), nm_e ⟨pk_in (49 * g + 7 * i + j) 98 (by omega) (tg_i49 g i j), nm_e ⟨pk_in (49 * g + 7 * j + i) 98 (by omega) (tg_i49 g j i), nm_e hp⟩⟩⟩
theorem tg_colour1 {ps : Int32 → Prop} {g i j : Nat} (hg : g < 2) (hn : n ≤ 7) (hi : i < n) (hj : j < n) (hp : ps (a1 (49 * g + 7 * i + j))) :
    wpX_colour ps (nI n, gx, gy, pn, bs, hb, a1, a2, a3, a4, a5, a6, a7, a8, a9, a10, a11, a12, a13, a14) (nI g) (nI i) (nI j) := by
  unfold wpX_colour
  refine tg_fits1 hg hn hi hj (br_f (by decide) ⟨pk_in (49 * g + 7 * i + j) 98 (by omega) (tg_i49 g i j), ?_⟩)
  rw [pk_cl (49 * g + 7 * i + j) (tg_i49 g i j)]
  exact hp
theorem tg_234 (hp : post 1 ()) (hn : n ≤ 7) (hA : tg_Fl n x2 x7) (hB : tg_Fl n x3 x8) :
    wL_lawOf_234 post mc ms x2 x3 x7 x8 kc ks (nI n) gx gy pn bs hb a1 a2 a3 a4 a5 a6 a7 a8 a9 a10 a11 a12 a13 a14 := by
  unfold wL_lawOf_234
  rcases hA with ⟨i, hi, rfl, rfl⟩ | ⟨hA, rfl⟩
  · rcases hB with ⟨j, hj, rfl, rfl⟩ | ⟨hB, rfl⟩
    · refine tg_can1 hn hi hj (fun r u hr => ?_)
      obtain ⟨u1, u2, u3, u4, u5, u6, u7, u8, u9, u10, u11, u12, u13, u14, u15, u16, u17, u18, u19, u20⟩ := u
      exact br_f hr (br_f (by decide) (br_f (by decide) (br_t rfl hp)))
    · refine tg_can0 hn (Or.inr hB) (fun u => ?_)
      obtain ⟨u1, u2, u3, u4, u5, u6, u7, u8, u9, u10, u11, u12, u13, u14, u15, u16, u17, u18, u19, u20⟩ := u
      exact br_t rfl (br_f (by decide) (br_t rfl (br_t rfl hp)))
  · refine tg_can0 hn (Or.inl hA) (fun u => ?_)
    obtain ⟨u1, u2, u3, u4, u5, u6, u7, u8, u9, u10, u11, u12, u13, u14, u15, u16, u17, u18, u19, u20⟩ := u
    exact br_t rfl (br_t rfl (br_t rfl hp))
theorem tg_208 (hp : post 1 ()) (hn : n ≤ 7) (hA : tg_Fl n x2 x7) (hB : tg_Fl n x3 x8) :
    wL_lawOf_208 post mc ms x1 x2 x3 x7 x8 z z kc ks (nI n) gx gy pn bs hb a1 a2 a3 a4 a5 a6 a7 a8 a9 a10 a11 a12 a13 a14 :=
  br_t rfl (br_c (fun _ => tg_234 hp hn hA hB) (fun h0 => br_c (fun _ => tg_234 hp hn hA hB) (fun h1 => tg_sym h0 h1 (br_t rfl (tg_234 hp hn hA hB)))))
theorem tg_182 (hp : post 1 ()) (hn : n ≤ 7) (hA : tg_Fl n x2 x7) (hB : tg_Fl n x3 x8) (hc : (x10 = 0 ∧ tg_Z a1) ∨ (x10 = 1 ∧ tg_NL n 0 1 a1)) :
    wL_lawOf_182 post mc ms x1 x2 x3 x7 x8 x10 z z kc ks (nI n) gx gy pn bs hb a1 a2 a3 a4 a5 a6 a7 a8 a9 a10 a11 a12 a13 a14 := by
  have hA2 := hA
  refine br_t rfl ?_
  rcases hA with ⟨i, hi, rfl, rfl⟩ | ⟨hA, rfl⟩
  · rcases hc with ⟨rfl, hz⟩ | ⟨rfl, hl⟩
    · exact tg_laidA hn hi hz (fun _ _ _ _ _ _ _ _ _ _ _ => br_f (by decide) (br_t rfl (tg_208 hp hn hA2 hB)))
    · exact tg_laidB hn hi hl (fun _ _ _ _ _ _ _ _ _ _ _ => br_f (by decide) (br_f (by decide) (tg_208 hp hn hA2 hB)))
  · exact tg_laid0 hn hA (br_t rfl (tg_208 hp hn hA2 hB))
theorem tg_161 (hp : post 1 ()) (hn1 : 1 ≤ n) (hn : n ≤ 7) (hA : tg_Fl n x2 x7) (hB : tg_Fl n x3 x8) (hc : (x10 = 0 ∧ tg_Z a1) ∨ (x10 = 1 ∧ tg_NL n 0 1 a1)) :
    wL_lawOf_161 post mc ms x1 x2 x3 (nI n) x7 x8 x10 kc ks (nI n) gx gy pn bs hb a1 a2 a3 a4 a5 a6 a7 a8 a9 a10 a11 a12 a13 a14 := by
  have hc2 := hc
  unfold wL_lawOf_161
  rcases hc with ⟨rfl, hz⟩ | ⟨rfl, hl⟩
  · refine tg_layA hn1 hn hz (fun _ _ _ _ _ _ _ _ _ _ _ => br_t rfl (tg_factL hn ?_))
    rw [tg_fact n (by omega)]
    exact tg_182 hp hn hA hB hc2
  · exact tg_layB hn hl (fun _ _ _ _ _ _ _ _ _ _ _ => br_f (by decide) (tg_182 hp hn hA hB hc2))
theorem tg_139 (hp : post 1 ()) (hn1 : 1 ≤ n) (hn : n ≤ 7) (hA : tg_Fl n x2 x7) (hB : tg_Fl n x3 x8) (hc : (x9 = 0 ∧ tg_Z a1) ∨ (x9 = 1 ∧ ((x4 &&& 3 = 0 ∧ tg_Z a1) ∨ (¬ x4 &&& 3 = 0 ∧ tg_NL n 0 1 a1)))) :
    wL_lawOf_139 post mc ms x1 x2 x3 x4 (nI n) x7 x8 x9 z z kc ks (nI n) gx gy pn bs hb a1 a2 a3 a4 a5 a6 a7 a8 a9 a10 a11 a12 a13 a14 := by
  refine br_t rfl ?_
  rcases hc with ⟨rfl, hz⟩ | ⟨rfl, ⟨e, hz⟩ | ⟨e, hl⟩⟩
  · exact br_t rfl (tg_161 hp hn1 hn hA hB (Or.inl ⟨rfl, hz⟩))
  · exact br_f (by decide) (br_t e (tg_161 hp hn1 hn hA hB (Or.inl ⟨rfl, hz⟩)))
  · exact br_f (by decide) (br_f e (tg_161 hp hn1 hn hA hB (Or.inr ⟨rfl, hl⟩)))
/-- painted with 0: nothing is painted -/
theorem tg_z_up {i j : Nat} {c : Int32} (hz : tg_Z a1) (hc : c = 0) : tg_Z (upd (upd a1 i c) j c) := by
  intro k hk
  by_cases e : k = j
  · rw [e, pk_us, hc]
  · rw [pk_un e]
    by_cases e2 : k = i
    · rw [e2, pk_us, hc]
    · rw [pk_un e2]; exact hz k hk
/-- painted with something else: no laying -/
theorem tg_nl_up {g i j : Nat} {c : Int32} (hn : n ≤ 7) (hg : g < 2) (hi : i < n) (hj : j < n) (hz : tg_Z a1) (hc : ¬ c = 0) : tg_NL n 0 1 (upd (upd a1 (49 * g + 7 * i + j) c) (49 * g + 7 * j + i) c) := by
  intro im h1 h2
  have on : upd (upd a1 (49 * g + 7 * i + j) c) (49 * g + 7 * j + i) c (49 * g + 7 * i + j) = c := by
    by_cases e : 49 * g + 7 * i + j = 49 * g + 7 * j + i
    · rw [e, pk_us]
    · rw [pk_un e, pk_us]
  rcases Nat.lt_or_ge g 1 with g0 | g1
  · obtain rfl : g = 0 := by omega
    refine ⟨i, j, hi, hj, ?_⟩
    have a := h1 i hi
    have b := h1 j hj
    rw [on, pk_un (by omega), pk_un (by omega), hz _ (by omega)]
    exact hc
  · obtain rfl : g = 1 := by omega
    obtain ⟨v, v1, rfl⟩ := h2 i hi
    obtain ⟨w, w1, rfl⟩ := h2 j hj
    refine ⟨v, w, v1, w1, ?_⟩
    rw [on, pk_un (by omega), pk_un (by omega), hz _ (by omega)]
    exact fun e => hc e.symm
theorem tg_91y {g i j : Nat} (hp : post 1 ()) (hn1 : 1 ≤ n) (hn : n ≤ 7) (hg : g < 2) (hi : i < n) (hj : j < n) (hz : tg_Z a1) :
    wL_lawOf_91 post mc ms (nI g) (nI i) (nI j) x4 (nI n) 1 1 1 kc ks (nI n) gx gy pn bs hb a1 a2 a3 a4 a5 a6 a7 a8 a9 a10 a11 a12 a13 a14 := by
  unfold wL_lawOf_91
  refine tg_paint1 hg hn hi hj (br_f (by decide) ?_)
  rw [hz (49 * g + 7 * i + j) (by omega)]
  refine br_t rfl (tg_colour1 hg hn hj hi (br_f (by decide) ?_))
  rw [pk_us]
  refine tg_139 hp hn1 hn (Or.inl ⟨i, hi, rfl, rfl⟩) (Or.inl ⟨j, hj, rfl, rfl⟩) (Or.inr ⟨rfl, ?_⟩)
  by_cases e : x4 &&& 3 = 0
  · exact Or.inl ⟨e, tg_z_up hz e⟩
  · exact Or.inr ⟨e, tg_nl_up hn hg hi hj hz e⟩
theorem tg_91n (hp : post 1 ()) (hn1 : 1 ≤ n) (hn : n ≤ 7) (hA : tg_Fl n x2 x7) (hB : tg_Fl n x3 x8) (hx : (¬ x1 = 0 ∧ ¬ x1 = 1) ∨ (x2 < 0 ∨ nI n ≤ x2) ∨ (x3 < 0 ∨ nI n ≤ x3)) (hz : tg_Z a1) :
    wL_lawOf_91 post mc ms x1 x2 x3 x4 (nI n) x7 x8 0 kc ks (nI n) gx gy pn bs hb a1 a2 a3 a4 a5 a6 a7 a8 a9 a10 a11 a12 a13 a14 := by
  unfold wL_lawOf_91 wpX_paint
  refine tg_fits0 hn hx (br_t rfl (br_t rfl (br_t rfl ?_)))
  unfold wpX_colour
  refine tg_fits0 hn ?_ (br_t rfl (br_t rfl (tg_139 hp hn1 hn hA hB (Or.inl ⟨rfl, hz⟩))))
  rcases hx with q | q | q
  · exact Or.inl q
  · exact Or.inr (Or.inr q)
  · exact Or.inr (Or.inl q)
theorem tg_76 {g : Nat} (hp : post 1 ()) (hn1 : 1 ≤ n) (hn : n ≤ 7) (hg : g < 2) (hA : tg_Fl n x2 x7) (hB : tg_Fl n x3 x8) (hz : tg_Z a1) :
    wL_lawOf_76 post mc ms (nI g) x2 x3 x4 (nI n) x7 x8 kc ks (nI n) gx gy pn bs hb a1 a2 a3 a4 a5 a6 a7 a8 a9 a10 a11 a12 a13 a14 := by
  have hA2 := hA
  have hB2 := hB
  rcases hA with ⟨i, hi, rfl, rfl⟩ | ⟨hA, rfl⟩
  · rcases hB with ⟨j, hj, rfl, rfl⟩ | ⟨hB, rfl⟩
    · exact br_f (by decide) (br_f (by decide) (tg_91y hp hn1 hn hg hi hj hz))
    · exact br_f (by decide) (br_t rfl (tg_91n hp hn1 hn hA2 hB2 (Or.inr (Or.inr hB)) hz))
  · exact br_t rfl (tg_91n hp hn1 hn hA2 hB2 (Or.inr (Or.inl hA)) hz)
theorem tg_65 (hp : post 1 ()) (hn1 : 1 ≤ n) (hn : n ≤ 7) (hA : tg_Fl n x2 x7) (hB : tg_Fl n x3 x8) (hz : tg_Z a1) :
    wL_lawOf_65 post mc ms x1 x2 x3 x4 (nI n) x7 x8 kc ks (nI n) gx gy pn bs hb a1 a2 a3 a4 a5 a6 a7 a8 a9 a10 a11 a12 a13 a14 := by
  refine br_c (fun e => ?_) (fun h0 => br_c (fun e => ?_) (fun h1 => tg_91n hp hn1 hn hA hB (Or.inl ⟨h0, h1⟩) hz))
  · rw [show x1 = nI 0 from e]
    exact tg_76 hp hn1 hn (by omega) hA hB hz
  · rw [show x1 = nI 1 from e]
    exact tg_76 hp hn1 hn (by omega) hA hB hz
theorem tg_flag (hn : n ≤ 7) {x : Int32} (h0 : ¬ x < 0) (h1 : ¬ nI n ≤ x) : tg_Fl n x 1 := by
  rcases pk_ix x (n := n) (by omega) with w | w | ⟨j, hj, e⟩
  · exact absurd w h0
  · exact absurd w h1
  · exact Or.inl ⟨j, hj, e, rfl⟩
theorem tg_48 (hp : post 1 ()) (hn1 : 1 ≤ n) (hn : n ≤ 7) (hA : tg_Fl n x2 x7) (hz : tg_Z a1) :
    wL_lawOf_48 post mc ms x1 x2 x3 x4 (nI n) x7 kc ks (nI n) gx gy pn bs hb a1 a2 a3 a4 a5 a6 a7 a8 a9 a10 a11 a12 a13 a14 :=
  br_c (fun z => tg_65 hp hn1 hn hA (Or.inr ⟨Or.inl z, rfl⟩) hz) (fun h0 => br_c (fun z => tg_65 hp hn1 hn hA (Or.inr ⟨Or.inr z, rfl⟩) hz) (fun h1 => tg_65 hp hn1 hn hA (tg_flag hn h0 h1) hz))
theorem tg_i26 {ps : St2 → Prop} {c : Int32} (hp : ps (c, 0, 0, 0, 0, 0, (fun _ => 0), (fun _ => 0), (fun _ => 0), (fun _ => 0), (fun _ => 0), (fun _ => 0), (fun _ => 0), (fun _ => 0), (fun _ => 0), (fun _ => 0), (fun _ => 0), (fun _ => 0), (fun _ => 0), (fun _ => 0))) : wX_init_26 ps 14 332 c 0 0 0 0 0 0 0 0 :=
  ⟨by decide, by decide, by decide, by decide, by decide, by decide, by decide, by decide, by decide, by decide, by decide, by decide, by decide, by decide, by decide, by decide, by decide, by decide, by decide, by decide, by decide, by decide, by decide, by decide, by decide, by decide, by decide, by decide, hp⟩
theorem tg_21 (hp : post 1 ()) (hn1 : 1 ≤ n) (hn : n ≤ 7) (hin : ∀ ps : St2 → Prop, ps (nI n, 0, 0, 0, 0, 0, (fun _ => 0), (fun _ => 0), (fun _ => 0), (fun _ => 0), (fun _ => 0), (fun _ => 0), (fun _ => 0), (fun _ => 0), (fun _ => 0), (fun _ => 0), (fun _ => 0), (fun _ => 0), (fun _ => 0), (fun _ => 0)) → wpX_init ps 14 332 (0, 0, 0, 0, 0, 0) x0) :
    wL_lawOf_21 post 224 3584 x0 x1 x2 x3 x4 (nI n) 0 0 := by
  have hz : tg_Z (fun _ => 0) := fun _ _ => rfl
  refine ⟨by decide, by decide, 14, 332, by decide, by decide, hin _ ?_⟩
  exact br_c (fun z => tg_48 hp hn1 hn (Or.inr ⟨Or.inl z, rfl⟩) hz) (fun h0 => br_c (fun z => tg_48 hp hn1 hn (Or.inr ⟨Or.inr z, rfl⟩) hz) (fun h1 => tg_48 hp hn1 hn (tg_flag hn h0 h1) hz))
theorem tg_lawOf (hp : post 1 ()) : wpL_lawOf post 224 3584 () x0 x1 x2 x3 x4 := by
  refine br_c (fun h1 => br_c (fun h7 => ?_) (fun h7 => ?_)) (fun h1 => ?_)
  · have h0 : ¬ x0 < 0 := fun z => absurd (Int32.lt_of_lt_of_le z (show (0 : Int32) ≤ 1 by decide)) (Int32.not_lt.mpr h1)
    obtain ⟨k, hk, rfl⟩ := nI_of h0
    have k1 : 1 ≤ k := (nI_leI (a := 1) (by omega) hk).mp h1
    have k7 : k ≤ 7 := (nI_leI (b := 7) hk (by omega)).mp h7
    exact tg_21 hp k1 k7 (fun ps h => br_t h1 (br_t h7 (tg_i26 h)))
  · exact tg_21 (n := 7) hp (by omega) (by omega) (fun ps h => br_t h1 (br_f h7 (tg_i26 h)))
  · exact tg_21 (n := 1) hp (by omega) (by omega) (fun ps h => br_f h1 (tg_i26 h))
theorem tg_cell {ps : Int32 → Prop} {L i : Nat} {xs : Nat → Int32} (hL : L ≤ 5) (hi : i < 5) (h : ∀ r, ps r) : wpL_cellAt ps L xs () (nI i) :=
  pk_le L i (fun _ => h _) (fun z => ⟨pk_in i L z, h _⟩)
end
section
theorem i_vc (xs : Nat → Int32) (L : Nat) (hL : L ≤ 5) : wpL_law (fun r => r = 1) L xs := by
  unfold wpL_law
  refine tg_cell (i := 0) hL (by omega) (fun _ => tg_cell (i := 1) hL (by omega) (fun _ => tg_cell (i := 2) hL (by omega) (fun _ => tg_cell (i := 3) hL (by omega) (fun _ => tg_cell (i := 4) hL (by omega) (fun _ => ?_)))))
  exact ⟨224, 3584, by decide, by decide, tg_lawOf rfl⟩
end
