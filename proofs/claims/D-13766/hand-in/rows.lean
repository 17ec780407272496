section
/-! ===== 01: rings, no program in sight: representatives, periodic functions, counts ===== -/
theorem qf_sub_mod {n x y : Nat} (h : x % n = y % n) (h1 : x ≤ y) (h2 : y < x + n) : x = y := by
  have h3 : (y - x) % n = 0 := Nat.sub_mod_eq_zero_of_mod_eq h.symm
  rw [Nat.mod_eq_of_lt (by omega)] at h3
  omega
theorem qf_uniq {n a x y : Nat} (h : x % n = y % n) (hx : a ≤ x) (hx2 : x < a + n) (hy : a ≤ y) (hy2 : y < a + n) : x = y := by
  rcases Nat.le_total x y with g | g
  · exact qf_sub_mod h g (by omega)
  · exact (qf_sub_mod h.symm g (by omega)).symm
theorem qf_ma {n x y : Nat} (k : Nat) (h : x % n = y % n) : (x + k) % n = (y + k) % n := by
  rw [Nat.add_mod, h, ← Nat.add_mod]
theorem qf_mm {n a : Nat} (t : Nat) (hn : 0 < n) : (t + (a + (n - a % n))) % n = t % n := by
  have h1 : a + (n - a % n) = n * (a / n + 1) := by
    have e1 := Nat.div_add_mod a n
    have e2 := Nat.mod_lt a hn
    rw [Nat.mul_add]
    omega
  rw [h1, Nat.add_mul_mod_self_left]
theorem qf_mc {n x y : Nat} (k : Nat) (hn : 0 < n) (h : (x + k) % n = (y + k) % n) : x % n = y % n := by
  have h2 := qf_ma (n - k % n) h
  rw [Nat.add_assoc, Nat.add_assoc, qf_mm x hn, qf_mm y hn] at h2
  exact h2
/-- the place of t in the window [a, a + n) -/
def qf_x (a n t : Nat) : Nat := a + (t + (n - a % n)) % n
theorem qf_x_ge {a n t : Nat} : a ≤ qf_x a n t := Nat.le_add_right _ _
theorem qf_x_lt {a n t : Nat} (hn : 0 < n) : qf_x a n t < a + n := Nat.add_lt_add_left (Nat.mod_lt _ hn) _
theorem qf_x_mod {a n t : Nat} (hn : 0 < n) : qf_x a n t % n = t % n := by
  unfold qf_x
  rw [Nat.add_comm, Nat.mod_add_mod, Nat.add_assoc, Nat.add_comm (n - a % n) a]
  exact qf_mm t hn
theorem qf_x_eq {a n t y : Nat} (h : t % n = y % n) (h1 : a ≤ y) (h2 : y < a + n) : qf_x a n t = y :=
  qf_uniq (by rw [qf_x_mod (by omega)]; exact h) qf_x_ge (qf_x_lt (by omega)) h1 h2
theorem qf_x_id {a n t : Nat} (h1 : a ≤ t) (h2 : t < a + n) : qf_x a n t = t := qf_x_eq rfl h1 h2
theorem qf_x_per {a n t : Nat} (hn : 0 < n) : qf_x a n (t + n) = qf_x a n t :=
  qf_x_eq (by rw [Nat.add_mod_right, qf_x_mod hn]) qf_x_ge (qf_x_lt hn)
theorem qf_x_s1 {a n t : Nat} (hn : 0 < n) (h : qf_x a n t + 1 < a + n) : qf_x a n (t + 1) = qf_x a n t + 1 :=
  qf_x_eq (qf_ma 1 (qf_x_mod hn).symm) (Nat.le_succ_of_le qf_x_ge) h
theorem qf_x_s2 {a n t : Nat} (hn : 0 < n) (h : qf_x a n t + 1 = a + n) : qf_x a n (t + 1) = a :=
  qf_x_eq (by rw [qf_ma 1 (qf_x_mod (a := a) (t := t) hn).symm, h, Nat.add_mod_right]) (Nat.le_refl _) (by omega)
theorem qf_pm {α : Type} {n : Nat} {g : Nat → α} (h : ∀ t, g (t + n) = g t) (t : Nat) : ∀ k, g (t + n * k) = g t
  | 0 => by rw [Nat.mul_zero, Nat.add_zero]
  | k + 1 => by rw [Nat.mul_succ, ← Nat.add_assoc, h, qf_pm h t k]
theorem qf_p0 {α : Type} {n : Nat} {g : Nat → α} (h : ∀ t, g (t + n) = g t) (x : Nat) : g x = g (x % n) := by
  have e := qf_pm h (x % n) (x / n)
  rw [Nat.mod_add_div] at e
  exact e
theorem qf_pe {α : Type} {n : Nat} {g : Nat → α} (h : ∀ t, g (t + n) = g t) {x y : Nat} (e : x % n = y % n) : g x = g y := by
  rw [qf_p0 h x, qf_p0 h y, e]
/-! counts -/
def qf_c (g : Nat → Bool) (a : Nat) : Nat → Nat
  | 0 => 0
  | k + 1 => qf_c g a k + (if g (a + k) = true then 1 else 0)
theorem qf_c_s (g : Nat → Bool) (a k : Nat) : qf_c g a (k + 1) = qf_c g a k + (if g (a + k) = true then 1 else 0) := rfl
theorem qf_c_le (g : Nat → Bool) (a : Nat) : ∀ k, qf_c g a k ≤ k
  | 0 => Nat.le_refl 0
  | k + 1 => by
    have := qf_c_le g a k
    rw [qf_c_s]
    split <;> omega
theorem qf_c_congr {g g' : Nat → Bool} {a a' : Nat} : ∀ {k : Nat}, (∀ i, i < k → g (a + i) = g' (a' + i)) → qf_c g a k = qf_c g' a' k
  | 0, _ => rfl
  | k + 1, h => by rw [qf_c_s, qf_c_s, qf_c_congr (k := k) (fun i hi => h i (by omega)), h k (by omega)]
theorem qf_c_add (g : Nat → Bool) (a j : Nat) : ∀ k, qf_c g a (j + k) = qf_c g a j + qf_c g (a + j) k
  | 0 => rfl
  | k + 1 => by rw [← Nat.add_assoc, qf_c_s, qf_c_s, qf_c_add g a j k, Nat.add_assoc a j k, Nat.add_assoc]
theorem qf_c_zero {g : Nat → Bool} {a : Nat} : ∀ {k : Nat}, (∀ i, i < k → g (a + i) = false) → qf_c g a k = 0
  | 0, _ => rfl
  | k + 1, h => by rw [qf_c_s, qf_c_zero (k := k) (fun i hi => h i (by omega)), h k (by omega)]; rfl
theorem qf_c_all {g : Nat → Bool} {a : Nat} : ∀ {k : Nat}, (∀ i, i < k → g (a + i) = true) → qf_c g a k = k
  | 0, _ => rfl
  | k + 1, h => by rw [qf_c_s, qf_c_all (k := k) (fun i hi => h i (by omega)), h k (by omega)]; rfl
theorem qf_c_1 (g : Nat → Bool) (a : Nat) : qf_c g a 1 = if g a = true then 1 else 0 := by
  rw [qf_c_s]
  show 0 + _ = _
  rw [Nat.zero_add, Nat.add_zero]
theorem qf_c_ex {g : Nat → Bool} {a k : Nat} (h : qf_c g a k < k) : ∃ i, i < k ∧ g (a + i) = false := by
  refine Classical.byContradiction (fun hc => ?_)
  have : qf_c g a k = k := qf_c_all (fun i hi => by
    rcases hb : g (a + i) with _ | _
    · exact absurd ⟨i, hi, hb⟩ hc
    · rfl)
  omega
theorem qf_c_pos {g : Nat → Bool} {a k : Nat} (h : 0 < qf_c g a k) : ∃ i, i < k ∧ g (a + i) = true := by
  refine Classical.byContradiction (fun hc => ?_)
  have : qf_c g a k = 0 := qf_c_zero (fun i hi => by
    rcases hb : g (a + i) with _ | _
    · rfl
    · exact absurd ⟨i, hi, hb⟩ hc)
  omega
theorem qf_c_one {g : Nat → Bool} {a i : Nat} : ∀ {k : Nat}, i < k → g (a + i) = true → 0 < qf_c g a k
  | 0, h, _ => absurd h (Nat.not_lt_zero i)
  | k + 1, h, hg => by
    rw [qf_c_s]
    by_cases e : i = k
    · rw [← e, hg]
      exact Nat.succ_pos _
    · have := qf_c_one (k := k) (by omega) hg
      omega
theorem qf_c_sh {n : Nat} {g : Nat → Bool} (h : ∀ t, g (t + n) = g t) (a : Nat) : qf_c g (a + 1) n = qf_c g a n := by
  have e1 := qf_c_add g a 1 n
  rw [Nat.add_comm 1 n, qf_c_s, qf_c_1, h a] at e1
  omega
theorem qf_c_per {n : Nat} {g : Nat → Bool} (h : ∀ t, g (t + n) = g t) : ∀ a, qf_c g a n = qf_c g 0 n
  | 0 => rfl
  | a + 1 => by rw [qf_c_sh h, qf_c_per h a]
/-- counts of places below a sum of values: the sorted order -/
def qf_sm (M : Nat → Nat) : Nat → Nat
  | 0 => 0
  | w + 1 => qf_sm M w + M w
theorem qf_sm_s (M : Nat → Nat) (w : Nat) : qf_sm M (w + 1) = qf_sm M w + M w := rfl
theorem qf_sm_le {M : Nat → Nat} {w w' : Nat} (h : w ≤ w') : qf_sm M w ≤ qf_sm M w' := by
  induction w' with
  | zero => rw [show w = 0 by omega]; exact Nat.le_refl _
  | succ w' ih =>
    by_cases e : w = w' + 1
    · rw [e]; exact Nat.le_refl _
    · have := ih (by omega)
      rw [qf_sm_s]
      omega
theorem qf_sm_uniq {M : Nat → Nat} {k w w' : Nat} (h1 : qf_sm M w ≤ k) (h2 : k < qf_sm M w + M w) (h3 : qf_sm M w' ≤ k) (h4 : k < qf_sm M w' + M w') : w = w' := by
  rcases Nat.lt_trichotomy w w' with g | g | g
  · have := qf_sm_le (M := M) (show w + 1 ≤ w' by omega)
    rw [qf_sm_s] at this
    omega
  · exact g
  · have := qf_sm_le (M := M) (show w' + 1 ≤ w by omega)
    rw [qf_sm_s] at this
    omega
/-- how many of the values are below w: the sum of the counts -/
theorem qf_lt_sm (v : Nat → Nat) (k : Nat) : ∀ w, qf_c (fun i => decide (v i < w)) 0 k = qf_sm (fun q => qf_c (fun i => v i == q) 0 k) w
  | 0 => qf_c_zero (fun i _ => by simp)
  | w + 1 => by
    rw [qf_sm_s, ← qf_lt_sm v k w]
    induction k with
    | zero => rfl
    | succ k ih =>
      rw [qf_c_s, qf_c_s, qf_c_s, ih, Nat.zero_add]
      by_cases e : v k = w
      · simp [e]
        omega
      · by_cases g : v k < w
        · simp [e, g, show v k < w + 1 by omega]
          omega
        · simp [e, g, show ¬ v k < w + 1 by omega]
theorem qf_lt_le (v : Nat → Nat) (k w : Nat) : qf_c (fun i => decide (v i < w)) 0 k + qf_c (fun i => v i == w) 0 k ≤ k := by
  have h := qf_lt_sm v k (w + 1)
  rw [qf_sm_s, ← qf_lt_sm v k w] at h
  have := qf_c_le (fun i => decide (v i < w + 1)) 0 k
  omega
end
section
/-! ===== 02: a ring of slots: o: is it held, d: how far what it holds stands from home ===== -/
def qf_W (n : Nat) (o : Nat → Bool) (d : Nat → Nat) : Prop := (∀ t, o (t + n) = o t) ∧ (∀ t, d (t + n) = d t) ∧ (∃ t, o t = false) ∧ ∀ t, o (t + 1) = true → 0 < d (t + 1) → o t = true ∧ d (t + 1) ≤ d t + 1
/-- some place is held by what belongs to slot u -/
def qf_run (o : Nat → Bool) (d : Nat → Nat) (u : Nat) : Prop := ∃ k, o (u + k) = true ∧ d (u + k) = k
theorem qf_tf {x : Bool} (h : ¬ x = true) : x = false := by
  rcases x with _ | _
  · rfl
  · exact absurd rfl h
theorem qf_ft {x : Bool} (h : ¬ x = false) : x = true := by
  rcases x with _ | _
  · exact absurd rfl h
  · rfl
theorem qf_no {x : Bool} (h : x = false) : ¬ x = true := by
  rw [h]
  exact Bool.false_ne_true
section
variable {n : Nat} {o : Nat → Bool} {d : Nat → Nat}
theorem qf_down (hW : qf_W n o d) {t : Nat} : ∀ {k : Nat}, o (t + k) = true → k ≤ d (t + k) → o t = true ∧ d (t + k) ≤ d t + k
  | 0, h, _ => ⟨h, Nat.le_refl _⟩
  | k + 1, h, hk => by
    have h0 : 0 < d (t + (k + 1)) := by omega
    have h1 : o (t + k) = true ∧ d (t + (k + 1)) ≤ d (t + k) + 1 := hW.2.2.2 (t + k) h h0
    have h2 := qf_down hW (t := t) (k := k) h1.1 (by omega)
    exact ⟨h2.1, by omega⟩
/-- the same, by two places -/
theorem qf_dn (hW : qf_W n o d) {t t' : Nat} (h : t ≤ t') (ho : o t' = true) (hd : t' ≤ t + d t') : o t = true ∧ t + d t' ≤ t' + d t := by
  have e : t + (t' - t) = t' := by omega
  have := qf_down hW (t := t) (k := t' - t) (by rw [e]; exact ho) (by rw [e]; omega)
  rw [e] at this
  exact ⟨this.1, by omega⟩
theorem qf_free (hW : qf_W n o d) (hn : 0 < n) (a : Nat) : ∃ t, a ≤ t ∧ t < a + n ∧ o t = false := by
  obtain ⟨t, ht⟩ := hW.2.2.1
  exact ⟨qf_x a n t, qf_x_ge, qf_x_lt hn, by rw [qf_pe hW.1 (qf_x_mod hn)]; exact ht⟩
theorem qf_dlt (hW : qf_W n o d) (hn : 0 < n) {t : Nat} (ho : o t = true) : d t < n := by
  refine Classical.byContradiction (fun hc => ?_)
  obtain ⟨g, h1, h2, h3⟩ := qf_free hW hn (t + 1)
  have e1 : o (t + n) = true := by rw [hW.1]; exact ho
  have e2 : d (t + n) = d t := hW.2.1 t
  have := qf_dn hW (t := g) (t' := t + n) (by omega) e1 (by omega)
  exact qf_no h3 this.1
/-- behind the end of slot u's run all is of later slots -/
theorem qf_above (hW : qf_W n o d) {u e : Nat} (hu : u < e) (he : o e = true → u + d e < e) : ∀ k, o (e + k) = true → u + d (e + k) < e + k
  | 0, h => he h
  | k + 1, h => by
    have e3 : e + (k + 1) = e + k + 1 := rfl
    by_cases z : 0 < d (e + (k + 1))
    · have h1 : o (e + k) = true ∧ d (e + (k + 1)) ≤ d (e + k) + 1 := hW.2.2.2 (e + k) h z
      have := qf_above hW hu he k h1.1
      omega
    · omega
theorem qf_base (hW : qf_W n o d) {b0 t : Nat} (h0 : d b0 = 0) (ht : b0 ≤ t) (ho : o t = true) : b0 + d t ≤ t := by
  refine Classical.byContradiction (fun hc => ?_)
  have := qf_dn hW ht ho (by omega)
  omega
/-- the first free place at or behind a -/
theorem qf_first (hW : qf_W n o d) (hn : 0 < n) (a : Nat) : ∃ e, a ≤ e ∧ e < a + n ∧ o e = false ∧ ∀ t, a ≤ t → t < e → o t = true := by
  obtain ⟨g, g1, g2, g3⟩ := qf_free hW hn a
  obtain ⟨k, h1, h2⟩ := pk_least (fun k => o (a + k) = false) ⟨g - a, by
    show o (a + (g - a)) = false
    rw [show a + (g - a) = g by omega]
    exact g3⟩
  have hk : k ≤ g - a := by
    refine Classical.byContradiction (fun hc => ?_)
    refine h2 (g - a) (by omega) ?_
    show o (a + (g - a)) = false
    rw [show a + (g - a) = g by omega]
    exact g3
  refine ⟨a + k, by omega, by omega, h1, fun t t1 t2 => qf_ft (fun z => h2 (t - a) (by omega) ?_)⟩
  show o (a + (t - a)) = false
  rw [show a + (t - a) = t by omega]
  exact z
end
/-- b0 begins the stretch of pushed places that reaches u -/
def qf_C (o : Nat → Bool) (d : Nat → Nat) (b0 u : Nat) : Prop := b0 ≤ u ∧ o b0 = true ∧ d b0 = 0 ∧ ∀ t, b0 < t → t ≤ u → o t = true ∧ 0 < d t
/-- run by run: s is where the run of b begins, or would begin -/
def qf_I (o : Nat → Bool) (d : Nat → Nat) (b0 u b s : Nat) : Prop := b0 ≤ b ∧ b ≤ u ∧ b ≤ s ∧ (∀ t, b0 ≤ t → t < s → o t = true ∧ t < b + d t) ∧ ((o s = true ∧ s = b + d s) ∨ (b = u ∧ ¬ qf_run o d b ∧ (o s = true → b + d s < s)))
section
variable {n : Nat} {o : Nat → Bool} {d : Nat → Nat}
theorem qf_I0 {b0 u : Nat} (hC : qf_C o d b0 u) : qf_I o d b0 u b0 b0 :=
  ⟨Nat.le_refl _, hC.1, Nat.le_refl _, fun t h1 h2 => absurd h1 (by omega), Or.inl ⟨hC.2.1, by rw [hC.2.2.1]; rfl⟩⟩
theorem qf_Cn (hW : qf_W n o d) (hn : 0 < n) {b0 u : Nat} (hC : qf_C o d b0 u) : u + 1 < b0 + n := by
  refine Classical.byContradiction (fun hc => ?_)
  obtain ⟨g, h1, h2, h3⟩ := qf_free hW hn b0
  by_cases e : g = b0
  · rw [e] at h3
    exact qf_no h3 hC.2.1
  · exact qf_no h3 (hC.2.2.2 g (by omega) (by omega)).1
theorem qf_occ_lt (hW : qf_W n o d) (hn : 0 < n) {b0 s : Nat} (h : ∀ t, b0 ≤ t → t < s → o t = true) : s < b0 + n := by
  refine Classical.byContradiction (fun hc => ?_)
  obtain ⟨g, h1, h2, h3⟩ := qf_free hW hn b0
  exact qf_no h3 (h g h1 (by omega))
theorem qf_nx {N : Nat → Prop} (hW : qf_W n o d) {b0 u b b' s : Nat} (hC : qf_C o d b0 u) (hN : ∀ q, b0 ≤ q → q ≤ u → (N q ↔ qf_run o d q ∨ q = u)) (h1 : b0 ≤ b) (h2 : b < b') (h3 : b' ≤ u) (hb : N b') (hno : ∀ q, b < q → q < b' → ¬ N q) (hs : b < s) (hA : ∀ t, b0 ≤ t → t < s → o t = true ∧ t ≤ b + d t) (hG : o s = true → b + d s < s) : qf_I o d b0 u b' s := by
  have K : o s = true → b' + d s ≤ s := by
    intro ho
    have g := hG ho
    refine Classical.byContradiction (fun hc => ?_)
    refine hno (s - d s) (by omega) (by omega) ((hN _ (by omega) (by omega)).mpr (Or.inl ⟨d s, ?_, ?_⟩))
    · rw [Nat.sub_add_cancel (by omega)]; exact ho
    · rw [Nat.sub_add_cancel (by omega)]
  have J : b' ≤ s := by
    refine Classical.byContradiction (fun hc => ?_)
    have g1 := hC.2.2.2 s (by omega) (by omega)
    have g2 := K g1.1
    omega
  refine ⟨by omega, h3, J, fun t t1 t2 => ⟨(hA t t1 t2).1, by have := (hA t t1 t2).2; omega⟩, ?_⟩
  by_cases r : qf_run o d b'
  · obtain ⟨k, hk, ek⟩ := r
    have g1 : s ≤ b' + k := by
      refine Classical.byContradiction (fun hc => ?_)
      have := hA (b' + k) (by omega) (by omega)
      omega
    have g2 := qf_dn hW g1 hk (by omega)
    have g3 := K g2.1
    exact Or.inl ⟨g2.1, by omega⟩
  · have e : b' = u := by
      rcases (hN b' (by omega) h3).mp hb with z | z
      · exact absurd z r
      · exact z
    refine Or.inr ⟨e, r, fun ho => ?_⟩
    have g3 := K ho
    refine Classical.byContradiction (fun hc => r ⟨d s, ?_, ?_⟩)
    · rw [show b' + d s = s by omega]; exact ho
    · rw [show b' + d s = s by omega]
/-- no slot is named between the owners of two neighbours -/
theorem qf_gap (hW : qf_W n o d) {t q : Nat} (ho : o t = true) (ho' : o (t + 1) = true) (h1 : t < q + d t) (h2 : q + d (t + 1) < t + 1) : ¬ qf_run o d q := by
  rintro ⟨k, hk, ek⟩
  by_cases z : t + 1 ≤ q + k
  · have := qf_dn hW z hk (by omega)
    omega
  · have := qf_dn hW (show q + k ≤ t by omega) ho (by omega)
    omega
/-- home and owner -/
theorem qf_home (hW : qf_W n o d) {b0 u t q : Nat} (h0 : d b0 = 0) (hu : b0 ≤ u) (hu2 : u < b0 + n) (ht : b0 ≤ t) (ht2 : t < b0 + n) (ho : o t = true) (hv : (q + d t) % n = t % n) (hq : q % n = u % n) : t = u + d t := by
  have g := qf_base hW h0 ht ho
  refine qf_uniq (n := n) (a := b0 + d t) ?_ g (by omega) (by omega) (by omega)
  rw [← hv]
  exact qf_ma (d t) hq
theorem qf_home' {u t q : Nat} (hn : 0 < n) (hv : (q + d t) % n = t % n) (h : t = u + d t) : q % n = u % n :=
  qf_mc (d t) hn (by rw [hv]; rw [← h])
end
end
section
/-! ===== 03: what is put at place s for slot u moves what stands in [s, e) on by one place ===== -/
def qf_io (n s e : Nat) (o : Nat → Bool) (t : Nat) : Bool := if qf_x s n t ≤ e then true else o (qf_x s n t)
def qf_id (n s e u : Nat) (d : Nat → Nat) (t : Nat) : Nat := if qf_x s n t = s then s - u else if qf_x s n t ≤ e then d (qf_x s n t - 1) + 1 else d (qf_x s n t)
def qf_iv (n s e p : Nat) (v : Nat → Nat) (t : Nat) : Nat := if qf_x s n t = s then p else if qf_x s n t ≤ e then v (qf_x s n t - 1) else v (qf_x s n t)
def qf_J (n : Nat) (o : Nat → Bool) (d : Nat → Nat) (s e u : Nat) : Prop := u ≤ s ∧ s < u + n ∧ s ≤ e ∧ o e = false ∧ (∀ t, s ≤ t → t < e → o t = true) ∧ (u < s → o (s - 1) = true ∧ s - 1 ≤ u + d (s - 1)) ∧ (o s = true → u + d s ≤ s) ∧ ∃ g, e < g ∧ g < s + n ∧ o g = false
section
variable {n s e u p t : Nat} {o : Nat → Bool} {d v : Nat → Nat}
theorem qf_io_a (h : qf_x s n t ≤ e) : qf_io n s e o t = true := if_pos h
theorem qf_io_b (h : e < qf_x s n t) : qf_io n s e o t = o (qf_x s n t) := if_neg (by omega)
theorem qf_id_s (h : qf_x s n t = s) : qf_id n s e u d t = s - u := if_pos h
theorem qf_id_m {y : Nat} (h : qf_x s n t = y + 1) (h1 : s ≤ y) (h2 : y < e) : qf_id n s e u d t = d y + 1 := by
  unfold qf_id
  rw [h, if_neg (by omega), if_pos (by omega)]
  rfl
theorem qf_id_b (hs : s ≤ e) (h : e < qf_x s n t) : qf_id n s e u d t = d (qf_x s n t) := by
  unfold qf_id
  rw [if_neg (by omega), if_neg (by omega)]
theorem qf_iv_s (h : qf_x s n t = s) : qf_iv n s e p v t = p := if_pos h
theorem qf_iv_m {y : Nat} (h : qf_x s n t = y + 1) (h1 : s ≤ y) (h2 : y < e) : qf_iv n s e p v t = v y := by
  unfold qf_iv
  rw [h, if_neg (by omega), if_pos (by omega)]
  rfl
theorem qf_iv_b (hs : s ≤ e) (h : e < qf_x s n t) : qf_iv n s e p v t = v (qf_x s n t) := by
  unfold qf_iv
  rw [if_neg (by omega), if_neg (by omega)]
theorem qf_io_per (hn : 0 < n) (t : Nat) : qf_io n s e o (t + n) = qf_io n s e o t := by
  unfold qf_io
  rw [qf_x_per hn]
theorem qf_id_per (hn : 0 < n) (t : Nat) : qf_id n s e u d (t + n) = qf_id n s e u d t := by
  unfold qf_id
  rw [qf_x_per hn]
theorem qf_iv_per (hn : 0 < n) (t : Nat) : qf_iv n s e p v (t + n) = qf_iv n s e p v t := by
  unfold qf_iv
  rw [qf_x_per hn]
/-- neighbours in the window -/
theorem qf_x_nb (hn : 0 < n) (t : Nat) : (qf_x s n (t + 1) = s ∧ qf_x s n t + 1 = s + n) ∨ (qf_x s n (t + 1) = qf_x s n t + 1 ∧ qf_x s n t + 1 < s + n) := by
  have h := qf_x_lt (a := s) (t := t) hn
  by_cases z : qf_x s n t + 1 < s + n
  · exact Or.inr ⟨qf_x_s1 hn z, z⟩
  · have z' : qf_x s n t + 1 = s + n := by omega
    exact Or.inl ⟨qf_x_s2 hn z', z'⟩
theorem qf_last (hW : qf_W n o d) {y : Nat} (hs : 0 < s) (h : y + 1 = s + n) : o y = o (s - 1) ∧ d y = d (s - 1) := by
  have e1 : y = s - 1 + n := by omega
  rw [e1]
  exact ⟨hW.1 _, hW.2.1 _⟩
theorem qf_i_W (hn : 0 < n) (hW : qf_W n o d) (hJ : qf_J n o d s e u) : qf_W n (qf_io n s e o) (qf_id n s e u d) := by
  obtain ⟨j1, j2, j3, j4, j5, j6, j7, g, g1, g2, g3⟩ := hJ
  refine ⟨qf_io_per hn, qf_id_per hn, ⟨g, ?_⟩, fun t ho hd => ?_⟩
  · rw [qf_io_b (by rw [qf_x_id (by omega) g2]; exact g1), qf_x_id (by omega) g2]
    exact g3
  · have x1 := qf_x_ge (a := s) (n := n) (t := t)
    rcases qf_x_nb (s := s) hn t with ⟨h1, h2⟩ | ⟨h1, h2⟩
    · rw [qf_id_s h1] at hd ⊢
      have := j6 (by omega)
      have l := qf_last hW (s := s) (by omega) h2
      have z : e < qf_x s n t := by omega
      rw [qf_io_b z, qf_id_b j3 z, l.1, l.2]
      exact ⟨this.1, by omega⟩
    · by_cases z : qf_x s n t < e
      · rw [qf_id_m h1 x1 z]
        refine ⟨qf_io_a (by omega), ?_⟩
        have hy := j5 _ x1 z
        by_cases w : qf_x s n t = s
        · rw [qf_id_s w, w]
          rw [w] at hy
          have := j7 hy
          omega
        · obtain ⟨y, ey⟩ : ∃ y, qf_x s n t = y + 1 := ⟨qf_x s n t - 1, by omega⟩
          rw [qf_id_m ey (by omega) (by omega), ey]
          rw [ey] at hy
          by_cases w0 : 0 < d (y + 1)
          · have := hW.2.2.2 y hy w0
            omega
          · omega
      · have z1 : e < qf_x s n (t + 1) := by omega
        rw [qf_io_b z1, h1] at ho
        rw [qf_id_b j3 z1, h1] at hd ⊢
        have := hW.2.2.2 _ ho hd
        by_cases w : qf_x s n t = e
        · rw [w, j4] at this
          exact absurd this.1 Bool.false_ne_true
        · have z2 : e < qf_x s n t := by omega
          rw [qf_io_b z2, qf_id_b j3 z2]
          exact this
theorem qf_i_run (hn : 0 < n) (hW : qf_W n o d) (hJ : qf_J n o d s e u) (t : Nat) : qf_run (qf_io n s e o) (qf_id n s e u d) t ↔ qf_run o d t ∨ t % n = u % n := by
  obtain ⟨j1, j2, j3, j4, j5, j6, j7, g, g1, g2, g3⟩ := hJ
  constructor
  · rintro ⟨k, hk, ek⟩
    have x1 := qf_x_ge (a := s) (n := n) (t := t + k)
    have xm := qf_x_mod (a := s) (t := t + k) hn
    by_cases z : qf_x s n (t + k) = s
    · rw [qf_id_s z] at ek
      refine Or.inr (qf_mc k hn ?_)
      rw [← xm, z]
      rw [show u + k = s by omega]
    · by_cases w : qf_x s n (t + k) ≤ e
      · obtain ⟨y, ey⟩ : ∃ y, qf_x s n (t + k) = y + 1 := ⟨qf_x s n (t + k) - 1, by omega⟩
        rw [qf_id_m ey (by omega) (by omega)] at ek
        have em : (t + (k - 1)) % n = y % n := by
          refine qf_mc 1 hn ?_
          rw [← ey, xm, show t + (k - 1) + 1 = t + k by omega]
        refine Or.inl ⟨k - 1, ?_, ?_⟩
        · rw [qf_pe hW.1 em]
          exact j5 y (by omega) (by omega)
        · rw [qf_pe hW.2.1 em]
          omega
      · have w' : e < qf_x s n (t + k) := by omega
        rw [qf_io_b w', qf_pe hW.1 xm] at hk
        rw [qf_id_b j3 w', qf_pe hW.2.1 xm] at ek
        exact Or.inl ⟨k, hk, ek⟩
  · rintro (⟨k, hk, ek⟩ | hu)
    · have x1 := qf_x_ge (a := s) (n := n) (t := t + k)
      have xm := qf_x_mod (a := s) (t := t + k) hn
      have ho : o (qf_x s n (t + k)) = true := by rw [qf_pe hW.1 xm]; exact hk
      have hd : d (qf_x s n (t + k)) = k := by rw [qf_pe hW.2.1 xm]; exact ek
      by_cases w : qf_x s n (t + k) < e
      · have h1 : qf_x s n (t + (k + 1)) = qf_x s n (t + k) + 1 := qf_x_s1 (t := t + k) hn (by omega)
        exact ⟨k + 1, qf_io_a (by omega), by rw [qf_id_m h1 x1 w, hd]⟩
      · have w' : e < qf_x s n (t + k) := by
          by_cases z : qf_x s n (t + k) = e
          · rw [z, j4] at ho
            exact absurd ho Bool.false_ne_true
          · omega
        exact ⟨k, by rw [qf_io_b w']; exact ho, by rw [qf_id_b j3 w']; exact hd⟩
    · have h1 : qf_x s n (t + (s - u)) = s := qf_x_eq (by rw [qf_ma (s - u) hu, show u + (s - u) = s by omega]) (Nat.le_refl _) (by omega)
      exact ⟨s - u, qf_io_a (by omega), qf_id_s h1⟩
/-- which places go on with the run before them -/
theorem qf_i_G0 (hn : 0 < n) (hW : qf_W n o d) (hJ : qf_J n o d s e u) {t : Nat} (h : qf_x s n (t + 1) = s) : (qf_io n s e o (t + 1) = true ∧ qf_id n s e u d (t + 1) = qf_id n s e u d t + 1) ↔ s = u + d (s - 1) + 1 := by
  obtain ⟨j1, j2, j3, j4, j5, j6, j7, g, g1, g2, g3⟩ := hJ
  have x1 := qf_x_ge (a := s) (n := n) (t := t)
  have h2 : qf_x s n t + 1 = s + n := by
    rcases qf_x_nb (s := s) hn t with ⟨_, h2⟩ | ⟨h1, _⟩
    · exact h2
    · omega
  rw [qf_id_s h]
  have z : e < qf_x s n t := by omega
  rw [qf_id_b j3 z]
  by_cases w : 0 < s
  · have l := qf_last hW (s := s) w h2
    rw [l.2]
    constructor
    · rintro ⟨_, h4⟩
      omega
    · intro h4
      exact ⟨qf_io_a (by omega), by omega⟩
  · constructor
    · rintro ⟨_, h4⟩
      omega
    · intro h4
      omega
theorem qf_i_G1 (hn : 0 < n) (hJ : qf_J n o d s e u) {t : Nat} (h : qf_x s n (t + 1) = s + 1) (he : s < e) : (qf_io n s e o (t + 1) = true ∧ qf_id n s e u d (t + 1) = qf_id n s e u d t + 1) ↔ (o s = true ∧ s = u + d s) := by
  obtain ⟨j1, j2, j3, j4, j5, j6, j7, g, g1, g2, g3⟩ := hJ
  have h2 : qf_x s n t = s := by
    rcases qf_x_nb (s := s) hn t with ⟨h2, _⟩ | ⟨h1, _⟩
    · omega
    · omega
  have ho := j5 s (by omega) he
  have := j7 ho
  rw [qf_id_m h (by omega) he, qf_id_s h2]
  constructor
  · rintro ⟨_, h4⟩
    exact ⟨ho, by omega⟩
  · rintro ⟨_, h4⟩
    exact ⟨qf_io_a (by omega), by omega⟩
theorem qf_i_G2 (hn : 0 < n) (hJ : qf_J n o d s e u) {t y : Nat} (h : qf_x s n (t + 1) = y + 1 + 1) (hy : s ≤ y) (he : y + 1 < e) : (qf_io n s e o (t + 1) = true ∧ qf_id n s e u d (t + 1) = qf_id n s e u d t + 1) ↔ (o (y + 1) = true ∧ d (y + 1) = d y + 1) := by
  obtain ⟨j1, j2, j3, j4, j5, j6, j7, g, g1, g2, g3⟩ := hJ
  have h2 : qf_x s n t = y + 1 := by
    rcases qf_x_nb (s := s) hn t with ⟨h2, _⟩ | ⟨h1, _⟩
    · omega
    · omega
  have ho := j5 (y + 1) (by omega) he
  rw [qf_id_m h (by omega) he, qf_id_m h2 hy (by omega)]
  constructor
  · rintro ⟨_, h4⟩
    exact ⟨ho, by omega⟩
  · rintro ⟨_, h4⟩
    exact ⟨qf_io_a (by omega), by omega⟩
theorem qf_i_G3 (hn : 0 < n) (hW : qf_W n o d) (hJ : qf_J n o d s e u) {t y : Nat} (h : qf_x s n (t + 1) = y + 1) (hy : e ≤ y) : (qf_io n s e o (t + 1) = true ∧ qf_id n s e u d (t + 1) = qf_id n s e u d t + 1) ↔ (o (y + 1) = true ∧ d (y + 1) = d y + 1) := by
  obtain ⟨j1, j2, j3, j4, j5, j6, j7, g, g1, g2, g3⟩ := hJ
  have h2 : qf_x s n t = y := by
    rcases qf_x_nb (s := s) hn t with ⟨h2, _⟩ | ⟨h1, _⟩
    · omega
    · omega
  rw [qf_io_b (by omega), qf_id_b j3 (by omega), h]
  by_cases w : y = e
  · have no : o (y + 1) = true → d (y + 1) = 0 := by
      intro ho
      refine Classical.byContradiction (fun hc => ?_)
      have := hW.2.2.2 y ho (by omega)
      rw [w, j4] at this
      exact absurd this.1 Bool.false_ne_true
    constructor
    · rintro ⟨h3, h4⟩
      have := no h3
      omega
    · rintro ⟨h3, h4⟩
      have := no h3
      omega
  · rw [qf_id_b j3 (by omega), h2]
/-- the counts grow by what was put there -/
theorem qf_i_c (hn : 0 < n) (hW : qf_W n o d) (hv : ∀ t, v (t + n) = v t) (hJ : qf_J n o d s e u) (φ : Nat → Bool) : qf_c (fun t => qf_io n s e o t && φ (qf_iv n s e p v t)) 0 n = qf_c (fun t => o t && φ (v t)) 0 n + (if φ p = true then 1 else 0) := by
  obtain ⟨j1, j2, j3, j4, j5, j6, j7, g, g1, g2, g3⟩ := hJ
  rw [← qf_c_per (g := fun t => qf_io n s e o t && φ (qf_iv n s e p v t)) (fun t => by show (_ && _) = (_ && _); rw [qf_io_per hn, qf_iv_per hn]) s]
  rw [← qf_c_per (g := fun t => o t && φ (v t)) (fun t => by show (_ && _) = (_ && _); rw [hW.1, hv]) s]
  have e1 : n = 1 + (e - s) + (s + n - e - 1) := by omega
  have e2 : n = (e - s) + 1 + (s + n - e - 1) := by omega
  have c1 : qf_c (fun t => qf_io n s e o t && φ (qf_iv n s e p v t)) s n = (if φ p = true then 1 else 0) + qf_c (fun t => o t && φ (v t)) s (e - s) + qf_c (fun t => o t && φ (v t)) (e + 1) (s + n - e - 1) := by
    have a1 := qf_c_add (fun t => qf_io n s e o t && φ (qf_iv n s e p v t)) s (1 + (e - s)) (s + n - e - 1)
    rw [← e1, qf_c_add _ s 1 (e - s), qf_c_1] at a1
    rw [a1]
    have xs : qf_x s n s = s := qf_x_id (Nat.le_refl _) (by omega)
    have b1 : (qf_io n s e o s && φ (qf_iv n s e p v s)) = φ p := by rw [qf_io_a (by omega), qf_iv_s xs, Bool.true_and]
    have b2 : qf_c (fun t => qf_io n s e o t && φ (qf_iv n s e p v t)) (s + 1) (e - s) = qf_c (fun t => o t && φ (v t)) s (e - s) := by
      refine qf_c_congr (fun i hi => ?_)
      have xi : qf_x s n (s + 1 + i) = s + i + 1 := by rw [qf_x_id (by omega) (by omega)]; omega
      show (_ && _) = (_ && _)
      rw [qf_io_a (by omega), qf_iv_m xi (by omega) (by omega), j5 (s + i) (by omega) (by omega)]
    have b3 : qf_c (fun t => qf_io n s e o t && φ (qf_iv n s e p v t)) (s + (1 + (e - s))) (s + n - e - 1) = qf_c (fun t => o t && φ (v t)) (e + 1) (s + n - e - 1) := by
      refine qf_c_congr (fun i hi => ?_)
      have xi : qf_x s n (s + (1 + (e - s)) + i) = e + 1 + i := by rw [qf_x_id (by omega) (by omega)]; omega
      show (_ && _) = (_ && _)
      rw [qf_io_b (by omega), qf_iv_b j3 (by omega), xi]
    rw [b1, b2, b3]
  have c2 : qf_c (fun t => o t && φ (v t)) s n = qf_c (fun t => o t && φ (v t)) s (e - s) + qf_c (fun t => o t && φ (v t)) (e + 1) (s + n - e - 1) := by
    have a1 := qf_c_add (fun t => o t && φ (v t)) s ((e - s) + 1) (s + n - e - 1)
    rw [← e2, qf_c_s, show s + (e - s) = e by omega, show s + ((e - s) + 1) = e + 1 by omega, j4] at a1
    rw [a1]
    rfl
  rw [c1, c2]
  omega
end
end
section
/-! ===== 04: the small methods; the picture of a filter ===== -/
/-- filter f has 2^b = n slots -/
def qf_B (f b n : Nat) (a1 : Nat → Int32) : Prop := f < 2 ∧ 3 ≤ b ∧ b ≤ 6 ∧ n = 2 ^ b ∧ a1 f = nI b
theorem qf_pw : ∀ b, b ≤ 6 → 3 ≤ b → 8 ≤ 2 ^ b ∧ 2 ^ b ≤ 64 ∧ 2 ^ b * 2 ^ (8 - b) = 256 ∧ 4 ≤ 2 ^ (8 - b) ∧ 2 ^ (8 - b) ≤ 32 := by decide +kernel
theorem qf_B_n {f b n : Nat} {a1 : Nat → Int32} (h : qf_B f b n a1) : 8 ≤ n ∧ n ≤ 64 ∧ 0 < n ∧ n * 2 ^ (8 - b) = 256 ∧ 4 ≤ 2 ^ (8 - b) ∧ 2 ^ (8 - b) ≤ 32 := by
  obtain ⟨_, h1, h2, h3, _⟩ := h
  have := qf_pw b h2 h1
  rw [h3]
  exact ⟨this.1, this.2.1, by omega, this.2.2⟩
theorem qf_w_sl : ∀ b, b ≤ 6 → (1 : Int32) <<< (nI b &&& 31) = nI (2 ^ b) := by decide +kernel
theorem qf_w_mk : ∀ b, b ≤ 6 → (nI (2 ^ b) - 1).toBitVec.toNat = 2 ^ b - 1 := by decide +kernel
theorem qf_w_be : ∀ b, b ≤ 6 → ∀ y, y < 2 ^ b → (nI y - 1) &&& (nI (2 ^ b) - 1) = nI ((y + (2 ^ b - 1)) % 2 ^ b) := by decide +kernel
theorem qf_w_so : ∀ b, b ≤ 6 → ∀ p, p < 256 → nI p >>> ((8 - nI b) &&& 31) = nI (p / 2 ^ (8 - b)) := by decide +kernel
theorem qf_w_lo : ∀ b, b ≤ 6 → ∀ p, p < 256 → nI p &&& (((1 : Int32) <<< ((8 - nI b) &&& 31)) - 1) = nI (p % 2 ^ (8 - b)) := by decide +kernel
theorem qf_w_by : ∀ p, p < 128 → (nI p).toInt8.toInt32 = nI p := by decide +kernel
theorem qf_w_bo : ∀ x : Int32, x = 0 ∨ x = 1 → vp_nar .boolean x = x := by
  rintro x (rfl | rfl) <;> rfl
theorem qf_w_rd : ∀ b, b ≤ 6 → 3 ≤ b → ∀ p, p < 256 → ((nI (p / 2 ^ (8 - b)) <<< ((8 - nI b) &&& 31)) ||| nI (p % 2 ^ (8 - b))).toInt16.toInt32 = nI p := by decide +kernel
theorem qf_01 (x : Int32) (h : x = 0 ∨ x = 1) (h' : ¬ x = 0) : x = 1 := by
  rcases h with z | z
  · exact absurd z h'
  · exact z
section
variable {rc : Int32} {a1 a2 a3 a4 a5 a6 a7 : Nat → Int32} {f b n : Nat} {post : Int32 → Prop}
theorem qf_fil {post : Int32 → Prop} (hf : f < 2) (H : post 1) : wpX_isFilter post (rc, a1, a2, a3, a4, a5, a6, a7) (nI f) := by
  unfold wpX_isFilter
  dsimp only
  by_cases e : f = 0
  · rw [e]
    exact br_t rfl H
  · have e1 : f = 1 := by omega
    rw [e1]
    exact br_f (by decide) (br_t rfl H)
theorem qf_slots (hB : qf_B f b n a1) (H : post (nI n)) : wpX_slots post (rc, a1, a2, a3, a4, a5, a6, a7) (nI f) := by
  obtain ⟨hf, h1, h2, h3, h4⟩ := hB
  unfold wpX_slots
  dsimp only
  refine ⟨vp_in_nI hf (by decide), ?_⟩
  rw [nI_clamp (by omega), h4, qf_w_sl b h2, ← h3]
  exact H
theorem qf_base_w (H : post (nI (64 * f))) : wpX_base post (rc, a1, a2, a3, a4, a5, a6, a7) (nI f) := by
  unfold wpX_base
  dsimp only
  rw [show (64 : Int32) = nI 64 from rfl, pk_mul]
  exact H
theorem qf_slotOf (hB : qf_B f b n a1) {p : Nat} (hp : p < 256) (H : post (nI (p / 2 ^ (8 - b)))) : wpX_slotOf post (rc, a1, a2, a3, a4, a5, a6, a7) (nI f) (nI p) := by
  obtain ⟨hf, h1, h2, h3, h4⟩ := hB
  unfold wpX_slotOf
  dsimp only
  refine ⟨vp_in_nI hf (by decide), ?_⟩
  rw [nI_clamp (by omega), h4, qf_w_so b h2 p hp]
  exact H
theorem qf_lowerOf (hB : qf_B f b n a1) {p : Nat} (hp : p < 256) (H : post (nI (p % 2 ^ (8 - b)))) : wpX_lowerOf post (rc, a1, a2, a3, a4, a5, a6, a7) (nI f) (nI p) := by
  obtain ⟨hf, h1, h2, h3, h4⟩ := hB
  unfold wpX_lowerOf
  dsimp only
  refine ⟨vp_in_nI hf (by decide), ?_⟩
  rw [nI_clamp (by omega), h4, qf_w_lo b h2 p hp]
  exact H
theorem qf_holds (hf : f < 2) {i : Nat} (hi : i < 64) (H0 : a4 (64 * f + i) = 0 → a5 (64 * f + i) = 0 → a6 (64 * f + i) = 0 → post 0) (H1 : ¬ a4 (64 * f + i) = 0 ∨ ¬ a5 (64 * f + i) = 0 ∨ ¬ a6 (64 * f + i) = 0 → post 1) : wpX_holds post (rc, a1, a2, a3, a4, a5, a6, a7) (nI f) (nI i) := by
  unfold wpX_holds
  dsimp only
  refine qf_base_w (nm_r (nI_add _ _) ?_)
  have hv : vp_in (nI (64 * f + i)) 128 := vp_in_nI (by omega) (by decide)
  rw [nI_clamp (by omega)]
  exact ⟨hv, br_c (fun z4 => ⟨hv, br_c (fun z5 => ⟨hv, br_c (fun z6 => H0 z4 z5 z6) (fun z6 => H1 (Or.inr (Or.inr z6)))⟩) (fun z5 => H1 (Or.inr (Or.inl z5)))⟩) (fun z4 => H1 (Or.inl z4))⟩
theorem qf_isFree (hf : f < 2) {i : Nat} (hi : i < 64) (H0 : a4 (64 * f + i) = 0 → a5 (64 * f + i) = 0 → a6 (64 * f + i) = 0 → post 1) (H1 : ¬ a4 (64 * f + i) = 0 ∨ ¬ a5 (64 * f + i) = 0 ∨ ¬ a6 (64 * f + i) = 0 → post 0) : wpX_isFree post (rc, a1, a2, a3, a4, a5, a6, a7) (nI f) (nI i) := by
  unfold wpX_isFree
  dsimp only
  exact qf_holds hf hi (fun z4 z5 z6 => br_t rfl (H0 z4 z5 z6)) (fun z => br_f (by decide) (H1 z))
theorem qf_after (hB : qf_B f b n a1) (t : Nat) (H : post (nI ((t + 1) % n))) : wpX_after post (rc, a1, a2, a3, a4, a5, a6, a7) (nI f) (nI (t % n)) := by
  unfold wpX_after
  dsimp only
  refine qf_slots hB ?_
  have hn := qf_B_n hB
  obtain ⟨hf, h1, h2, h3, h4⟩ := hB
  have := Nat.mod_lt t hn.2.2.1
  rw [nI_1, pk_andN (by omega) b (by rw [h3]; exact qf_w_mk b h2), ← h3, Nat.mod_add_mod]
  exact H
theorem qf_before (hB : qf_B f b n a1) (t : Nat) (H : post (nI (t % n))) : wpX_beforeSlot post (rc, a1, a2, a3, a4, a5, a6, a7) (nI f) (nI ((t + 1) % n)) := by
  unfold wpX_beforeSlot
  dsimp only
  refine qf_slots hB ?_
  have hn := qf_B_n hB
  obtain ⟨hf, h1, h2, h3, h4⟩ := hB
  have h5 := Nat.mod_lt (t + 1) hn.2.2.1
  have h6 := qf_w_be b h2 ((t + 1) % n) (by rw [← h3]; exact h5)
  rw [← h3, Nat.mod_add_mod, show t + 1 + (n - 1) = t + n by omega, Nat.add_mod_right] at h6
  rw [h6]
  exact H
end
/-- a print out of a number -/
def qf_pO (x : Int32) : Nat := (x * (-1640531535)).toBitVec.toNat / 2 ^ 24
theorem qf_pO_lt (x : Int32) : qf_pO x < 256 := by
  unfold qf_pO
  have := (x * (-1640531535)).toBitVec.isLt
  omega
theorem qf_printOf {post : Int32 → Prop} {u : St1} {x : Int32} (H : post (nI (qf_pO x))) : wpX_printOf post u x := by
  obtain ⟨rc, a1, a2, a3, a4, a5, a6, a7⟩ := u
  unfold wpX_printOf
  dsimp only
  have e := pk_ushr (x * (-1640531535)) 24 24 (by decide)
  have e2 : ((x * (-1640531535)).toUInt32 >>> ((24 : Int32).toUInt32 &&& Int32.toUInt32 31)).toInt32 = nI (qf_pO x) := by
    apply Int32.toBitVec_inj.mp
    apply BitVec.eq_of_toNat_eq
    rw [e, pk_tn (by have := qf_pO_lt x; omega)]
    rfl
  rw [e2]
  exact H
/-- every print below 256 is that of some number below 4000 -/
theorem qf_pO_all : ∀ p, p < 256 → ∃ x, x < 1000 ∧ qf_pO (nI x) = p := by
  have h : ∀ p, p < 256 → (List.range 1000).any (fun x => qf_pO (nI x) == p) = true := by decide +kernel
  intro p hp
  obtain ⟨x, hx, e⟩ := List.any_eq_true.mp (h p hp)
  exact ⟨x, List.mem_range.mp hx, by simpa using e⟩
end
section
/-! ===== 05: where a run begins ===== -/
section
variable {rc : Int32} {a1 a2 a3 a4 a5 a6 a7 : Nat → Int32} {f b n : Nat} {post : Int32 → Prop} {o : Nat → Bool} {d : Nat → Nat}
theorem qf_rs85 {J : Int32 → Int32 → Prop} {x2 x5 : Int32} (hB : qf_B f b n a1) {b1 b2 : Nat} (hN2 : ¬ a4 (64 * f + b2 % n) = 0)
    (H : ∀ c, b1 ≤ c → c ≤ b2 → ¬ a4 (64 * f + c % n) = 0 → (∀ q, b1 ≤ q → q < c → a4 (64 * f + q % n) = 0) → J (nI (c % n)) x5) :
    ∀ fu c, b2 - c < fu → b1 ≤ c → c ≤ b2 → (∀ q, b1 ≤ q → q < c → a4 (64 * f + q % n) = 0) → wX_runStart_85 post J (nI f) x2 (nI (64 * f)) x5 rc a1 a2 a3 a4 a5 a6 a7 fu (nI (c % n)) := by
  intro fu
  induction fu with
  | zero => intro c h; exact absurd h (Nat.not_lt_zero _)
  | succ fu ih =>
    intro c h h1 h2 h3
    have hn := qf_B_n hB
    have hf := hB.1
    have hm := Nat.mod_lt c hn.2.2.1
    unfold wX_runStart_85
    rw [nI_add, nI_clamp (by omega)]
    refine ⟨vp_in_nI (by omega) (by decide), br_c (fun z => ?_) (fun z => H c h1 h2 z h3)⟩
    have hc : c ≠ b2 := fun e => hN2 (by rw [← e]; exact z)
    refine qf_after hB c (ih (c + 1) (by omega) (by omega) (by omega) (fun q q1 q2 => ?_))
    by_cases e : q = c
    · rw [e]; exact z
    · exact h3 q q1 (by omega)
theorem qf_rs52 {J : Int32 → Int32 → Prop} {x2 x4 : Int32} (hB : qf_B f b n a1) (hW : qf_W n o d) (hG : ∀ t, ¬ a5 (64 * f + (t + 1) % n) = 0 ↔ (o (t + 1) = true ∧ d (t + 1) = d t + 1)) {s q : Nat}
    (H : ∀ c, s < c → (∀ t, s ≤ t → t < c → o t = true ∧ t = q + d t) → (o c = true → q + d c < c) → wpX_after (fun r_8 => ∃ fu85 : Nat, wX_runStart_85 post J (nI f) x2 (nI (64 * f)) (nI (c % n)) rc a1 a2 a3 a4 a5 a6 a7 fu85 r_8) (rc, a1, a2, a3, a4, a5, a6, a7) (nI f) x4) :
    ∀ fu c, s + n - c < fu → s < c → (∀ t, s ≤ t → t < c → o t = true ∧ t = q + d t) → wX_runStart_52 post J (nI f) x2 (nI (64 * f)) x4 rc a1 a2 a3 a4 a5 a6 a7 fu (nI (c % n)) := by
  intro fu
  induction fu with
  | zero => intro c h; exact absurd h (Nat.not_lt_zero _)
  | succ fu ih =>
    intro c h h1 h3
    have hn := qf_B_n hB
    have hf := hB.1
    have hm := Nat.mod_lt c hn.2.2.1
    have hl : c < s + n := qf_occ_lt hW hn.2.2.1 (fun t t1 t2 => (h3 t t1 t2).1)
    unfold wX_runStart_52
    rw [nI_add, nI_clamp (by omega)]
    obtain ⟨t, rfl⟩ : ∃ t, c = t + 1 := ⟨c - 1, by omega⟩
    have ht := h3 t (by omega) (by omega)
    refine ⟨vp_in_nI (by omega) (by decide), br_c (fun z => H (t + 1) h1 h3 (fun ho => ?_)) (fun z => ?_)⟩
    · have hd : d (t + 1) ≠ d t + 1 := fun e => (hG t).mpr ⟨ho, e⟩ z
      by_cases w : 0 < d (t + 1)
      · have := hW.2.2.2 t ho w
        omega
      · omega
    · have g := (hG t).mp z
      refine qf_after hB (t + 1) (ih (t + 1 + 1) (by omega) (by omega) (fun t' t1 t2 => ?_))
      by_cases e : t' = t + 1
      · rw [e]; exact ⟨g.1, by omega⟩
      · exact h3 t' t1 (by omega)
theorem qf_rs37 {u b0 : Nat} (hB : qf_B f b n a1) (hW : qf_W n o d) (hG : ∀ t, ¬ a5 (64 * f + (t + 1) % n) = 0 ↔ (o (t + 1) = true ∧ d (t + 1) = d t + 1)) (hN : ∀ t, ¬ a4 (64 * f + t % n) = 0 ↔ (qf_run o d t ∨ t % n = u % n)) (hC : qf_C o d b0 u)
    (H : ∀ s, qf_I o d b0 u u s → post (nI (s % n))) :
    ∀ fu c s, u - c < fu → qf_I o d b0 u c s → wX_runStart_37 post (nI f) (nI (u % n)) (nI (64 * f)) rc a1 a2 a3 a4 a5 a6 a7 fu (nI (c % n)) (nI (s % n)) := by
  have hn := qf_B_n hB
  have hf := hB.1
  have hu := qf_Cn hW hn.2.2.1 hC
  have hN' : ∀ q, b0 ≤ q → q ≤ u → (¬ a4 (64 * f + q % n) = 0 ↔ qf_run o d q ∨ q = u) := by
    intro q q1 q2
    rw [hN q]
    constructor
    · rintro (z | z)
      · exact Or.inl z
      · exact Or.inr (qf_uniq (a := b0) z q1 (by omega) hC.1 (by omega))
    · rintro (z | z)
      · exact Or.inl z
      · exact Or.inr (by rw [z])
  intro fu
  induction fu with
  | zero => intro c s h; exact absurd h (Nat.not_lt_zero _)
  | succ fu ih =>
    intro c s h hI
    have hm1 := Nat.mod_lt c hn.2.2.1
    have hm2 := Nat.mod_lt u hn.2.2.1
    obtain ⟨i1, i2, i3, i4, i5⟩ := hI
    unfold wX_runStart_37
    refine pk_eq (c % n) (u % n) (fun z => ?_) (fun z => ?_)
    · have e : c = u := qf_uniq (a := b0) z i1 (by omega) hC.1 (by omega)
      subst e
      exact H s ⟨i1, i2, i3, i4, i5⟩
    · have e : c < u := by
        have : c ≠ u := fun e => z (by rw [e])
        omega
      have i6 : o s = true ∧ s = c + d s := by
        rcases i5 with w | w
        · exact w
        · exact absurd w.1 (by omega)
      refine qf_after hB s ⟨n + 1, qf_rs52 hB hW hG (s := s) (q := c) (fun c' k1 k2 k3 => qf_after hB c ⟨u + 1, qf_rs85 hB (b1 := c + 1) (b2 := u) ?_ (fun b' l1 l2 l3 l4 => ?_) (u + 1) (c + 1) (by omega) (by omega) (by omega) (fun q q1 q2 => absurd q1 (by omega))⟩) (n + 1) (s + 1) (by omega) (by omega) (fun t t1 t2 => ?_)⟩
      · exact (hN' u hC.1 (Nat.le_refl _)).mpr (Or.inr rfl)
      · refine ih b' c' (by omega) (qf_nx (N := fun q => ¬ a4 (64 * f + q % n) = 0) hW hC hN' i1 (by omega) l2 l3 (fun q q1 q2 => not_not_intro (l4 q (by omega) q2)) (by omega) (fun t t1 t2 => ?_) k3)
        by_cases w : t < s
        · have := i4 t t1 w
          exact ⟨this.1, by omega⟩
        · have := k2 t (by omega) t2
          exact ⟨this.1, by omega⟩
      · have : t = s := by omega
        rw [this]
        exact i6
theorem qf_rs9 {u : Nat} (hB : qf_B f b n a1) (hW : qf_W n o d) (hP : ∀ t, ¬ a6 (64 * f + t % n) = 0 ↔ (o t = true ∧ 0 < d t)) (hu : n ≤ u)
    (H : ∀ b0, qf_C o d b0 u → ∃ fu, wX_runStart_37 post (nI f) (nI (u % n)) (nI (64 * f)) rc a1 a2 a3 a4 a5 a6 a7 fu (nI (b0 % n)) (nI (b0 % n))) :
    ∀ fu c, c < fu → c ≤ u → o c = true → (∀ t, c < t → t ≤ u → o t = true ∧ 0 < d t) → wX_runStart_9 post (nI f) (nI (u % n)) (nI (64 * f)) rc a1 a2 a3 a4 a5 a6 a7 fu (nI (c % n)) := by
  intro fu
  induction fu with
  | zero => intro c h; exact absurd h (Nat.not_lt_zero _)
  | succ fu ih =>
    intro c h hc ho hA
    have hn := qf_B_n hB
    have hf := hB.1
    have hm := Nat.mod_lt c hn.2.2.1
    have hl : u + 1 < c + n := qf_occ_lt hW hn.2.2.1 (fun t t1 t2 => by
      by_cases e : t = c
      · rw [e]; exact ho
      · exact (hA t (by omega) (by omega)).1)
    unfold wX_runStart_9
    rw [nI_add, nI_clamp (by omega)]
    refine ⟨vp_in_nI (by omega) (by decide), br_c (fun z => H c ⟨hc, ho, ?_, hA⟩) (fun z => ?_)⟩
    · exact Classical.byContradiction (fun g => (hP c).mpr ⟨ho, by omega⟩ z)
    · obtain ⟨t, rfl⟩ : ∃ t, c = t + 1 := ⟨c - 1, by omega⟩
      have g := (hP (t + 1)).mp z
      have g2 := hW.2.2.2 t g.1 g.2
      refine qf_before hB t (ih t (by omega) (by omega) g2.1 (fun t' h1 h2 => ?_))
      by_cases e : t' = t + 1
      · rw [e]; exact g
      · exact hA t' (by omega) h2
theorem qf_runStart {u : Nat} (hB : qf_B f b n a1) (hW : qf_W n o d) (hN : ∀ t, ¬ a4 (64 * f + t % n) = 0 ↔ (qf_run o d t ∨ t % n = u % n)) (hG : ∀ t, ¬ a5 (64 * f + (t + 1) % n) = 0 ↔ (o (t + 1) = true ∧ d (t + 1) = d t + 1)) (hP : ∀ t, ¬ a6 (64 * f + t % n) = 0 ↔ (o t = true ∧ 0 < d t)) (hu : n ≤ u) (ho : o u = true)
    (H : ∀ b0 s, qf_C o d b0 u → qf_I o d b0 u u s → post (nI (s % n))) : wpX_runStart post (rc, a1, a2, a3, a4, a5, a6, a7) (nI f) (nI (u % n)) := by
  unfold wpX_runStart
  dsimp only
  refine qf_base_w ⟨u + 1, qf_rs9 hB hW hP hu (fun b0 hC => ⟨u + 1, qf_rs37 hB hW hG hN hC (fun s hI => H b0 s hC hI) (u + 1) b0 b0 (by omega) (qf_I0 hC)⟩) (u + 1) u (by omega) (Nat.le_refl _) ho (fun t t1 t2 => absurd t1 (by omega))⟩
end
end
section
/-! ===== 06: the picture of a filter; how often a print is there ===== -/
/-- v: the print at a place -/
def qf_V (n R : Nat) (o : Nat → Bool) (d v : Nat → Nat) : Prop := (∀ t, v (t + n) = v t) ∧ ∀ t, o t = true → v t < 256 ∧ (v t / R + d t) % n = t % n
def qf_L (f n R : Nat) (o : Nat → Bool) (d v : Nat → Nat) (a3 a4 a5 a6 : Nat → Int32) : Prop :=
  (∀ t, o t = true → a3 (64 * f + t % n) = nI (v t % R)) ∧ (∀ t, ¬ a4 (64 * f + t % n) = 0 ↔ qf_run o d t) ∧ (∀ i, i < n → a5 (64 * f + i) = 0 ∨ a5 (64 * f + i) = 1) ∧
  (∀ t, ¬ a5 (64 * f + (t + 1) % n) = 0 ↔ (o (t + 1) = true ∧ d (t + 1) = d t + 1)) ∧ (∀ t, ¬ a6 (64 * f + t % n) = 0 ↔ (o t = true ∧ 0 < d t))
/-- filter f: 2^b slots, h prints, M: how often each -/
def qf_R (f b h : Nat) (M : Nat → Nat) (a1 a2 a3 a4 a5 a6 : Nat → Int32) : Prop :=
  a2 f = nI h ∧ ∃ (n : Nat) (o : Nat → Bool) (d v : Nat → Nat), qf_B f b n a1 ∧ h < n ∧ qf_W n o d ∧ qf_V n (2 ^ (8 - b)) o d v ∧ qf_c o 0 n = h ∧ (∀ p, qf_c (fun t => o t && v t == p) 0 n = M p) ∧ qf_L f n (2 ^ (8 - b)) o d v a3 a4 a5 a6
theorem qf_dm {x y R : Nat} (h : x / R = y / R) (h2 : x % R = y % R) : x = y := by
  rw [← Nat.div_add_mod x R, ← Nat.div_add_mod y R, h, h2]
theorem qf_run_o {n : Nat} {o : Nat → Bool} {d : Nat → Nat} (hW : qf_W n o d) {u : Nat} (h : qf_run o d u) : o u = true := by
  obtain ⟨k, h1, h2⟩ := h
  exact (qf_down hW h1 (by omega)).1
section
variable {n R : Nat} {o : Nat → Bool} {d v : Nat → Nat}
theorem qf_tm (hW : qf_W n o d) (hV : qf_V n R o d v) {b0 u s e p : Nat} (h0 : d b0 = 0) (hu : b0 ≤ u) (hu2 : u < b0 + n) (hs : b0 ≤ s) (hA : ∀ t, b0 ≤ t → t < s → t < u + d t) (hR : ∀ t, s ≤ t → t < e → o t = true) (he : o e = true → u + d e < e) (hue : u < e) (hse : s ≤ e) (hel : e ≤ b0 + n) (hp : p / R = u % n) : qf_c (fun t => o t && v t == p) 0 n = qf_c (fun t => v t == p) s (e - s) := by
  have hq : ∀ t, b0 ≤ t → t < b0 + n → o t = true → v t = p → t = u + d t := by
    intro t t1 t2 ho ev
    have := (hV.2 t ho).2
    rw [ev] at this
    exact qf_home hW h0 hu hu2 t1 t2 ho this (by rw [hp, Nat.mod_mod])
  rw [← qf_c_per (g := fun t => o t && v t == p) (fun t => by show (_ && _) = (_ && _); rw [hW.1, hV.1]) b0]
  have a1 := qf_c_add (fun t => o t && v t == p) b0 ((s - b0) + (e - s)) (b0 + n - e)
  rw [show (s - b0) + (e - s) + (b0 + n - e) = n by omega, qf_c_add _ b0 (s - b0) (e - s), show b0 + (s - b0) = s by omega, show b0 + ((s - b0) + (e - s)) = e by omega] at a1
  rw [a1]
  have z1 : qf_c (fun t => o t && v t == p) b0 (s - b0) = 0 := qf_c_zero (fun i hi => by
    show (_ && _) = false
    rcases ho : o (b0 + i) with _ | _
    · rfl
    · show (v (b0 + i) == p) = false
      refine beq_false_of_ne (fun ev => ?_)
      have := hq (b0 + i) (by omega) (by omega) ho ev
      have := hA (b0 + i) (by omega) (by omega)
      omega)
  have z2 : qf_c (fun t => o t && v t == p) e (b0 + n - e) = 0 := qf_c_zero (fun i hi => by
    show (_ && _) = false
    rcases ho : o (e + i) with _ | _
    · rfl
    · show (v (e + i) == p) = false
      refine beq_false_of_ne (fun ev => ?_)
      have := hq (e + i) (by omega) (by omega) ho ev
      have := qf_above hW hue he i ho
      omega)
  have z3 : qf_c (fun t => o t && v t == p) s (e - s) = qf_c (fun t => v t == p) s (e - s) := qf_c_congr (fun i hi => by
    show (_ && _) = _
    rw [hR (s + i) (by omega) (by omega), Bool.true_and])
  rw [z1, z2, z3, Nat.zero_add, Nat.add_zero]
theorem qf_tm0 (hW : qf_W n o d) (hV : qf_V n R o d v) {u p : Nat} (hp : p / R = u % n) (hu : ¬ qf_run o d u) : qf_c (fun t => o t && v t == p) 0 n = 0 := by
  refine qf_c_zero (fun i hi => ?_)
  show (_ && _) = false
  rcases ho : o (0 + i) with _ | _
  · rfl
  · show (v (0 + i) == p) = false
    refine beq_false_of_ne (fun ev => ?_)
    have h1 := (hV.2 (0 + i) ho).2
    rw [ev, hp, Nat.mod_add_mod] at h1
    exact hu ⟨d (0 + i), by rw [qf_pe hW.1 h1]; exact ho, by rw [qf_pe hW.2.1 h1]⟩
end
section
variable {rc : Int32} {a1 a2 a3 a4 a5 a6 a7 : Nat → Int32} {f b n : Nat} {o : Nat → Bool} {d v : Nat → Nat}
/-- a place is free if its three marks say so -/
theorem qf_mark (hn : 0 < n) (hW : qf_W n o d) {u : Nat} (ho : o u = true ∨ ∀ t, ¬ a4 (64 * f + t % n) = 0 → qf_run o d t) (hN : ∀ t, ¬ a4 (64 * f + t % n) = 0 → (qf_run o d t ∨ t % n = u % n)) (hN' : ∀ t, qf_run o d t → ¬ a4 (64 * f + t % n) = 0) (hG : ∀ t, ¬ a5 (64 * f + (t + 1) % n) = 0 → o (t + 1) = true) (hP : ∀ t, ¬ a6 (64 * f + t % n) = 0 ↔ (o t = true ∧ 0 < d t)) (t : Nat) :
    (¬ a4 (64 * f + t % n) = 0 ∨ ¬ a5 (64 * f + t % n) = 0 ∨ ¬ a6 (64 * f + t % n) = 0) ↔ o t = true := by
  constructor
  · rintro (z | z | z)
    · rcases ho with w | w
      · rcases hN t z with g | g
        · exact qf_run_o hW g
        · rw [qf_pe hW.1 g]; exact w
      · exact qf_run_o hW (w t z)
    · have e : (t + (n - 1) + 1) = t + n := by omega
      have := hG (t + (n - 1)) (by rw [e, Nat.add_mod_right]; exact z)
      rw [e, hW.1] at this
      exact this
    · exact ((hP t).mp z).1
  · intro h
    by_cases w : 0 < d t
    · exact Or.inr (Or.inr ((hP t).mpr ⟨h, w⟩))
    · exact Or.inl (hN' t ⟨0, h, by show d t = 0; omega⟩)
theorem qf_L_mark (hn : 0 < n) (hW : qf_W n o d) {R : Nat} (hL : qf_L f n R o d v a3 a4 a5 a6) (t : Nat) :
    (¬ a4 (64 * f + t % n) = 0 ∨ ¬ a5 (64 * f + t % n) = 0 ∨ ¬ a6 (64 * f + t % n) = 0) ↔ o t = true :=
  qf_mark (u := 0) hn hW (Or.inr (fun t h => (hL.2.1 t).mp h)) (fun t h => Or.inl ((hL.2.1 t).mp h)) (fun t h => (hL.2.1 t).mpr h) (fun t h => ((hL.2.2.2.1 t).mp h).1) hL.2.2.2.2 t
theorem qf_L_free (hn : 0 < n) (hW : qf_W n o d) {R : Nat} (hL : qf_L f n R o d v a3 a4 a5 a6) {t : Nat} (h4 : a4 (64 * f + t % n) = 0) (h5 : a5 (64 * f + t % n) = 0) (h6 : a6 (64 * f + t % n) = 0) : o t = false := by
  refine qf_tf (fun h => ?_)
  rcases (qf_L_mark hn hW hL t).mpr h with z | z | z
  · exact z h4
  · exact z h5
  · exact z h6
/-- in the run of u: the print is p if the lower bits are p's -/
theorem qf_inrun (hB : qf_B f b n a1) (hV : qf_V n (2 ^ (8 - b)) o d v) {u p t : Nat} (ho : o t = true) (ht : t = u + d t) (hp : p / 2 ^ (8 - b) = u % n) : v t / 2 ^ (8 - b) = p / 2 ^ (8 - b) := by
  have hn := qf_B_n hB
  obtain ⟨h1, h2⟩ := hV.2 t ho
  have h3 := qf_home' hn.2.2.1 h2 ht
  rw [Nat.mod_eq_of_lt (Nat.div_lt_of_lt_mul (by rw [Nat.mul_comm, hn.2.2.2.1]; exact h1))] at h3
  rw [h3, hp]
theorem qf_tm46 {post : Int32 → Prop} {u p s : Nat} (hB : qf_B f b n a1) (hW : qf_W n o d) (hV : qf_V n (2 ^ (8 - b)) o d v) (hL : qf_L f n (2 ^ (8 - b)) o d v a3 a4 a5 a6) (hp : p / 2 ^ (8 - b) = u % n)
    (H : ∀ e, s ≤ e → u < e → (∀ t, s ≤ t → t < e → o t = true) → (o e = true → u + d e < e) → post (nI (qf_c (fun t => v t == p) s (e - s)))) :
    ∀ fu c x7, s + n - c < fu → s ≤ c → (∀ t, s ≤ t → t < c → o t = true) → (x7 = 0 → u < c ∧ (o c = true → u + d c < c)) → (¬ x7 = 0 → o c = true ∧ c = u + d c) →
      wX_timesOf_46 post (nI f) (nI (p % 2 ^ (8 - b))) rc a1 a2 a3 a4 a5 a6 a7 fu (nI (c % n)) (nI (qf_c (fun t => v t == p) s (c - s))) x7 := by
  have hn := qf_B_n hB
  have hf := hB.1
  intro fu
  induction fu with
  | zero => intro c x7 h; exact absurd h (Nat.not_lt_zero _)
  | succ fu ih =>
    intro c x7 h h1 h2 h3 h4
    have hm := Nat.mod_lt c hn.2.2.1
    have hm1 := Nat.mod_lt (c + 1) hn.2.2.1
    unfold wX_timesOf_46
    refine br_c (fun z => ?_) (fun z => ?_)
    · exact H c h1 (h3 z).1 h2 (h3 z).2
    · obtain ⟨ho, hc⟩ := h4 z
      have hl : c < s + n := qf_occ_lt hW hn.2.2.1 h2
      have hq := qf_inrun hB hV ho hc hp
      have hR := hn.2.2.2.2.1
      have hR2 := hn.2.2.2.2.2
      have m1 := Nat.mod_lt (v c) (show 0 < 2 ^ (8 - b) by omega)
      have m2 := Nat.mod_lt p (show 0 < 2 ^ (8 - b) by omega)
      have next : ∀ k, k = qf_c (fun t => v t == p) s (c + 1 - s) → wX_timesOf_72 post (wX_timesOf_46 post (nI f) (nI (p % 2 ^ (8 - b))) rc a1 a2 a3 a4 a5 a6 a7 fu) (nI f) (nI (p % 2 ^ (8 - b))) (nI (c % n)) (nI k) rc a1 a2 a3 a4 a5 a6 a7 := by
        intro k hk
        unfold wX_timesOf_72
        refine qf_after hB c (qf_base_w ?_)
        rw [nI_add, nI_clamp (by omega)]
        refine ⟨vp_in_nI (by omega) (by decide), nm_e ?_⟩
        rw [hk]
        refine ih (c + 1) _ (by omega) (by omega) (fun t t1 t2 => ?_) (fun w => ⟨by omega, fun ho' => ?_⟩) (fun w => ?_)
        · by_cases e : t = c
          · rw [e]; exact ho
          · exact h2 t t1 (by omega)
        · have hd : d (c + 1) ≠ d c + 1 := fun e => (hL.2.2.2.1 c).mpr ⟨ho', e⟩ w
          by_cases w0 : 0 < d (c + 1)
          · have := hW.2.2.2 c ho' w0
            omega
          · omega
        · have := (hL.2.2.2.1 c).mp w
          exact ⟨this.1, by omega⟩
      have es : qf_c (fun t => v t == p) s (c + 1 - s) = qf_c (fun t => v t == p) s (c - s) + (if (v c == p) = true then 1 else 0) := by
        rw [show c + 1 - s = (c - s) + 1 by omega, qf_c_s, show s + (c - s) = c by omega]
      refine qf_base_w ?_
      rw [nI_add, nI_clamp (by omega), hL.1 c ho]
      refine ⟨vp_in_nI (by omega) (by decide), pk_eq (v c % 2 ^ (8 - b)) (p % 2 ^ (8 - b)) (fun e => nm_r (nI_1 _) (next _ ?_)) (fun e => next _ ?_)⟩
      · rw [es, qf_dm hq e, beq_self_eq_true, if_pos rfl]
      · rw [es, beq_false_of_ne (fun g => e (by rw [g])), if_neg Bool.false_ne_true]
        rfl
theorem qf_timesOf {post : Int32 → Prop} {p : Nat} {M : Nat → Nat} (hB : qf_B f b n a1) (hW : qf_W n o d) (hV : qf_V n (2 ^ (8 - b)) o d v) (hM : ∀ p, qf_c (fun t => o t && v t == p) 0 n = M p) (hL : qf_L f n (2 ^ (8 - b)) o d v a3 a4 a5 a6) (hp : p < 256)
    (H : post (nI (M p))) : wpX_timesOf post (rc, a1, a2, a3, a4, a5, a6, a7) (nI f) (nI p) := by
  have hn := qf_B_n hB
  have hf := hB.1
  have hq : p / 2 ^ (8 - b) < n := Nat.div_lt_of_lt_mul (by rw [Nat.mul_comm, hn.2.2.2.1]; exact hp)
  have hu : p / 2 ^ (8 - b) = (p / 2 ^ (8 - b) + n) % n := by rw [Nat.add_mod_right, Nat.mod_eq_of_lt hq]
  unfold wpX_timesOf
  dsimp only
  refine qf_slotOf hB hp (qf_lowerOf hB hp (qf_base_w ?_))
  rw [nI_add, nI_clamp (by omega)]
  refine ⟨vp_in_nI (by omega) (by decide), br_c (fun z => ?_) (fun z => ?_)⟩
  · have hr : ¬ qf_run o d (p / 2 ^ (8 - b) + n) := fun g => (hL.2.1 _).mpr g (by rw [← hu]; exact z)
    have := qf_tm0 hW hV hu hr
    rw [hM] at this
    rw [this] at H
    exact H
  · have hr : qf_run o d (p / 2 ^ (8 - b) + n) := (hL.2.1 _).mp (by rw [← hu]; exact z)
    have g := qf_runStart (rc := rc) (a2 := a2) (a3 := a3) (a4 := a4) (a7 := a7) (post := fun r_6 => ∃ fu46 : Nat, wX_timesOf_46 post (nI f) (nI (p % 2 ^ (8 - b))) rc a1 a2 a3 a4 a5 a6 a7 fu46 r_6 0 1) (u := p / 2 ^ (8 - b) + n) hB hW (fun t => ?_) hL.2.2.2.1 hL.2.2.2.2 (by omega) (qf_run_o hW hr) (fun b0 s hC hI => ?_)
    · rw [← hu] at g
      exact g
    · rw [hL.2.1 t]
      constructor
      · exact Or.inl
      · rintro (w | w)
        · exact w
        · refine (hL.2.1 t).mp ?_
          rw [w, ← hu]
          exact z
    · obtain ⟨i1, i2, i3, i4, i5⟩ := hI
      have i6 : o s = true ∧ s = p / 2 ^ (8 - b) + n + d s := by
        rcases i5 with w | w
        · exact w
        · exact absurd hr w.2.1
      have hun := qf_Cn hW hn.2.2.1 hC
      have g := qf_tm46 (rc := rc) (a2 := a2) (a7 := a7) (post := post) (u := p / 2 ^ (8 - b) + n) (p := p) (s := s) hB hW hV hL hu (fun e e1 e2 e3 e4 => ?_) (n + 1) s 1 (by omega) (Nat.le_refl _) (fun t t1 t2 => absurd t1 (by omega)) (fun z => absurd z (by decide)) (fun _ => i6)
      · rw [Nat.sub_self] at g
        exact ⟨n + 1, g⟩
      · have hel : e < b0 + n := qf_occ_lt hW hn.2.2.1 (fun t t1 t2 => by
          by_cases w : t < s
          · exact (i4 t t1 w).1
          · exact e3 t (by omega) t2)
        have := qf_tm hW hV hC.2.2.1 hC.1 (by omega) (by omega) (fun t t1 t2 => (i4 t t1 t2).2) e3 e4 e2 e1 (by omega) hu
        rw [← this, hM]
        exact H
end
end
section
/-! ===== 07: pushing along ===== -/
def qf_sh (f n s c : Nat) (g a a' : Nat → Int32) : Prop := (∀ y, s ≤ y → y < s + n → a' (64 * f + y % n) = if y < c then g y else a (64 * f + y % n)) ∧ ∀ j, j < 64 * f ∨ 64 * f + 64 ≤ j → a' j = a j
def qf_fr (f : Nat) (a a' : Nat → Int32) : Prop := ∀ j, j < 64 * f ∨ 64 * f + 64 ≤ j → a' j = a j
/-- what comes to a place: x at s, behind it what stood one place before -/
def qf_g (f n s : Nat) (x : Int32) (a : Nat → Int32) (c : Nat) : Int32 := if c = s then x else a (64 * f + (c - 1) % n)
def qf_g6 (s : Nat) (x : Int32) (c : Nat) : Int32 := if c = s then x else 1
theorem qf_sh_0 {f n s : Nat} {g a : Nat → Int32} : qf_sh f n s s g a a := ⟨fun y h1 _ => by rw [if_neg (by omega)], fun _ _ => rfl⟩
theorem qf_sh_s {f n s c : Nat} {g a a' : Nat → Int32} {x : Int32} (hn : 0 < n) (hn2 : n ≤ 64) (h : qf_sh f n s c g a a') (h1 : s ≤ c) (h2 : c < s + n) (hx : x = g c) : qf_sh f n s (c + 1) g a (upd a' (64 * f + c % n) x) := by
  have hm := Nat.mod_lt c hn
  refine ⟨fun y y1 y2 => ?_, fun j hj => ?_⟩
  · by_cases e : y = c
    · rw [e, pk_us, if_pos (by omega), hx]
    · have ne : 64 * f + y % n ≠ 64 * f + c % n := fun z => e (qf_uniq (a := s) (n := n) (by omega) y1 y2 h1 h2)
      rw [pk_un ne, h.1 y y1 y2]
      by_cases w : y < c
      · rw [if_pos w, if_pos (by omega)]
      · rw [if_neg w, if_neg (by omega)]
  · rw [pk_un (by omega)]
    exact h.2 j hj
theorem qf_sh_k {f n s : Nat} {g a : Nat → Int32} (h : a (64 * f + s % n) = g s) : qf_sh f n s (s + 1) g a a := by
  refine ⟨fun y y1 y2 => ?_, fun _ _ => rfl⟩
  by_cases e : y = s
  · rw [e, if_pos (by omega), h]
  · rw [if_neg (by omega)]
section
variable {rc : Int32} {a1 a2 a3 a4 a5 a6 a7 : Nat → Int32} {f b n : Nat} {o : Nat → Bool} {d v : Nat → Nat} {post : St1 → Prop}
theorem qf_push24 {s e : Nat} {lo fol aw : Int32} (hB : qf_B f b n a1) (hse : s ≤ e) (he : e < s + n)
    (hO : ∀ y, s ≤ y → y < e → (¬ a4 (64 * f + y % n) = 0 ∨ ¬ a5 (64 * f + y % n) = 0 ∨ ¬ a6 (64 * f + y % n) = 0)) (hE : a4 (64 * f + e % n) = 0 ∧ a5 (64 * f + e % n) = 0 ∧ a6 (64 * f + e % n) = 0)
    (h3 : ∀ c, s ≤ c → c ≤ e → (qf_g f n s lo a3 c).toInt8.toInt32 = qf_g f n s lo a3 c) (h5 : ∀ c, s ≤ c → c ≤ e → vp_nar .boolean (qf_g f n s fol a5 c) = qf_g f n s fol a5 c) (h6 : vp_nar .boolean aw = aw)
    (H : ∀ a3' a5' a6', qf_sh f n s (e + 1) (qf_g f n s lo a3) a3 a3' → qf_sh f n s (e + 1) (qf_g f n s fol a5) a5 a5' → qf_sh f n s (e + 1) (qf_g6 s aw) a6 a6' → post (rc, a1, a2, a3', a4, a5', a6', a7)) :
    ∀ fu c x11 b3 b5 b6, e + 1 - c < fu → s ≤ c → c ≤ e + 1 → (x11 = 0 → c = e + 1) → (¬ x11 = 0 → c ≤ e) → qf_sh f n s c (qf_g f n s lo a3) a3 b3 → qf_sh f n s c (qf_g f n s fol a5) a5 b5 → qf_sh f n s c (qf_g6 s aw) a6 b6 →
      wX_push_24 post (nI f) (nI (64 * f)) rc fu (nI (c % n)) (qf_g f n s lo a3 c) (qf_g f n s fol a5 c) (qf_g6 s aw c) x11 a1 a2 b3 a4 b5 b6 a7 := by
  have hn := qf_B_n hB
  have hf := hB.1
  intro fu
  induction fu with
  | zero => intro c x11 b3 b5 b6 h; exact absurd h (Nat.not_lt_zero _)
  | succ fu ih =>
    intro c x11 b3 b5 b6 h h1 h2 k0 k1 s3 s5 s6
    unfold wX_push_24
    refine br_c (fun z => ?_) (fun z => ?_)
    · have ec := k0 z
      subst ec
      exact H b3 b5 b6 s3 s5 s6
    · have hc := k1 z
      have hm := Nat.mod_lt c hn.2.2.1
      have e3 : b3 (64 * f + c % n) = qf_g f n s lo a3 (c + 1) := by
        rw [s3.1 c h1 (by omega), if_neg (by omega)]
        unfold qf_g
        rw [if_neg (by omega)]
        rfl
      have e5' : b5 (64 * f + c % n) = a5 (64 * f + c % n) := by
        rw [s5.1 c h1 (by omega), if_neg (by omega)]
      have e6' : b6 (64 * f + c % n) = a6 (64 * f + c % n) := by
        rw [s6.1 c h1 (by omega), if_neg (by omega)]
      have e5 : b5 (64 * f + c % n) = qf_g f n s fol a5 (c + 1) := by
        rw [e5']
        unfold qf_g
        rw [if_neg (by omega)]
        rfl
      have w6 : vp_nar .boolean (qf_g6 s aw c) = qf_g6 s aw c := by
        unfold qf_g6
        by_cases w : c = s
        · rw [if_pos w]; exact h6
        · rw [if_neg w]; rfl
      have g6 : (1 : Int32) = qf_g6 s aw (c + 1) := by
        unfold qf_g6
        rw [if_neg (by omega)]
      have body : ∀ r, (r = 0 → c + 1 = e + 1) → (¬ r = 0 → c + 1 ≤ e) → wX_push_24 post (nI f) (nI (64 * f)) rc fu (nI ((c + 1) % n)) (qf_g f n s lo a3 (c + 1)) (qf_g f n s fol a5 (c + 1)) (qf_g6 s aw (c + 1)) r a1 a2 (upd b3 (64 * f + c % n) (qf_g f n s lo a3 c)) a4 (upd b5 (64 * f + c % n) (qf_g f n s fol a5 c)) (upd b6 (64 * f + c % n) (qf_g6 s aw c)) a7 :=
        fun r r0 r1 => ih (c + 1) r _ _ _ (by omega) (by omega) (by omega) r0 r1 (qf_sh_s hn.2.2.1 hn.2.1 s3 h1 (by omega) rfl) (qf_sh_s hn.2.2.1 hn.2.1 s5 h1 (by omega) rfl) (qf_sh_s hn.2.2.1 hn.2.1 s6 h1 (by omega) rfl)
      have hv : vp_in (nI (64 * f + c % n)) 128 := vp_in_nI (by omega) (by decide)
      rw [nI_add, nI_clamp (by omega), e3, e5, h3 c h1 hc, h5 c h1 hc, w6, g6]
      refine qf_holds hf (by omega) (fun z4 z5 z6 => ?_) (fun z4 => ?_)
      · refine ⟨hv, nm_e ⟨hv, nm_e ⟨hv, nm_e ⟨hv, nm_e ⟨hv, nm_e (qf_after hB c (body 0 (fun _ => ?_) (fun w => absurd rfl w)))⟩⟩⟩⟩⟩
        rw [e5'] at z5
        rw [e6'] at z6
        have : c = e := by
          refine Classical.byContradiction (fun w => ?_)
          rcases hO c h1 (by omega) with y | y | y
          · exact y z4
          · exact y z5
          · exact y z6
        omega
      · refine ⟨hv, nm_e ⟨hv, nm_e ⟨hv, nm_e ⟨hv, nm_e ⟨hv, nm_e (qf_after hB c (body 1 (fun w => absurd w (by decide)) (fun _ => ?_)))⟩⟩⟩⟩⟩
        rw [e5', e6'] at z4
        have : c ≠ e := by
          intro w
          rw [w] at z4
          rcases z4 with y | y | y
          · exact y hE.1
          · exact y hE.2.1
          · exact y hE.2.2
        omega
theorem qf_push {s e : Nat} {lo fol aw : Int32} (hB : qf_B f b n a1) (hse : s ≤ e) (he : e < s + n)
    (hO : ∀ y, s ≤ y → y < e → (¬ a4 (64 * f + y % n) = 0 ∨ ¬ a5 (64 * f + y % n) = 0 ∨ ¬ a6 (64 * f + y % n) = 0)) (hE : a4 (64 * f + e % n) = 0 ∧ a5 (64 * f + e % n) = 0 ∧ a6 (64 * f + e % n) = 0)
    (h3 : ∀ c, s ≤ c → c ≤ e → (qf_g f n s lo a3 c).toInt8.toInt32 = qf_g f n s lo a3 c) (h5 : ∀ c, s ≤ c → c ≤ e → vp_nar .boolean (qf_g f n s fol a5 c) = qf_g f n s fol a5 c) (h6 : vp_nar .boolean aw = aw)
    (H : ∀ a3' a5' a6', qf_sh f n s (e + 1) (qf_g f n s lo a3) a3 a3' → qf_sh f n s (e + 1) (qf_g f n s fol a5) a5 a5' → qf_sh f n s (e + 1) (qf_g6 s aw) a6 a6' → post (rc, a1, a2, a3', a4, a5', a6', a7)) :
    wpX_push post (rc, a1, a2, a3, a4, a5, a6, a7) (nI f) (nI (s % n)) lo fol aw := by
  unfold wpX_push
  dsimp only
  refine qf_base_w ⟨e + 2, ?_⟩
  have g := qf_push24 (rc := rc) (a2 := a2) (a7 := a7) (post := post) hB hse he hO hE h3 h5 h6 H (e + 2) s 1 a3 a5 a6 (by omega) (Nat.le_refl _) (by omega) (fun w => absurd w (by decide)) (fun _ => hse) qf_sh_0 qf_sh_0 qf_sh_0
  unfold qf_g qf_g6 at g
  rw [if_pos rfl, if_pos rfl, if_pos rfl] at g
  exact g
/-- the picture behind it -/
theorem qf_i_V {s e u p : Nat} (hB : qf_B f b n a1) (hW : qf_W n o d) (hV : qf_V n (2 ^ (8 - b)) o d v) (hJ : qf_J n o d s e u) (hp : p < 256) (hu : p / 2 ^ (8 - b) = u % n) : qf_V n (2 ^ (8 - b)) (qf_io n s e o) (qf_id n s e u d) (qf_iv n s e p v) := by
  have hn := (qf_B_n hB).2.2.1
  obtain ⟨j1, j2, j3, j4, j5, j6, j7, g, g1, g2, g3⟩ := hJ
  refine ⟨qf_iv_per hn, fun t ho => ?_⟩
  have x1 := qf_x_ge (a := s) (n := n) (t := t)
  have xm := qf_x_mod (a := s) (t := t) hn
  by_cases z : qf_x s n t = s
  · rw [qf_iv_s z, qf_id_s z]
    refine ⟨hp, ?_⟩
    rw [hu, Nat.mod_add_mod, show u + (s - u) = s by omega, ← xm, z]
  · by_cases w : qf_x s n t ≤ e
    · obtain ⟨y, ey⟩ : ∃ y, qf_x s n t = y + 1 := ⟨qf_x s n t - 1, by omega⟩
      rw [qf_iv_m ey (by omega) (by omega), qf_id_m ey (by omega) (by omega)]
      have := hV.2 y (j5 y (by omega) (by omega))
      refine ⟨this.1, ?_⟩
      rw [← xm, ey, ← Nat.add_assoc]
      exact qf_ma 1 this.2
    · have w' : e < qf_x s n t := by omega
      rw [qf_io_b w'] at ho
      rw [qf_iv_b j3 w', qf_id_b j3 w']
      have := hV.2 _ ho
      refine ⟨this.1, ?_⟩
      rw [← xm]
      exact this.2
theorem qf_i_L {s e u p : Nat} {b3 b5 b6 : Nat → Int32} {fol aw : Int32} (hB : qf_B f b n a1) (hW : qf_W n o d) (hJ : qf_J n o d s e u) (h3 : ∀ t, o t = true → a3 (64 * f + t % n) = nI (v t % 2 ^ (8 - b))) (h4 : ∀ t, ¬ a4 (64 * f + t % n) = 0 ↔ (qf_run o d t ∨ t % n = u % n))
    (h5 : ∀ i, i < n → a5 (64 * f + i) = 0 ∨ a5 (64 * f + i) = 1) (h5s : ¬ a5 (64 * f + s % n) = 0 ↔ (o s = true ∧ s = u + d s)) (h5o : ∀ y, s ≤ y → y + 1 < s + n → (¬ a5 (64 * f + (y + 1) % n) = 0 ↔ (o (y + 1) = true ∧ d (y + 1) = d y + 1)))
    (h6 : ∀ t, ¬ a6 (64 * f + t % n) = 0 ↔ (o t = true ∧ 0 < d t)) (hf1 : fol = 0 ∨ fol = 1) (hf2 : ¬ fol = 0 ↔ s = u + d (s - 1) + 1) (haw : ¬ aw = 0 ↔ u < s)
    (s3 : qf_sh f n s (e + 1) (qf_g f n s (nI (p % 2 ^ (8 - b))) a3) a3 b3) (s5 : qf_sh f n s (e + 1) (qf_g f n s fol a5) a5 b5) (s6 : qf_sh f n s (e + 1) (qf_g6 s aw) a6 b6) :
    qf_L f n (2 ^ (8 - b)) (qf_io n s e o) (qf_id n s e u d) (qf_iv n s e p v) b3 a4 b5 b6 := by
  have hn := (qf_B_n hB).2.2.1
  have hJ' := hJ
  obtain ⟨j1, j2, j3, j4, j5, j6, j7, g, g1, g2, g3⟩ := hJ'
  refine ⟨fun t ho => ?_, fun t => by rw [h4 t, qf_i_run hn hW hJ], fun i hi => ?_, fun t => ?_, fun t => ?_⟩
  · have x1 := qf_x_ge (a := s) (n := n) (t := t)
    have x2 := qf_x_lt (a := s) (t := t) hn
    have xm := qf_x_mod (a := s) (t := t) hn
    rw [← xm, s3.1 _ x1 x2]
    by_cases z : qf_x s n t = s
    · rw [qf_iv_s z, if_pos (by omega)]
      exact if_pos z
    · by_cases w : qf_x s n t ≤ e
      · obtain ⟨y, ey⟩ : ∃ y, qf_x s n t = y + 1 := ⟨qf_x s n t - 1, by omega⟩
        rw [qf_iv_m ey (by omega) (by omega), if_pos (by omega)]
        unfold qf_g
        rw [if_neg z, ey]
        exact h3 y (j5 y (by omega) (by omega))
      · rw [qf_iv_b j3 (by omega), if_neg (by omega)]
        rw [qf_io_b (by omega)] at ho
        exact h3 _ ho
  · have x1 := qf_x_ge (a := s) (n := n) (t := i)
    have x2 := qf_x_lt (a := s) (t := i) hn
    have xm := qf_x_mod (a := s) (t := i) hn
    rw [Nat.mod_eq_of_lt hi] at xm
    rw [← xm, s5.1 _ x1 x2]
    by_cases w : qf_x s n i < e + 1
    · rw [if_pos w]
      unfold qf_g
      by_cases z : qf_x s n i = s
      · rw [if_pos z]; exact hf1
      · rw [if_neg z]; exact h5 _ (Nat.mod_lt _ hn)
    · rw [if_neg w]
      exact h5 _ (Nat.mod_lt _ hn)
  · have x1 := qf_x_ge (a := s) (n := n) (t := t + 1)
    have x2 := qf_x_lt (a := s) (t := t + 1) hn
    have xm := qf_x_mod (a := s) (t := t + 1) hn
    rw [← xm, s5.1 _ x1 x2]
    by_cases z : qf_x s n (t + 1) = s
    · rw [qf_i_G0 hn hW hJ z, if_pos (by omega), z, ← hf2]
      unfold qf_g
      rw [if_pos rfl]
    · obtain ⟨y, ey⟩ : ∃ y, qf_x s n (t + 1) = y + 1 := ⟨qf_x s n (t + 1) - 1, by omega⟩
      by_cases w : y < e
      · rw [if_pos (by omega)]
        unfold qf_g
        rw [if_neg z, ey]
        by_cases k : y = s
        · rw [k] at ey
          rw [qf_i_G1 hn hJ ey (by omega), k]
          exact h5s
        · obtain ⟨y', ey'⟩ : ∃ y', y = y' + 1 := ⟨y - 1, by omega⟩
          rw [ey'] at ey
          rw [qf_i_G2 hn hJ ey (by omega) (by omega), ey']
          exact h5o y' (by omega) (by omega)
      · rw [if_neg (by omega), qf_i_G3 hn hW hJ ey (by omega), ey]
        exact h5o y (by omega) (by omega)
  · have x1 := qf_x_ge (a := s) (n := n) (t := t)
    have x2 := qf_x_lt (a := s) (t := t) hn
    have xm := qf_x_mod (a := s) (t := t) hn
    rw [← xm, s6.1 _ x1 x2]
    by_cases z : qf_x s n t = s
    · rw [qf_id_s z, qf_io_a (by omega), if_pos (by omega)]
      unfold qf_g6
      rw [if_pos z, haw]
      constructor
      · intro w
        exact ⟨rfl, by omega⟩
      · intro w
        omega
    · by_cases w : qf_x s n t ≤ e
      · obtain ⟨y, ey⟩ : ∃ y, qf_x s n t = y + 1 := ⟨qf_x s n t - 1, by omega⟩
        rw [qf_id_m ey (by omega) (by omega), qf_io_a w, if_pos (by omega)]
        unfold qf_g6
        rw [if_neg z]
        exact ⟨fun _ => ⟨rfl, by omega⟩, fun _ => by decide⟩
      · rw [qf_id_b j3 (by omega), qf_io_b (by omega), if_neg (by omega)]
        exact h6 _
end
end
section
/-! ===== 08: putting a print in ===== -/
def qf_ad (M : Nat → Nat) (p q : Nat) : Nat := M q + (if (p == q) = true then 1 else 0)
section
variable {rc : Int32} {a1 a2 a3 a4 a5 a6 a7 : Nat → Int32} {f b n : Nat} {o : Nat → Bool} {d v : Nat → Nat} {post : St1 → Prop}
/-- a free place besides e -/
theorem qf_room {s e : Nat} (hW : qf_W n o d) (hc : qf_c o 0 n + 1 < n) (hse : s ≤ e) (he : e < s + n) (hA : ∀ t, s ≤ t → t < e → o t = true) : ∃ g, e < g ∧ g < s + n ∧ o g = false := by
  rw [← qf_c_per hW.1 s] at hc
  have a1 := qf_c_add o s ((e - s) + 1) (s + n - e - 1)
  rw [show (e - s) + 1 + (s + n - e - 1) = n by omega, qf_c_s, qf_c_all (a := s) (k := e - s) (fun i hi => hA (s + i) (by omega) (by omega)), show s + ((e - s) + 1) = e + 1 by omega] at a1
  obtain ⟨i, i1, i2⟩ := qf_c_ex (g := o) (a := e + 1) (k := s + n - e - 1) (by omega)
  exact ⟨e + 1 + i, by omega, by omega, i2⟩
/-- what is owed behind a put -/
def qf_T (n R p : Nat) (o : Nat → Bool) (v : Nat → Nat) (f : Nat) (a3' a4' a5' a6' : Nat → Int32) : Prop :=
  ∃ (o' : Nat → Bool) (d' v' : Nat → Nat), qf_W n o' d' ∧ qf_V n R o' d' v' ∧ qf_c o' 0 n = qf_c o 0 n + 1 ∧ (∀ q, qf_c (fun t => o' t && v' t == q) 0 n = qf_c (fun t => o t && v t == q) 0 n + (if (p == q) = true then 1 else 0)) ∧ qf_L f n R o' d' v' a3' a4' a5' a6'
theorem qf_i_T {s e u p : Nat} {b3 b5 b6 : Nat → Int32} {fol aw : Int32} (hB : qf_B f b n a1) (hW : qf_W n o d) (hV : qf_V n (2 ^ (8 - b)) o d v) (hJ : qf_J n o d s e u) (hp : p < 256) (hu : p / 2 ^ (8 - b) = u % n) (h3 : ∀ t, o t = true → a3 (64 * f + t % n) = nI (v t % 2 ^ (8 - b))) (h4 : ∀ t, ¬ a4 (64 * f + t % n) = 0 ↔ (qf_run o d t ∨ t % n = u % n))
    (h5 : ∀ i, i < n → a5 (64 * f + i) = 0 ∨ a5 (64 * f + i) = 1) (h5s : ¬ a5 (64 * f + s % n) = 0 ↔ (o s = true ∧ s = u + d s)) (h5o : ∀ y, s ≤ y → y + 1 < s + n → (¬ a5 (64 * f + (y + 1) % n) = 0 ↔ (o (y + 1) = true ∧ d (y + 1) = d y + 1)))
    (h6 : ∀ t, ¬ a6 (64 * f + t % n) = 0 ↔ (o t = true ∧ 0 < d t)) (hf1 : fol = 0 ∨ fol = 1) (hf2 : ¬ fol = 0 ↔ s = u + d (s - 1) + 1) (haw : ¬ aw = 0 ↔ u < s)
    (s3 : qf_sh f n s (e + 1) (qf_g f n s (nI (p % 2 ^ (8 - b))) a3) a3 b3) (s5 : qf_sh f n s (e + 1) (qf_g f n s fol a5) a5 b5) (s6 : qf_sh f n s (e + 1) (qf_g6 s aw) a6 b6) :
    qf_T n (2 ^ (8 - b)) p o v f b3 a4 b5 b6 := by
  have hn := (qf_B_n hB).2.2.1
  refine ⟨qf_io n s e o, qf_id n s e u d, qf_iv n s e p v, qf_i_W hn hW hJ, qf_i_V hB hW hV hJ hp hu, ?_, fun q => qf_i_c hn hW hV.1 hJ (fun x => x == q), qf_i_L hB hW hJ h3 h4 h5 h5s h5o h6 hf1 hf2 haw s3 s5 s6⟩
  have g := qf_i_c (p := p) hn hW hV.1 hJ (fun _ => true)
  rw [if_pos rfl] at g
  rw [qf_c_congr (g := qf_io n s e o) (g' := fun t => qf_io n s e o t && true) (a' := 0) (fun i _ => (Bool.and_true _).symm), g, qf_c_congr (g := fun t => o t && true) (g' := o) (a' := 0) (fun i _ => Bool.and_true _)]
/-- pushing, with the picture -/
theorem qf_ins191 {s u p : Nat} {fol : Int32} (hB : qf_B f b n a1) (hW : qf_W n o d) (hV : qf_V n (2 ^ (8 - b)) o d v) (hc : qf_c o 0 n + 1 < n) (hus : u ≤ s) (hsu : s < u + n) (ho : o u = true) (hlo : u < s → o (s - 1) = true ∧ s - 1 ≤ u + d (s - 1)) (hhi : o s = true → u + d s ≤ s)
    (hp : p < 256) (hu : p / 2 ^ (8 - b) = u % n) (h3 : ∀ t, o t = true → a3 (64 * f + t % n) = nI (v t % 2 ^ (8 - b))) (h4 : ∀ t, ¬ a4 (64 * f + t % n) = 0 ↔ (qf_run o d t ∨ t % n = u % n))
    (h5 : ∀ i, i < n → a5 (64 * f + i) = 0 ∨ a5 (64 * f + i) = 1) (h5s : ¬ a5 (64 * f + s % n) = 0 ↔ (o s = true ∧ s = u + d s)) (h5o : ∀ y, s ≤ y → y + 1 < s + n → (¬ a5 (64 * f + (y + 1) % n) = 0 ↔ (o (y + 1) = true ∧ d (y + 1) = d y + 1)))
    (h6 : ∀ t, ¬ a6 (64 * f + t % n) = 0 ↔ (o t = true ∧ 0 < d t)) (hf1 : fol = 0 ∨ fol = 1) (hf2 : ¬ fol = 0 ↔ s = u + d (s - 1) + 1)
    (H : ∀ a3' a5' a6', qf_T n (2 ^ (8 - b)) p o v f a3' a4 a5' a6' → qf_fr f a3 a3' → qf_fr f a5 a5' → qf_fr f a6 a6' → post (rc, a1, a2, a3', a4, a5', a6', a7)) :
    wX_insert_191 post (nI (u % n)) (nI (s % n)) fol (nI (p % 2 ^ (8 - b))) (nI (s % n)) (nI f) rc a1 a2 a3 a4 a5 a6 a7 := by
  have hn := qf_B_n hB
  have hn0 := hn.2.2.1
  obtain ⟨e, e1, e2, e3, e4⟩ := qf_first hW hn0 s
  have hJ : qf_J n o d s e u := ⟨hus, hsu, e1, e3, e4, hlo, hhi, qf_room hW hc e1 e2 e4⟩
  have hmu := Nat.mod_lt u hn0
  have hms := Nat.mod_lt s hn0
  have mk : ∀ t, s ≤ t → t < s + n → ((¬ a4 (64 * f + t % n) = 0 ∨ ¬ a5 (64 * f + t % n) = 0 ∨ ¬ a6 (64 * f + t % n) = 0) ↔ o t = true) := by
    intro t t1 t2
    constructor
    · rintro (z | z | z)
      · rcases (h4 t).mp z with w | w
        · exact qf_run_o hW w
        · rw [qf_pe hW.1 w]; exact ho
      · by_cases w : t = s
        · rw [w] at z ⊢
          exact (h5s.mp z).1
        · obtain ⟨y, ey⟩ : ∃ y, t = y + 1 := ⟨t - 1, by omega⟩
          rw [ey] at z ⊢
          exact ((h5o y (by omega) (by omega)).mp z).1
      · exact ((h6 t).mp z).1
    · intro h
      by_cases w : 0 < d t
      · exact Or.inr (Or.inr ((h6 t).mpr ⟨h, w⟩))
      · exact Or.inl ((h4 t).mpr (Or.inl ⟨0, h, by show d t = 0; omega⟩))
  have go : ∀ aw : Int32, vp_nar .boolean aw = aw → (¬ aw = 0 ↔ u < s) → wX_insert_203 post aw fol (nI (p % 2 ^ (8 - b))) (nI (s % n)) (nI f) rc a1 a2 a3 a4 a5 a6 a7 := by
    intro aw w1 w2
    unfold wX_insert_203
    refine qf_push hB e1 e2 (fun y y1 y2 => (mk y y1 (by omega)).mpr (e4 y y1 y2)) ?_ (fun c c1 c2 => ?_) (fun c c1 c2 => ?_) w1 (fun a3' a5' a6' s3 s5 s6 => H a3' a5' a6' (qf_i_T hB hW hV hJ hp hu h3 h4 h5 h5s h5o h6 hf1 hf2 w2 s3 s5 s6) s3.2 s5.2 s6.2)
    · have := mk e e1 e2
      refine ⟨Classical.byContradiction (fun z => qf_no e3 (this.mp (Or.inl z))), Classical.byContradiction (fun z => qf_no e3 (this.mp (Or.inr (Or.inl z)))), Classical.byContradiction (fun z => qf_no e3 (this.mp (Or.inr (Or.inr z))))⟩
    · unfold qf_g
      by_cases w : c = s
      · rw [if_pos w]
        have := Nat.mod_lt p (show 0 < 2 ^ (8 - b) by omega)
        exact qf_w_by _ (by omega)
      · rw [if_neg w, h3 (c - 1) (e4 (c - 1) (by omega) (by omega))]
        have := Nat.mod_lt (v (c - 1)) (show 0 < 2 ^ (8 - b) by omega)
        exact qf_w_by _ (by omega)
    · unfold qf_g
      by_cases w : c = s
      · rw [if_pos w]
        exact qf_w_bo _ hf1
      · rw [if_neg w]
        exact qf_w_bo _ (h5 _ (Nat.mod_lt _ hn0))
  unfold wX_insert_191
  refine pk_eq (s % n) (u % n) (fun z => go 0 rfl ?_) (fun z => go 1 rfl ?_)
  · have : s = u := qf_uniq (a := u) z hus hsu (Nat.le_refl _) (by omega)
    exact ⟨fun w => absurd rfl w, fun w => absurd w (by omega)⟩
  · have : s ≠ u := fun w => z (by rw [w])
    exact ⟨fun _ => by omega, fun _ => by decide⟩
/-- looking for the place in the run -/
theorem qf_ins104 {u s : Nat} {x5 x6 x7 : Int32} (hB : qf_B f b n a1) (hW : qf_W n o d) (hG : ∀ t, ¬ a5 (64 * f + (t + 1) % n) = 0 ↔ (o (t + 1) = true ∧ d (t + 1) = d t + 1))
    (H : ∀ c, s ≤ c → (∀ t, s ≤ t → t < c → o t = true ∧ t = u + d t) → (o c = true → u + d c ≤ c) → wX_insert_146 post (nI f) (nI (64 * f)) (nI (u % n)) x5 x6 x7 (nI (c % n)) rc a1 a2 a3 a4 a5 a6 a7) :
    ∀ fu c x9, s + n - c < fu → s ≤ c → (∀ t, s ≤ t → t < c → o t = true ∧ t = u + d t) → (x9 = 0 → o c = true → u + d c < c) → (¬ x9 = 0 → o c = true ∧ c = u + d c) → wX_insert_104 post (nI f) (nI (64 * f)) (nI (u % n)) x5 x6 x7 rc a1 a2 a3 a4 a5 a6 a7 fu (nI (c % n)) x9 := by
  have hn := qf_B_n hB
  have hf := hB.1
  intro fu
  induction fu with
  | zero => intro c x9 h; exact absurd h (Nat.not_lt_zero _)
  | succ fu ih =>
    intro c x9 h h1 h2 h3 h4
    have hm := Nat.mod_lt c hn.2.2.1
    have hm1 := Nat.mod_lt (c + 1) hn.2.2.1
    unfold wX_insert_104
    refine br_c (fun z => H c h1 h2 (fun ho => by have := h3 z ho; omega)) (fun z => ?_)
    obtain ⟨ho, hc⟩ := h4 z
    have hl : c < s + n := qf_occ_lt hW hn.2.2.1 (fun t t1 t2 => (h2 t t1 t2).1)
    rw [nI_add, nI_clamp (by omega)]
    refine ⟨vp_in_nI (by omega) (by decide), br_c (fun w => H c h1 h2 (fun _ => by omega)) (fun w => qf_after hB c ?_)⟩
    rw [nI_add, nI_clamp (by omega)]
    refine ⟨vp_in_nI (by omega) (by decide), nm_e (ih (c + 1) _ (by omega) (by omega) (fun t t1 t2 => ?_) (fun y ho' => ?_) (fun y => ?_))⟩
    · by_cases e : t = c
      · rw [e]; exact ⟨ho, hc⟩
      · exact h2 t t1 (by omega)
    · have hd : d (c + 1) ≠ d c + 1 := fun e => (hG c).mpr ⟨ho', e⟩ y
      by_cases w0 : 0 < d (c + 1)
      · have := hW.2.2.2 c ho' w0
        omega
      · omega
    · have := (hG c).mp y
      exact ⟨this.1, by omega⟩
theorem qf_insert {p h : Nat} {M : Nat → Nat} (hR : qf_R f b h M a1 a2 a3 a4 a5 a6) (hh : h + 1 < 2 ^ b) (hp : p < 256)
    (H : ∀ a3' a4' a5' a6', qf_R f b (h + 1) (qf_ad M p) a1 (upd a2 f (nI (h + 1))) a3' a4' a5' a6' → qf_fr f a3 a3' → qf_fr f a4 a4' → qf_fr f a5 a5' → qf_fr f a6 a6' → post (rc, a1, upd a2 f (nI (h + 1)), a3', a4', a5', a6', a7)) :
    wpX_insert post (rc, a1, a2, a3, a4, a5, a6, a7) (nI f) (nI p) := by
  obtain ⟨hh2, n, o, d, v, hB, hhn, hW, hV, hc, hM, hL⟩ := hR
  have hn := qf_B_n hB
  have hn0 := hn.2.2.1
  have hf := hB.1
  rw [← hB.2.2.2.1] at hh
  have hq : p / 2 ^ (8 - b) < n := Nat.div_lt_of_lt_mul (by rw [Nat.mul_comm, hn.2.2.2.1]; exact hp)
  obtain ⟨u, eu⟩ : ∃ u, u = p / 2 ^ (8 - b) + n := ⟨_, rfl⟩
  have hu : p / 2 ^ (8 - b) = u % n := by rw [eu, Nat.add_mod_right, Nat.mod_eq_of_lt hq]
  have hmp := Nat.mod_lt p (show 0 < 2 ^ (8 - b) by omega)
  -- the end, from what is owed
  have fin : ∀ a3' a4' a5' a6', qf_T n (2 ^ (8 - b)) p o v f a3' a4' a5' a6' → qf_fr f a3 a3' → qf_fr f a4 a4' → qf_fr f a5 a5' → qf_fr f a6 a6' → post (rc, a1, upd a2 f (nI (h + 1)), a3', a4', a5', a6', a7) := by
    intro a3' a4' a5' a6' hT f3 f4 f5 f6
    refine H a3' a4' a5' a6' ?_ f3 f4 f5 f6
    obtain ⟨o', d', v', t1, t2, t3, t4, t5⟩ := hT
    exact ⟨pk_us, n, o', d', v', hB, hh, t1, t2, by rw [t3, hc], fun q => by rw [t4, hM]; rfl, t5⟩
  have f4 : qf_fr f a4 (upd a4 (64 * f + u % n) 1) := fun j hj => pk_un (by have := Nat.mod_lt u hn0; omega)
  have h4 : ∀ t, ¬ upd a4 (64 * f + u % n) 1 (64 * f + t % n) = 0 ↔ (qf_run o d t ∨ t % n = u % n) := by
    intro t
    by_cases e : t % n = u % n
    · rw [e, pk_us]
      exact ⟨fun _ => Or.inr rfl, fun _ => by decide⟩
    · rw [pk_un (by omega), hL.2.1 t]
      constructor
      · exact Or.inl
      · rintro (z | z)
        · exact z
        · exact absurd z e
  unfold wpX_insert
  dsimp only
  refine qf_base_w (qf_slotOf hB hp (qf_lowerOf hB hp ⟨vp_in_nI hf (by decide), vp_in_nI hf (by decide), ?_⟩))
  rw [nI_clamp (show f < 2 ^ 31 by omega), hh2, nI_1, qf_w_by (h + 1) (by omega), hu, nI_add, nI_clamp (show 64 * f + u % n < 2 ^ 31 by omega), qf_w_by _ (by omega)]
  have hv : vp_in (nI (64 * f + u % n)) 128 := vp_in_nI (by omega) (by decide)
  refine nm_e (qf_isFree hf (by omega) (fun z4 z5 z6 => ?_) (fun z => ?_))
  · refine br_f (by decide) ⟨hv, nm_e ⟨hv, nm_e ?_⟩⟩
    have ho := qf_L_free hn0 hW hL z4 z5 z6
    have hJ : qf_J n o d u u u := ⟨Nat.le_refl _, by omega, Nat.le_refl _, ho, fun t t1 t2 => absurd t1 (by omega), fun w => absurd w (by omega), fun w => absurd w (qf_no ho), qf_room hW (by omega) (Nat.le_refl _) (by omega) (fun t t1 t2 => absurd t1 (by omega))⟩
    have sh3 : qf_sh f n u (u + 1) (qf_g f n u (nI (p % 2 ^ (8 - b))) a3) a3 (upd a3 (64 * f + u % n) (nI (p % 2 ^ (8 - b)))) := qf_sh_s hn0 hn.2.1 qf_sh_0 (Nat.le_refl _) (by omega) (by unfold qf_g; rw [if_pos rfl])
    refine fin _ _ _ _ (qf_i_T (fol := 0) (aw := 0) hB hW hV hJ hp hu hL.1 h4 hL.2.2.1 ?_ (fun y _ _ => hL.2.2.2.1 y) hL.2.2.2.2 (Or.inl rfl) ?_ ?_ sh3 (qf_sh_k (by unfold qf_g; rw [if_pos rfl]; exact z5)) (qf_sh_k (by unfold qf_g6; rw [if_pos rfl]; exact z6))) sh3.2 f4 (fun _ _ => rfl) (fun _ _ => rfl)
    · exact ⟨fun w => absurd z5 w, fun w => absurd w.1 (qf_no ho)⟩
    · exact ⟨fun w => absurd rfl w, fun w => by omega⟩
    · exact ⟨fun w => absurd rfl w, fun w => by omega⟩
  · have ho : o u = true := (qf_L_mark hn0 hW hL u).mp z
    refine br_t rfl ⟨hv, nm_e ⟨hv, nm_e ?_⟩⟩
    refine qf_runStart hB hW h4 hL.2.2.2.1 hL.2.2.2.2 (by omega) ho (fun b0 s hC hI => ?_)
    obtain ⟨i1, i2, i3, i4, i5⟩ := hI
    have hun := qf_Cn hW hn0 hC
    have hru := hL.2.1 u
    have j5 : a4 (64 * f + u % n) = 0 → (o s = true → u + d s < s) := by
      intro w
      rcases i5 with y | y
      · exact absurd (hru.mpr ⟨d s, by rw [← y.2]; exact y.1, by rw [← y.2]⟩) (not_not_intro w)
      · exact y.2.2
    have j6 : ¬ a4 (64 * f + u % n) = 0 → (o s = true ∧ s = u + d s) := by
      intro w
      rcases i5 with y | y
      · exact y
      · exact absurd (hru.mp w) y.2.1
    refine ⟨n + 1, qf_ins104 hB hW hL.2.2.2.1 (s := s) (fun c c1 c2 c3 => ?_) (n + 1) s _ (by omega) (Nat.le_refl _) (fun t t1 t2 => absurd t1 (by omega)) j5 j6⟩
    have F1 : ∀ t, b0 ≤ t → t < c → o t = true ∧ t ≤ u + d t := by
      intro t t1 t2
      by_cases w : t < s
      · have := i4 t t1 w
        exact ⟨this.1, by omega⟩
      · have := c2 t (by omega) t2
        exact ⟨this.1, by omega⟩
    have hcn : c < b0 + n := qf_occ_lt hW hn0 (fun t t1 t2 => (F1 t t1 t2).1)
    have hlo : u < c → o (c - 1) = true ∧ c - 1 ≤ u + d (c - 1) := fun w => F1 (c - 1) (by omega) (by omega)
    have hst : c = s → ¬ c = u + d (c - 1) + 1 := by
      intro w1 w2
      have := i4 (c - 1) (by omega) (by omega)
      omega
    have hmc := Nat.mod_lt c hn0
    have hms := Nat.mod_lt s hn0
    have ecs : c % n = s % n → c = s := fun w => qf_uniq (a := b0) w (by omega) hcn (by omega) (by omega)
    obtain ⟨t, et⟩ : ∃ t, c = t + 1 := ⟨c - 1, by omega⟩
    unfold wX_insert_146
    refine br_c (fun w => ?_) (fun w => ?_)
    · have h5s : ¬ a5 (64 * f + c % n) = 0 ↔ (o c = true ∧ c = u + d c) := by
        have := hL.2.2.2.1 t
        rw [← et] at this
        rw [this]
        have e : c = s := by
          refine Classical.byContradiction (fun g => ?_)
          have g1 := c2 s (Nat.le_refl _) (by omega)
          have g2 := j5 w g1.1
          omega
        have q1 := j5 w
        rw [← e] at q1
        constructor
        · rintro ⟨w1, w2⟩
          have q2 := q1 w1
          have q3 := i4 t (by omega) (by omega)
          omega
        · rintro ⟨w1, w2⟩
          have q2 := q1 w1
          omega
      have e : c = s := by
        refine Classical.byContradiction (fun g => ?_)
        have g1 := c2 s (Nat.le_refl _) (by omega)
        have g2 := j5 w g1.1
        omega
      unfold wX_insert_168
      refine br_t w ?_
      unfold wX_insert_190
      exact qf_ins191 hB hW hV (by omega) (by omega) (by omega) ho hlo c3 hp hu hL.1 h4 hL.2.2.1 h5s (fun y _ _ => hL.2.2.2.1 y) hL.2.2.2.2 (Or.inl rfl) ⟨fun w => absurd rfl w, fun w => absurd w (hst e)⟩ (fun a3' a5' a6' hT f3 f5 f6 => fin _ _ _ _ hT f3 f4 f5 f6)
    · have j7 := j6 w
      refine pk_eq (c % n) (s % n) (fun e => ?_) (fun e => ?_)
      · have e' := ecs e
        rw [nI_add, nI_clamp (by omega)]
        refine ⟨vp_in_nI (by omega) (by decide), nm_e ?_⟩
        unfold wX_insert_168
        refine br_f w (br_t (by rw [e]) ?_)
        unfold wX_insert_190
        refine qf_ins191 hB hW hV (by omega) (by omega) (by omega) ho hlo c3 hp hu hL.1 h4 (fun i hi => ?_) ?_ (fun y y1 y2 => ?_) hL.2.2.2.2 (Or.inl rfl) ⟨fun w => absurd rfl w, fun w => absurd w (hst e')⟩ (fun a3' a5' a6' hT f3 f5 f6 => fin _ _ _ _ hT f3 f4 (fun j hj => by rw [f5 j hj, pk_un (by omega)]) f6)
        · by_cases g : i = s % n
          · rw [g, pk_us]; exact Or.inr rfl
          · rw [pk_un (by omega)]; exact hL.2.2.1 i hi
        · rw [e, pk_us, e']
          exact ⟨fun _ => j7, fun _ => by decide⟩
        · have ne : (y + 1) % n ≠ s % n := by
            intro g
            have := qf_uniq (a := s) g (by omega) (by omega) (Nat.le_refl _) (by omega)
            omega
          rw [pk_un (by omega)]
          exact hL.2.2.2.1 y
      · have ne : c ≠ s := fun g => e (by rw [g])
        have g1 := c2 t (by omega) (by omega)
        have h5s : ¬ a5 (64 * f + c % n) = 0 ↔ (o c = true ∧ c = u + d c) := by
          have := hL.2.2.2.1 t
          rw [← et] at this
          rw [this]
          constructor
          · rintro ⟨w1, w2⟩
            exact ⟨w1, by omega⟩
          · rintro ⟨w1, w2⟩
            exact ⟨w1, by omega⟩
        unfold wX_insert_168
        refine br_f w (br_f (fun g => e ((nI_eq (by omega) (by omega)).mp g)) ?_)
        refine qf_ins191 hB hW hV (by omega) (by omega) (by omega) ho hlo c3 hp hu hL.1 h4 hL.2.2.1 h5s (fun y _ _ => hL.2.2.2.1 y) hL.2.2.2.2 (Or.inr rfl) ⟨fun _ => ?_, fun _ => by decide⟩ (fun a3' a5' a6' hT f3 f5 f6 => fin _ _ _ _ hT f3 f4 f5 f6)
        rw [show c - 1 = t by omega]
        omega
end
end
section
/-! ===== 09: reading ===== -/
section
variable {rc : Int32} {a1 a2 a3 a4 a5 a6 a7 : Nat → Int32} {f b n : Nat} {o : Nat → Bool} {d v : Nat → Nat}
/-- what stands in [s, s + m) was read to the places from k on -/
def qf_rd (v : Nat → Nat) (s k m : Nat) (a a' : Nat → Int32) : Prop := (∀ j, j < k → a' j = a j) ∧ ∀ i, i < m → a' (k + i) = nI (v (s + i))
theorem qf_rd_s {s k m : Nat} {a a' : Nat → Int32} (h : qf_rd v s k m a a') : qf_rd v s k (m + 1) a (upd a' (k + m) (nI (v (s + m)))) := by
  refine ⟨fun j hj => ?_, fun i hi => ?_⟩
  · rw [pk_un (by omega)]
    exact h.1 j hj
  · by_cases e : i = m
    · rw [e, pk_us]
    · rw [pk_un (by omega)]
      exact h.2 i (by omega)
theorem qf_rd95 {post : Int32 → St1 → Prop} {J : Int32 → Int32 → Int32 → (Nat → Int32) → (Nat → Int32) → (Nat → Int32) → (Nat → Int32) → (Nat → Int32) → (Nat → Int32) → (Nat → Int32) → Prop} {c w k : Nat} (hB : qf_B f b n a1) (hV : qf_V n (2 ^ (8 - b)) o d v) (hL : qf_L f n (2 ^ (8 - b)) o d v a3 a4 a5 a6) (hk : k < 64) (ho : o c = true) (hc : c = w + d c)
    (H : J (nI ((c + 1) % n)) (nI (w % n)) (nI (k + 1)) a1 a2 a3 a4 a5 a6 (upd a7 k (nI (v c)))) : wX_readStretch_95 post J (nI f) (nI (64 * f)) (nI (c % n)) (nI (w % n)) (nI k) a1 a2 a3 a4 a5 a6 a7 := by
  have hn := qf_B_n hB
  have hf := hB.1
  have hm := Nat.mod_lt c hn.2.2.1
  have hv := hV.2 c ho
  have hq : v c / 2 ^ (8 - b) = w % n := by
    have h3 := qf_home' hn.2.2.1 hv.2 hc
    rw [Nat.mod_eq_of_lt (Nat.div_lt_of_lt_mul (by rw [Nat.mul_comm, hn.2.2.2.1]; exact hv.1))] at h3
    exact h3
  unfold wX_readStretch_95
  rw [nI_add, nI_clamp (show 64 * f + c % n < 2 ^ 31 by omega), nI_clamp (show f < 2 ^ 31 by omega), nI_clamp (show k < 2 ^ 31 by omega), hL.1 c ho, hB.2.2.2.2, ← hq, qf_w_rd b hB.2.2.1 hB.2.1 (v c) hv.1, nI_1]
  refine ⟨vp_in_nI hf (by decide), vp_in_nI (by omega) (by decide), vp_in_nI hk (by decide), nm_e (nm_e (qf_after hB c ?_))⟩
  rw [hq]
  exact H
theorem qf_rd70 {post : Int32 → St1 → Prop} {J : Int32 → Int32 → Int32 → (Nat → Int32) → (Nat → Int32) → (Nat → Int32) → (Nat → Int32) → (Nat → Int32) → (Nat → Int32) → (Nat → Int32) → Prop} {x5 : Int32} {b1 b2 : Nat} (hB : qf_B f b n a1) (hN2 : ¬ a4 (64 * f + b2 % n) = 0)
    (H : ∀ c, b1 ≤ c → c ≤ b2 → ¬ a4 (64 * f + c % n) = 0 → wX_readStretch_95 post J (nI f) (nI (64 * f)) x5 (nI (c % n)) rc a1 a2 a3 a4 a5 a6 a7) :
    ∀ fu c, b2 - c < fu → b1 ≤ c → c ≤ b2 → wX_readStretch_70 post J (nI f) (nI (64 * f)) x5 rc a1 a2 a3 a4 a5 a6 a7 fu (nI (c % n)) := by
  have hn := qf_B_n hB
  have hf := hB.1
  intro fu
  induction fu with
  | zero => intro c h; exact absurd h (Nat.not_lt_zero _)
  | succ fu ih =>
    intro c h h1 h2
    have hm := Nat.mod_lt c hn.2.2.1
    unfold wX_readStretch_70
    rw [nI_add, nI_clamp (by omega)]
    refine ⟨vp_in_nI (by omega) (by decide), br_c (fun z => ?_) (fun z => H c h1 h2 z)⟩
    have hc : c ≠ b2 := fun e => hN2 (by rw [← e]; exact z)
    exact qf_after hB c (ih (c + 1) (by omega) (by omega) (by omega))
theorem qf_rd18 {post : Int32 → St1 → Prop} {s0 k0 e : Nat} (hB : qf_B f b n a1) (hW : qf_W n o d) (hV : qf_V n (2 ^ (8 - b)) o d v) (hL : qf_L f n (2 ^ (8 - b)) o d v a3 a4 a5 a6) (hs0 : 1 ≤ s0) (hs : o (s0 - 1) = false) (hse : s0 ≤ e) (hA : ∀ t, s0 ≤ t → t < e → o t = true) (he : o e = false) (hk : k0 + (e - s0) ≤ 64)
    (H : ∀ a7', qf_rd v s0 k0 (e - s0) a7 a7' → post (nI (e % n)) (nI (k0 + (e - s0)), a1, a2, a3, a4, a5, a6, a7')) :
    ∀ fu c w a7', e - c < fu → s0 ≤ c → c ≤ e → (c ≠ s0 → c - 1 = w + d (c - 1)) → qf_rd v s0 k0 (c - s0) a7 a7' → wX_readStretch_18 post (nI f) (nI (64 * f)) fu (nI (c % n)) (nI (w % n)) (nI (k0 + (c - s0))) a1 a2 a3 a4 a5 a6 a7' := by
  have hn := qf_B_n hB
  have hn0 := hn.2.2.1
  have hf := hB.1
  intro fu
  induction fu with
  | zero => intro c w a7' h; exact absurd h (Nat.not_lt_zero _)
  | succ fu ih =>
    intro c w a7' h h1 h2 h3 h4
    have hm := Nat.mod_lt c hn0
    have go : ∀ w', o c = true → c < e → c = w' + d c → wX_readStretch_95 post (wX_readStretch_18 post (nI f) (nI (64 * f)) fu) (nI f) (nI (64 * f)) (nI (c % n)) (nI (w' % n)) (nI (k0 + (c - s0))) a1 a2 a3 a4 a5 a6 a7' := by
      intro w' ho hc hw
      refine qf_rd95 hB hV hL (by omega) ho hw ?_
      have g := qf_rd_s h4
      rw [show s0 + (c - s0) = c by omega, show c - s0 + 1 = c + 1 - s0 by omega] at g
      have := ih (c + 1) w' _ (by omega) (by omega) (by omega) (fun _ => by rw [Nat.add_sub_cancel]; exact hw) g
      rw [show k0 + (c + 1 - s0) = k0 + (c - s0) + 1 by omega] at this
      exact this
    unfold wX_readStretch_18
    refine qf_isFree hf (by omega) (fun z4 z5 z6 => br_f (by decide) ?_) (fun z => br_t rfl ?_)
    · have ho := qf_L_free hn0 hW hL z4 z5 z6
      have ec : c = e := by
        refine Classical.byContradiction (fun g => qf_no ho (hA c h1 (by omega)))
      rw [ec] at h4 ⊢
      exact H a7' h4
    · have ho := (qf_L_mark hn0 hW hL c).mp z
      have hce : c < e := by
        have : c ≠ e := fun g => qf_no he (g ▸ ho)
        omega
      rw [nI_add, nI_clamp (by omega)]
      have hv : vp_in (nI (64 * f + c % n)) 128 := vp_in_nI (by omega) (by decide)
      refine ⟨hv, br_c (fun z6 => go c ho hce ?_) (fun z6 => ⟨hv, ?_⟩)⟩
      · have : ¬ 0 < d c := fun g => (hL.2.2.2.2 c).mpr ⟨ho, g⟩ z6
        omega
      · have g6 := (hL.2.2.2.2 c).mp z6
        obtain ⟨t, et⟩ : ∃ t, c = t + 1 := ⟨c - 1, by omega⟩
        have ne : c ≠ s0 := by
          intro g
          rw [et] at g6
          have := hW.2.2.2 t g6.1 g6.2
          rw [show s0 - 1 = t by omega] at hs
          exact qf_no hs this.1
        have ht := h3 ne
        have hot := hA t (by omega) (by omega)
        have hG := hL.2.2.2.1 t
        rw [← et] at hG
        rw [show c - 1 = t by omega] at ht
        refine br_c (fun z5 => ?_) (fun z5 => go w ho hce ?_)
        · have hd : d c ≤ d t := by
            have q1 : d c ≠ d t + 1 := fun g => hG.mpr ⟨ho, g⟩ z5
            have q2 := hW.2.2.2 t (by rw [← et]; exact ho) (by rw [← et]; exact g6.2)
            rw [← et] at q2
            omega
          have e2 : c - d c + d c = c := by omega
          have hN2 : ¬ a4 (64 * f + (c - d c) % n) = 0 := (hL.2.1 _).mpr ⟨d c, by rw [e2]; exact ho, by rw [e2]⟩
          refine qf_after hB w ⟨c + 1, qf_rd70 hB (b1 := w + 1) hN2 (fun q q1 q2 q3 => ?_) (c + 1) (w + 1) (by omega) (Nat.le_refl _) (by omega)⟩
          have hq : q = c - d c := by
            refine Classical.byContradiction (fun g => ?_)
            refine qf_gap hW hot (by rw [← et]; exact ho) (show t < q + d t by omega) ?_ ((hL.2.1 q).mp q3)
            rw [← et]
            omega
          exact go q ho hce (by omega)
        · have := hG.mp z5
          omega
theorem qf_readStretch {post : Int32 → St1 → Prop} {s0 k0 e : Nat} (hB : qf_B f b n a1) (hW : qf_W n o d) (hV : qf_V n (2 ^ (8 - b)) o d v) (hL : qf_L f n (2 ^ (8 - b)) o d v a3 a4 a5 a6) (hs0 : 1 ≤ s0) (hs : o (s0 - 1) = false) (hse : s0 ≤ e) (hA : ∀ t, s0 ≤ t → t < e → o t = true) (he : o e = false) (hk : k0 + (e - s0) ≤ 64)
    (H : ∀ a7', qf_rd v s0 k0 (e - s0) a7 a7' → post (nI (e % n)) (nI (k0 + (e - s0)), a1, a2, a3, a4, a5, a6, a7')) :
    wpX_readStretch post (rc, a1, a2, a3, a4, a5, a6, a7) (nI f) (nI (s0 % n)) (nI k0) := by
  unfold wpX_readStretch
  dsimp only
  refine qf_base_w ⟨e + 1, ?_⟩
  have g := qf_rd18 hB hW hV hL hs0 hs hse hA he hk H (e + 1) s0 s0 a7 (by omega) (Nat.le_refl _) hse (fun w => absurd rfl w) ⟨fun j _ => rfl, fun i hi => absurd hi (by omega)⟩
  rw [Nat.sub_self] at g
  exact g
theorem qf_ra29 {post : St1 → Prop} {c : Nat} (hB : qf_B f b n a1) (hW : qf_W n o d) (hV : qf_V n (2 ^ (8 - b)) o d v) (hL : qf_L f n (2 ^ (8 - b)) o d v a3 a4 a5 a6) (hc : c < n) (ho : o c = false)
    (H : ∀ (a7' : Nat → Int32) (w : Nat → Nat), (∀ i, i < qf_c o 0 n → a7' i = nI (w i) ∧ w i < 256) → (∀ p, qf_c (fun i => w i == p) 0 (qf_c o 0 n) = qf_c (fun t => o t && v t == p) 0 n) → post (nI (qf_c o 0 n), a1, a2, a3, a4, a5, a6, a7')) :
    ∀ fu s a7' (w : Nat → Nat), c + n - s < fu → c < s → s ≤ c + n → (o (s - 1) = false ∨ o s = false) → (∀ i, i < qf_c o c (s - c) → a7' i = nI (w i) ∧ w i < 256) → (∀ p, qf_c (fun i => w i == p) 0 (qf_c o c (s - c)) = qf_c (fun t => o t && v t == p) c (s - c)) →
      wX_readAll_29 post (nI f) (nI c) fu (nI (s % n)) (nI (qf_c o c (s - c))) a1 a2 a3 a4 a5 a6 a7' := by
  have hn := qf_B_n hB
  have hn0 := hn.2.2.1
  have hf := hB.1
  intro fu
  induction fu with
  | zero => intro s a7' w h; exact absurd h (Nat.not_lt_zero _)
  | succ fu ih =>
    intro s a7' w h h1 h2 h3 h4 h5
    have hm := Nat.mod_lt s hn0
    have ec : c = (c + n) % n := by rw [Nat.add_mod_right, Nat.mod_eq_of_lt hc]
    unfold wX_readAll_29
    refine pk_eq (s % n) c (fun z => ?_) (fun z => ?_)
    · have es : s = c + n := qf_uniq (n := n) (a := c + 1) (by rw [← ec]; exact z) (by omega) (by omega) (by omega) (by omega)
      have e1 : s - c = n := by omega
      rw [e1] at h4 h5 ⊢
      rw [qf_c_per hW.1 c] at h4 h5 ⊢
      refine H a7' w h4 (fun p => ?_)
      rw [h5 p]
      exact qf_c_per (g := fun t => o t && v t == p) (fun t => by show (_ && _) = (_ && _); rw [hW.1, hV.1]) c
    · have ne : s ≠ c + n := fun g => z (by rw [g, ← ec])
      refine qf_isFree hf (by omega) (fun z4 z5 z6 => br_f (by decide) ?_) (fun zz => br_t rfl ?_)
      · have hos := qf_L_free hn0 hW hL z4 z5 z6
        have e1 : s + 1 - c = s - c + 1 := by omega
        have e2 : qf_c o c (s + 1 - c) = qf_c o c (s - c) := by
          rw [e1, qf_c_s, show c + (s - c) = s by omega, hos]
          rfl
        have e3 : ∀ p, qf_c (fun t => o t && v t == p) c (s + 1 - c) = qf_c (fun t => o t && v t == p) c (s - c) := by
          intro p
          rw [e1, qf_c_s, show c + (s - c) = s by omega, hos]
          rfl
        have g := ih (s + 1) a7' w (by omega) (by omega) (by omega) (Or.inl (by rw [Nat.add_sub_cancel]; exact hos)) (by rw [e2]; exact h4) (by intro p; rw [e2, e3]; exact h5 p)
        rw [e2] at g
        exact qf_after hB s g
      · have hos := (qf_L_mark hn0 hW hL s).mp zz
        have hos1 : o (s - 1) = false := by
          rcases h3 with y | y
          · exact y
          · exact absurd hos (qf_no y)
        obtain ⟨e, e1, e2, e3, e4⟩ := qf_first hW hn0 s
        have hen : e ≤ c + n := by
          refine Classical.byContradiction (fun g => ?_)
          have := e4 (c + n) (by omega) (by omega)
          rw [hW.1] at this
          exact qf_no ho this
        have hse : s < e := by
          have : s ≠ e := fun g => qf_no e3 (g ▸ hos)
          omega
        have q1 : qf_c o c (e - c) = qf_c o c (s - c) + (e - s) := by
          rw [show e - c = (s - c) + (e - s) by omega, qf_c_add, show c + (s - c) = s by omega]
          rw [qf_c_all (g := o) (a := s) (k := e - s) (fun i hi => e4 (s + i) (by omega) (by omega))]
        have q2 := qf_c_le o c (e - c)
        refine qf_readStretch hB hW hV hL (by omega) hos1 e1 e4 e3 (by omega) (fun b7 hr => ?_)
        obtain ⟨w', hw'⟩ : ∃ w' : Nat → Nat, w' = fun i => if i < qf_c o c (s - c) then w i else v (s + (i - qf_c o c (s - c))) := ⟨_, rfl⟩
        have w1 : ∀ i, i < qf_c o c (s - c) → w' i = w i := fun i hi => by rw [hw']; exact if_pos hi
        have w2 : ∀ i, w' (qf_c o c (s - c) + i) = v (s + i) := fun i => by
          rw [hw']
          show (if _ then _ else _) = _
          rw [if_neg (by omega), show qf_c o c (s - c) + i - qf_c o c (s - c) = i by omega]
        have g := ih e b7 w' (by omega) (by omega) hen (Or.inr e3) (fun i hi => ?_) (fun p => ?_)
        · rw [q1] at g
          exact g
        · rw [q1] at hi
          by_cases y : i < qf_c o c (s - c)
          · rw [w1 i y, hr.1 i y]
            exact h4 i y
          · have y1 := hr.2 (i - qf_c o c (s - c)) (by omega)
            have y2 := w2 (i - qf_c o c (s - c))
            rw [show qf_c o c (s - c) + (i - qf_c o c (s - c)) = i by omega] at y1 y2
            rw [y1, y2]
            exact ⟨rfl, (hV.2 _ (e4 _ (by omega) (by omega))).1⟩
        · have u1 : qf_c (fun t => o t && v t == p) c (e - c) = qf_c (fun t => o t && v t == p) c (s - c) + qf_c (fun t => o t && v t == p) s (e - s) := by
            rw [show e - c = (s - c) + (e - s) by omega, qf_c_add, show c + (s - c) = s by omega]
          rw [q1, qf_c_add, u1, ← h5 p]
          rw [qf_c_congr (g := fun i => w' i == p) (g' := fun i => w i == p) (a := 0) (a' := 0) (k := qf_c o c (s - c)) (fun i hi => by show (_ == _) = (_ == _); rw [Nat.zero_add, w1 i hi])]
          rw [qf_c_congr (g := fun i => w' i == p) (g' := fun t => o t && v t == p) (a := 0 + qf_c o c (s - c)) (a' := s) (k := e - s) (fun i hi => by
            show (_ == _) = (_ && _)
            rw [Nat.zero_add, w2 i, e4 (s + i) (by omega) (by omega), Bool.true_and])]
theorem qf_ra7 {post : St1 → Prop} {g : Nat} (hB : qf_B f b n a1) (hW : qf_W n o d) {R : Nat} (hL : qf_L f n R o d v a3 a4 a5 a6) (hg : g < n) (hog : o g = false)
    (H : ∀ c, c < n → o c = false → ∃ fu29, wX_readAll_29 post (nI f) (nI c) fu29 (nI ((c + 1) % n)) rc a1 a2 a3 a4 a5 a6 a7) :
    ∀ fu c, g - c < fu → c ≤ g → wX_readAll_7 post (nI f) rc a1 a2 a3 a4 a5 a6 a7 fu (nI c) := by
  have hn := qf_B_n hB
  have hn0 := hn.2.2.1
  have hf := hB.1
  intro fu
  induction fu with
  | zero => intro c h; exact absurd h (Nat.not_lt_zero _)
  | succ fu ih =>
    intro c h h1
    have hm : c % n = c := Nat.mod_eq_of_lt (by omega)
    unfold wX_readAll_7
    refine qf_isFree hf (by omega) (fun z4 z5 z6 => br_f (by decide) ?_) (fun z => br_t rfl ?_)
    · rw [← hm] at z4 z5 z6
      have ho := qf_L_free hn0 hW hL z4 z5 z6
      have q := qf_after (rc := rc) (a2 := a2) (a3 := a3) (a4 := a4) (a5 := a5) (a6 := a6) (a7 := a7) (post := fun r_3 => ∃ fu29, wX_readAll_29 post (nI f) (nI c) fu29 r_3 rc a1 a2 a3 a4 a5 a6 a7) hB c (H c (by omega) ho)
      rw [hm] at q
      exact q
    · rw [← hm] at z
      have ho := (qf_L_mark hn0 hW hL c).mp z
      have : c ≠ g := fun e => qf_no hog (e ▸ ho)
      exact nm_r (nI_1 c) (ih (c + 1) (by omega) (by omega))
theorem qf_readAll {post : St1 → Prop} {h : Nat} {M : Nat → Nat} (hR : qf_R f b h M a1 a2 a3 a4 a5 a6)
    (H : ∀ (a7' : Nat → Int32) (w : Nat → Nat), (∀ i, i < h → a7' i = nI (w i) ∧ w i < 256) → (∀ p, qf_c (fun i => w i == p) 0 h = M p) → post (nI h, a1, a2, a3, a4, a5, a6, a7')) :
    wpX_readAll post (rc, a1, a2, a3, a4, a5, a6, a7) (nI f) := by
  obtain ⟨hh2, n, o, d, v, hB, hhn, hW, hV, hc, hM, hL⟩ := hR
  have hn := qf_B_n hB
  have hn0 := hn.2.2.1
  obtain ⟨g, g1, g2, g3⟩ := qf_free hW hn0 0
  unfold wpX_readAll
  dsimp only
  refine ⟨n + 1, qf_ra7 hB hW hL (g := g) (by omega) g3 (fun c hc1 hc2 => ⟨n + 1, ?_⟩) (n + 1) 0 (by omega) (by omega)⟩
  have e0 : qf_c o c (c + 1 - c) = 0 := by
    rw [show c + 1 - c = 1 by omega, qf_c_1, hc2]
    rfl
  have q := qf_ra29 (a2 := a2) hB hW hV hL hc1 hc2 (post := post) (fun a7' w q1 q2 => ?_) (n + 1) (c + 1) a7 (fun _ => 0) (by omega) (by omega) (by omega) (Or.inl (by rw [Nat.add_sub_cancel]; exact hc2)) (fun i hi => absurd hi (by omega)) (fun p => ?_)
  · rw [e0] at q
    exact q
  · rw [hc] at q1 q2 ⊢
    exact H a7' w q1 (fun p => by rw [q2, hM])
  · rw [e0, show c + 1 - c = 1 by omega, qf_c_1, hc2]
    rfl
end
end
section
/-! ===== 10: both filters at once; emptying, resizing ===== -/
theorem qf_R_fr {f f' b h : Nat} {M : Nat → Nat} {a1 a2 a3 a4 a5 a6 b1 b2 b3 b4 b5 b6 : Nat → Int32} (hR : qf_R f' b h M a1 a2 a3 a4 a5 a6) (h1 : b1 f' = a1 f') (h2 : b2 f' = a2 f') (hf : f' ≠ f) (f3 : qf_fr f a3 b3) (f4 : qf_fr f a4 b4) (f5 : qf_fr f a5 b5) (f6 : qf_fr f a6 b6) : qf_R f' b h M b1 b2 b3 b4 b5 b6 := by
  obtain ⟨hh2, n, o, d, v, hB, hhn, hW, hV, hc, hM, hL⟩ := hR
  have hn := qf_B_n hB
  have ix : ∀ i, i < n → (64 * f' + i < 64 * f ∨ 64 * f + 64 ≤ 64 * f' + i) := fun i hi => by omega
  have im : ∀ t, (64 * f' + t % n < 64 * f ∨ 64 * f + 64 ≤ 64 * f' + t % n) := fun t => ix _ (Nat.mod_lt _ hn.2.2.1)
  refine ⟨by rw [h2]; exact hh2, n, o, d, v, ⟨hB.1, hB.2.1, hB.2.2.1, hB.2.2.2.1, by rw [h1]; exact hB.2.2.2.2⟩, hhn, hW, hV, hc, hM, ?_, ?_, ?_, ?_, ?_⟩
  · intro t ho
    rw [f3 _ (im t)]
    exact hL.1 t ho
  · intro t
    rw [f4 _ (im t)]
    exact hL.2.1 t
  · intro i hi
    rw [f5 _ (ix i hi)]
    exact hL.2.2.1 i hi
  · intro t
    rw [f5 _ (im (t + 1))]
    exact hL.2.2.2.1 t
  · intro t
    rw [f6 _ (im t)]
    exact hL.2.2.2.2 t
theorem qf_R_M {f b h : Nat} {M M' : Nat → Nat} {a1 a2 a3 a4 a5 a6 : Nat → Int32} (hR : qf_R f b h M a1 a2 a3 a4 a5 a6) (e : ∀ p, M p = M' p) : qf_R f b h M' a1 a2 a3 a4 a5 a6 := by
  obtain ⟨hh2, n, o, d, v, hB, hhn, hW, hV, hc, hM, hL⟩ := hR
  exact ⟨hh2, n, o, d, v, hB, hhn, hW, hV, hc, fun p => by rw [hM, e], hL⟩
/-- filter f and the other one -/
def qf_Q (f b h : Nat) (M : Nat → Nat) (b' h' : Nat) (M' : Nat → Nat) (a1 a2 a3 a4 a5 a6 : Nat → Int32) : Prop := qf_R f b h M a1 a2 a3 a4 a5 a6 ∧ qf_R (1 - f) b' h' M' a1 a2 a3 a4 a5 a6
theorem qf_R_f {f b h : Nat} {M : Nat → Nat} {a1 a2 a3 a4 a5 a6 : Nat → Int32} (hR : qf_R f b h M a1 a2 a3 a4 a5 a6) : f < 2 ∧ 3 ≤ b ∧ b ≤ 6 ∧ h < 2 ^ b ∧ a1 f = nI b ∧ a2 f = nI h ∧ 2 ^ b ≤ 64 ∧ 8 ≤ 2 ^ b := by
  obtain ⟨hh2, n, o, d, v, hB, hhn, hW, hV, hc, hM, hL⟩ := hR
  have hn := qf_B_n hB
  rw [hB.2.2.2.1] at hhn hn
  exact ⟨hB.1, hB.2.1, hB.2.2.1, hhn, hB.2.2.2.2, hh2, hn.2.1, hn.1⟩
theorem qf_R_B {f b h : Nat} {M : Nat → Nat} {a1 a2 a3 a4 a5 a6 : Nat → Int32} (hR : qf_R f b h M a1 a2 a3 a4 a5 a6) : qf_B f b (2 ^ b) a1 := by
  have g := qf_R_f hR
  exact ⟨g.1, g.2.1, g.2.2.1, rfl, g.2.2.2.2.1⟩
section
variable {rc : Int32} {a1 a2 a3 a4 a5 a6 a7 : Nat → Int32} {f b h b' h' : Nat} {M M' : Nat → Nat} {post : St1 → Prop}
theorem qf_Q_sw (hQ : qf_Q f b h M b' h' M' a1 a2 a3 a4 a5 a6) : qf_Q (1 - f) b' h' M' b h M a1 a2 a3 a4 a5 a6 := by
  have := (qf_R_f hQ.1).1
  refine ⟨hQ.2, ?_⟩
  rw [show 1 - (1 - f) = f by omega]
  exact hQ.1
theorem qf_Q_M {M2 : Nat → Nat} (hQ : qf_Q f b h M b' h' M' a1 a2 a3 a4 a5 a6) (e : ∀ p, M p = M2 p) : qf_Q f b h M2 b' h' M' a1 a2 a3 a4 a5 a6 := ⟨qf_R_M hQ.1 e, hQ.2⟩
theorem qf_insQ {p : Nat} (hQ : qf_Q f b h M b' h' M' a1 a2 a3 a4 a5 a6) (hh : h + 1 < 2 ^ b) (hp : p < 256)
    (H : ∀ c2 c3 c4 c5 c6, qf_Q f b (h + 1) (qf_ad M p) b' h' M' a1 c2 c3 c4 c5 c6 → post (rc, a1, c2, c3, c4, c5, c6, a7)) : wpX_insert post (rc, a1, a2, a3, a4, a5, a6, a7) (nI f) (nI p) := by
  have hf := (qf_R_f hQ.1).1
  exact qf_insert hQ.1 hh hp (fun c3 c4 c5 c6 hR f3 f4 f5 f6 => H _ c3 c4 c5 c6 ⟨hR, qf_R_fr hQ.2 rfl (pk_un (by omega)) (by omega) f3 f4 f5 f6⟩)
theorem qf_freeW {i : Nat} (hf : f < 2) (hi : i < 64) (H : post (rc, a1, a2, a3, upd a4 (64 * f + i) 0, upd a5 (64 * f + i) 0, upd a6 (64 * f + i) 0, a7)) : wpX_free post (rc, a1, a2, a3, a4, a5, a6, a7) (nI f) (nI i) := by
  unfold wpX_free
  dsimp only
  refine qf_base_w (nm_r (nI_add _ _) ?_)
  have hv : vp_in (nI (64 * f + i)) 128 := vp_in_nI (by omega) (by decide)
  rw [nI_clamp (by omega)]
  exact ⟨hv, nm_e ⟨hv, nm_e ⟨hv, nm_e H⟩⟩⟩
end
/-- what is told by P was set to 0, nothing else -/
def qf_z (P : Nat → Prop) (a a' : Nat → Int32) : Prop := (∀ j, P j → a' j = 0) ∧ ∀ j, ¬ P j → a' j = a j
theorem qf_z_s {P P' : Nat → Prop} {a a' : Nat → Int32} {k : Nat} (h : qf_z P a a') (e : ∀ j, P' j ↔ (P j ∨ j = k)) : qf_z P' a (upd a' k 0) := by
  refine ⟨fun j hj => ?_, fun j hj => ?_⟩
  · by_cases z : j = k
    · rw [z, pk_us]
    · rw [pk_un z]
      rcases (e j).mp hj with w | w
      · exact h.1 j w
      · exact absurd w z
  · have : ¬ (P j ∨ j = k) := fun w => hj ((e j).mpr w)
    rw [pk_un (fun w => this (Or.inr w))]
    exact h.2 j (fun w => this (Or.inl w))
section
variable {rc : Int32} {a1 a2 a3 a4 a5 a6 a7 : Nat → Int32} {f b h b' h' : Nat} {M M' : Nat → Nat} {post : St1 → Prop}
theorem qf_em9 (hf : f < 2) (H : ∀ c4 c5 c6, qf_z (fun j => 64 * f ≤ j ∧ j < 64 * f + 64) a4 c4 → qf_z (fun j => 64 * f ≤ j ∧ j < 64 * f + 64) a5 c5 → qf_z (fun j => 64 * f ≤ j ∧ j < 64 * f + 64) a6 c6 → post (rc, a1, a2, a3, c4, c5, c6, a7)) :
    ∀ fu i c4 c5 c6, 64 - i < fu → i ≤ 64 → qf_z (fun j => 64 * f ≤ j ∧ j < 64 * f + i) a4 c4 → qf_z (fun j => 64 * f ≤ j ∧ j < 64 * f + i) a5 c5 → qf_z (fun j => 64 * f ≤ j ∧ j < 64 * f + i) a6 c6 → wX_empty_9 post (nI f) fu (nI i) rc a1 a2 a3 c4 c5 c6 a7 := by
  intro fu
  induction fu with
  | zero => intro i c4 c5 c6 h; exact absurd h (Nat.not_lt_zero _)
  | succ fu ih =>
    intro i c4 c5 c6 h hi z4 z5 z6
    unfold wX_empty_9
    refine pk_le 64 i (fun z => ?_) (fun z => qf_freeW hf (by omega) ?_)
    · have : i = 64 := by omega
      subst this
      exact H c4 c5 c6 z4 z5 z6
    · have e : ∀ j, (64 * f ≤ j ∧ j < 64 * f + (i + 1)) ↔ ((64 * f ≤ j ∧ j < 64 * f + i) ∨ j = 64 * f + i) := fun j => by omega
      exact nm_r (nI_1 i) (ih (i + 1) _ _ _ (by omega) (by omega) (qf_z_s z4 e) (qf_z_s z5 e) (qf_z_s z6 e))
theorem qf_R_0 {n : Nat} (hB : qf_B f b n a1) (h2 : a2 f = 0) (h4 : ∀ i, i < 64 → a4 (64 * f + i) = 0) (h5 : ∀ i, i < 64 → a5 (64 * f + i) = 0) (h6 : ∀ i, i < 64 → a6 (64 * f + i) = 0) : qf_R f b 0 (fun _ => 0) a1 a2 a3 a4 a5 a6 := by
  have hn := qf_B_n hB
  have hm : ∀ t, t % n < 64 := fun t => by have := Nat.mod_lt t hn.2.2.1; omega
  refine ⟨h2, n, fun _ => false, fun _ => 0, fun _ => 0, hB, hn.2.2.1, ⟨fun _ => rfl, fun _ => rfl, ⟨0, rfl⟩, fun t w => absurd w Bool.false_ne_true⟩, ⟨fun _ => rfl, fun t w => absurd w Bool.false_ne_true⟩, qf_c_zero (fun _ _ => rfl), fun p => qf_c_zero (fun _ _ => rfl), fun t w => absurd w Bool.false_ne_true, fun t => ?_, fun i hi => Or.inl (h5 i (by omega)), fun t => ?_, fun t => ?_⟩
  · constructor
    · intro w
      exact absurd (h4 _ (hm t)) w
    · rintro ⟨k, w, _⟩
      exact absurd w Bool.false_ne_true
  · constructor
    · intro w
      exact absurd (h5 _ (hm _)) w
    · rintro ⟨w, _⟩
      exact absurd w Bool.false_ne_true
  · constructor
    · intro w
      exact absurd (h6 _ (hm _)) w
    · rintro ⟨w, _⟩
      exact absurd w Bool.false_ne_true
theorem qf_z_fr {c a : Nat → Int32} (z : qf_z (fun j => 64 * f ≤ j ∧ j < 64 * f + 64) a c) : qf_fr f a c := fun j hj => z.2 j (fun w => by omega)
/-- emptied: whatever the slot bits are set to behind it -/
theorem qf_empty (hf : f < 2)
    (H : ∀ c4 c5 c6, qf_fr f a4 c4 → qf_fr f a5 c5 → qf_fr f a6 c6 → (∀ b2 n2 c1, qf_B f b2 n2 c1 → qf_R f b2 0 (fun _ => 0) c1 (upd a2 f 0) a3 c4 c5 c6) → post (rc, a1, upd a2 f 0, a3, c4, c5, c6, a7)) : wpX_empty post (rc, a1, a2, a3, a4, a5, a6, a7) (nI f) := by
  unfold wpX_empty
  dsimp only
  rw [nI_clamp (show f < 2 ^ 31 by omega)]
  refine ⟨vp_in_nI hf (by decide), nm_e ⟨65, qf_em9 hf (fun c4 c5 c6 z4 z5 z6 => H c4 c5 c6 (qf_z_fr z4) (qf_z_fr z5) (qf_z_fr z6) (fun b2 n2 c1 hB => qf_R_0 hB pk_us (fun i hi => z4.1 _ (by omega)) (fun i hi => z5.1 _ (by omega)) (fun i hi => z6.1 _ (by omega)))) 65 0 a4 a5 a6 (by omega) (by omega) ⟨fun j hj => by omega, fun _ _ => rfl⟩ ⟨fun j hj => by omega, fun _ _ => rfl⟩ ⟨fun j hj => by omega, fun _ _ => rfl⟩⟩⟩
theorem qf_cnt_ad (w : Nat → Nat) (i p : Nat) : qf_ad (fun q => qf_c (fun j => w j == q) 0 i) (w i) p = qf_c (fun j => w j == p) 0 (i + 1) := by
  unfold qf_ad
  rw [qf_c_s, Nat.zero_add]
theorem qf_rz20 {w : Nat → Nat} {k : Nat} (hk : k < 2 ^ b) (hk2 : k < 64) (hw : ∀ i, i < k → a7 i = nI (w i) ∧ w i < 256)
    (H : ∀ c2 c3 c4 c5 c6, qf_Q f b k (fun p => qf_c (fun j => w j == p) 0 k) b' h' M' a1 c2 c3 c4 c5 c6 → post (nI k, a1, c2, c3, c4, c5, c6, a7)) :
    ∀ fu i c2 c3 c4 c5 c6, k - i < fu → i ≤ k → qf_Q f b i (fun p => qf_c (fun j => w j == p) 0 i) b' h' M' a1 c2 c3 c4 c5 c6 → wX_resize_20 post (nI f) fu (nI i) (nI k) a1 c2 c3 c4 c5 c6 a7 := by
  intro fu
  induction fu with
  | zero => intro i c2 c3 c4 c5 c6 h; exact absurd h (Nat.not_lt_zero _)
  | succ fu ih =>
    intro i c2 c3 c4 c5 c6 h hi hQ
    unfold wX_resize_20
    refine pk_le k i (fun z => ?_) (fun z => ⟨vp_in_nI (by omega) (by decide), ?_⟩)
    · have : i = k := by omega
      subst this
      exact H c2 c3 c4 c5 c6 hQ
    · rw [nI_clamp (show i < 2 ^ 31 by omega), (hw i z).1]
      refine qf_insQ hQ (by omega) (hw i z).2 (fun e2 e3 e4 e5 e6 hQ' => nm_r (nI_1 i) (ih (i + 1) e2 e3 e4 e5 e6 (by omega) (by omega) (qf_Q_M hQ' (qf_cnt_ad w i))))
theorem qf_resize {b2 : Nat} (hQ : qf_Q f b h M b' h' M' a1 a2 a3 a4 a5 a6) (hb1 : 3 ≤ b2) (hb2 : b2 ≤ 6) (hh : h < 2 ^ b2)
    (H : ∀ c1 c2 c3 c4 c5 c6 c7, qf_Q f b2 h M b' h' M' c1 c2 c3 c4 c5 c6 → post (nI h, c1, c2, c3, c4, c5, c6, c7)) : wpX_resize post (rc, a1, a2, a3, a4, a5, a6, a7) (nI f) (nI b2) := by
  have hf := (qf_R_f hQ.1).1
  have hp := qf_pw b2 hb2 hb1
  unfold wpX_resize
  dsimp only
  refine qf_readAll hQ.1 (fun c7 w w1 w2 => qf_empty hf (fun c4 c5 c6 f4 f5 f6 hE => ⟨vp_in_nI hf (by decide), ?_⟩))
  rw [nI_clamp (show f < 2 ^ 31 by omega), qf_w_by b2 (by omega)]
  refine nm_e ⟨h + 1, qf_rz20 (b := b2) (b' := b') (h' := h') (M' := M') hh (by omega) w1 (fun d2 d3 d4 d5 d6 hQ' => H _ _ _ _ _ _ _ (qf_Q_M hQ' w2)) (h + 1) 0 _ _ _ _ _ (by omega) (by omega) ⟨?_, ?_⟩⟩
  · exact qf_R_M (hE b2 (2 ^ b2) _ ⟨hf, hb1, hb2, rfl, pk_us⟩) (fun p => rfl)
  · exact qf_R_fr hQ.2 (pk_un (by omega)) (pk_un (by omega)) (by omega) (fun _ _ => rfl) f4 f5 f6
end
end
section
/-! ===== 11: taking out ===== -/
/-- the stretch [s, e) is left out -/
def qf_fo (n s e : Nat) (o : Nat → Bool) (t : Nat) : Bool := if qf_x s n t < e then false else o t
section
variable {n s e : Nat} {o : Nat → Bool} {d v : Nat → Nat}
theorem qf_fo_a {t : Nat} (h : qf_x s n t < e) : qf_fo n s e o t = false := if_pos h
theorem qf_fo_b {t : Nat} (h : ¬ qf_x s n t < e) : qf_fo n s e o t = o t := if_neg h
theorem qf_fo_t {t : Nat} (h : qf_fo n s e o t = true) : ¬ qf_x s n t < e ∧ o t = true := by
  by_cases z : qf_x s n t < e
  · rw [qf_fo_a z] at h
    exact absurd h Bool.false_ne_true
  · rw [qf_fo_b z] at h
    exact ⟨z, h⟩
/-- neighbours that are held are both in the stretch or both out of it -/
theorem qf_st1 (hn : 0 < n) (hW : qf_W n o d) (hs : 1 ≤ s) (h0 : o (s - 1) = false) (hse : s ≤ e) (he : e < s + n) (hoe : o e = false) {t : Nat} (h1 : o t = true) (h2 : o (t + 1) = true) : qf_x s n t < e ↔ qf_x s n (t + 1) < e := by
  rcases qf_x_nb (s := s) hn t with ⟨q1, q2⟩ | ⟨q1, q2⟩
  · have l := qf_last hW (s := s) (by omega) q2
    have xm := qf_x_mod (a := s) (t := t) hn
    rw [qf_pe hW.1 xm, h0] at l
    rw [h1] at l
    exact absurd l.1 (by decide)
  · rw [q1]
    constructor
    · intro w
      refine Classical.byContradiction (fun g => ?_)
      have eq : qf_x s n (t + 1) = e := by omega
      have xm := qf_x_mod (a := s) (t := t + 1) hn
      rw [eq] at xm
      rw [← qf_pe hW.1 xm, hoe] at h2
      exact absurd h2 Bool.false_ne_true
    · intro w
      omega
theorem qf_stk (hn : 0 < n) (hW : qf_W n o d) (hs : 1 ≤ s) (h0 : o (s - 1) = false) (hse : s ≤ e) (he : e < s + n) (hoe : o e = false) {t : Nat} : ∀ {k : Nat}, (∀ j, j ≤ k → o (t + j) = true) → (qf_x s n t < e ↔ qf_x s n (t + k) < e)
  | 0, _ => Iff.rfl
  | k + 1, h => by
    rw [qf_stk hn hW hs h0 hse he hoe (t := t) (k := k) (fun j hj => h j (by omega))]
    exact qf_st1 hn hW hs h0 hse he hoe (h k (by omega)) (h (k + 1) (Nat.le_refl _))
theorem qf_fo_run (hn : 0 < n) (hW : qf_W n o d) (hs : 1 ≤ s) (h0 : o (s - 1) = false) (hse : s ≤ e) (he : e < s + n) (hoe : o e = false) (t : Nat) : qf_run (qf_fo n s e o) d t ↔ (qf_run o d t ∧ ¬ qf_x s n t < e) := by
  have occ : ∀ k, o (t + k) = true → d (t + k) = k → ∀ j, j ≤ k → o (t + j) = true := by
    intro k h1 h2 j hj
    exact (qf_dn hW (t := t + j) (t' := t + k) (by omega) h1 (by omega)).1
  constructor
  · rintro ⟨k, h1, h2⟩
    have h3 := qf_fo_t h1
    refine ⟨⟨k, h3.2, h2⟩, fun w => h3.1 ((qf_stk hn hW hs h0 hse he hoe (occ k h3.2 h2)).mp w)⟩
  · rintro ⟨⟨k, h1, h2⟩, h3⟩
    refine ⟨k, ?_, h2⟩
    rw [qf_fo_b (fun w => h3 ((qf_stk hn hW hs h0 hse he hoe (occ k h1 h2)).mpr w))]
    exact h1
theorem qf_fo_W (hn : 0 < n) (hW : qf_W n o d) (hs : 1 ≤ s) (h0 : o (s - 1) = false) (hse : s ≤ e) (he : e < s + n) (hoe : o e = false) : qf_W n (qf_fo n s e o) d := by
  refine ⟨fun t => ?_, hW.2.1, ⟨e, ?_⟩, fun t h1 h2 => ?_⟩
  · unfold qf_fo
    rw [qf_x_per hn, hW.1]
  · unfold qf_fo
    rw [hoe]
    exact ite_self _
  · have h3 := qf_fo_t h1
    have h4 := hW.2.2.2 t h3.2 h2
    refine ⟨?_, h4.2⟩
    rw [qf_fo_b (fun w => h3.1 ((qf_st1 hn hW hs h0 hse he hoe h4.1 h3.2).mp w))]
    exact h4.1
theorem qf_fo_c (hn : 0 < n) (hW : qf_W n o d) (hv : ∀ t, v (t + n) = v t) (hse : s ≤ e) (he : e < s + n) (hA : ∀ t, s ≤ t → t < e → o t = true) (φ : Nat → Bool) : qf_c (fun t => qf_fo n s e o t && φ (v t)) 0 n + qf_c (fun t => φ (v t)) s (e - s) = qf_c (fun t => o t && φ (v t)) 0 n := by
  rw [← qf_c_per (g := fun t => qf_fo n s e o t && φ (v t)) (fun t => by show (_ && _) = (_ && _); unfold qf_fo; rw [qf_x_per hn, hW.1, hv]) s]
  rw [← qf_c_per (g := fun t => o t && φ (v t)) (fun t => by show (_ && _) = (_ && _); rw [hW.1, hv]) s]
  have a1 := qf_c_add (fun t => qf_fo n s e o t && φ (v t)) s (e - s) (s + n - e)
  have a2 := qf_c_add (fun t => o t && φ (v t)) s (e - s) (s + n - e)
  rw [show e - s + (s + n - e) = n by omega] at a1 a2
  rw [a1, a2]
  have z1 : qf_c (fun t => qf_fo n s e o t && φ (v t)) s (e - s) = 0 := qf_c_zero (fun i hi => by
    show (_ && _) = false
    rw [qf_fo_a (by rw [qf_x_id (by omega) (by omega)]; omega), Bool.false_and])
  have z2 : qf_c (fun t => qf_fo n s e o t && φ (v t)) (s + (e - s)) (s + n - e) = qf_c (fun t => o t && φ (v t)) (s + (e - s)) (s + n - e) := qf_c_congr (fun i hi => by
    show (_ && _) = (_ && _)
    rw [qf_fo_b (by rw [qf_x_id (by omega) (by omega)]; omega)])
  have z3 : qf_c (fun t => o t && φ (v t)) s (e - s) = qf_c (fun t => φ (v t)) s (e - s) := qf_c_congr (fun i hi => by
    show (_ && _) = _
    rw [hA (s + i) (by omega) (by omega), Bool.true_and])
  rw [z1, z2, z3]
  omega
end
/-- a print that is there stands in the stretch around its slot -/
theorem qf_there {n R s e u p : Nat} {o : Nat → Bool} {d v : Nat → Nat} (hW : qf_W n o d) (hV : qf_V n R o d v) (hs : 1 ≤ s) (h0 : o (s - 1) = false) (hsu : s ≤ u) (hue : u < e) (he : e < s + n) (hoe : o e = false) (hA : ∀ t, s ≤ t → t < e → o t = true) (hu : p / R = u % n) (hp : 0 < qf_c (fun t => o t && v t == p) 0 n) : 0 < qf_c (fun t => v t == p) s (e - s) := by
  rw [← qf_c_per (g := fun t => o t && v t == p) (fun t => by show (_ && _) = (_ && _); rw [hW.1, hV.1]) s] at hp
  obtain ⟨i, hi, hg⟩ := qf_c_pos hp
  have hg' : (o (s + i) && v (s + i) == p) = true := hg
  rw [Bool.and_eq_true] at hg'
  have ev : v (s + i) = p := by simpa using hg'.2
  have ds : d s = 0 := by
    refine Classical.byContradiction (fun w => ?_)
    obtain ⟨t, et⟩ : ∃ t, s = t + 1 := ⟨s - 1, by omega⟩
    have h1 := hA s (Nat.le_refl _) (by omega)
    rw [et] at h1 w
    have := hW.2.2.2 t h1 (by omega)
    rw [show s - 1 = t by omega] at h0
    exact qf_no h0 this.1
  have hv := (hV.2 (s + i) hg'.1).2
  rw [ev] at hv
  have ht := qf_home hW ds hsu (by omega) (show s ≤ s + i by omega) (by omega) hg'.1 hv (by rw [hu, Nat.mod_mod])
  have hlt : s + i < e := by
    refine Classical.byContradiction (fun w => ?_)
    have := qf_dn hW (t := e) (t' := s + i) (by omega) hg'.1 (by omega)
    exact qf_no hoe this.1
  refine qf_c_one (i := i) (by omega) ?_
  show (v (s + i) == p) = true
  rw [ev]
  exact beq_self_eq_true p
section
variable {rc : Int32} {a1 a2 a3 a4 a5 a6 a7 : Nat → Int32} {f b n b' h' : Nat} {o : Nat → Bool} {d v M' : Nat → Nat} {post : St1 → Prop}
/-- the places of the stretch, up to c -/
def qf_P (f n s c : Nat) (j : Nat) : Prop := ∃ t, s ≤ t ∧ t < c ∧ j = 64 * f + t % n
theorem qf_P_s {s c : Nat} (hc : s ≤ c) (j : Nat) : qf_P f n s (c + 1) j ↔ (qf_P f n s c j ∨ j = 64 * f + c % n) := by
  constructor
  · rintro ⟨t, t1, t2, t3⟩
    by_cases w : t = c
    · exact Or.inr (by rw [t3, w])
    · exact Or.inl ⟨t, t1, by omega, t3⟩
  · rintro (⟨t, t1, t2, t3⟩ | w)
    · exact ⟨t, t1, by omega, t3⟩
    · exact ⟨c, hc, by omega, w⟩
theorem qf_P_x {s e : Nat} (hn : 0 < n) (he : e < s + n) (t : Nat) : qf_P f n s e (64 * f + t % n) ↔ qf_x s n t < e := by
  constructor
  · rintro ⟨t', t1, t2, t3⟩
    rw [qf_x_eq (y := t') (by omega) t1 (by omega)]
    exact t2
  · intro w
    exact ⟨qf_x s n t, qf_x_ge, w, by rw [qf_x_mod hn]⟩
theorem qf_fo_L {s e : Nat} {c4 c5 c6 : Nat → Int32} {R : Nat} (hn : 0 < n) (hW : qf_W n o d) (hL : qf_L f n R o d v a3 a4 a5 a6) (hs : 1 ≤ s) (h0 : o (s - 1) = false) (hse : s ≤ e) (he : e < s + n) (hoe : o e = false) (z4 : qf_z (qf_P f n s e) a4 c4) (z5 : qf_z (qf_P f n s e) a5 c5) (z6 : qf_z (qf_P f n s e) a6 c6) : qf_L f n R (qf_fo n s e o) d v a3 c4 c5 c6 := by
  refine ⟨fun t ho => hL.1 t (qf_fo_t ho).2, fun t => ?_, fun i hi => ?_, fun t => ?_, fun t => ?_⟩
  · rw [qf_fo_run hn hW hs h0 hse he hoe, ← hL.2.1 t]
    by_cases w : qf_x s n t < e
    · rw [z4.1 _ ((qf_P_x hn he t).mpr w)]
      exact ⟨fun g => absurd rfl g, fun g => absurd w g.2⟩
    · rw [z4.2 _ (fun g => w ((qf_P_x hn he t).mp g))]
      exact ⟨fun g => ⟨g, w⟩, fun g => g.1⟩
  · by_cases w : qf_P f n s e (64 * f + i)
    · exact Or.inl (z5.1 _ w)
    · rw [z5.2 _ w]
      exact hL.2.2.1 i hi
  · by_cases w : qf_x s n (t + 1) < e
    · rw [z5.1 _ ((qf_P_x hn he _).mpr w), qf_fo_a w]
      exact ⟨fun g => absurd rfl g, fun g => absurd g.1 Bool.false_ne_true⟩
    · rw [z5.2 _ (fun g => w ((qf_P_x hn he _).mp g)), qf_fo_b w]
      exact hL.2.2.2.1 t
  · by_cases w : qf_x s n t < e
    · rw [z6.1 _ ((qf_P_x hn he t).mpr w), qf_fo_a w]
      exact ⟨fun g => absurd rfl g, fun g => absurd g.1 Bool.false_ne_true⟩
    · rw [z6.2 _ (fun g => w ((qf_P_x hn he t).mp g)), qf_fo_b w]
      exact hL.2.2.2.2 t
theorem qf_P_fr {s e : Nat} {a c : Nat → Int32} (hn : 0 < n) (hn2 : n ≤ 64) (z : qf_z (qf_P f n s e) a c) : qf_fr f a c := by
  intro j hj
  refine z.2 j ?_
  rintro ⟨t, _, _, t3⟩
  have := Nat.mod_lt t hn
  omega
/-- putting in again all that was read but one p -/
theorem qf_to132 {M : Nat → Nat} {h i : Nat} {x6 : Int32} {J : Int32 → Int32 → Int32 → (Nat → Int32) → (Nat → Int32) → (Nat → Int32) → (Nat → Int32) → (Nat → Int32) → (Nat → Int32) → (Nat → Int32) → Prop} {x2 : Int32} {q : Nat} (hQ : qf_Q f b h M b' h' M' a1 a2 a3 a4 a5 a6) (hh : h + 1 < 2 ^ b) (hi : i < 64) (ha : a7 i = nI q) (hq : q < 256)
    (H : ∀ c2 c3 c4 c5 c6, qf_Q f b (h + 1) (qf_ad M q) b' h' M' a1 c2 c3 c4 c5 c6 → J x6 (nI (i + 1)) rc a1 c2 c3 c4 c5 c6 a7) : wX_takeOut_132 post J (nI f) x2 x6 (nI i) rc a1 a2 a3 a4 a5 a6 a7 := by
  unfold wX_takeOut_132
  rw [nI_clamp (by omega), ha]
  exact ⟨vp_in_nI hi (by decide), qf_insQ hQ hh hq (fun c2 c3 c4 c5 c6 hQ' => nm_r (nI_1 i) (H c2 c3 c4 c5 c6 hQ'))⟩
def qf_sb (M : Nat → Nat) (p q : Nat) : Nat := M q - (if (p == q) = true then 1 else 0)
theorem qf_to101 {M M0 : Nat → Nat} {m p h0 : Nat} {w : Nat → Nat} (hp : p < 256) (hm : m < 64) (hh : h0 + m < 2 ^ b) (hw : ∀ i, i < m → a7 i = nI (w i) ∧ w i < 256) (hM : ∀ q, M0 q + qf_c (fun j => w j == q) 0 m = M q) (hin : 0 < qf_c (fun j => w j == p) 0 m)
    (H : ∀ c2 c3 c4 c5 c6, qf_Q f b (h0 + m - 1) (qf_sb M p) b' h' M' a1 c2 c3 c4 c5 c6 → post (nI m, a1, c2, c3, c4, c5, c6, a7)) :
    ∀ fu i x6 h1 M1 c2 c3 c4 c5 c6, m - i < fu → i ≤ m → qf_Q f b h1 M1 b' h' M' a1 c2 c3 c4 c5 c6 →
      ((x6 = 0 ∧ h1 = h0 + i ∧ qf_c (fun j => w j == p) 0 i = 0 ∧ ∀ q, M1 q = M0 q + qf_c (fun j => w j == q) 0 i) ∨ (¬ x6 = 0 ∧ h1 + 1 = h0 + i ∧ ∀ q, M1 q + (if (p == q) = true then 1 else 0) = M0 q + qf_c (fun j => w j == q) 0 i)) →
      wX_takeOut_101 post (nI f) (nI p) fu x6 (nI i) (nI m) a1 c2 c3 c4 c5 c6 a7 := by
  intro fu
  induction fu with
  | zero => intro i x6 h1 M1 c2 c3 c4 c5 c6 h; exact absurd h (Nat.not_lt_zero _)
  | succ fu ih =>
    intro i x6 h1 M1 c2 c3 c4 c5 c6 h hi hQ hx
    unfold wX_takeOut_101
    have cs : ∀ q, qf_c (fun j => w j == q) 0 (i + 1) = qf_c (fun j => w j == q) 0 i + (if (w i == q) = true then 1 else 0) := fun q => by rw [qf_c_s, Nat.zero_add]
    refine pk_le m i (fun z => ?_) (fun z => ?_)
    · have : i = m := by omega
      subst this
      rcases hx with ⟨_, _, g, _⟩ | ⟨_, g1, g2⟩
      · omega
      · refine H c2 c3 c4 c5 c6 ?_
        rw [show h0 + i - 1 = h1 by omega]
        refine qf_Q_M hQ (fun q => ?_)
        have e1 := g2 q
        have e2 := hM q
        unfold qf_sb
        omega
    · obtain ⟨w1, w2⟩ := hw i z
      rcases hx with ⟨x0, g1, g2, g3⟩ | ⟨x0, g1, g2⟩
      · refine br_t x0 ⟨vp_in_nI (by omega) (by decide), ?_⟩
        rw [nI_clamp (by omega), w1]
        refine pk_eq (w i) p (fun e => nm_r (nI_1 i) ?_) (fun e => ?_)
        · refine ih (i + 1) 1 h1 M1 c2 c3 c4 c5 c6 (by omega) (by omega) hQ (Or.inr ⟨by decide, by omega, fun q => ?_⟩)
          rw [cs, g3, e]
          omega
        · refine qf_to132 hQ (by omega) (by omega) w1 w2 (fun e2 e3 e4 e5 e6 hQ' => ih (i + 1) x6 (h1 + 1) _ e2 e3 e4 e5 e6 (by omega) (by omega) hQ' (Or.inl ⟨x0, by omega, ?_, fun q => ?_⟩))
          · rw [cs, g2, beq_false_of_ne e]
            rfl
          · unfold qf_ad
            rw [cs, g3]
            omega
      · refine br_f x0 (qf_to132 hQ (by omega) (by omega) w1 w2 (fun e2 e3 e4 e5 e6 hQ' => ih (i + 1) x6 (h1 + 1) _ e2 e3 e4 e5 e6 (by omega) (by omega) hQ' (Or.inr ⟨x0, by omega, fun q => ?_⟩)))
        unfold qf_ad
        rw [cs]
        have := g2 q
        omega
theorem qf_to55 {x2 : Int32} {s e m h : Nat} (hB : qf_B f b n a1) (hse : s ≤ e) (he : e < s + n) (ha : a2 f = nI h) (hm : m ≤ h) (hh : h < 128)
    (H : ∀ c4 c5 c6, qf_z (qf_P f n s e) a4 c4 → qf_z (qf_P f n s e) a5 c5 → qf_z (qf_P f n s e) a6 c6 → ∃ fu, wX_takeOut_101 post (nI f) x2 fu 0 0 (nI m) a1 (upd a2 f (nI (h - m))) a3 c4 c5 c6 a7) :
    ∀ fu c c4 c5 c6, e - c < fu → s ≤ c → c ≤ e → qf_z (qf_P f n s c) a4 c4 → qf_z (qf_P f n s c) a5 c5 → qf_z (qf_P f n s c) a6 c6 → wX_takeOut_55 post (nI f) x2 (nI (e % n)) fu (nI (c % n)) (nI m) a1 a2 a3 c4 c5 c6 a7 := by
  have hn := qf_B_n hB
  have hn0 := hn.2.2.1
  have hf := hB.1
  intro fu
  induction fu with
  | zero => intro c c4 c5 c6 h; exact absurd h (Nat.not_lt_zero _)
  | succ fu ih =>
    intro c c4 c5 c6 hfu h1 h2 z4 z5 z6
    have hmc := Nat.mod_lt c hn0
    have hme := Nat.mod_lt e hn0
    unfold wX_takeOut_55
    refine pk_eq (c % n) (e % n) (fun z => ⟨vp_in_nI hf (by decide), vp_in_nI hf (by decide), ?_⟩) (fun z => ?_)
    · have ec : c = e := qf_uniq (a := s) z h1 (by omega) hse he
      subst ec
      rw [nI_clamp (show f < 2 ^ 31 by omega), ha, pk_sub hm, qf_w_by (h - m) (by omega)]
      exact nm_e (H c4 c5 c6 z4 z5 z6)
    · have ne : c ≠ e := fun g => z (by rw [g])
      exact qf_freeW hf (by omega) (qf_after hB c (ih (c + 1) _ _ _ (by omega) (by omega) (by omega) (qf_z_s z4 (qf_P_s h1)) (qf_z_s z5 (qf_P_s h1)) (qf_z_s z6 (qf_P_s h1))))
theorem qf_to10 {x2 : Int32} {u R : Nat} (hB : qf_B f b n a1) (hW : qf_W n o d) (hL : qf_L f n R o d v a3 a4 a5 a6) (hu : n ≤ u)
    (H : ∀ c, c ≤ u → o c = false → (∀ t, c < t → t ≤ u → o t = true) → wpX_readStretch (fun r_5 u => match u with | (f0_readCount_6, am461_9, am462_12, am463_15, am464_18, am465_21, am466_24, am467_27) => (∃ fu55 : Nat, wX_takeOut_55 post (nI f) x2 r_5 fu55 (nI ((c + 1) % n)) f0_readCount_6 am461_9 am462_12 am463_15 am464_18 am465_21 am466_24 am467_27)) (rc, a1, a2, a3, a4, a5, a6, a7) (nI f) (nI ((c + 1) % n)) 0) :
    ∀ fu c, c < fu → c ≤ u → (∀ t, c < t → t ≤ u → o t = true) → wX_takeOut_10 post (nI f) x2 rc a1 a2 a3 a4 a5 a6 a7 fu (nI (c % n)) := by
  have hn := qf_B_n hB
  have hn0 := hn.2.2.1
  have hf := hB.1
  intro fu
  induction fu with
  | zero => intro c h; exact absurd h (Nat.not_lt_zero _)
  | succ fu ih =>
    intro c h h1 h2
    have hmc := Nat.mod_lt c hn0
    unfold wX_takeOut_10
    refine qf_isFree hf (by omega) (fun z4 z5 z6 => br_f (by decide) (qf_after hB c (H c h1 (qf_L_free hn0 hW hL z4 z5 z6) h2))) (fun z => br_t rfl ?_)
    have ho := (qf_L_mark hn0 hW hL c).mp z
    have hA : ∀ t, c ≤ t → t < u + 1 → o t = true := by
      intro t t1 t2
      by_cases e : t = c
      · rw [e]; exact ho
      · exact h2 t (by omega) (by omega)
    have hl := qf_occ_lt hW hn0 hA
    obtain ⟨t, rfl⟩ : ∃ t, c = t + 1 := ⟨c - 1, by omega⟩
    exact qf_before hB t (ih t (by omega) (by omega) (fun t' t1 t2 => hA t' (by omega) (by omega)))
theorem qf_takeOut {M : Nat → Nat} {h p : Nat} (hQ : qf_Q f b h M b' h' M' a1 a2 a3 a4 a5 a6) (hp : p < 256) (hM0 : 0 < M p)
    (H : ∀ u, (match u with | (_, c1, c2, c3, c4, c5, c6, _) => qf_Q f b (h - 1) (qf_sb M p) b' h' M' c1 c2 c3 c4 c5 c6) → post u) : wpX_takeOut post (rc, a1, a2, a3, a4, a5, a6, a7) (nI f) (nI p) := by
  have hR := hQ.1
  obtain ⟨hh2, n, o, d, v, hB, hhn, hW, hV, hc, hM, hL⟩ := hR
  have hn := qf_B_n hB
  have hn0 := hn.2.2.1
  have hf := hB.1
  have hq : p / 2 ^ (8 - b) < n := Nat.div_lt_of_lt_mul (by rw [Nat.mul_comm, hn.2.2.2.1]; exact hp)
  obtain ⟨u, eu⟩ : ∃ u, u = p / 2 ^ (8 - b) + n := ⟨_, rfl⟩
  have hu : p / 2 ^ (8 - b) = u % n := by rw [eu, Nat.add_mod_right, Nat.mod_eq_of_lt hq]
  have hrun : qf_run o d u := by
    refine Classical.byContradiction (fun w => ?_)
    have := qf_tm0 hW hV hu w
    rw [hM] at this
    omega
  have hou := qf_run_o hW hrun
  unfold wpX_takeOut
  dsimp only
  refine qf_slotOf hB hp ?_
  rw [hu]
  refine ⟨u + 1, qf_to10 hB hW hL (by omega) (fun c c1 c2 c3 => ?_) (u + 1) u (by omega) (Nat.le_refl _) (fun t t1 t2 => absurd t1 (by omega))⟩
  have hcu : c < u := by
    have : c ≠ u := fun g => qf_no c2 (g ▸ hou)
    omega
  obtain ⟨e, e1, e2, e3, e4⟩ := qf_first hW hn0 (c + 1)
  have hue : u < e := by
    refine Classical.byContradiction (fun g => ?_)
    exact qf_no e3 (c3 e (by omega) (by omega))
  have hs0 : o (c + 1 - 1) = false := c2
  have hcnt : qf_c (qf_fo n (c + 1) e o) 0 n + (e - (c + 1)) = h := by
    have g := qf_fo_c hn0 hW hV.1 e1 e2 e4 (fun _ => true)
    rw [qf_c_congr (g := fun t => qf_fo n (c + 1) e o t && true) (g' := qf_fo n (c + 1) e o) (a' := 0) (fun i _ => Bool.and_true _), qf_c_congr (g := fun t => o t && true) (g' := o) (a' := 0) (fun i _ => Bool.and_true _), qf_c_all (g := fun _ => true) (fun _ _ => rfl), hc] at g
    exact g
  refine qf_readStretch (k0 := 0) hB hW hV hL (by omega) hs0 e1 e4 e3 (by omega) (fun c7 hr => ?_)
  rw [Nat.zero_add]
  refine ⟨e + 1, qf_to55 hB e1 e2 hh2 (show e - (c + 1) ≤ h by omega) (by omega) (fun c4 c5 c6 z4 z5 z6 => ?_) (e + 1) (c + 1) a4 a5 a6 (by omega) (Nat.le_refl _) e1 ⟨fun j hj => ?_, fun _ _ => rfl⟩ ⟨fun j hj => ?_, fun _ _ => rfl⟩ ⟨fun j hj => ?_, fun _ _ => rfl⟩⟩
  · have hb := hB.2.2.2.1
    have e9 : h - (e - (c + 1)) + (e - (c + 1)) = h := by omega
    have wc : ∀ q, qf_c (fun j => v (c + 1 + j) == q) 0 (e - (c + 1)) = qf_c (fun t => v t == q) (c + 1) (e - (c + 1)) := fun q => qf_c_congr (fun i hi => by show (_ == _) = (_ == _); rw [Nat.zero_add])
    have g := qf_to101 (f := f) (b := b) (b' := b') (h' := h') (M' := M') (a1 := a1) (a7 := c7) (post := post) (M := M) (M0 := fun q => qf_c (fun t => qf_fo n (c + 1) e o t && v t == q) 0 n) (m := e - (c + 1)) (p := p) (h0 := h - (e - (c + 1))) (w := fun i => v (c + 1 + i)) hp (by omega) (by rw [e9, ← hb]; exact hhn) (fun i hi => ?_) (fun q => ?_) ?_ (fun d2 d3 d4 d5 d6 hQ' => ?_) (e + 1) 0 0 (h - (e - (c + 1))) _ (upd a2 f (nI (h - (e - (c + 1))))) a3 c4 c5 c6 (by omega) (by omega) ⟨⟨pk_us, n, qf_fo n (c + 1) e o, d, v, hB, by omega, qf_fo_W hn0 hW (by omega) hs0 e1 e2 e3, ⟨hV.1, fun t ht => hV.2 t (qf_fo_t ht).2⟩, by omega, fun q => rfl, qf_fo_L hn0 hW hL (by omega) hs0 e1 e2 e3 z4 z5 z6⟩, qf_R_fr hQ.2 rfl (pk_un (by omega)) (by omega) (fun _ _ => rfl) (qf_P_fr hn0 hn.2.1 z4) (qf_P_fr hn0 hn.2.1 z5) (qf_P_fr hn0 hn.2.1 z6)⟩ (Or.inl ⟨rfl, rfl, rfl, fun q => rfl⟩)
    · exact ⟨e + 1, g⟩
    · have := hr.2 i hi
      rw [Nat.zero_add] at this
      exact ⟨this, (hV.2 _ (e4 _ (by omega) (by omega))).1⟩
    · show _ + qf_c (fun j => v (c + 1 + j) == q) 0 (e - (c + 1)) = M q
      rw [wc, ← hM q]
      exact qf_fo_c hn0 hW hV.1 e1 e2 e4 (fun x => x == q)
    · show 0 < qf_c (fun j => v (c + 1 + j) == p) 0 (e - (c + 1))
      rw [wc]
      exact qf_there hW hV (by omega) hs0 (by omega) hue e2 e3 e4 hu (by rw [hM]; exact hM0)
    · rw [e9] at hQ'
      exact H _ hQ'
  · obtain ⟨t, t1, t2, _⟩ := hj
    omega
  · obtain ⟨t, t1, t2, _⟩ := hj
    omega
  · obtain ⟨t, t1, t2, _⟩ := hj
    omega
end
end
section
/-! ===== 12: the calls ===== -/
def qf_S (f b h : Nat) (M : Nat → Nat) (b' h' : Nat) (M' : Nat → Nat) (u : St1) : Prop := match u with
  | (_, c1, c2, c3, c4, c5, c6, _) => qf_Q f b h M b' h' M' c1 c2 c3 c4 c5 c6
theorem qf_timesR {rc : Int32} {a1 a2 a3 a4 a5 a6 a7 : Nat → Int32} {f b h p : Nat} {M : Nat → Nat} {post : Int32 → Prop} (hR : qf_R f b h M a1 a2 a3 a4 a5 a6) (hp : p < 256) (H : post (nI (M p))) : wpX_timesOf post (rc, a1, a2, a3, a4, a5, a6, a7) (nI f) (nI p) := by
  obtain ⟨hh2, n, o, d, v, hB, hhn, hW, hV, hc, hM, hL⟩ := hR
  exact qf_timesOf hB hW hV hM hL hp H
theorem qf_R_Mle {f b h : Nat} {M : Nat → Nat} {a1 a2 a3 a4 a5 a6 : Nat → Int32} (hR : qf_R f b h M a1 a2 a3 a4 a5 a6) (p : Nat) : M p ≤ 64 := by
  obtain ⟨hh2, n, o, d, v, hB, hhn, hW, hV, hc, hM, hL⟩ := hR
  have hn := qf_B_n hB
  have := qf_c_le (fun t => o t && v t == p) 0 n
  rw [hM] at this
  omega
theorem qf_1 : (1 : Int32) = nI 1 := rfl
section
variable {f b h b' h' : Nat} {M M' : Nat → Nat} {u : St1}
theorem qf_S_sw (hS : qf_S f b h M b' h' M' u) : qf_S (1 - f) b' h' M' b h M u := by
  obtain ⟨rc, a1, a2, a3, a4, a5, a6, a7⟩ := u
  exact qf_Q_sw (show qf_Q f b h M b' h' M' a1 a2 a3 a4 a5 a6 from hS)
theorem qf_S_f (hS : qf_S f b h M b' h' M' u) : f < 2 ∧ 3 ≤ b ∧ b ≤ 6 ∧ h < 2 ^ b ∧ 2 ^ b ≤ 64 ∧ 8 ≤ 2 ^ b := by
  obtain ⟨rc, a1, a2, a3, a4, a5, a6, a7⟩ := u
  have hQ : qf_Q f b h M b' h' M' a1 a2 a3 a4 a5 a6 := hS
  have g := qf_R_f hQ.1
  exact ⟨g.1, g.2.1, g.2.2.1, g.2.2.2.1, g.2.2.2.2.2.2⟩
theorem qf_S_M {M2 : Nat → Nat} (hS : qf_S f b h M b' h' M' u) (e : ∀ p, M p = M2 p) : qf_S f b h M2 b' h' M' u := by
  obtain ⟨rc, a1, a2, a3, a4, a5, a6, a7⟩ := u
  exact qf_Q_M (show qf_Q f b h M b' h' M' a1 a2 a3 a4 a5 a6 from hS) e
theorem qf_S_Mle (hS : qf_S f b h M b' h' M' u) (p : Nat) : M p ≤ 64 := by
  obtain ⟨rc, a1, a2, a3, a4, a5, a6, a7⟩ := u
  have hQ : qf_Q f b h M b' h' M' a1 a2 a3 a4 a5 a6 := hS
  exact qf_R_Mle hQ.1 p
theorem qf_add {post : Int32 → St1 → Prop} {x : Int32} (hS : qf_S f b h M b' h' M' u) (H1 : h + 1 < 2 ^ b → ∀ u', qf_S f b (h + 1) (qf_ad M (qf_pO x)) b' h' M' u' → post (nI (M (qf_pO x) + 1)) u') (H2 : 2 ^ b ≤ h + 1 → post (-2) u) : wpX_add post u (nI f) x := by
  obtain ⟨rc, a1, a2, a3, a4, a5, a6, a7⟩ := u
  have hQ : qf_Q f b h M b' h' M' a1 a2 a3 a4 a5 a6 := hS
  obtain ⟨g1, g2, g3, g4, g5, g6, g7, g8⟩ := qf_R_f hQ.1
  unfold wpX_add
  dsimp only
  refine qf_fil g1 (br_f (by decide) ⟨vp_in_nI g1 (by decide), qf_slots (qf_R_B hQ.1) ?_⟩)
  rw [nI_clamp (show f < 2 ^ 31 by omega), g6, qf_1, pk_sub (by omega)]
  refine pk_lt h (2 ^ b - 1) (fun z => qf_printOf (qf_insQ hQ (by omega) (qf_pO_lt x) (fun c2 c3 c4 c5 c6 hQ' => qf_timesR hQ'.1 (qf_pO_lt x) ?_))) (fun z => H2 (by omega))
  have e : qf_ad M (qf_pO x) (qf_pO x) = M (qf_pO x) + 1 := by
    unfold qf_ad
    rw [beq_self_eq_true, if_pos rfl]
  rw [e]
  exact H1 (by omega) _ hQ'
theorem qf_maybe {post : Int32 → Prop} {x : Int32} (hS : qf_S f b h M b' h' M' u) (H0 : M (qf_pO x) = 0 → post 0) (H1 : 0 < M (qf_pO x) → post 1) : wpX_maybe post u (nI f) x := by
  obtain ⟨rc, a1, a2, a3, a4, a5, a6, a7⟩ := u
  have hQ : qf_Q f b h M b' h' M' a1 a2 a3 a4 a5 a6 := hS
  have g1 := (qf_R_f hQ.1).1
  have gM := qf_R_Mle hQ.1 (qf_pO x)
  unfold wpX_maybe
  dsimp only
  refine qf_fil g1 (br_f (by decide) (qf_printOf (qf_timesR hQ.1 (qf_pO_lt x) ?_)))
  exact pk_le (M (qf_pO x)) 0 (fun z => H0 (by omega)) (fun z => H1 z)
theorem qf_count {post : Int32 → Prop} (hS : qf_S f b h M b' h' M' u) (H : post (nI h)) : wpX_count post u (nI f) := by
  obtain ⟨rc, a1, a2, a3, a4, a5, a6, a7⟩ := u
  have hQ : qf_Q f b h M b' h' M' a1 a2 a3 a4 a5 a6 := hS
  obtain ⟨g1, g2, g3, g4, g5, g6, g7, g8⟩ := qf_R_f hQ.1
  unfold wpX_count
  dsimp only
  refine qf_fil g1 (br_f (by decide) ⟨vp_in_nI g1 (by decide), ?_⟩)
  rw [nI_clamp (show f < 2 ^ 31 by omega), g6]
  exact H
theorem qf_size {post : Int32 → Prop} (hS : qf_S f b h M b' h' M' u) (H : post (nI (2 ^ b))) : wpX_size post u (nI f) := by
  obtain ⟨rc, a1, a2, a3, a4, a5, a6, a7⟩ := u
  have hQ : qf_Q f b h M b' h' M' a1 a2 a3 a4 a5 a6 := hS
  unfold wpX_size
  dsimp only
  exact qf_fil (qf_R_f hQ.1).1 (br_f (by decide) (qf_slots (qf_R_B hQ.1) H))
theorem qf_remove {post : Int32 → St1 → Prop} {x : Int32} (hS : qf_S f b h M b' h' M' u) (H0 : M (qf_pO x) = 0 → post (-3) u) (H1 : 0 < M (qf_pO x) → ∀ u', qf_S f b (h - 1) (qf_sb M (qf_pO x)) b' h' M' u' → post (nI (M (qf_pO x) - 1)) u') : wpX_remove post u (nI f) x := by
  obtain ⟨rc, a1, a2, a3, a4, a5, a6, a7⟩ := u
  have hQ : qf_Q f b h M b' h' M' a1 a2 a3 a4 a5 a6 := hS
  have g1 := (qf_R_f hQ.1).1
  have gM := qf_R_Mle hQ.1 (qf_pO x)
  unfold wpX_remove
  dsimp only
  refine qf_fil g1 (br_f (by decide) (qf_printOf (qf_timesR hQ.1 (qf_pO_lt x) ?_)))
  refine pk_eq (M (qf_pO x)) 0 (fun z => H0 z) (fun z => qf_takeOut hQ (qf_pO_lt x) (by omega) (fun u' hu' => ?_))
  obtain ⟨sc, c1, c2, c3, c4, c5, c6, c7⟩ := u'
  dsimp only
  rw [qf_1, pk_sub (by omega)]
  exact H1 (by omega) _ hu'
theorem qf_grow {post : Int32 → St1 → Prop} (hS : qf_S f b h M b' h' M' u) (H0 : b = 6 → post (-2) u) (H1 : b < 6 → ∀ u', qf_S f (b + 1) h M b' h' M' u' → post (nI (2 ^ (b + 1))) u') : wpX_grow post u (nI f) := by
  obtain ⟨rc, a1, a2, a3, a4, a5, a6, a7⟩ := u
  have hQ : qf_Q f b h M b' h' M' a1 a2 a3 a4 a5 a6 := hS
  obtain ⟨g1, g2, g3, g4, g5, g6, g7, g8⟩ := qf_R_f hQ.1
  unfold wpX_grow
  dsimp only
  refine qf_fil g1 (br_f (by decide) ⟨vp_in_nI g1 (by decide), ?_⟩)
  rw [nI_clamp (show f < 2 ^ 31 by omega), g5, nI_1]
  have hh : h < 2 ^ (b + 1) := by rw [Nat.pow_succ]; omega
  exact pk_eq b 6 (fun z => H0 z) (fun z => ⟨vp_in_nI g1 (by decide), qf_resize hQ (by omega) (by omega) hh (fun c1 c2 c3 c4 c5 c6 c7 hQ' => qf_slots (qf_R_B hQ'.1) (H1 (by omega) _ hQ'))⟩)
theorem qf_p2 : ∀ b, b ≤ 6 → 3 ≤ b → 2 ^ b / 2 = 2 ^ (b - 1) := by decide +kernel
theorem qf_shrink {post : Int32 → St1 → Prop} (hS : qf_S f b h M b' h' M' u) (H0 : b = 3 ∨ 2 ^ (b - 1) - 1 < h → post (-3) u) (H1 : b ≠ 3 → h ≤ 2 ^ (b - 1) - 1 → ∀ u', qf_S f (b - 1) h M b' h' M' u' → post (nI (2 ^ (b - 1))) u') : wpX_shrink post u (nI f) := by
  obtain ⟨rc, a1, a2, a3, a4, a5, a6, a7⟩ := u
  have hQ : qf_Q f b h M b' h' M' a1 a2 a3 a4 a5 a6 := hS
  obtain ⟨g1, g2, g3, g4, g5, g6, g7, g8⟩ := qf_R_f hQ.1
  have e2 := qf_p2 b g3 g2
  unfold wpX_shrink
  dsimp only
  refine qf_fil g1 (br_f (by decide) ⟨vp_in_nI g1 (by decide), ?_⟩)
  rw [nI_clamp (show f < 2 ^ 31 by omega), g5]
  refine pk_eq b 3 (fun z => H0 (Or.inl z)) (fun z => ⟨vp_in_nI g1 (by decide), qf_slots (qf_R_B hQ.1) ⟨by decide, ?_⟩⟩)
  rw [g6, show (2 : Int32) = nI 2 from rfl, pk_div (by omega) (by decide) (by decide), e2, qf_1, pk_sub (by omega), pk_sub (by omega)]
  refine pk_le h (2 ^ (b - 1) - 1) (fun w => ⟨vp_in_nI g1 (by decide), qf_resize hQ (by omega) (by omega) (by omega) (fun c1 c2 c3 c4 c5 c6 c7 hQ' => qf_slots (qf_R_B hQ'.1) (H1 z w _ hQ'))⟩) (fun w => H0 (Or.inr w))
theorem qf_clear {post : Int32 → St1 → Prop} (hS : qf_S f b h M b' h' M' u) (H : ∀ u', qf_S f b 0 (fun _ => 0) b' h' M' u' → post (nI h) u') : wpX_clear post u (nI f) := by
  obtain ⟨rc, a1, a2, a3, a4, a5, a6, a7⟩ := u
  have hQ : qf_Q f b h M b' h' M' a1 a2 a3 a4 a5 a6 := hS
  obtain ⟨g1, g2, g3, g4, g5, g6, g7, g8⟩ := qf_R_f hQ.1
  unfold wpX_clear
  dsimp only
  refine qf_fil g1 (br_f (by decide) ⟨vp_in_nI g1 (by decide), ?_⟩)
  rw [nI_clamp (show f < 2 ^ 31 by omega), g6]
  refine nm_e (qf_empty g1 (fun c4 c5 c6 f4 f5 f6 hE => H _ ?_))
  exact ⟨hE b (2 ^ b) a1 (qf_R_B hQ.1), qf_R_fr hQ.2 rfl (pk_un (by omega)) (by omega) (fun _ _ => rfl) f4 f5 f6⟩
end
/-! the k-th smallest print -/
section
variable {rc : Int32} {a1 a2 a3 a4 a5 a6 a7 : Nat → Int32} {post : Int32 → St1 → Prop}
theorem qf_pr51 {J : Int32 → Prop} {w : Nat → Nat} {h k i : Nat} (hh : h < 64) (hk : k < 64) (hw : ∀ i, i < h → a7 i = nI (w i) ∧ w i < 256) (hi : i < h)
    (H0 : (k < qf_c (fun j => decide (w j < w i)) 0 h ∨ qf_c (fun j => decide (w j < w i)) 0 h + qf_c (fun j => w j == w i) 0 h ≤ k) → J (nI (i + 1)))
    (H1 : qf_c (fun j => decide (w j < w i)) 0 h ≤ k → k < qf_c (fun j => decide (w j < w i)) 0 h + qf_c (fun j => w j == w i) 0 h → post (nI (w i)) (nI h, a1, a2, a3, a4, a5, a6, a7)) :
    ∀ fu j, h - j < fu → j ≤ h → wX_print_51 post J (nI k) (nI i) (nI h) a1 a2 a3 a4 a5 a6 a7 fu (nI (qf_c (fun j => decide (w j < w i)) 0 j)) (nI (qf_c (fun j => w j == w i) 0 j)) (nI j) := by
  intro fu
  induction fu with
  | zero => intro j h; exact absurd h (Nat.not_lt_zero _)
  | succ fu ih =>
    intro j hj hjh
    have l1 := qf_c_le (fun j => decide (w j < w i)) 0 j
    have l2 := qf_c_le (fun j => w j == w i) 0 j
    unfold wX_print_51
    rw [nI_clamp (show i < 2 ^ 31 by omega), nI_clamp (show j < 2 ^ 31 by omega)]
    refine pk_le h j (fun z => ?_) (fun z => ⟨vp_in_nI (by omega) (by decide), vp_in_nI (by omega) (by decide), ?_⟩)
    · have e : j = h := by omega
      subst e
      rw [nI_add]
      refine pk_lt k _ (fun z1 => nm_r (nI_1 i) (H0 (Or.inl z1))) (fun z1 => pk_le _ k (fun z2 => nm_r (nI_1 i) (H0 (Or.inr z2))) (fun z2 => ⟨vp_in_nI (by omega) (by decide), ?_⟩))
      rw [(hw i hi).1]
      exact H1 z1 z2
    · have go : ∀ c, c = qf_c (fun j => decide (w j < w i)) 0 (j + 1) → wX_print_79 post J (wX_print_51 post J (nI k) (nI i) (nI h) a1 a2 a3 a4 a5 a6 a7 fu) (nI k) (nI i) (nI c) (nI (qf_c (fun j => w j == w i) 0 j)) (nI j) (nI h) a1 a2 a3 a4 a5 a6 a7 := by
        intro c hc
        unfold wX_print_79
        rw [nI_clamp (show i < 2 ^ 31 by omega), nI_clamp (show j < 2 ^ 31 by omega), (hw i hi).1, (hw j z).1, hc]
        have q1 := (hw i hi).2
        have q2 := (hw j z).2
        have g := ih (j + 1) (by omega) (by omega)
        have es : qf_c (fun j => w j == w i) 0 (j + 1) = qf_c (fun j => w j == w i) 0 j + (if (w j == w i) = true then 1 else 0) := by rw [qf_c_s, Nat.zero_add]
        refine ⟨vp_in_nI (by omega) (by decide), vp_in_nI (by omega) (by decide), pk_eq (w j) (w i) (fun e => nm_r (nI_1 _) (nm_r (nI_1 j) ?_)) (fun e => nm_r (nI_1 j) ?_)⟩
        · rw [es, e, beq_self_eq_true, if_pos rfl] at g
          exact g
        · rw [es, beq_false_of_ne e, if_neg Bool.false_ne_true] at g
          exact g
      have es : qf_c (fun j => decide (w j < w i)) 0 (j + 1) = qf_c (fun j => decide (w j < w i)) 0 j + (if decide (w j < w i) = true then 1 else 0) := by rw [qf_c_s, Nat.zero_add]
      rw [(hw i hi).1, (hw j z).1]
      have q1 := (hw i hi).2
      have q2 := (hw j z).2
      refine pk_le (w i) (w j) (fun e => go _ ?_) (fun e => nm_r (nI_1 _) (go _ ?_))
      · rw [es, decide_eq_false (by omega), if_neg Bool.false_ne_true]
        rfl
      · rw [es, decide_eq_true e, if_pos rfl]
theorem qf_kth {M w : Nat → Nat} {h k : Nat} (hw : ∀ i, i < h → w i < 256) (hM : ∀ p, qf_c (fun i => w i == p) 0 h = M p) (hk : k < h) : ∃ i, i < h ∧ qf_sm M (w i) ≤ k ∧ k < qf_sm M (w i) + M (w i) := by
  have eM : (fun q => qf_c (fun i => w i == q) 0 h) = M := funext hM
  have h1 := qf_lt_sm w h 256
  rw [qf_c_all (fun i hi => by show decide (w (0 + i) < 256) = true; exact decide_eq_true (hw (0 + i) (by omega))), eM] at h1
  obtain ⟨v, v1, v2⟩ := pk_least (fun v => k < qf_sm M (v + 1)) ⟨255, by show k < qf_sm M 256; omega⟩
  have v1' : k < qf_sm M v + M v := v1
  have v3 : qf_sm M v ≤ k := by
    rcases v with _ | v
    · exact Nat.zero_le k
    · have := v2 v (by omega)
      omega
  obtain ⟨i, i1, i2⟩ := qf_c_pos (g := fun i => w i == v) (a := 0) (k := h) (by rw [hM]; omega)
  have i3 : (w (0 + i) == v) = true := i2
  rw [Nat.zero_add] at i3
  have i4 : w i = v := by simpa using i3
  exact ⟨i, i1, by rw [i4]; exact v3, by rw [i4]; exact v1'⟩
theorem qf_print {u : St1} {f b h b' h' k : Nat} {M M' : Nat → Nat} (hS : qf_S f b h M b' h' M' u) (hk : k < h) (H : ∀ w u', w < 256 → qf_sm M w ≤ k → k < qf_sm M w + M w → qf_S f b h M b' h' M' u' → post (nI w) u') : wpX_print post u (nI f) (nI k) := by
  obtain ⟨rc, a1, a2, a3, a4, a5, a6, a7⟩ := u
  have hQ : qf_Q f b h M b' h' M' a1 a2 a3 a4 a5 a6 := hS
  obtain ⟨g1, g2, g3, g4, g5, g6, g7, g8⟩ := qf_R_f hQ.1
  unfold wpX_print
  dsimp only
  refine qf_fil g1 (br_f (by decide) (br_f (nI_pos (by omega)) ⟨vp_in_nI g1 (by decide), ?_⟩))
  rw [nI_clamp (show f < 2 ^ 31 by omega), g6]
  refine br_t (nI_lt hk (by omega)) (qf_readAll hQ.1 (fun c7 w w1 w2 => ?_))
  have eM : (fun q => qf_c (fun i => w i == q) 0 h) = M := funext w2
  have eS : ∀ q, qf_c (fun j => decide (w j < q)) 0 h = qf_sm M q := fun q => by rw [qf_lt_sm, eM]
  obtain ⟨i0, q1, q2, q3⟩ := qf_kth (fun i hi => (w1 i hi).2) w2 hk
  have lp : ∀ fu i, h - i < fu → i ≤ i0 → wX_print_34 post (nI k) (nI h) a1 a2 a3 a4 a5 a6 c7 fu (nI i) := by
    intro fu
    induction fu with
    | zero => intro i h; exact absurd h (Nat.not_lt_zero _)
    | succ fu ih =>
      intro i hi hi0
      unfold wX_print_34
      refine pk_le h i (fun z => absurd z (by omega)) (fun z => ⟨h + 1, ?_⟩)
      refine qf_pr51 (w := w) (h := h) (k := k) (i := i) (by omega) (by omega) w1 z (fun z1 => ih (i + 1) (by omega) ?_) (fun z1 z2 => ?_) (h + 1) 0 (by omega) (by omega)
      · rw [eS, w2] at z1
        have : i ≠ i0 := by
          intro e
          rw [e] at z1
          omega
        omega
      · rw [eS] at z1 z2
        rw [w2] at z2
        exact H (w i) _ (w1 i z).2 z1 z2 hQ
  exact ⟨h + 1, lp (h + 1) 0 (by omega) (by omega)⟩
end
end
section
/-! ===== 13: pouring one filter into the other; numbers of prints ===== -/
section
variable {rc : Int32} {a1 a2 a3 a4 a5 a6 a7 : Nat → Int32} {f b h b' h' : Nat} {M M' : Nat → Nat} {post : Int32 → St1 → Prop}
theorem qf_po81 {w : Nat → Nat} {k : Nat} (hk : h + k < 2 ^ b) (hk2 : h + k < 64) (hw : ∀ i, i < k → a7 i = nI (w i) ∧ w i < 256)
    (H : ∀ c2 c3 c4 c5 c6, qf_Q f b (h + k) (fun p => M p + qf_c (fun j => w j == p) 0 k) b' h' M' a1 c2 c3 c4 c5 c6 → post (nI (h + k)) (nI k, a1, c2, c3, c4, c5, c6, a7)) :
    ∀ fu i c2 c3 c4 c5 c6, k - i < fu → i ≤ k → qf_Q f b (h + i) (fun p => M p + qf_c (fun j => w j == p) 0 i) b' h' M' a1 c2 c3 c4 c5 c6 → wX_pour_81 post (nI f) fu (nI i) (nI k) a1 c2 c3 c4 c5 c6 a7 := by
  intro fu
  induction fu with
  | zero => intro i c2 c3 c4 c5 c6 h; exact absurd h (Nat.not_lt_zero _)
  | succ fu ih =>
    intro i c2 c3 c4 c5 c6 hfu hi hQ
    have g := qf_R_f hQ.1
    unfold wX_pour_81
    refine pk_le k i (fun z => ⟨vp_in_nI g.1 (by decide), ?_⟩) (fun z => ⟨vp_in_nI (by omega) (by decide), ?_⟩)
    · have : i = k := by omega
      subst this
      rw [nI_clamp (show f < 2 ^ 31 by omega), g.2.2.2.2.2.1]
      exact H c2 c3 c4 c5 c6 hQ
    · rw [nI_clamp (show i < 2 ^ 31 by omega), (hw i z).1]
      refine qf_insQ hQ (by omega) (hw i z).2 (fun e2 e3 e4 e5 e6 hQ' => nm_r (nI_1 i) (ih (i + 1) e2 e3 e4 e5 e6 (by omega) (by omega) (qf_Q_M hQ' (fun p => ?_))))
      have := qf_cnt_ad w i p
      unfold qf_ad at this ⊢
      dsimp only at this ⊢
      omega
theorem qf_po71 (hQ : qf_Q f b h M b' h' M' a1 a2 a3 a4 a5 a6) (hk : h + h' < 2 ^ b) (hk2 : h + h' < 64)
    (H : ∀ u', qf_S f b (h + h') (fun p => M p + M' p) b' h' M' u' → post (nI (h + h')) u') : wX_pour_71 post (nI f) rc a1 a2 a3 a4 a5 a6 a7 := by
  have g := qf_R_f hQ.1
  unfold wX_pour_71
  rw [qf_1, pk_sub (by omega)]
  refine qf_readAll hQ.2 (fun c7 w w1 w2 => ⟨h' + 1, qf_po81 (h := h) (M := M) hk hk2 w1 (fun c2 c3 c4 c5 c6 hQ' => H _ (qf_Q_M hQ' (fun p => by rw [w2]))) (h' + 1) 0 a2 a3 a4 a5 a6 (by omega) (by omega) (qf_Q_M hQ (fun p => rfl))⟩)
theorem qf_po40 (hQ : qf_Q f b h M b' h' M' a1 a2 a3 a4 a5 a6) (hk2 : h + h' ≤ 63)
    (H : ∀ c u', b ≤ c → c ≤ 6 → h + h' < 2 ^ c → (c = b ∨ 2 ^ (c - 1) ≤ h + h') → qf_S f c (h + h') (fun p => M p + M' p) b' h' M' u' → post (nI (h + h')) u') :
    ∀ fu c, 6 - c < fu → b ≤ c → c ≤ 6 → (c = b ∨ 2 ^ (c - 1) ≤ h + h') → wX_pour_40 post (nI f) (nI (h + h')) rc a1 a2 a3 a4 a5 a6 a7 fu (nI c) := by
  obtain ⟨g1, g2, g3, g4, g5, g6, g7, g8⟩ := qf_R_f hQ.1
  intro fu
  induction fu with
  | zero => intro c h; exact absurd h (Nat.not_lt_zero _)
  | succ fu ih =>
    intro c hfu c1 c2 c3
    have hp := qf_pw c c2 (by omega)
    unfold wX_pour_40
    rw [qf_w_sl c c2, qf_1, pk_sub (by omega), nI_clamp (show f < 2 ^ 31 by omega), g5]
    refine pk_le (h + h') (2 ^ c - 1) (fun z => ⟨vp_in_nI g1 (by decide), ?_⟩) (fun z => ?_)
    · refine pk_le c b (fun w => ?_) (fun w => ?_)
      · have : c = b := by omega
        subst this
        exact qf_po71 hQ (by omega) (by omega) (fun u' hu' => H c u' c1 c2 (by omega) c3 hu')
      · exact qf_resize hQ (by omega) c2 (by omega) (fun e1 e2 e3 e4 e5 e6 e7 hQ' => qf_po71 hQ' (by omega) (by omega) (fun u' hu' => H c u' c1 c2 (by omega) c3 hu'))
    · have : c ≠ 6 := by
        intro e
        subst e
        omega
      rw [← qf_1]
      exact nm_r (nI_1 c) (ih (c + 1) (by omega) (by omega) (by omega) (Or.inr (by rw [Nat.add_sub_cancel]; omega)))
theorem qf_pour {u : St1} (hS : qf_S f b h M b' h' M' u) (H0 : 63 < h + h' → post (-2) u)
    (H1 : h + h' ≤ 63 → ∀ c u', b ≤ c → c ≤ 6 → h + h' < 2 ^ c → (c = b ∨ 2 ^ (c - 1) ≤ h + h') → qf_S f c (h + h') (fun p => M p + M' p) b' h' M' u' → post (nI (h + h')) u') : wpX_pour post u (nI f) := by
  obtain ⟨rc, a1, a2, a3, a4, a5, a6, a7⟩ := u
  have hQ : qf_Q f b h M b' h' M' a1 a2 a3 a4 a5 a6 := hS
  obtain ⟨g1, g2, g3, g4, g5, g6, g7, g8⟩ := qf_R_f hQ.1
  obtain ⟨k1, k2, k3, k4, k5, k6, k7, k8⟩ := qf_R_f hQ.2
  have e : a2 0 + a2 1 = nI (h + h') := by
    by_cases w : f = 0
    · subst w
      rw [g6, show a2 1 = nI h' from k6, nI_add]
    · have w1 : f = 1 := by omega
      subst w1
      rw [g6, show a2 0 = nI h' from k6, nI_add, Nat.add_comm]
  unfold wpX_pour
  dsimp only
  refine qf_fil g1 (br_f (by decide) (nm_r e (pk_le (h + h') 63 (fun z => ⟨vp_in_nI g1 (by decide), ?_⟩) (fun z => H0 z))))
  rw [nI_clamp (show f < 2 ^ 31 by omega), g5]
  exact nm_e ⟨7, qf_po40 hQ z (H1 z) 7 b (by omega) (Nat.le_refl _) g3 (Or.inl rfl)⟩
theorem qf_numberOf {post : Int32 → Prop} {u : St1} {p : Nat} (hp : p < 256) (H : ∀ x, qf_pO x = p → post x) : wpL_numberOf post u (nI p) := by
  obtain ⟨rc, a1, a2, a3, a4, a5, a6, a7⟩ := u
  obtain ⟨x0, x1, x2⟩ := qf_pO_all p hp
  have lp : ∀ fu c, x0 - c < fu → c ≤ x0 → wL_numberOf_2 post (nI p) rc a1 a2 a3 a4 a5 a6 a7 fu (nI c) := by
    intro fu
    induction fu with
    | zero => intro c h; exact absurd h (Nat.not_lt_zero _)
    | succ fu ih =>
      intro c h1 h2
      unfold wL_numberOf_2
      refine pk_le 4000 c (fun z => absurd z (by omega)) (fun z => qf_printOf ?_)
      have q := qf_pO_lt (nI c)
      refine pk_eq (qf_pO (nI c)) p (fun e => H _ e) (fun e => ?_)
      have : c ≠ x0 := fun w => e (by rw [w]; exact x2)
      exact nm_r (nI_1 c) (ih (c + 1) (by omega) (by omega))
  unfold wpL_numberOf
  dsimp only
  exact ⟨x0 + 1, lp (x0 + 1) 0 (by omega) (by omega)⟩
end
/-- the slot bits that are enough are one number -/
theorem qf_bits {b c c' t : Nat} (h1 : b ≤ c) (h2 : b ≤ c') (t1 : t < 2 ^ c) (t2 : t < 2 ^ c') (k1 : c = b ∨ 2 ^ (c - 1) ≤ t) (k2 : c' = b ∨ 2 ^ (c' - 1) ≤ t) : c = c' := by
  rcases Nat.lt_trichotomy c c' with g | g | g
  · rcases k2 with e | e
    · omega
    · have := Nat.pow_le_pow_right (show 0 < 2 by decide) (show c ≤ c' - 1 by omega)
      omega
  · exact g
  · rcases k1 with e | e
    · omega
    · have := Nat.pow_le_pow_right (show 0 < 2 by decide) (show c' ≤ c - 1 by omega)
      omega
theorem qf_c_mono {g g' : Nat → Bool} {a : Nat} (h : ∀ i, g i = true → g' i = true) : ∀ k, qf_c g a k ≤ qf_c g' a k
  | 0 => Nat.le_refl _
  | k + 1 => by
    have := qf_c_mono (a := a) h k
    rw [qf_c_s, qf_c_s]
    by_cases z : g (a + k) = true
    · rw [if_pos z, if_pos (h _ z)]
      omega
    · rw [if_neg z]
      omega
theorem qf_lt_smo (o : Nat → Bool) (v : Nat → Nat) (k : Nat) : ∀ w, qf_c (fun i => o i && decide (v i < w)) 0 k = qf_sm (fun q => qf_c (fun i => o i && v i == q) 0 k) w
  | 0 => qf_c_zero (fun i _ => by simp)
  | w + 1 => by
    rw [qf_sm_s, ← qf_lt_smo o v k w]
    induction k with
    | zero => rfl
    | succ k ih =>
      rw [qf_c_s, qf_c_s, qf_c_s, ih, Nat.zero_add]
      rcases ho : o k with _ | _
      · simp
      · by_cases e : v k = w
        · simp [e]
          omega
        · by_cases g : v k < w
          · simp [e, g, show v k < w + 1 by omega]
            omega
          · simp [e, g, show ¬ v k < w + 1 by omega]
theorem qf_R_sm {f b h : Nat} {M : Nat → Nat} {a1 a2 a3 a4 a5 a6 : Nat → Int32} (hR : qf_R f b h M a1 a2 a3 a4 a5 a6) (q : Nat) : qf_sm M q + M q ≤ h := by
  obtain ⟨hh2, n, o, d, v, hB, hhn, hW, hV, hc, hM, hL⟩ := hR
  have e := qf_lt_smo o v n (q + 1)
  rw [show (fun q => qf_c (fun i => o i && v i == q) 0 n) = M from funext hM, qf_sm_s] at e
  rw [← e, ← hc]
  exact qf_c_mono (fun i hi => by
    rw [Bool.and_eq_true] at hi
    exact hi.1) n
theorem qf_S_sm {f b h b' h' : Nat} {M M' : Nat → Nat} {u : St1} (hS : qf_S f b h M b' h' M' u) (q : Nat) : qf_sm M q + M q ≤ h := by
  obtain ⟨rc, a1, a2, a3, a4, a5, a6, a7⟩ := u
  have hQ : qf_Q f b h M b' h' M' a1 a2 a3 a4 a5 a6 := hS
  exact qf_R_sm hQ.1 q
theorem qf_S_0 {f b b' h' : Nat} {M M' : Nat → Nat} {u : St1} (hS : qf_S f b 0 M b' h' M' u) : qf_S f b 0 (fun _ => 0) b' h' M' u :=
  qf_S_M hS (fun q => by have := qf_S_sm hS q; show M q = 0; omega)
/-- the k smallest of them -/
def qf_pt (M : Nat → Nat) (k q : Nat) : Nat := min k (qf_sm M q + M q) - min k (qf_sm M q)
theorem qf_pt_s {M : Nat → Nat} {k w : Nat} (h1 : qf_sm M w ≤ k) (h2 : k < qf_sm M w + M w) (q : Nat) : qf_pt M (k + 1) q = qf_pt M k q + (if (w == q) = true then 1 else 0) := by
  unfold qf_pt
  by_cases e : w = q
  · subst e
    rw [beq_self_eq_true, if_pos rfl]
    omega
  · rw [beq_false_of_ne e, if_neg Bool.false_ne_true]
    have : ¬ (qf_sm M q ≤ k ∧ k < qf_sm M q + M q) := fun z => e (qf_sm_uniq h1 h2 z.1 z.2)
    omega
section
variable {f b h b' h' : Nat} {M M' : Nat → Nat} {post : Int32 → St1 → Prop}
theorem qf_pd76 {due : Int32} (hk : h + h' < 2 ^ b) (hk2 : h + h' ≤ 63) (hd : due = nI (h + h')) (H : ∀ u', qf_S f b (h + h') (fun p => M p + M' p) b' h' M' u' → post 1 u') :
    ∀ fu i rc a1 a2 a3 a4 a5 a6 a7, h' - i < fu → i ≤ h' → qf_S f b (h + i) (fun p => M p + qf_pt M' i p) b' h' M' (rc, a1, a2, a3, a4, a5, a6, a7) → wL_poured_76 post (nI f) due (nI h') (nI (h + h')) fu (nI i) rc a1 a2 a3 a4 a5 a6 a7 := by
  intro fu
  induction fu with
  | zero => intro i rc a1 a2 a3 a4 a5 a6 a7 h; exact absurd h (Nat.not_lt_zero _)
  | succ fu ih =>
    intro i rc a1 a2 a3 a4 a5 a6 a7 hfu hi hS
    have g1 := (qf_S_f hS).1
    unfold wL_poured_76
    refine pk_le h' i (fun z => br_t hd ?_) (fun z => ?_)
    · have e : i = h' := by omega
      subst e
      have hS' := qf_S_sw hS
      refine qf_count hS (br_t rfl (H _ (qf_S_M hS (fun p => ?_))))
      have := qf_S_sm hS' p
      unfold qf_pt
      omega
    · rw [qf_1, pk_sub (show f ≤ 1 by omega)]
      refine qf_print (qf_S_sw hS) z (fun w u' w1 w2 w3 hu' => ?_)
      obtain ⟨sc, c1, c2, c3, c4, c5, c6, c7⟩ := u'
      have hS2 := qf_S_sw hu'
      rw [show 1 - (1 - f) = f by omega] at hS2
      refine qf_numberOf w1 (fun x hx => qf_add hS2 (fun z1 u2 hu2 => ?_) (fun z1 => absurd z1 (by omega)))
      obtain ⟨tc, d1, d2, d3, d4, d5, d6, d7⟩ := u2
      have hM := qf_S_Mle hS2 (qf_pO x)
      refine pk_le 1 _ (fun z2 => nm_r (nI_1 i) (ih (i + 1) tc d1 d2 d3 d4 d5 d6 d7 (by omega) (by omega) (qf_S_M hu2 (fun p => ?_)))) (fun z2 => absurd z2 (by omega)) rfl rfl (by decide) (by omega)
      have := qf_pt_s w2 w3 p
      unfold qf_ad
      dsimp only
      rw [hx]
      omega
theorem qf_pd39 {due : Int32} {b0 : Nat} (hb0 : 3 ≤ b0) (hk2 : h + h' ≤ 63) (hd : due = nI (h + h'))
    (H : ∀ c u', b0 ≤ c → c ≤ 6 → h + h' < 2 ^ c → (c = b0 ∨ 2 ^ (c - 1) ≤ h + h') → qf_S f c (h + h') (fun p => M p + M' p) b' h' M' u' → post 1 u') :
    ∀ fu k c rc a1 a2 a3 a4 a5 a6 a7, 3 - k < fu → k ≤ 3 → b0 ≤ c → (c = b0 ∨ 2 ^ (c - 1) ≤ h + h') → (h + h' < 2 ^ c ∨ b0 + k ≤ c) → qf_S f c h M b' h' M' (rc, a1, a2, a3, a4, a5, a6, a7) → wL_poured_39 post (nI f) due (nI h') (nI (h + h')) fu (nI k) rc a1 a2 a3 a4 a5 a6 a7 := by
  intro fu
  induction fu with
  | zero => intro k c rc a1 a2 a3 a4 a5 a6 a7 h; exact absurd h (Nat.not_lt_zero _)
  | succ fu ih =>
    intro k c rc a1 a2 a3 a4 a5 a6 a7 hfu hk c1 c2 c3 hS
    obtain ⟨g1, g2, g3, g4, g7, g8⟩ := qf_S_f hS
    unfold wL_poured_39
    refine pk_le 3 k (fun z => ?_) (fun z => ?_)
    · have ht : h + h' < 2 ^ c := by
        rcases c3 with y | y
        · exact y
        · have e : c = 6 := by omega
          rw [e]
          omega
      exact ⟨h' + 1, qf_pd76 ht hk2 hd (fun u' hu' => H c u' c1 g3 ht c2 hu') (h' + 1) 0 rc a1 a2 a3 a4 a5 a6 a7 (by omega) (by omega) (qf_S_M hS (fun p => by unfold qf_pt; omega))⟩
    · rw [nI_1]
      refine qf_size hS (pk_le (h + h' + 1) (2 ^ c) (fun z1 => nm_r (nI_1 k) (ih (k + 1) c rc a1 a2 a3 a4 a5 a6 a7 (by omega) (by omega) c1 c2 (Or.inl (by omega)) hS)) (fun z1 => qf_grow hS (fun e => absurd z1 (by rw [e]; omega)) (fun e u' hu' => ?_)))
      obtain ⟨sc, d1, d2, d3, d4, d5, d6, d7⟩ := u'
      have q := qf_S_f hu'
      refine br_t (nI_pos' (by omega)) (nm_r (nI_1 k) (ih (k + 1) (c + 1) sc d1 d2 d3 d4 d5 d6 d7 (by omega) (by omega) (by omega) (Or.inr (by rw [Nat.add_sub_cancel]; omega)) ?_ hu'))
      rcases c3 with y | y
      · exact absurd y (by omega)
      · exact Or.inr (by omega)
theorem qf_poured {due : Int32} {u : St1} (hS : qf_S f b h M b' h' M' u) (hd0 : 63 < h + h' → due = -2) (hd1 : h + h' ≤ 63 → due = nI (h + h')) (H0 : 63 < h + h' → post 1 u)
    (H1 : h + h' ≤ 63 → ∀ c u', b ≤ c → c ≤ 6 → h + h' < 2 ^ c → (c = b ∨ 2 ^ (c - 1) ≤ h + h') → qf_S f c (h + h') (fun p => M p + M' p) b' h' M' u' → post 1 u') : wpL_poured post u (nI f) due := by
  obtain ⟨rc, a1, a2, a3, a4, a5, a6, a7⟩ := u
  obtain ⟨g1, g2, g3, g4, g7, g8⟩ := qf_S_f hS
  obtain ⟨k1, k2, k3, k4, k7, k8⟩ := qf_S_f (qf_S_sw hS)
  unfold wpL_poured
  dsimp only
  rw [qf_1, pk_sub (show f ≤ 1 by omega)]
  refine qf_count (qf_S_sw hS) (qf_count hS (nm_r (nI_add _ _) (pk_le (h + h') 63 (fun z => ⟨4, ?_⟩) (fun z => br_t (hd0 z) (H0 z)))))
  exact qf_pd39 (b0 := b) g2 z (hd1 z) (H1 z) 4 0 b rc a1 a2 a3 a4 a5 a6 a7 (by omega) (by omega) (Nat.le_refl _) (Or.inl rfl) (Or.inr (by omega)) hS
end
end
section
/-! ===== 14: the law ===== -/
/-- x's filter f is as y's filter 1 - f, and the other way round -/
def qf_A (f b h : Nat) (M : Nat → Nat) (b' h' : Nat) (M' : Nat → Nat) (x y : St1) : Prop := qf_S f b h M b' h' M' x ∧ qf_S (1 - f) b h M b' h' M' y
def qf_K (x y : St1) : Prop := ∃ (f b h : Nat) (M : Nat → Nat) (b' h' : Nat) (M' : Nat → Nat), qf_A f b h M b' h' M' x y
theorem qf_A_sw {f b h b' h' : Nat} {M M' : Nat → Nat} {x y : St1} (hA : qf_A f b h M b' h' M' x y) : qf_A (1 - f) b' h' M' b h M x y := ⟨qf_S_sw hA.1, qf_S_sw hA.2⟩
/-- for the filter that is asked for -/
theorem qf_K_f {x y : St1} (hK : qf_K x y) {f : Nat} (hf : f < 2) : ∃ (b h : Nat) (M : Nat → Nat) (b' h' : Nat) (M' : Nat → Nat), qf_A f b h M b' h' M' x y := by
  obtain ⟨g, b, h, M, b', h', M', hA⟩ := hK
  have hg := (qf_S_f hA.1).1
  by_cases e : g = f
  · subst e
    exact ⟨b, h, M, b', h', M', hA⟩
  · have hA' := qf_A_sw hA
    rw [show 1 - g = f by omega] at hA'
    exact ⟨b', h', M', b, h, M, hA'⟩
section
variable {post : Int32 → St2 → Prop}
theorem qf_al44 {J : Int32 → Int32 → (Nat → Int32) → (Nat → Int32) → (Nat → Int32) → (Nat → Int32) → (Nat → Int32) → (Nat → Int32) → (Nat → Int32) → Int32 → (Nat → Int32) → (Nat → Int32) → (Nat → Int32) → (Nat → Int32) → (Nat → Int32) → (Nat → Int32) → (Nat → Int32) → Prop} {f b h b' h' : Nat} {M M' : Nat → Nat}
    (H : ∀ rc a1 a2 a3 a4 a5 a6 a7 sc c1 c2 c3 c4 c5 c6 c7, qf_A f b h M b' h' M' (rc, a1, a2, a3, a4, a5, a6, a7) (sc, c1, c2, c3, c4, c5, c6, c7) → J (nI (f + 1)) rc a1 a2 a3 a4 a5 a6 a7 sc c1 c2 c3 c4 c5 c6 c7) :
    ∀ fu k rc a1 a2 a3 a4 a5 a6 a7 sc c1 c2 c3 c4 c5 c6 c7, h - k < fu → k ≤ h → qf_A f b h M b' h' M' (rc, a1, a2, a3, a4, a5, a6, a7) (sc, c1, c2, c3, c4, c5, c6, c7) → wL_alike_44 post J (nI f) (nI h) fu (nI k) rc a1 a2 a3 a4 a5 a6 a7 sc c1 c2 c3 c4 c5 c6 c7 := by
  intro fu
  induction fu with
  | zero => intro k rc a1 a2 a3 a4 a5 a6 a7 sc c1 c2 c3 c4 c5 c6 c7 h; exact absurd h (Nat.not_lt_zero _)
  | succ fu ih =>
    intro k rc a1 a2 a3 a4 a5 a6 a7 sc c1 c2 c3 c4 c5 c6 c7 hfu hk hA
    obtain ⟨g1, g2, g3, g4, g7, g8⟩ := qf_S_f hA.1
    unfold wL_alike_44
    refine pk_le h k (fun z => nm_r (nI_1 f) (H _ _ _ _ _ _ _ _ _ _ _ _ _ _ _ _ hA)) (fun z => ?_)
    refine qf_print hA.1 z (fun w x' w1 w2 w3 hx' => ?_)
    obtain ⟨rc', d1, d2, d3, d4, d5, d6, d7⟩ := x'
    dsimp only
    rw [qf_1, pk_sub (show f ≤ 1 by omega)]
    refine qf_print hA.2 z (fun w' y' w1' w2' w3' hy' => ?_)
    obtain ⟨sc', e1, e2, e3, e4, e5, e6, e7⟩ := y'
    have ew := qf_sm_uniq w2 w3 w2' w3'
    refine br_t (by rw [ew]) ?_
    rw [← qf_1]
    exact nm_r (nI_1 k) (ih (k + 1) _ _ _ _ _ _ _ _ _ _ _ _ _ _ _ _ (by omega) (by omega) ⟨hx', hy'⟩)
theorem qf_al2 (H : ∀ rc a1 a2 a3 a4 a5 a6 a7 sc c1 c2 c3 c4 c5 c6 c7, qf_K (rc, a1, a2, a3, a4, a5, a6, a7) (sc, c1, c2, c3, c4, c5, c6, c7) → post 1 (rc, a1, a2, a3, a4, a5, a6, a7, sc, c1, c2, c3, c4, c5, c6, c7)) :
    ∀ fu f rc a1 a2 a3 a4 a5 a6 a7 sc c1 c2 c3 c4 c5 c6 c7, 2 - f < fu → f ≤ 2 → qf_K (rc, a1, a2, a3, a4, a5, a6, a7) (sc, c1, c2, c3, c4, c5, c6, c7) → wL_alike_2 post fu (nI f) rc a1 a2 a3 a4 a5 a6 a7 sc c1 c2 c3 c4 c5 c6 c7 := by
  intro fu
  induction fu with
  | zero => intro f rc a1 a2 a3 a4 a5 a6 a7 sc c1 c2 c3 c4 c5 c6 c7 h; exact absurd h (Nat.not_lt_zero _)
  | succ fu ih =>
    intro f rc a1 a2 a3 a4 a5 a6 a7 sc c1 c2 c3 c4 c5 c6 c7 hfu hf hK
    unfold wL_alike_2
    refine pk_le 2 f (fun z => H _ _ _ _ _ _ _ _ _ _ _ _ _ _ _ _ hK) (fun z => ?_)
    obtain ⟨b, h, M, b', h', M', hA⟩ := qf_K_f hK z
    have e1 : (1 : Int32) - nI f = nI (1 - f) := by rw [qf_1, pk_sub (by omega)]
    rw [e1]
    exact qf_count hA.1 (qf_count hA.2 (br_t rfl (qf_size hA.1 (qf_size hA.2 (br_t rfl ⟨h + 1, qf_al44 (fun _ _ _ _ _ _ _ _ _ _ _ _ _ _ _ _ hA' => ih (f + 1) _ _ _ _ _ _ _ _ _ _ _ _ _ _ _ _ (by omega) (by omega) ⟨f, b, h, M, b', h', M', hA'⟩) (h + 1) 0 _ _ _ _ _ _ _ _ _ _ _ _ _ _ _ _ (by omega) (by omega) hA⟩)))))
end
section
variable {L : Nat} {xs : Nat → Int32} {J : Int32 → Int32 → (Nat → Int32) → (Nat → Int32) → (Nat → Int32) → (Nat → Int32) → (Nat → Int32) → (Nat → Int32) → (Nat → Int32) → Int32 → (Nat → Int32) → (Nat → Int32) → (Nat → Int32) → (Nat → Int32) → (Nat → Int32) → (Nat → Int32) → (Nat → Int32) → Prop} {x3 : Int32} {kc ks : Nat} {post : Int32 → Prop}
/-- what goes on behind a turn -/
def qf_N (J : Int32 → Int32 → (Nat → Int32) → (Nat → Int32) → (Nat → Int32) → (Nat → Int32) → (Nat → Int32) → (Nat → Int32) → (Nat → Int32) → Int32 → (Nat → Int32) → (Nat → Int32) → (Nat → Int32) → (Nat → Int32) → (Nat → Int32) → (Nat → Int32) → (Nat → Int32) → Prop) (x3 : Int32) : Prop :=
  ∀ rc a1 a2 a3 a4 a5 a6 a7 sc c1 c2 c3 c4 c5 c6 c7, qf_K (rc, a1, a2, a3, a4, a5, a6, a7) (sc, c1, c2, c3, c4, c5, c6, c7) → J (x3 + 2) rc a1 a2 a3 a4 a5 a6 a7 sc c1 c2 c3 c4 c5 c6 c7
theorem qf_309 {rc sc : Int32} {a1 a2 a3 a4 a5 a6 a7 c1 c2 c3 c4 c5 c6 c7 : Nat → Int32} {f b h b' h' : Nat} {M M' : Nat → Nat} (HJ : qf_N J x3) (hx : qf_S f b h M b' h' M' (rc, a1, a2, a3, a4, a5, a6, a7)) (hy : qf_S (1 - f) b h M b' h' M' (sc, c1, c2, c3, c4, c5, c6, c7)) : wL_law_309 post L xs J x3 kc ks rc a1 a2 a3 a4 a5 a6 a7 sc c1 c2 c3 c4 c5 c6 c7 := by
  unfold wL_law_309 wpL_alike
  dsimp only
  refine ⟨3, qf_al2 (fun rc' d1 d2 d3 d4 d5 d6 d7 sc' e1 e2 e3 e4 e5 e6 e7 hK => ?_) 3 0 _ _ _ _ _ _ _ _ _ _ _ _ _ _ _ _ (by omega) (by omega) ⟨f, b, h, M, b', h', M', hx, hy⟩⟩
  dsimp only
  refine br_f (by decide) (fun y ey => ?_)
  rw [ey]
  exact HJ _ _ _ _ _ _ _ _ _ _ _ _ _ _ _ _ hK
theorem qf_116 {rc sc : Int32} {a1 a2 a3 a4 a5 a6 a7 c1 c2 c3 c4 c5 c6 c7 : Nat → Int32} {f b h b' h' : Nat} {M M' : Nat → Nat} (HJ : qf_N J x3) (hx : qf_S f b h M b' h' M' (rc, a1, a2, a3, a4, a5, a6, a7)) (hy : qf_S (1 - f) b h M b' h' M' (sc, c1, c2, c3, c4, c5, c6, c7)) : wL_law_116 post L xs J x3 (nI f) (nI (1 - f)) kc ks rc a1 a2 a3 a4 a5 a6 a7 sc c1 c2 c3 c4 c5 c6 c7 := by
  unfold wL_law_116
  refine qf_grow hx (fun e => qf_grow hy (fun _ => br_t rfl (qf_309 HJ hx hy)) (fun e' => absurd e (by omega))) (fun e x' hx' => ?_)
  obtain ⟨rc', d1, d2, d3, d4, d5, d6, d7⟩ := x'
  refine qf_grow hy (fun e' => absurd e (by omega)) (fun _ y' hy' => ?_)
  obtain ⟨sc', e1, e2, e3, e4, e5, e6, e7⟩ := y'
  exact br_t rfl (qf_309 HJ hx' hy')
theorem qf_248 {z0 : Int32} {rc sc : Int32} {a1 a2 a3 a4 a5 a6 a7 c1 c2 c3 c4 c5 c6 c7 : Nat → Int32} {f b h b' h' : Nat} {M M' : Nat → Nat} (HJ : qf_N J x3) (hx : qf_S f b h M b' h' M' (rc, a1, a2, a3, a4, a5, a6, a7)) (hy : qf_S (1 - f) b h M b' h' M' (sc, c1, c2, c3, c4, c5, c6, c7)) : wL_law_248 post L xs J x3 (nI f) (nI (1 - f)) z0 kc ks rc a1 a2 a3 a4 a5 a6 a7 sc c1 c2 c3 c4 c5 c6 c7 := by
  unfold wL_law_248
  refine qf_remove hx (fun e => qf_remove hy (fun _ => br_t rfl (qf_309 HJ hx hy)) (fun e' => absurd e (by omega))) (fun e x' hx' => ?_)
  obtain ⟨rc', d1, d2, d3, d4, d5, d6, d7⟩ := x'
  refine qf_remove hy (fun e' => absurd e (by omega)) (fun _ y' hy' => ?_)
  obtain ⟨sc', e1, e2, e3, e4, e5, e6, e7⟩ := y'
  exact br_t rfl (qf_309 HJ hx' hy')
theorem qf_202 {rc : Int32} {a1 a2 a3 a4 a5 a6 a7 : Nat → Int32} {f b h b' h' : Nat} {M' : Nat → Nat} (HJ : qf_N J x3) (hh : h < 64) (hx : qf_S f b 0 (fun _ => 0) b' h' M' (rc, a1, a2, a3, a4, a5, a6, a7)) :
    ∀ fu k M sc c1 c2 c3 c4 c5 c6 c7, h - k < fu → k ≤ h → qf_S (1 - f) b (h - k) M b' h' M' (sc, c1, c2, c3, c4, c5, c6, c7) → wL_law_202 post L xs J x3 (nI (1 - f)) (nI h) kc ks fu (nI k) rc a1 a2 a3 a4 a5 a6 a7 sc c1 c2 c3 c4 c5 c6 c7 := by
  intro fu
  induction fu with
  | zero => intro k M sc c1 c2 c3 c4 c5 c6 c7 h; exact absurd h (Nat.not_lt_zero _)
  | succ fu ih =>
    intro k M sc c1 c2 c3 c4 c5 c6 c7 hfu hk hy
    unfold wL_law_202
    refine pk_le h k (fun z => ?_) (fun z => ?_)
    · rw [show h - k = 0 by omega] at hy
      exact qf_309 HJ hx (qf_S_0 hy)
    · refine qf_print (k := 0) hy (by omega) (fun w y' w1 w2 w3 hy' => ?_)
      obtain ⟨sc', e1, e2, e3, e4, e5, e6, e7⟩ := y'
      refine qf_numberOf w1 (fun x hxw => qf_remove hy' (fun z1 => ?_) (fun z1 y2 hy2 => ?_))
      · rw [hxw] at z1
        exact absurd w3 (by omega)
      · obtain ⟨tc, g1, g2, g3, g4, g5, g6, g7⟩ := y2
        have hM := qf_S_Mle hy' (qf_pO x)
        rw [show h - k - 1 = h - (k + 1) by omega] at hy2
        exact br_t (nI_pos' (by omega)) (nm_r (nI_1 k) (ih (k + 1) _ _ _ _ _ _ _ _ _ (by omega) (by omega) hy2))
theorem qf_66 {z0 x6 : Int32} {rc sc : Int32} {a1 a2 a3 a4 a5 a6 a7 c1 c2 c3 c4 c5 c6 c7 : Nat → Int32} {f b h b' h' : Nat} {M M' : Nat → Nat} (HJ : qf_N J x3) (h3 : vp_in x3 L) (hx : qf_S f b h M b' h' M' (rc, a1, a2, a3, a4, a5, a6, a7)) (hy : qf_S (1 - f) b h M b' h' M' (sc, c1, c2, c3, c4, c5, c6, c7)) : wL_law_66 post L xs J x3 (nI f) (nI (1 - f)) x6 z0 kc ks rc a1 a2 a3 a4 a5 a6 a7 sc c1 c2 c3 c4 c5 c6 c7 := by
  obtain ⟨k, hk, ek⟩ := pk_andE (xs x3.toNatClampNeg) (m := 15) 4 (by decide)
  have hk' : k < 16 := hk
  have hsx := qf_S_f hx
  unfold wL_law_66
  refine ⟨h3, nm_r ek (br_f (nI_pos (by omega)) (pk_lt 6 k (fun z => ?_) (fun z => ?_)))⟩
  · -- add, maybe
    refine qf_add hx (fun e x' hx' => ?_) (fun e => qf_add hy (fun e' => absurd e (by omega)) (fun _ => br_t rfl (qf_maybe hx (fun q => qf_maybe hy (fun _ => br_t rfl (qf_309 HJ hx hy)) (fun q' => absurd q (by omega))) (fun q => qf_maybe hy (fun q' => absurd q (by omega)) (fun _ => br_t rfl (qf_309 HJ hx hy))))))
    obtain ⟨rc', d1, d2, d3, d4, d5, d6, d7⟩ := x'
    refine qf_add hy (fun _ y' hy' => ?_) (fun e' => absurd e (by omega))
    obtain ⟨sc', e1, e2, e3, e4, e5, e6, e7⟩ := y'
    exact br_t rfl (qf_maybe hx' (fun q => qf_maybe hy' (fun _ => br_t rfl (qf_309 HJ hx' hy')) (fun q' => absurd q (by omega))) (fun q => qf_maybe hy' (fun q' => absurd q (by omega)) (fun _ => br_t rfl (qf_309 HJ hx' hy'))))
  · refine pk_eq k 0 (fun _ => qf_116 HJ hx hy) (fun z0 => pk_eq k 1 (fun _ => qf_116 HJ hx hy) (fun z1 => pk_eq k 2 (fun _ => ?_) (fun z2 => pk_eq k 3 (fun _ => ?_) (fun z3 => pk_eq k 4 (fun _ => br_c (fun _ => ?_) (fun _ => qf_309 HJ hx hy)) (fun z4 => pk_eq k 5 (fun _ => qf_248 HJ hx hy) (fun z5 => pk_eq k 6 (fun _ => qf_248 HJ hx hy) (fun z6 => absurd z6 (by omega))))))))
    · -- shrink
      refine qf_shrink hx (fun e => qf_shrink hy (fun _ => br_t rfl (qf_309 HJ hx hy)) (fun e1 e2 => absurd e (by omega))) (fun e e' x' hx' => ?_)
      obtain ⟨rc', d1, d2, d3, d4, d5, d6, d7⟩ := x'
      refine qf_shrink hy (fun q => absurd q (by omega)) (fun _ _ y' hy' => ?_)
      obtain ⟨sc', e1, e2, e3, e4, e5, e6, e7⟩ := y'
      exact br_t rfl (qf_309 HJ hx' hy')
    · -- pour
      refine qf_pour hx (fun e => qf_poured hy (fun _ => rfl) (fun q => absurd q (by omega)) (fun _ => br_f (by decide) (qf_309 HJ hx hy)) (fun q => absurd q (by omega))) (fun e c x' i1 i2 i3 i4 hx' => ?_)
      obtain ⟨rc', d1, d2, d3, d4, d5, d6, d7⟩ := x'
      refine qf_poured hy (fun q => absurd q (by omega)) (fun _ => rfl) (fun q => absurd q (by omega)) (fun _ c' y' j1 j2 j3 j4 hy' => ?_)
      obtain ⟨sc', e1, e2, e3, e4, e5, e6, e7⟩ := y'
      have ec := qf_bits i1 j1 i3 j3 i4 j4
      subst ec
      exact br_f (by decide) (qf_309 HJ hx' hy')
    · -- clear
      refine qf_clear hx (fun x' hx' => ?_)
      obtain ⟨rc', d1, d2, d3, d4, d5, d6, d7⟩ := x'
      exact qf_count hy (br_t rfl ⟨h + 1, qf_202 HJ (by omega) hx' (h + 1) 0 M _ _ _ _ _ _ _ _ (by omega) (by omega) hy⟩)
end
theorem qf_lt2 {L i : Nat} (hL : L < 2 ^ 30) (hi : i < 2 ^ 30) : Int32.ofNat L - 2 < nI i ↔ L < i + 2 := by
  have e : (Int32.ofNat L - 2).toInt = (L : Int) - 2 := pk_sub_toInt (a := L) (b := 2) hL (by decide)
  rw [Int32.lt_iff_toInt_lt, e, nI_toInt (by omega)]
  omega
theorem qf_18 {L : Nat} {xs : Nat → Int32} {kc ks : Nat} (hL : L ≤ 260) :
    ∀ fu i rc a1 a2 a3 a4 a5 a6 a7 sc c1 c2 c3 c4 c5 c6 c7, L - i < fu → i ≤ L + 2 → qf_K (rc, a1, a2, a3, a4, a5, a6, a7) (sc, c1, c2, c3, c4, c5, c6, c7) → wL_law_18 (fun r => r = 1) L xs kc ks fu (nI i) rc a1 a2 a3 a4 a5 a6 a7 sc c1 c2 c3 c4 c5 c6 c7 := by
  intro fu
  induction fu with
  | zero => intro i rc a1 a2 a3 a4 a5 a6 a7 sc c1 c2 c3 c4 c5 c6 c7 h; exact absurd h (Nat.not_lt_zero _)
  | succ fu ih =>
    intro i rc a1 a2 a3 a4 a5 a6 a7 sc c1 c2 c3 c4 c5 c6 c7 hfu hi hK
    unfold wL_law_18
    refine br_c (fun z => rfl) (fun z => ?_)
    have hlt : ¬ L < i + 2 := fun w => z ((qf_lt2 (by omega) (by omega)).mpr w)
    obtain ⟨f, hf, ef⟩ := pk_andE ((xs (nI i).toNatClampNeg) >>> ((4 : Int32) &&& 31)) (m := 1) 1 (by decide)
    have hf' : f < 2 := hf
    obtain ⟨b, h, M, b', h', M', hx, hy⟩ := qf_K_f hK hf'
    have hin : vp_in (nI i) L := vp_in_nI (by omega) (by omega)
    have hin1 : vp_in (nI i + 1) L := by
      rw [nI_1]
      exact vp_in_nI (by omega) (by omega)
    have HJ : qf_N (wL_law_18 (fun r => r = 1) L xs kc ks fu) (nI i) := by
      intro rc a1 a2 a3 a4 a5 a6 a7 sc c1 c2 c3 c4 c5 c6 c7 hK'
      rw [show (2 : Int32) = nI 2 from rfl, nI_add]
      exact ih (i + 2) _ _ _ _ _ _ _ _ _ _ _ _ _ _ _ _ (by omega) (by omega) hK'
    refine ⟨hin, nm_r ef (nm_r (show (1 : Int32) - nI f = nI (1 - f) by rw [qf_1, pk_sub (by omega)]) ⟨hin1, nm_e (br_c (fun _ => qf_66 HJ hin hx hy) (fun _ => qf_66 HJ hin hx hy))⟩)⟩
/-- a new object: both filters are empty -/
theorem qf_new {rc : Int32} {a7 : Nat → Int32} : qf_S 0 3 0 (fun _ => 0) 3 0 (fun _ => 0) (rc, upd (upd (fun _ => 0) 0 3) 1 3, (fun _ => 0), (fun _ => 0), (fun _ => 0), (fun _ => 0), (fun _ => 0), a7) := by
  refine ⟨qf_R_0 (n := 8) ⟨by decide, by decide, by decide, by decide, by decide⟩ rfl (fun _ _ => rfl) (fun _ _ => rfl) (fun _ _ => rfl), qf_R_0 (n := 8) ⟨by decide, by decide, by decide, by decide, by decide⟩ rfl (fun _ _ => rfl) (fun _ _ => rfl) (fun _ _ => rfl)⟩
theorem qf_init {post : St1 → Prop} (H : post (0, upd (upd (fun _ => 0) 0 3) 1 3, (fun _ => 0), (fun _ => 0), (fun _ => 0), (fun _ => 0), (fun _ => 0), (fun _ => 0))) : wpX_init post 7 580 0 := by
  unfold wpX_init
  exact ⟨by decide, by decide, by decide, by decide, by decide, by decide, by decide, by decide, by decide, by decide, by decide, by decide, by decide, by decide, nm_e (nm_e H)⟩
theorem i_vc (xs : Nat → Int32) (L : Nat) (hL : L ≤ 260) : wpL_law (fun r => r = 1) L xs := by
  unfold wpL_law
  refine ⟨7, 580, by decide, by decide, qf_init ⟨by decide, by decide, 7, 580, by decide, by decide, qf_init ⟨L + 1, ?_⟩⟩⟩
  exact qf_18 hL (L + 1) 0 _ _ _ _ _ _ _ _ _ _ _ _ _ _ _ _ (by omega) (by omega) ⟨0, 3, 0, _, 3, 0, _, qf_new, qf_S_sw qf_new⟩
end
