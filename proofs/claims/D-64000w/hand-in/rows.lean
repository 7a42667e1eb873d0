section
/-! PURE 1: sums, lists, projects, lines -/
def jI (x : Int) : Int32 := Int32.ofInt x
def uu {α : Type} (f : Nat → α) (k : Nat) (v : α) : Nat → α := fun j => if j = k then v else f j
theorem uu_s {α : Type} {f : Nat → α} {k : Nat} {v : α} : uu f k v k = v := by simp [uu]
theorem uu_n {α : Type} {f : Nat → α} {k j : Nat} {v : α} (h : j ≠ k) : uu f k v j = f j := by simp [uu, h]
theorem uu_at {α : Type} (f : Nat → α) (k : Nat) (v : α) (j : Nat) : uu f k v j = if j = k then v else f j := rfl
/-- sum of the first n -/
def sm (f : Nat → Int) : Nat → Int
  | 0 => 0
  | n + 1 => sm f n + f n
theorem sm_congr {f g : Nat → Int} : ∀ {n : Nat}, (∀ i, i < n → f i = g i) → sm f n = sm g n
  | 0, _ => rfl
  | n + 1, h => by
    simp only [sm]
    rw [sm_congr (n := n) (fun i hi => h i (by omega)), h n (by omega)]
theorem sm_add (f g : Nat → Int) : ∀ n, sm (fun i => f i + g i) n = sm f n + sm g n
  | 0 => rfl
  | n + 1 => by
    simp only [sm]
    rw [sm_add f g n]
    omega
theorem sm_sub (f g : Nat → Int) : ∀ n, sm (fun i => f i - g i) n = sm f n - sm g n
  | 0 => rfl
  | n + 1 => by
    simp only [sm]
    rw [sm_sub f g n]
    omega
theorem sm_mul (f : Nat → Int) (c : Int) : ∀ n, sm (fun i => c * f i) n = c * sm f n
  | 0 => by simp [sm]
  | n + 1 => by
    simp only [sm]
    rw [sm_mul f c n, Int.mul_add]
theorem sm_le {f g : Nat → Int} : ∀ {n : Nat}, (∀ i, i < n → f i ≤ g i) → sm f n ≤ sm g n
  | 0, _ => Int.le_refl _
  | n + 1, h => by
    simp only [sm]
    have h1 := sm_le (n := n) (fun i hi => h i (by omega))
    have h2 := h n (by omega)
    omega
theorem sm_0 : ∀ n, sm (fun _ => 0) n = 0
  | 0 => rfl
  | n + 1 => by simp [sm, sm_0 n]
theorem sm_nn {f : Nat → Int} {n : Nat} (h : ∀ i, i < n → 0 ≤ f i) : 0 ≤ sm f n := by
  have := sm_le (f := fun _ => 0) (g := f) (n := n) h
  rw [sm_0] at this
  exact this
theorem sm_zero {f : Nat → Int} {n : Nat} (h : ∀ i, i < n → f i = 0) : sm f n = 0 := by
  rw [sm_congr (g := fun _ => 0) h, sm_0]
/-- one term is at most the sum of non-negative terms -/
theorem sm_one {f : Nat → Int} : ∀ {n : Nat}, (∀ i, i < n → 0 ≤ f i) → ∀ i, i < n → f i ≤ sm f n
  | 0, _, i, hi => absurd hi (by omega)
  | n + 1, h, i, hi => by
    simp only [sm]
    have hn := h n (by omega)
    rcases Nat.lt_or_ge i n with q | q
    · have := sm_one (n := n) (fun i hi => h i (by omega)) i q
      omega
    · have : i = n := by omega
      subst this
      have := sm_nn (f := f) (n := i) (fun j hj => h j (by omega))
      omega
/-- a sum of non-negative terms that is not positive: each is zero -/
theorem sm_all0 {f : Nat → Int} {n : Nat} (h : ∀ i, i < n → 0 ≤ f i) (h0 : sm f n ≤ 0) : ∀ i, i < n → f i = 0 := by
  intro i hi
  have h1 := sm_one h i hi
  have h2 := h i hi
  omega
/-- changing one place of a weighted sum -/
theorem sm_uu (f w : Nat → Int) (k : Nat) (v : Int) : ∀ n, k < n → sm (fun l => uu f k v l * w l) n = sm (fun l => f l * w l) n + (v - f k) * w k
  | 0, h => absurd h (by omega)
  | n + 1, h => by
    simp only [sm]
    rcases Nat.lt_or_ge k n with q | q
    · rw [sm_uu f w k v n q, uu_n (by omega : n ≠ k)]
      omega
    · have : k = n := by omega
      subst this
      rw [sm_congr (g := fun l => f l * w l) (fun i hi => by rw [uu_n (by omega : i ≠ k)]), uu_s, Int.sub_mul]
      omega
/-- pairs of lines: slow and fast -/
theorem sm_two (g : Nat → Int) : ∀ n, sm g (2 * n) = sm (fun j => g (2 * j) + g (2 * j + 1)) n
  | 0 => rfl
  | n + 1 => by
    rw [show 2 * (n + 1) = (2 * n + 1) + 1 by omega]
    simp only [sm]
    rw [sm_two g n]
    omega
/-- different numbers below N: at most N of them -/
theorem pig : ∀ (N : Nat) (l : List Nat), l.Nodup → (∀ x ∈ l, x < N) → l.length ≤ N
  | 0, [], _, _ => Nat.le_refl _
  | 0, a :: l, _, h => absurd (h a List.mem_cons_self) (by omega)
  | N + 1, l, hn, h => by
    by_cases hm : N ∈ l
    · have h1 := pig N (l.erase N) (hn.erase N) (fun x hx => by
        have h2 := h x (List.mem_of_mem_erase hx)
        have h3 : x ≠ N := fun e => by
          subst e
          exact (List.Nodup.not_mem_erase hn) hx
        omega)
      rw [List.length_erase_of_mem hm] at h1
      omega
    · have h1 := pig N l hn (fun x hx => by
        have h2 := h x hx
        have h3 : x ≠ N := fun e => hm (e ▸ hx)
        omega)
      omega
/-- a project: number of jobs, from, to, slow, fast, price -/
abbrev Pj : Type := Nat × (Nat → Nat) × (Nat → Nat) × (Nat → Int) × (Nat → Int) × (Nat → Int)
def jn (P : Pj) : Nat := P.1
def jf (P : Pj) : Nat → Nat := P.2.1
def jt (P : Pj) : Nat → Nat := P.2.2.1
def js (P : Pj) : Nat → Int := P.2.2.2.1
def ja (P : Pj) : Nat → Int := P.2.2.2.2.1
def jp (P : Pj) : Nat → Int := P.2.2.2.2.2
def jok (P : Pj) (j : Nat) : Prop := jf P j < jt P j ∧ jt P j ≤ 5 ∧ 0 ≤ ja P j ∧ ja P j ≤ js P j ∧ js P j ≤ 9 ∧ js P j - ja P j ≤ 3 ∧ 1 ≤ jp P j ∧ jp P j ≤ 20
def pok (P : Pj) : Prop := jn P ≤ 7 ∧ ∀ j, j < jn P → jok P j
/-- a step k: line k / 2 of job k / 4; odd: walked back -/
def ea (P : Pj) (k : Nat) : Nat := if k % 2 = 1 then jt P (k / 4) else jf P (k / 4)
def eb (P : Pj) (k : Nat) : Nat := if k % 2 = 1 then jf P (k / 4) else jt P (k / 4)
def ln (P : Pj) (l : Nat) : Int := if l % 2 = 0 then js P (l / 2) else ja P (l / 2)
def el (P : Pj) (k : Nat) : Int := if k % 2 = 1 then -ln P (k / 2) else ln P (k / 2)
def er (P : Pj) (f : Nat → Int) (k : Nat) : Int := if k % 2 = 1 then f (k / 2) else if (k / 2) % 2 = 0 then jp P (k / 4) - f (k / 2) else 1000000
def ecode (k : Nat) : Int := if k % 2 = 1 then (k / 2 : Nat) + 28 else (k / 2 : Nat)
def rev (k : Nat) : Nat := if k % 2 = 1 then k - 1 else k + 1
theorem rev_rev (k : Nat) : rev (rev k) = k := by
  simp only [rev]
  split <;> split <;> omega
theorem rev_div2 (k : Nat) : rev k / 2 = k / 2 := by
  simp only [rev]
  split <;> omega
theorem rev_div4 (k : Nat) : rev k / 4 = k / 4 := by
  simp only [rev]
  split <;> omega
theorem rev_mod (k : Nat) : rev k % 2 = 1 - k % 2 := by
  simp only [rev]
  split <;> omega
theorem rev_lt {k n : Nat} (h : k < 4 * n) : rev k < 4 * n := by
  simp only [rev]
  split <;> omega
theorem ea_rev (P : Pj) (k : Nat) : ea P (rev k) = eb P k := by
  simp only [ea, eb, rev_div4, rev_mod]
  rcases Nat.mod_two_eq_zero_or_one k with h | h <;> simp [h]
theorem eb_rev (P : Pj) (k : Nat) : eb P (rev k) = ea P k := by
  have := ea_rev P (rev k)
  rw [rev_rev] at this
  exact this.symm
theorem el_rev (P : Pj) (k : Nat) : el P (rev k) = -el P k := by
  simp only [el, rev_div2, rev_mod]
  rcases Nat.mod_two_eq_zero_or_one k with h | h <;> simp [h]
theorem ek_job {P : Pj} (hp : pok P) {k : Nat} (hk : k < 4 * jn P) : jok P (k / 4) := hp.2 _ (by omega)
theorem e_ne {P : Pj} (hp : pok P) {k : Nat} (hk : k < 4 * jn P) : ea P k ≠ eb P k := by
  have h := (ek_job hp hk).1
  simp only [ea, eb]
  split <;> omega
theorem e_le5 {P : Pj} (hp : pok P) {k : Nat} (hk : k < 4 * jn P) : ea P k ≤ 5 ∧ eb P k ≤ 5 := by
  have h := (ek_job hp hk).1
  have h2 := (ek_job hp hk).2.1
  simp only [ea, eb]
  split <;> omega
theorem ln_b {P : Pj} (hp : pok P) {l : Nat} (hl : l < 2 * jn P) : 0 ≤ ln P l ∧ ln P l ≤ 9 := by
  have h := hp.2 (l / 2) (by omega)
  simp only [jok] at h
  simp only [ln]
  split <;> omega
/-- reached from 0 by jobs -/
def Bn (P : Pj) (v : Nat) : Prop := ∀ S : Nat → Prop, S 0 → (∀ j, j < jn P → S (jf P j) → S (jt P j)) → S v
theorem Bn_0 (P : Pj) : Bn P 0 := fun _ h _ => h
theorem Bn_job {P : Pj} {j : Nat} (hj : j < jn P) (h : Bn P (jf P j)) : Bn P (jt P j) := fun S h0 h1 => h1 j hj (h S h0 h1)
/-- a flow that fits its lines -/
def fok (P : Pj) (f : Nat → Int) : Prop := ∀ l, l < 2 * jn P → 0 ≤ f l ∧ (l % 2 = 0 → f l ≤ jp P (l / 2)) ∧ (f l ≠ 0 → Bn P (jf P (l / 2)))
theorem er_nn {P : Pj} {f : Nat → Int} (hf : fok P f) {k : Nat} (hk : k < 4 * jn P) : 0 ≤ er P f k := by
  have h := hf (k / 2) (by omega)
  rw [show k / 2 / 2 = k / 4 by omega] at h
  simp only [er]
  split
  · exact h.1
  · split
    · have := h.2.1 (by assumption)
      omega
    · omega
theorem Bn_e {P : Pj} {f : Nat → Int} (hf : fok P f) {k : Nat} (hk : k < 4 * jn P) (hr : er P f k ≠ 0) (h : Bn P (ea P k)) : Bn P (eb P k) := by
  have h1 := hf (k / 2) (by omega)
  rw [show k / 2 / 2 = k / 4 by omega] at h1
  simp only [er] at hr
  simp only [ea] at h
  simp only [eb]
  split at h <;> rename_i hc
  · rw [if_pos hc] at hr
    rw [if_pos hc]
    exact h1.2.2 hr
  · rw [if_neg hc]
    exact Bn_job (by omega) h
/-- heights that no open step passes -/
def pot (P : Pj) (f : Nat → Int) (y : Nat → Int) : Prop := y 0 = 0 ∧ ∀ k, k < 4 * jn P → er P f k ≠ 0 → Bn P (ea P k) → el P k + y (ea P k) ≤ y (eb P k)
end
section
/-! PURE 2: the rounds over all steps -/
abbrev BS : Type := (Nat → Bool) × (Nat → Int) × (Nat → Int)
abbrev bcond (P : Pj) (f : Nat → Int) (s : BS) (k : Nat) : Prop := s.1 (ea P k) = true ∧ er P f k ≠ 0 ∧ eb P k ≠ 0 ∧ ¬ (s.1 (eb P k) = true ∧ s.2.1 (ea P k) + el P k ≤ s.2.1 (eb P k))
def bstep (P : Pj) (f : Nat → Int) (s : BS) (k : Nat) : BS :=
  if bcond P f s k then (uu s.1 (eb P k) true, uu s.2.1 (eb P k) (s.2.1 (ea P k) + el P k), uu s.2.2 (eb P k) (ecode k)) else s
def b0 : BS := (fun v => decide (v = 0), fun _ => 0, fun _ => -1)
def brun (P : Pj) (f : Nat → Int) : Nat → BS
  | 0 => b0
  | t + 1 => bstep P f (brun P f t) (t % (4 * jn P))
def rE (P : Pj) (f : Nat → Int) (t v : Nat) : Prop := (brun P f t).1 v = true
def lO (P : Pj) (f : Nat → Int) (t v : Nat) : Int := (brun P f t).2.1 v
def lA (P : Pj) (f : Nat → Int) (t v : Nat) : Int := (brun P f t).2.2 v
def kt (P : Pj) (t : Nat) : Nat := t % (4 * jn P)
/-- step t changes something -/
def ups (P : Pj) (f : Nat → Int) (t : Nat) : Prop := rE P f t (ea P (kt P t)) ∧ er P f (kt P t) ≠ 0 ∧ eb P (kt P t) ≠ 0 ∧ ¬ (rE P f t (eb P (kt P t)) ∧ lO P f t (ea P (kt P t)) + el P (kt P t) ≤ lO P f t (eb P (kt P t)))
theorem kt_lt {P : Pj} (h : 0 < jn P) (t : Nat) : kt P t < 4 * jn P := Nat.mod_lt _ (by omega)
theorem br_no {P : Pj} {f : Nat → Int} {t : Nat} (h : ¬ ups P f t) : brun P f (t + 1) = brun P f t := by
  show bstep P f (brun P f t) (t % (4 * jn P)) = _
  rw [bstep, if_neg (show ¬ bcond P f (brun P f t) (t % (4 * jn P)) from h)]
theorem br_yes {P : Pj} {f : Nat → Int} {t : Nat} (h : ups P f t) : brun P f (t + 1) = (uu (brun P f t).1 (eb P (kt P t)) true, uu (brun P f t).2.1 (eb P (kt P t)) (lO P f t (ea P (kt P t)) + el P (kt P t)), uu (brun P f t).2.2 (eb P (kt P t)) (ecode (kt P t))) := by
  show bstep P f (brun P f t) (t % (4 * jn P)) = _
  rw [bstep, if_pos (show bcond P f (brun P f t) (t % (4 * jn P)) from h)]
  rfl
theorem up_re {P : Pj} {f : Nat → Int} {t : Nat} (h : ups P f t) : rE P f (t + 1) (eb P (kt P t)) := by
  simp only [rE, br_yes h, uu_s]
theorem up_lo {P : Pj} {f : Nat → Int} {t : Nat} (h : ups P f t) : lO P f (t + 1) (eb P (kt P t)) = lO P f t (ea P (kt P t)) + el P (kt P t) := by
  simp only [lO, br_yes h, uu_s]
theorem up_la {P : Pj} {f : Nat → Int} {t : Nat} (h : ups P f t) : lA P f (t + 1) (eb P (kt P t)) = ecode (kt P t) := by
  simp only [lA, br_yes h, uu_s]
theorem up_reN {P : Pj} {f : Nat → Int} {t v : Nat} (h : ups P f t) (hv : v ≠ eb P (kt P t)) : rE P f (t + 1) v ↔ rE P f t v := by
  simp only [rE, br_yes h, uu_n hv]
theorem up_loN {P : Pj} {f : Nat → Int} {t v : Nat} (h : ups P f t) (hv : v ≠ eb P (kt P t)) : lO P f (t + 1) v = lO P f t v := by
  simp only [lO, br_yes h, uu_n hv]
theorem up_laN {P : Pj} {f : Nat → Int} {t v : Nat} (h : ups P f t) (hv : v ≠ eb P (kt P t)) : lA P f (t + 1) v = lA P f t v := by
  simp only [lA, br_yes h, uu_n hv]
theorem no_re {P : Pj} {f : Nat → Int} {t v : Nat} (h : ¬ ups P f t) : rE P f (t + 1) v ↔ rE P f t v := by
  simp only [rE, br_no h]
theorem no_lo {P : Pj} {f : Nat → Int} {t v : Nat} (h : ¬ ups P f t) : lO P f (t + 1) v = lO P f t v := by
  simp only [lO, br_no h]
theorem no_la {P : Pj} {f : Nat → Int} {t v : Nat} (h : ¬ ups P f t) : lA P f (t + 1) v = lA P f t v := by
  simp only [lA, br_no h]
/-- once reached, always reached, and never shorter -/
theorem mono1 {P : Pj} {f : Nat → Int} {t v : Nat} (h : rE P f t v) : rE P f (t + 1) v ∧ lO P f t v ≤ lO P f (t + 1) v := by
  by_cases hu : ups P f t
  · by_cases hv : v = eb P (kt P t)
    · subst hv
      refine ⟨up_re hu, ?_⟩
      rw [up_lo hu]
      have := hu.2.2.2
      have h3 : ¬ (lO P f t (ea P (kt P t)) + el P (kt P t) ≤ lO P f t (eb P (kt P t))) := fun q => this ⟨h, q⟩
      omega
    · exact ⟨(up_reN hu hv).mpr h, by rw [up_loN hu hv]; exact Int.le_refl _⟩
  · exact ⟨(no_re hu).mpr h, by rw [no_lo hu]; exact Int.le_refl _⟩
theorem mono {P : Pj} {f : Nat → Int} {v t : Nat} (h : rE P f t v) : ∀ d, rE P f (t + d) v ∧ lO P f t v ≤ lO P f (t + d) v
  | 0 => ⟨h, Int.le_refl _⟩
  | d + 1 => by
    obtain ⟨h1, h2⟩ := mono h d
    obtain ⟨h3, h4⟩ := mono1 h1
    exact ⟨h3, Int.le_trans h2 h4⟩
theorem mono' {P : Pj} {f : Nat → Int} {v t t' : Nat} (h : rE P f t v) (ht : t ≤ t') : rE P f t' v ∧ lO P f t v ≤ lO P f t' v := by
  have := mono h (t' - t)
  rw [show t + (t' - t) = t' by omega] at this
  exact this
/-- an update is strict -/
theorem up_lt {P : Pj} {f : Nat → Int} {t : Nat} (h : ups P f t) (hr : rE P f t (eb P (kt P t))) : lO P f t (eb P (kt P t)) < lO P f (t + 1) (eb P (kt P t)) := by
  rw [up_lo h]
  have h3 : ¬ (lO P f t (ea P (kt P t)) + el P (kt P t) ≤ lO P f t (eb P (kt P t))) := fun q => h.2.2.2 ⟨hr, q⟩
  omega
theorem at_0 (P : Pj) (f : Nat → Int) : ∀ t, rE P f t 0 ∧ lO P f t 0 = 0
  | 0 => ⟨by simp [rE, brun, b0], rfl⟩
  | t + 1 => by
    obtain ⟨h1, h2⟩ := at_0 P f t
    by_cases hu : ups P f t
    · have hv : 0 ≠ eb P (kt P t) := fun e => hu.2.2.1 e.symm
      exact ⟨(up_reN hu hv).mpr h1, by rw [up_loN hu hv]; exact h2⟩
    · exact ⟨(no_re hu).mpr h1, by rw [no_lo hu]; exact h2⟩
/-- never above heights that no open step passes -/
theorem below {P : Pj} {f y : Nat → Int} (hn : 0 < jn P) (hf : fok P f) (hy : pot P f y) : ∀ t v, rE P f t v → Bn P v ∧ lO P f t v ≤ y v
  | 0, v, h => by
    have hv : v = 0 := by simpa [rE, brun, b0] using h
    subst hv
    refine ⟨Bn_0 P, ?_⟩
    rw [hy.1]
    exact Int.le_refl _
  | t + 1, v, h => by
    have ih := below hn hf hy t
    by_cases hu : ups P f t
    · by_cases hv : v = eb P (kt P t)
      · subst hv
        obtain ⟨h1, h2⟩ := ih _ hu.1
        refine ⟨Bn_e hf (kt_lt hn t) hu.2.1 h1, ?_⟩
        rw [up_lo hu]
        have := hy.2 _ (kt_lt hn t) hu.2.1 h1
        omega
      · obtain ⟨h1, h2⟩ := ih _ ((up_reN hu hv).mp h)
        exact ⟨h1, by rw [up_loN hu hv]; exact h2⟩
    · obtain ⟨h1, h2⟩ := ih _ ((no_re hu).mp h)
      exact ⟨h1, by rw [no_lo hu]; exact h2⟩
/-- a place's last update between two times, if there was one -/
theorem lastup (P : Pj) (f : Nat → Int) (t0 v : Nat) : ∀ d, ((rE P f (t0 + d) v ↔ rE P f t0 v) ∧ lO P f (t0 + d) v = lO P f t0 v ∧ lA P f (t0 + d) v = lA P f t0 v) ∨ ∃ t, t0 ≤ t ∧ t < t0 + d ∧ ups P f t ∧ eb P (kt P t) = v ∧ lO P f (t0 + d) v = lO P f (t + 1) v ∧ lA P f (t0 + d) v = lA P f (t + 1) v
  | 0 => Or.inl ⟨Iff.rfl, rfl, rfl⟩
  | d + 1 => by
    by_cases hu : ups P f (t0 + d)
    · by_cases hv : v = eb P (kt P (t0 + d))
      · exact Or.inr ⟨t0 + d, by omega, by omega, hu, hv.symm, rfl, rfl⟩
      · have e1 := up_reN hu hv
        have e2 := up_loN hu hv
        have e3 := up_laN hu hv
        rcases lastup P f t0 v d with ⟨h1, h2, h3⟩ | ⟨t, h1, h2, h3, h4, h5, h6⟩
        · exact Or.inl ⟨e1.trans h1, e2.trans h2, e3.trans h3⟩
        · exact Or.inr ⟨t, h1, by omega, h3, h4, e2.trans h5, e3.trans h6⟩
    · have e1 := no_re (v := v) hu
      have e2 := no_lo (v := v) hu
      have e3 := no_la (v := v) hu
      rcases lastup P f t0 v d with ⟨h1, h2, h3⟩ | ⟨t, h1, h2, h3, h4, h5, h6⟩
      · exact Or.inl ⟨e1.trans h1, e2.trans h2, e3.trans h3⟩
      · exact Or.inr ⟨t, h1, by omega, h3, h4, e2.trans h5, e3.trans h6⟩
/-- behind step t the open step holds, if its tail was reached -/
theorem held {P : Pj} {f : Nat → Int} {t : Nat} (hr : rE P f t (ea P (kt P t))) (ho : er P f (kt P t) ≠ 0) (hb : eb P (kt P t) ≠ 0) : rE P f (t + 1) (eb P (kt P t)) ∧ lO P f t (ea P (kt P t)) + el P (kt P t) ≤ lO P f (t + 1) (eb P (kt P t)) := by
  by_cases hu : ups P f t
  · exact ⟨up_re hu, by rw [up_lo hu]; exact Int.le_refl _⟩
  · have h1 : rE P f t (eb P (kt P t)) ∧ lO P f t (ea P (kt P t)) + el P (kt P t) ≤ lO P f t (eb P (kt P t)) := Classical.byContradiction (fun q => hu ⟨hr, ho, hb, q⟩)
    exact ⟨(no_re hu).mpr h1.1, by rw [no_lo hu]; exact h1.2⟩
/-- an update in a later round: the tail was updated within the last round -/
theorem trace {P : Pj} {f : Nat → Int} {t : Nat} (hn : 0 < jn P) (h : ups P f t) (ht : 4 * jn P ≤ t) : ∃ t', t' < t ∧ t ≤ t' + 4 * jn P ∧ ups P f t' ∧ eb P (kt P t') = ea P (kt P t) ∧ lO P f t (ea P (kt P t)) = lO P f (t' + 1) (ea P (kt P t)) := by
  have hk : kt P (t - 4 * jn P) = kt P t := by
    simp only [kt]
    conv => rhs; rw [show t = (t - 4 * jn P) + 4 * jn P by omega]
    rw [Nat.add_mod_right]
  have hs := lastup P f (t - 4 * jn P) (ea P (kt P t)) (4 * jn P)
  rw [show t - 4 * jn P + 4 * jn P = t by omega] at hs
  rcases hs with ⟨h1, h2, -⟩ | ⟨t', h1, h2, h3, h4, h5, -⟩
  · exfalso
    have hr := h1.mp h.1
    rw [← hk] at hr
    obtain ⟨g1, g2⟩ := held hr (by rw [hk]; exact h.2.1) (by rw [hk]; exact h.2.2.1)
    rw [hk] at g1 g2
    obtain ⟨g3, g4⟩ := mono' g1 (show t - 4 * jn P + 1 ≤ t by omega)
    exact h.2.2.2 ⟨g3, by rw [h2]; omega⟩
  · exact ⟨t', h2, by omega, h3, h4, h5⟩
/-- how far an update's height is from y -/
def gap (P : Pj) (f y : Nat → Int) (t : Nat) : Int := lO P f (t + 1) (eb P (kt P t)) - y (eb P (kt P t))
theorem chain {P : Pj} {f y : Nat → Int} (hp : pok P) (hn : 0 < jn P) (hf : fok P f) (hy : pot P f y) : ∀ (i t : Nat), ups P f t → 4 * jn P * i ≤ t → ∃ vs : List Nat, vs.length = i + 1 ∧ vs.Nodup ∧ ∀ x ∈ vs, (1 ≤ x ∧ x ≤ 5) ∧ ∃ t', t' ≤ t ∧ ups P f t' ∧ eb P (kt P t') = x ∧ gap P f y t ≤ gap P f y t'
  | 0, t, h, _ => by
    refine ⟨[eb P (kt P t)], rfl, by simp, ?_⟩
    intro x hx
    rw [List.mem_singleton] at hx
    subst hx
    have h5 := (e_le5 hp (kt_lt hn t)).2
    have h0 := h.2.2.1
    exact ⟨⟨by omega, h5⟩, t, Nat.le_refl _, h, rfl, Int.le_refl _⟩
  | i + 1, t, h, ht => by
    have hm : 4 * jn P * (i + 1) = 4 * jn P * i + 4 * jn P := Nat.mul_succ _ _
    obtain ⟨t', a1, a2, a3, a4, a5⟩ := trace hn h (by omega)
    obtain ⟨vs, b1, b2, b3⟩ := chain hp hn hf hy i t' a3 (by omega)
    have hg : gap P f y t ≤ gap P f y t' := by
      simp only [gap]
      rw [up_lo h, a5, a4]
      have := hy.2 _ (kt_lt hn t) h.2.1 (below hn hf hy t _ h.1).1
      omega
    refine ⟨eb P (kt P t) :: vs, by simp [b1], ?_, ?_⟩
    · rw [List.nodup_cons]
      refine ⟨fun hm => ?_, b2⟩
      obtain ⟨-, t2, c1, c2, c3, c4⟩ := b3 _ hm
      have r1 := up_re c2
      have r2 := mono' r1 (show t2 + 1 ≤ t by omega)
      rw [c3] at r2
      have r3 := up_lt h r2.1
      have c5 : gap P f y t ≤ gap P f y t2 := Int.le_trans hg c4
      simp only [gap] at c5
      rw [c3] at c5
      omega
    · intro x hx
      rcases List.mem_cons.mp hx with e | e
      · subst e
        have h5 := (e_le5 hp (kt_lt hn t)).2
        have h0 := h.2.2.1
        exact ⟨⟨by omega, h5⟩, t, Nat.le_refl _, h, rfl, Int.le_refl _⟩
      · obtain ⟨d1, t2, d2, d3, d4, d5⟩ := b3 x e
        exact ⟨d1, t2, by omega, d3, d4, Int.le_trans hg d5⟩
/-- five rounds settle all -/
theorem settled {P : Pj} {f y : Nat → Int} (hp : pok P) (hn : 0 < jn P) (hf : fok P f) (hy : pot P f y) {t : Nat} (ht : 20 * jn P ≤ t) : ¬ ups P f t := by
  intro h
  obtain ⟨vs, b1, b2, b3⟩ := chain hp hn hf hy 5 t h (by omega)
  have h1 : (vs.map (fun x => x - 1)).length ≤ 5 := pig 5 _ (by
    rw [List.nodup_iff_pairwise_ne] at b2 ⊢
    rw [List.pairwise_map]
    refine b2.imp_of_mem (fun ha hb hab => ?_)
    have := (b3 _ ha).1
    have := (b3 _ hb).1
    omega) (fun x hx => by
    obtain ⟨z, hz, rfl⟩ := List.mem_map.mp hx
    have := (b3 _ hz).1
    omega)
  rw [List.length_map] at h1
  omega
theorem still {P : Pj} {f y : Nat → Int} (hp : pok P) (hn : 0 < jn P) (hf : fok P f) (hy : pot P f y) : ∀ d, brun P f (20 * jn P + d) = brun P f (20 * jn P)
  | 0 => rfl
  | d + 1 => by
    rw [← still hp hn hf hy d]
    exact br_no (settled hp hn hf hy (Nat.le_add_right _ _))
end
section
/-! PURE 3: the end of the rounds, the way -/
def good (P : Pj) (f y : Nat → Int) : Prop := pok P ∧ 0 < jn P ∧ fok P f ∧ pot P f y
def fR (P : Pj) (f : Nat → Int) (v : Nat) : Prop := rE P f (24 * jn P) v
def fO (P : Pj) (f : Nat → Int) (v : Nat) : Int := lO P f (24 * jn P) v
def fA (P : Pj) (f : Nat → Int) (v : Nat) : Int := lA P f (24 * jn P) v
theorem st20 {P : Pj} {f y : Nat → Int} (g : good P f y) : brun P f (24 * jn P) = brun P f (20 * jn P) := by
  have := still g.1 g.2.1 g.2.2.1 g.2.2.2 (4 * jn P)
  rwa [show 20 * jn P + 4 * jn P = 24 * jn P by omega] at this
theorem stk {P : Pj} {f y : Nat → Int} (g : good P f y) (d : Nat) : brun P f (20 * jn P + d) = brun P f (24 * jn P) := by
  rw [st20 g]
  exact still g.1 g.2.1 g.2.2.1 g.2.2.2 d
theorem fR_0 (P : Pj) (f : Nat → Int) : fR P f 0 ∧ fO P f 0 = 0 := at_0 P f _
theorem fcl0 {P : Pj} {f y : Nat → Int} (g : good P f y) {k : Nat} (hk : k < 4 * jn P) (hr : er P f k ≠ 0) (ha : fR P f (ea P k)) (hb : eb P k ≠ 0) : fR P f (eb P k) ∧ fO P f (ea P k) + el P k ≤ fO P f (eb P k) := by
  have hk2 : kt P (20 * jn P + k) = k := by
    simp only [kt]
    rw [show 20 * jn P = 4 * jn P * 5 by omega, Nat.mul_add_mod]
    exact Nat.mod_eq_of_lt hk
  have e0 : brun P f (20 * jn P + k) = brun P f (24 * jn P) := stk g k
  have e1 : brun P f (20 * jn P + k + 1) = brun P f (24 * jn P) := stk g (k + 1)
  have h := held (P := P) (f := f) (t := 20 * jn P + k) (by rw [hk2, rE, e0]; exact ha) (by rw [hk2]; exact hr) (by rw [hk2]; exact hb)
  rw [hk2] at h
  simp only [rE, lO, e0, e1] at h
  exact h
theorem fR_Bn {P : Pj} {f y : Nat → Int} (g : good P f y) (v : Nat) : fR P f v ↔ Bn P v := by
  constructor
  · intro h
    exact (below g.2.1 g.2.2.1 g.2.2.2 _ v h).1
  · intro h
    refine h (fR P f) (fR_0 P f).1 (fun j hj hS => ?_)
    have e1 : (4 * j + 2) % 2 = 0 := by omega
    have e2 : (4 * j + 2) / 4 = j := by omega
    have e3 : (4 * j + 2) / 2 % 2 = 1 := by omega
    have ea1 : ea P (4 * j + 2) = jf P j := by simp [ea, e1, e2]
    have eb1 : eb P (4 * j + 2) = jt P j := by simp [eb, e1, e2]
    have er1 : er P f (4 * j + 2) = 1000000 := by rw [er, if_neg (by omega), if_neg (by omega)]
    have hj2 := (g.1.2 j hj).1
    have := fcl0 g (k := 4 * j + 2) (by omega) (by rw [er1]; decide) (by rw [ea1]; exact hS) (by rw [eb1]; omega)
    rw [eb1] at this
    exact this.1
theorem fle {P : Pj} {f y : Nat → Int} (g : good P f y) {v : Nat} (h : fR P f v) : fO P f v ≤ y v := (below g.2.1 g.2.2.1 g.2.2.2 _ v h).2
/-- the lengths found are heights that no open step passes -/
theorem fpot {P : Pj} {f y : Nat → Int} (g : good P f y) : pot P f (fO P f) := by
  refine ⟨(fR_0 P f).2, fun k hk hr ha => ?_⟩
  have ha' := (fR_Bn g _).mpr ha
  by_cases hb : eb P k = 0
  · rw [hb, (fR_0 P f).2]
    have h1 := fle g ha'
    have h2 := g.2.2.2.2 k hk hr ha
    rw [hb, g.2.2.2.1] at h2
    omega
  · have := (fcl0 g hk hr ha' hb).2
    omega
theorem fgood {P : Pj} {f y : Nat → Int} (g : good P f y) : good P f (fO P f) := ⟨g.1, g.2.1, g.2.2.1, fpot g⟩
theorem fcl {P : Pj} {f y : Nat → Int} (g : good P f y) {k : Nat} (hk : k < 4 * jn P) (hr : er P f k ≠ 0) (ha : fR P f (ea P k)) : fR P f (eb P k) ∧ fO P f (ea P k) + el P k ≤ fO P f (eb P k) := by
  refine ⟨(fR_Bn g _).mpr (Bn_e g.2.2.1 hk hr ((fR_Bn g _).mp ha)), ?_⟩
  have := (fpot g).2 k hk hr ((fR_Bn g _).mp ha)
  omega
/-- v came to its length at step t -/
def Arr (P : Pj) (f : Nat → Int) (v t : Nat) : Prop := t < 20 * jn P ∧ ups P f t ∧ eb P (kt P t) = v ∧ lO P f (t + 1) v = fO P f v ∧ fA P f v = ecode (kt P t) ∧ lO P f t (ea P (kt P t)) = fO P f (ea P (kt P t)) ∧ fO P f v = fO P f (ea P (kt P t)) + el P (kt P t) ∧ fR P f (ea P (kt P t))
theorem arr {P : Pj} {f y : Nat → Int} (g : good P f y) {v : Nat} (h : fR P f v) (hv : v ≠ 0) : ∃ t, Arr P f v t := by
  have e20 := st20 g
  rcases lastup P f 0 v (20 * jn P) with ⟨h1, -, -⟩ | ⟨t, h1, h2, h3, h4, h5, h6⟩
  · exfalso
    rw [Nat.zero_add] at h1
    have h2 : rE P f 0 v := h1.mp (by rw [rE, ← e20]; exact h)
    have : v = 0 := by simpa [rE, brun, b0] using h2
    exact hv this
  · rw [Nat.zero_add] at h2 h5 h6
    have h5' : lO P f (t + 1) v = fO P f v := by rw [← h5, fO, lO, lO, e20]
    have h6' : fA P f v = ecode (kt P t) := by
      rw [← up_la h3, h4, ← h6, fA, lA, lA, e20]
    have m := mono' h3.1 (show t ≤ 24 * jn P by omega)
    have c := fcl g (kt_lt g.2.1 t) h3.2.1 m.1
    have q := up_lo h3
    rw [h4] at q c
    have e : lO P f t (ea P (kt P t)) = fO P f (ea P (kt P t)) := by
      have := m.2
      have := c.2
      simp only [fO] at *
      omega
    exact ⟨t, h2, h3, h4, h5', h6', e, by omega, m.1⟩
theorem arr_one {P : Pj} {f : Nat → Int} {v t t' : Nat} (h : Arr P f v t) (h' : Arr P f v t') : ¬ t < t' := by
  intro hlt
  obtain ⟨-, a2, a3, a4, -⟩ := h
  obtain ⟨-, b2, b3, b4, -⟩ := h'
  have r := up_re a2
  rw [a3] at r
  have m := mono' r (show t + 1 ≤ t' by omega)
  have := up_lt b2 (by rw [b3]; exact m.1)
  rw [b3] at this
  have := m.2
  omega
theorem arr_eq {P : Pj} {f : Nat → Int} {v t t' : Nat} (h : Arr P f v t) (h' : Arr P f v t') : t = t' := by
  have h1 := arr_one h h'
  have h2 := arr_one h' h
  omega
/-- the tail came earlier -/
theorem arr_lt {P : Pj} {f : Nat → Int} {v t t' : Nat} (h : Arr P f v t) (h' : Arr P f (ea P (kt P t)) t') : t' < t := by
  obtain ⟨-, a2, -, -, -, a6, -⟩ := h
  obtain ⟨-, b2, b3, b4, -⟩ := h'
  refine Classical.byContradiction (fun q => ?_)
  have m := mono' a2.1 (show t ≤ t' by omega)
  have := up_lt b2 (by rw [b3]; exact m.1)
  rw [b3] at this
  have := m.2
  omega
def ek (c : Int) : Nat := if 28 ≤ c then 2 * (c - 28).toNat + 1 else 2 * c.toNat
theorem ek_ecode {k : Nat} (h : k < 28) : ek (ecode k) = k := by
  simp only [ek, ecode]
  split <;> split <;> omega
/-- the steps of the way to v, the last first -/
def wE (P : Pj) (f : Nat → Int) : Nat → Nat → List Nat
  | 0, _ => []
  | m + 1, v => if v = 0 then [] else ek (fA P f v) :: wE P f m (ea P (ek (fA P f v)))
def isW (P : Pj) : Nat → List Nat → Prop
  | v, [] => v = 0
  | v, k :: l => eb P k = v ∧ isW P (ea P k) l
/-- a step of a way: open, its ends reached, just as long as the lengths say; when it was taken -/
def eok (P : Pj) (f : Nat → Int) (k : Nat) : Prop := k < 4 * jn P ∧ er P f k ≠ 0 ∧ fR P f (ea P k) ∧ fR P f (eb P k) ∧ eb P k ≠ 0 ∧ fO P f (eb P k) = fO P f (ea P k) + el P k ∧ ∃ t, Arr P f (eb P k) t ∧ kt P t = k
theorem way_ex {P : Pj} {f y : Nat → Int} (g : good P f y) : ∀ (T v : Nat), fR P f v → (v = 0 ∨ ∃ t, t < T ∧ Arr P f v t) → ∃ L : List Nat, isW P v L ∧ (∀ m, L.length ≤ m → wE P f m v = L) ∧ (∀ k ∈ L, eok P f k ∧ ∃ t, t < T ∧ Arr P f (eb P k) t) ∧ (L.map (eb P)).Nodup
  | T, v, hr, h => by
    rcases h with h0 | ⟨t, ht, hA⟩
    · subst h0
      refine ⟨[], rfl, ?_, ?_, by simp⟩
      · intro m _
        cases m with
        | zero => rfl
        | succ m => simp [wE]
      · intro k hk
        cases hk
    · have hv : v ≠ 0 := by rw [← hA.2.2.1]; exact hA.2.1.2.2.1
      have ha : fR P f (ea P (kt P t)) := hA.2.2.2.2.2.2.2
      have hprev : ea P (kt P t) = 0 ∨ ∃ t', t' < t ∧ Arr P f (ea P (kt P t)) t' := by
        by_cases h0 : ea P (kt P t) = 0
        · exact Or.inl h0
        · obtain ⟨t', ht'⟩ := arr g ha h0
          exact Or.inr ⟨t', arr_lt hA ht', ht'⟩
      obtain ⟨L, l1, l2, l3, l4⟩ := way_ex g t (ea P (kt P t)) ha hprev
      have hk := kt_lt g.2.1 t
      have hk28 : kt P t < 28 := by have := g.1.1; omega
      have hek : ek (fA P f v) = kt P t := by rw [hA.2.2.2.2.1, ek_ecode hk28]
      have heok : eok P f (kt P t) := ⟨hk, hA.2.1.2.1, ha, by rw [hA.2.2.1]; exact hr, hA.2.1.2.2.1, by rw [hA.2.2.1]; exact hA.2.2.2.2.2.2.1, t, by rw [hA.2.2.1]; exact hA, rfl⟩
      refine ⟨kt P t :: L, ⟨hA.2.2.1, l1⟩, ?_, ?_, ?_⟩
      · intro m hm
        cases m with
        | zero => simp at hm
        | succ m =>
          simp only [List.length_cons] at hm
          simp only [wE, if_neg hv, hek]
          rw [l2 m (by omega)]
      · intro k hk'
        rcases List.mem_cons.mp hk' with e | e
        · subst e
          exact ⟨heok, t, ht, by rw [hA.2.2.1]; exact hA⟩
        · obtain ⟨m1, t', m2, m3⟩ := l3 k e
          exact ⟨m1, t', by omega, m3⟩
      · rw [List.map_cons, List.nodup_cons]
        refine ⟨fun hm => ?_, l4⟩
        obtain ⟨k, k1, k2⟩ := List.mem_map.mp hm
        obtain ⟨-, t', m2, m3⟩ := l3 k k1
        rw [k2, hA.2.2.1] at m3
        have := arr_eq hA m3
        omega
  termination_by T => T
/-- the way to event 5 -/
def W5 (P : Pj) (f : Nat → Int) : List Nat := wE P f 6 5
theorem w5 {P : Pj} {f y : Nat → Int} (g : good P f y) (h : fR P f 5) : isW P 5 (W5 P f) ∧ (∀ k ∈ W5 P f, eok P f k) ∧ ((W5 P f).map (eb P)).Nodup ∧ (W5 P f).length ≤ 5 ∧ ∀ m, (W5 P f).length ≤ m → wE P f m 5 = W5 P f := by
  obtain ⟨t, ht⟩ := arr g h (by decide)
  obtain ⟨L, l1, l2, l3, l4⟩ := way_ex g (t + 1) 5 h (Or.inr ⟨t, by omega, ht⟩)
  have hlen : ((L.map (eb P)).map (fun x => x - 1)).length ≤ 5 := pig 5 _ (by
    rw [List.nodup_iff_pairwise_ne] at l4 ⊢
    rw [List.pairwise_map]
    refine l4.imp_of_mem (fun ha hb hab => ?_)
    obtain ⟨k, k1, k2⟩ := List.mem_map.mp ha
    obtain ⟨k', k1', k2'⟩ := List.mem_map.mp hb
    have := (l3 k k1).1.2.2.2.2.1
    have := (l3 k' k1').1.2.2.2.2.1
    omega) (fun x hx => by
    obtain ⟨z, hz, rfl⟩ := List.mem_map.mp hx
    obtain ⟨k, k1, k2⟩ := List.mem_map.mp hz
    have := (l3 k k1).1.2.2.2.2.1
    have := (e_le5 g.1 (l3 k k1).1.1).2
    omega)
  rw [List.length_map, List.length_map] at hlen
  have e : W5 P f = L := l2 6 (by omega)
  rw [e]
  exact ⟨l1, fun k hk => (l3 k hk).1, l4, hlen, l2⟩
end
section
/-! PURE 4: sending along a way -/
def lsm (g : Nat → Int) : List Nat → Int
  | [] => 0
  | k :: l => g k + lsm g l
theorem lsm_congr {g h : Nat → Int} : ∀ {L : List Nat}, (∀ k ∈ L, g k = h k) → lsm g L = lsm h L
  | [], _ => rfl
  | k :: L, q => by
    simp only [lsm]
    rw [q k List.mem_cons_self, lsm_congr (L := L) (fun k' h' => q k' (List.mem_cons_of_mem _ h'))]
def addw (f : Nat → Int) (amt : Int) (k : Nat) : Nat → Int := uu f (k / 2) (f (k / 2) + if k % 2 = 1 then -amt else amt)
def send (f : Nat → Int) (amt : Int) : List Nat → Nat → Int
  | [] => f
  | k :: L => send (addw f amt k) amt L
def sg (k : Nat) : Int := if k % 2 = 1 then -1 else 1
theorem send_sum (w : Nat → Int) (amt : Int) (n : Nat) : ∀ (L : List Nat) (f : Nat → Int), (∀ k ∈ L, k / 2 < n) → sm (fun l => send f amt L l * w l) n = sm (fun l => f l * w l) n + amt * lsm (fun k => sg k * w (k / 2)) L
  | [], f, _ => by simp [send, lsm]
  | k :: L, f, h => by
    simp only [send, lsm]
    rw [send_sum w amt n L _ (fun k' h' => h k' (List.mem_cons_of_mem _ h')), addw, sm_uu _ _ _ _ _ (h k List.mem_cons_self)]
    have : (f (k / 2) + (if k % 2 = 1 then -amt else amt) - f (k / 2)) * w (k / 2) = amt * (sg k * w (k / 2)) := by
      simp only [sg]
      split <;> grind
    rw [this, Int.mul_add]
    omega
theorem sg_y (P : Pj) (y : Nat → Int) (k : Nat) : sg k * (y (jt P (k / 2 / 2)) - y (jf P (k / 2 / 2))) = y (eb P k) - y (ea P k) := by
  rw [show k / 2 / 2 = k / 4 by omega]
  simp only [sg, eb, ea]
  split <;> omega
theorem sg_ln (P : Pj) (k : Nat) : sg k * ln P (k / 2) = el P k := by
  simp only [sg, el]
  split <;> omega
theorem tele {P : Pj} (y : Nat → Int) : ∀ (L : List Nat) (v : Nat), isW P v L → lsm (fun k => y (eb P k) - y (ea P k)) L = y v - y 0
  | [], v, h => by
    have : v = 0 := h
    subst this
    simp [lsm]
  | k :: L, v, h => by
    simp only [lsm]
    rw [tele y L _ h.2, h.1]
    omega
/-- what flows in flows out: for all heights y -/
def cons (P : Pj) (f : Nat → Int) (F : Int) : Prop := ∀ y : Nat → Int, sm (fun l => f l * (y (jt P (l / 2)) - y (jf P (l / 2)))) (2 * jn P) = F * (y 5 - y 0)
def tot (P : Pj) (f : Nat → Int) : Int := sm (fun l => f l * ln P l) (2 * jn P)
theorem cons_0 (P : Pj) : cons P (fun _ => 0) 0 := by
  intro y
  rw [Int.zero_mul]
  exact sm_zero (fun i _ => by rw [Int.zero_mul])
theorem tot_0 (P : Pj) : tot P (fun _ => 0) = 0 := sm_zero (fun i _ => by rw [Int.zero_mul])
theorem cons_send {P : Pj} {f : Nat → Int} {F amt : Int} {L : List Nat} (hc : cons P f F) (hW : isW P 5 L) (hL : ∀ k ∈ L, k < 4 * jn P) : cons P (send f amt L) (F + amt) := by
  intro y
  rw [send_sum (fun l => y (jt P (l / 2)) - y (jf P (l / 2))) amt (2 * jn P) L f (fun k hk => by have := hL k hk; omega), hc y]
  rw [lsm_congr (h := fun k => y (eb P k) - y (ea P k)) (fun k _ => sg_y P y k), tele y L 5 hW]
  grind
theorem tot_send {P : Pj} {f : Nat → Int} {amt : Int} {L : List Nat} (hL : ∀ k ∈ L, k < 4 * jn P) : tot P (send f amt L) = tot P f + amt * lsm (el P) L := by
  rw [tot, send_sum (ln P) amt (2 * jn P) L f (fun k hk => by have := hL k hk; omega), lsm_congr (h := el P) (fun k _ => sg_ln P k)]
  rfl
/-- a way's length -/
theorem way_len {P : Pj} {f : Nat → Int} {L : List Nat} {v : Nat} (hW : isW P v L) (hL : ∀ k ∈ L, eok P f k) : lsm (el P) L = fO P f v := by
  have h := tele (fO P f) L v hW
  rw [(fR_0 P f).2, Int.sub_zero] at h
  rw [← h]
  exact lsm_congr (fun k hk => by have := (hL k hk).2.2.2.2.2.1; omega)
/-- no line twice -/
theorem way_lines {P : Pj} {f : Nat → Int} {k k' : Nat} (h : eok P f k) (h' : eok P f k') (e : k / 2 = k' / 2) : k = k' := by
  by_cases hkk : k = k'
  · exact hkk
  · exfalso
    have hr : k' = rev k := by
      simp only [rev]
      split <;> omega
    obtain ⟨-, -, -, -, -, -, t, h1, h2⟩ := h
    obtain ⟨-, -, -, -, -, -, t', h1', h2'⟩ := h'
    have a1 := arr_lt h1 (t' := t') (by rw [h2, ← eb_rev, ← hr]; exact h1')
    have a2 := arr_lt h1' (t' := t) (by rw [h2', hr, ea_rev]; exact h1)
    omega
theorem way_nd {P : Pj} {f : Nat → Int} : ∀ {L : List Nat}, (∀ k ∈ L, eok P f k) → (L.map (eb P)).Nodup → (L.map (fun k => k / 2)).Nodup
  | [], _, _ => by simp
  | k :: L, h, hn => by
    rw [List.map_cons, List.nodup_cons] at hn ⊢
    refine ⟨fun hm => ?_, way_nd (fun k' h' => h k' (List.mem_cons_of_mem _ h')) hn.2⟩
    obtain ⟨k', k1, k2⟩ := List.mem_map.mp hm
    have := way_lines (h k List.mem_cons_self) (h k' (List.mem_cons_of_mem _ k1)) k2.symm
    subst this
    exact hn.1 (List.mem_map.mpr ⟨k, k1, rfl⟩)
theorem send_out (amt : Int) : ∀ (L : List Nat) (f : Nat → Int) (l : Nat), l ∉ L.map (fun k => k / 2) → send f amt L l = f l
  | [], _, _, _ => rfl
  | k :: L, f, l, h => by
    simp only [send]
    rw [List.map_cons, List.mem_cons] at h
    have h1 : l ≠ k / 2 := fun e => h (Or.inl e)
    rw [send_out amt L _ l (fun q => h (Or.inr q)), addw, uu_n h1]
theorem send_in (amt : Int) : ∀ (L : List Nat) (f : Nat → Int), (L.map (fun k => k / 2)).Nodup → ∀ k ∈ L, send f amt L (k / 2) = f (k / 2) + if k % 2 = 1 then -amt else amt
  | [], _, _, _, h => by cases h
  | k0 :: L, f, hn, k, hk => by
    rw [List.map_cons, List.nodup_cons] at hn
    simp only [send]
    rcases List.mem_cons.mp hk with e | e
    · subst e
      rw [send_out amt L _ _ hn.1, addw, uu_s]
    · rw [send_in amt L _ hn.2 k e, addw, uu_n]
      intro q
      exact hn.1 (List.mem_map.mpr ⟨k, e, q⟩)
def fastF (k : Nat) : Prop := k % 2 = 0 ∧ k / 2 % 2 = 1
theorem er_fast {P : Pj} {f : Nat → Int} {k : Nat} (h : fastF k) : er P f k = 1000000 := by
  rw [er, if_neg (by have := h.1; omega), if_neg (by have := h.2; omega)]
theorem er_in {P : Pj} {f : Nat → Int} {amt : Int} {L : List Nat} (hn : (L.map (fun k => k / 2)).Nodup) {k : Nat} (hk : k ∈ L) (hF : ¬ fastF k) : er P (send f amt L) k = er P f k - amt := by
  have h := send_in amt L f hn k hk
  simp only [fastF] at hF
  simp only [er]
  rw [h]
  split
  · omega
  · split
    · omega
    · omega
theorem er_rv {P : Pj} {f : Nat → Int} {amt : Int} {L : List Nat} (hn : (L.map (fun k => k / 2)).Nodup) {k : Nat} (hk : rev k ∈ L) (hF : ¬ fastF k) : er P (send f amt L) k = er P f k + amt := by
  have h := send_in amt L f hn _ hk
  rw [rev_div2, rev_mod] at h
  simp only [fastF] at hF
  simp only [er]
  rw [h]
  split
  · rw [if_neg (by omega)]
  · split
    · rw [if_pos (by omega)]
      omega
    · omega
theorem er_no {P : Pj} {f : Nat → Int} {amt : Int} {L : List Nat} {k : Nat} (h1 : k ∉ L) (h2 : rev k ∉ L) : er P (send f amt L) k = er P f k := by
  have h := send_out amt L f (k / 2) (fun q => by
    obtain ⟨k', a, b⟩ := List.mem_map.mp q
    have : k' = k ∨ k' = rev k := by
      simp only [rev]
      split <;> omega
    rcases this with e | e
    · exact h1 (e ▸ a)
    · exact h2 (e ▸ a))
  simp only [er]
  rw [h]
/-- the width of a way -/
def wid (P : Pj) (f : Nat → Int) : Int → List Nat → Int
  | w, [] => w
  | w, k :: L => wid P f (if er P f k < w then er P f k else w) L
theorem wid_le (P : Pj) (f : Nat → Int) : ∀ (L : List Nat) (w : Int), wid P f w L ≤ w ∧ ∀ k ∈ L, wid P f w L ≤ er P f k
  | [], w => ⟨Int.le_refl _, fun _ h => by cases h⟩
  | k :: L, w => by
    simp only [wid]
    obtain ⟨h1, h2⟩ := wid_le P f L (if er P f k < w then er P f k else w)
    have h3 : (if er P f k < w then er P f k else w) ≤ w ∧ (if er P f k < w then er P f k else w) ≤ er P f k := by
      split <;> omega
    refine ⟨by omega, fun k' h' => ?_⟩
    rcases List.mem_cons.mp h' with e | e
    · subst e
      omega
    · exact h2 k' e
theorem wid_at (P : Pj) (f : Nat → Int) : ∀ (L : List Nat) (w : Int), wid P f w L = w ∨ ∃ k ∈ L, wid P f w L = er P f k
  | [], w => Or.inl rfl
  | k :: L, w => by
    simp only [wid]
    rcases wid_at P f L (if er P f k < w then er P f k else w) with h | ⟨k', a, b⟩
    · rw [h]
      split
      · exact Or.inr ⟨k, List.mem_cons_self, rfl⟩
      · exact Or.inl rfl
    · exact Or.inr ⟨k', List.mem_cons_of_mem _ a, b⟩
/-- flow on a line is at most the whole flow -/
theorem le_F {P : Pj} {f : Nat → Int} {F : Int} (hp : pok P) (hf : ∀ l, l < 2 * jn P → 0 ≤ f l) (hc : cons P f F) {l : Nat} (hl : l < 2 * jn P) : f l ≤ F := by
  have h := hc (fun v => if v ≤ jf P (l / 2) then 0 else 1)
  have hj := hp.2 (l / 2) (by omega)
  have e : F * ((if 5 ≤ jf P (l / 2) then (0 : Int) else 1) - (if 0 ≤ jf P (l / 2) then (0 : Int) else 1)) = F := by
    have h1 := hj.1
    have h2 := hj.2.1
    rw [if_neg (by omega), if_pos (by omega)]
    omega
  rw [e] at h
  rw [← h]
  have h1 := sm_one (f := fun l' => f l' * ((if jt P (l' / 2) ≤ jf P (l / 2) then (0 : Int) else 1) - (if jf P (l' / 2) ≤ jf P (l / 2) then (0 : Int) else 1))) (n := 2 * jn P) (fun i hi => by
    have hi2 := (hp.2 (i / 2) (by omega)).1
    refine Int.mul_nonneg (hf i hi) ?_
    split <;> split <;> omega) l hl
  simp only [Nat.le_refl, if_true] at h1
  rw [if_neg (by have := hj.1; omega)] at h1
  omega
/-- what a sending does, all at once -/
theorem sent {P : Pj} {f y : Nat → Int} {F amt : Int} {L : List Nat} (g : good P f y) (hc : cons P f F) (hW : isW P 5 L) (hL : ∀ k ∈ L, eok P f k) (hn : (L.map (eb P)).Nodup) (ha : 0 < amt) (hr : ∀ k ∈ L, amt ≤ er P f k) : fok P (send f amt L) ∧ cons P (send f amt L) (F + amt) ∧ tot P (send f amt L) = tot P f + amt * fO P f 5 := by
  have hl : ∀ k ∈ L, k < 4 * jn P := fun k hk => (hL k hk).1
  have hnd := way_nd hL hn
  have hc' := cons_send (amt := amt) hc hW hl
  have hf := g.2.2.1
  have key : ∀ l, l < 2 * jn P → 0 ≤ send f amt L l ∧ (l % 2 = 0 → send f amt L l ≤ jp P (l / 2)) ∧ (send f amt L l ≠ 0 → Bn P (jf P (l / 2))) := by
    intro l hl2
    have hfl := hf l hl2
    by_cases hm : l ∈ L.map (fun k => k / 2)
    · obtain ⟨k, k1, k2⟩ := List.mem_map.mp hm
      subst k2
      have h1 := send_in amt L f hnd k k1
      have h2 := hr k k1
      have h3 := hL k k1
      rw [show k / 2 / 2 = k / 4 by omega] at hfl ⊢
      rw [h1]
      simp only [er] at h2
      by_cases hc2 : k % 2 = 1
      · rw [if_pos hc2] at h2 ⊢
        refine ⟨by omega, fun q => ?_, fun _ => ?_⟩
        · have := hfl.2.1 q
          omega
        · have := (fR_Bn g _).mp h3.2.2.2.1
          rw [eb, if_pos hc2] at this
          exact this
      · rw [if_neg hc2] at h2 ⊢
        refine ⟨by omega, fun q => ?_, fun _ => ?_⟩
        · rw [if_pos q] at h2
          omega
        · have := (fR_Bn g _).mp h3.2.2.1
          rw [ea, if_neg hc2] at this
          exact this
    · rw [send_out amt L f l hm]
      exact ⟨hfl.1, hfl.2.1, hfl.2.2⟩
  refine ⟨key, hc', ?_⟩
  rw [tot_send hl, way_len hW hL]
/-- heights just as steep as the way stay good -/
theorem pot_send {P : Pj} {f y : Nat → Int} {amt : Int} {L : List Nat} (hy : pot P f y) (hL : ∀ k ∈ L, eok P f k) (ht : ∀ k ∈ L, y (eb P k) = y (ea P k) + el P k) : pot P (send f amt L) y := by
  refine ⟨hy.1, fun k hk hr ha => ?_⟩
  by_cases h0 : er P f k = 0
  · by_cases h1 : rev k ∈ L
    · have := ht _ h1
      rw [eb_rev, ea_rev, el_rev] at this
      omega
    · exfalso
      have h2 : k ∉ L := fun q => (hL k q).2.1 h0
      rw [er_no h2 h1] at hr
      exact hr h0
  · exact hy.2 k hk h0 ha
end
section
/-! PURE 5: who comes first, from way to way -/
def att (P : Pj) (f y : Nat → Int) (t v : Nat) : Prop := rE P f t v ∧ lO P f t v = y v
theorem att_mono {P : Pj} {f y : Nat → Int} (g : good P f y) {t t' v : Nat} (h : att P f y t v) (ht : t ≤ t') : att P f y t' v := by
  have m := mono' h.1 ht
  have b := (below g.2.1 g.2.2.1 g.2.2.2 t' v m.1).2
  have := h.2
  exact ⟨m.1, by omega⟩
/-- a step that brings v to y: its tail was there already -/
theorem att_step {P : Pj} {f y : Nat → Int} (g : good P f y) {t v : Nat} (h : att P f y (t + 1) v) (hn : ¬ att P f y t v) : ups P f t ∧ eb P (kt P t) = v ∧ att P f y t (ea P (kt P t)) ∧ y v = y (ea P (kt P t)) + el P (kt P t) := by
  by_cases hu : ups P f t
  · by_cases hv : v = eb P (kt P t)
    · subst hv
      have h1 := up_lo hu
      have h2 := below g.2.1 g.2.2.1 g.2.2.2 t _ hu.1
      have h3 := g.2.2.2.2 _ (kt_lt g.2.1 t) hu.2.1 h2.1
      have h4 := h.2
      exact ⟨hu, rfl, ⟨hu.1, by omega⟩, by omega⟩
    · exact absurd ⟨(up_reN hu hv).mp h.1, by rw [← up_loN hu hv]; exact h.2⟩ hn
  · exact absurd ⟨(no_re hu).mp h.1, by rw [← no_lo hu]; exact h.2⟩ hn
/-- behind a sending nobody comes earlier -/
theorem later {P : Pj} {f f' y : Nat → Int} {L : List Nat} (g : good P f y) (g' : good P f' y) (hL : ∀ k ∈ L, eok P f k) (hr : ∀ k, k < 4 * jn P → er P f' k ≠ 0 → er P f k ≠ 0 ∨ rev k ∈ L) : ∀ t v, att P f' y t v → att P f y t v
  | 0, v, h => h
  | t + 1, v, h => by
    have ih := later g g' hL hr t
    by_cases hn : att P f' y t v
    · exact att_mono g (ih v hn) (by omega)
    · obtain ⟨hu, hv, ha, hy⟩ := att_step g' h hn
      subst hv
      have ha' := ih _ ha
      have bnd : ∀ t', rE P f t' (eb P (kt P t)) → lO P f t' (eb P (kt P t)) ≤ y (eb P (kt P t)) := fun t' q => (below g.2.1 g.2.2.1 g.2.2.2 t' _ q).2
      have ha2 := ha'.2
      rcases hr _ (kt_lt g.2.1 t) hu.2.1 with q | q
      · obtain ⟨h1, h2⟩ := held ha'.1 q hu.2.2.1
        have := bnd _ h1
        exact ⟨h1, by omega⟩
      · obtain ⟨-, -, -, -, -, -, t0, hA, hk⟩ := hL _ q
        rw [eb_rev] at hA
        obtain ⟨-, a2, a3, a4, -, a6, a7, -⟩ := hA
        rw [hk, ea_rev] at a6 a7
        rw [el_rev] at a7
        have hfr : fR P f (ea P (kt P t)) := by
          have := (hL _ q).2.2.2.1
          rw [eb_rev] at this
          exact this
        have h5 := fle g hfr
        have h0 : t0 < t := by
          refine Classical.byContradiction (fun z => ?_)
          have m := mono' ha'.1 (show t ≤ t0 by omega)
          have s := up_lt a2 (by rw [a3]; exact m.1)
          rw [a3] at s
          have := m.2
          omega
        have h6 : fO P f (ea P (kt P t)) = y (ea P (kt P t)) := by
          have r := up_re a2
          rw [a3] at r
          have m := (mono' r (show t0 + 1 ≤ t by omega)).2
          have m' := (below g.2.1 g.2.2.1 g.2.2.2 t _ ha'.1).2
          have m2 := (mono' ha'.1 (Nat.le_add_right t (24 * jn P))).2
          have e : fO P f (ea P (kt P t)) = lO P f (t + 24 * jn P) (ea P (kt P t)) := by
            have := stk g (t + 4 * jn P)
            rw [show 20 * jn P + (t + 4 * jn P) = t + 24 * jn P by omega] at this
            rw [lO, this]
            rfl
          omega
        have r0 : rE P f t0 (eb P (kt P t)) := by
          have := a2.1
          rw [hk, ea_rev] at this
          exact this
        have m := mono' r0 (show t0 ≤ t + 1 by omega)
        have := bnd _ m.1
        have := m.2
        exact ⟨m.1, by omega⟩
/-- along a way that is as long as y says, the lengths are y -/
theorem way_y {P : Pj} {f y : Nat → Int} (g : good P f y) : ∀ (L : List Nat) (v : Nat), isW P v L → (∀ k ∈ L, eok P f k) → fO P f v = y v → ∀ k ∈ L, fO P f (eb P k) = y (eb P k) ∧ fO P f (ea P k) = y (ea P k) ∧ y (eb P k) = y (ea P k) + el P k
  | [], _, _, _, _, k, hk => by cases hk
  | k0 :: L, v, hW, hL, he, k, hk => by
    have h0 := hL k0 List.mem_cons_self
    have h1 := g.2.2.2.2 k0 h0.1 h0.2.1 ((fR_Bn g _).mp h0.2.2.1)
    have h2 := h0.2.2.2.2.2.1
    have h3 := fle g h0.2.2.1
    have h4 := hW.1
    have h5 : fO P f (eb P k0) = y (eb P k0) := by rw [h4]; exact he
    have h6 : fO P f (ea P k0) = y (ea P k0) := by omega
    rcases List.mem_cons.mp hk with e | e
    · subst e
      exact ⟨h5, h6, by omega⟩
    · exact way_y g L _ hW.2 (fun k' h' => hL k' (List.mem_cons_of_mem _ h')) h6 k e
/-- step k is taken at time t -/
def Us (P : Pj) (f y : Nat → Int) (k t : Nat) : Prop := kt P t = k ∧ att P f y (t + 1) (eb P k) ∧ ¬ att P f y t (eb P k) ∧ att P f y t (ea P k) ∧ Arr P f (eb P k) t
theorem us_of {P : Pj} {f y : Nat → Int} {k : Nat} (h : eok P f k) (h1 : fO P f (eb P k) = y (eb P k)) (h2 : fO P f (ea P k) = y (ea P k)) : ∃ t, Us P f y k t := by
  obtain ⟨-, -, -, -, -, -, t, hA, hk⟩ := h
  have hA0 := hA
  obtain ⟨-, a2, a3, a4, -, a6, a7, a8⟩ := hA
  rw [hk] at a6
  refine ⟨t, hk, ⟨by have := up_re a2; rw [a3] at this; exact this, by omega⟩, ?_, ⟨by have := a2.1; rw [hk] at this; exact this, by omega⟩, hA0⟩
  intro q
  have := up_lt a2 (by rw [a3]; exact q.1)
  rw [a3] at this
  have := q.2
  omega
/-- the other way round only in a later round -/
theorem round_rev {P : Pj} {f y : Nat → Int} (g : good P f y) {k t t' : Nat} (hk : kt P t = k) (hn : ¬ att P f y t (eb P k)) (h : Us P f y (rev k) t') : t / (4 * jn P) < t' / (4 * jn P) := by
  obtain ⟨h1, -, h3, h4, -⟩ := h
  rw [eb_rev] at h3
  rw [ea_rev] at h4
  have hlt : t < t' := by
    refine Classical.byContradiction (fun z => hn (att_mono g h4 (by omega)))
  have hle : t / (4 * jn P) ≤ t' / (4 * jn P) := Nat.div_le_div_right (by omega)
  rcases Nat.lt_or_eq_of_le hle with q | q
  · exact q
  · exfalso
    have e1 := Nat.div_add_mod t (4 * jn P)
    have e2 := Nat.div_add_mod t' (4 * jn P)
    rw [← q] at e2
    simp only [kt] at hk h1
    rw [hk] at e1
    rw [h1] at e2
    have e3 : t' = t + 1 := by
      simp only [rev] at e2
      split at e2 <;> omega
    rw [e3] at h4 h3
    have hs := att_step g h4 hn
    have hk2 : kt P t = k := hk
    rw [hk2] at hs
    exact h3 (att_mono g hs.2.2.1 (by omega))
theorem round_same {P : Pj} {f y : Nat → Int} (g : good P f y) {k t t' : Nat} (hn : ¬ att P f y t (eb P k)) (h : Us P f y k t') : t / (4 * jn P) ≤ t' / (4 * jn P) := by
  refine Nat.div_le_div_right ?_
  refine Classical.byContradiction (fun z => hn (att_mono g h.2.1 (by omega)))
/-- the next comes at most a round later -/
theorem arr_next {P : Pj} {f y : Nat → Int} (g : good P f y) {v t t' : Nat} (h : Arr P f v t) (ht : ea P (kt P t) = 0 ∧ t' = 0 ∨ ∃ u, t' = u + 1 ∧ Arr P f (ea P (kt P t)) u) : t < t' + 4 * jn P := by
  refine Classical.byContradiction (fun z => ?_)
  have hk : kt P (t - 4 * jn P) = kt P t := by
    simp only [kt]
    conv => rhs; rw [show t = (t - 4 * jn P) + 4 * jn P by omega]
    rw [Nat.add_mod_right]
  have ha : rE P f (t - 4 * jn P) (ea P (kt P t)) ∧ fO P f (ea P (kt P t)) ≤ lO P f (t - 4 * jn P) (ea P (kt P t)) := by
    rcases ht with ⟨h0, -⟩ | ⟨u, hu, hA⟩
    · rw [h0]
      have := at_0 P f (t - 4 * jn P)
      exact ⟨this.1, by rw [(fR_0 P f).2, this.2]; exact Int.le_refl _⟩
    · have r := up_re hA.2.1
      rw [hA.2.2.1] at r
      have m := mono' r (show u + 1 ≤ t - 4 * jn P by omega)
      rw [hA.2.2.2.1] at m
      exact m
  obtain ⟨-, a2, a3, a4, -, a6, a7, a8⟩ := h
  obtain ⟨h1, h2⟩ := held (P := P) (f := f) (t := t - 4 * jn P) (by rw [hk]; exact ha.1) (by rw [hk]; exact a2.2.1) (by rw [hk]; exact a2.2.2.1)
  rw [hk, a3] at h1 h2
  have hn := g.2.1
  have m := mono' h1 (show t - 4 * jn P + 1 ≤ t by omega)
  have s := up_lt a2 (by rw [a3]; exact m.1)
  rw [a3] at s
  have := m.2
  have := ha.2
  omega
/-- when the steps of a way are taken -/
theorem way_time {P : Pj} {f y : Nat → Int} (g : good P f y) : ∀ (L : List Nat) (v : Nat), isW P v L → (∀ k ∈ L, eok P f k) → ∀ k ∈ L, ∀ t, Arr P f (eb P k) t → t < 4 * jn P * L.length
  | [], _, _, _, k, hk, _, _ => by cases hk
  | k0 :: L, v, hW, hL, k, hk, t, hA => by
    have hm : 4 * jn P * (k0 :: L).length = 4 * jn P * L.length + 4 * jn P := by rw [List.length_cons, Nat.mul_succ]
    rw [hm]
    have hL' : ∀ k ∈ L, eok P f k := fun k' h' => hL k' (List.mem_cons_of_mem _ h')
    rcases List.mem_cons.mp hk with e | e
    · subst e
      have h0 := hL k List.mem_cons_self
      obtain ⟨-, -, -, -, -, -, t1, hA1, hk1⟩ := h0
      have e1 := arr_eq hA hA1
      subst e1
      cases L with
      | nil =>
        have h00 : ea P k = 0 := hW.2
        have := arr_next g hA (t' := 0) (Or.inl ⟨by rw [hk1]; exact h00, rfl⟩)
        omega
      | cons k2 L2 =>
        have h2 := hL' k2 List.mem_cons_self
        have hb : eb P k2 = ea P k := hW.2.1
        obtain ⟨-, -, -, -, -, -, t2, hA2, hk2⟩ := h2
        have ih := way_time g (k2 :: L2) _ hW.2 hL' k2 List.mem_cons_self t2 hA2
        rw [hb] at hA2
        have := arr_next g hA (t' := t2 + 1) (Or.inr ⟨t2, rfl, by rw [hk1]; exact hA2⟩)
        omega
    · have := way_time g L _ hW.2 hL' k e t hA
      omega
/-- steps of the way to 5 that don't end there are taken in the first four rounds -/
theorem inner_time {P : Pj} {f y : Nat → Int} (g : good P f y) (h5 : fR P f 5) {k t : Nat} (hk : k ∈ W5 P f) (hb : eb P k ≠ 5) (hA : Arr P f (eb P k) t) : t / (4 * jn P) ≤ 3 := by
  obtain ⟨w1, w2, w3, w4, -⟩ := w5 g h5
  have hn := g.2.1
  cases hL : W5 P f with
  | nil => rw [hL] at hk; cases hk
  | cons k0 L =>
    rw [hL] at hk w1 w2 w4
    have hkL : k ∈ L := by
      rcases List.mem_cons.mp hk with e | e
      · subst e
        exact absurd w1.1 hb
      · exact e
    have := way_time g L _ w1.2 (fun k' h' => w2 k' (List.mem_cons_of_mem _ h')) k hkL t hA
    have hlen : L.length ≤ 4 := by
      rw [List.length_cons] at w4
      omega
    have h2 : 4 * jn P * L.length ≤ 4 * jn P * 4 := Nat.mul_le_mul_left _ hlen
    have h3 : t / (4 * jn P) < 4 := Nat.div_lt_of_lt_mul (by omega)
    omega
/-- times fall along a way -/
theorem way_dec {P : Pj} {f : Nat → Int} : ∀ (L : List Nat) (v : Nat), isW P v L → (∀ k ∈ L, eok P f k) → ∀ tv, Arr P f v tv → ∀ k ∈ L, ∀ t, Arr P f (eb P k) t → t ≤ tv
  | [], _, _, _, _, _, k, hk, _, _ => by cases hk
  | k0 :: L, v, hW, hL, tv, hv, k, hk, t, hA => by
    have hL' : ∀ k ∈ L, eok P f k := fun k' h' => hL k' (List.mem_cons_of_mem _ h')
    rcases List.mem_cons.mp hk with e | e
    · subst e
      rw [hW.1] at hA
      have := arr_eq hA hv
      omega
    · cases L with
      | nil => cases e
      | cons k2 L2 =>
        obtain ⟨-, -, -, -, -, -, t2, hA2, -⟩ := hL' k2 List.mem_cons_self
        obtain ⟨-, -, -, -, -, -, t0, hA0, hk0⟩ := hL k0 List.mem_cons_self
        have e2 : eb P k2 = ea P k0 := hW.2.1
        rw [e2] at hA2
        have h1 := way_dec (k2 :: L2) _ hW.2 hL' t2 hA2 k e t hA
        rw [hW.1] at hA0
        have h2 := arr_eq hA0 hv
        have h3 := arr_lt hA0 (t' := t2) (by rw [hk0]; exact hA2)
        omega
/-- no step of the way to 5 begins at 5 -/
theorem no_tail5 {P : Pj} {f y : Nat → Int} (g : good P f y) (h5 : fR P f 5) {k : Nat} (hk : k ∈ W5 P f) : ea P k ≠ 5 := by
  intro e
  obtain ⟨w1, w2, -⟩ := w5 g h5
  obtain ⟨t5, h55⟩ := arr g h5 (by decide)
  obtain ⟨-, -, -, -, -, -, t, hA, hkt⟩ := w2 k hk
  have h1 := way_dec _ _ w1 w2 t5 h55 k hk t hA
  have h2 := arr_lt hA (t' := t5) (by rw [hkt, e]; exact h55)
  omega
end
section
/-! PURE 6: how often a line is the narrowest -/
theorem sm_np {f : Nat → Int} {n : Nat} (h : ∀ i, i < n → f i ≤ 0) (h0 : 0 ≤ sm f n) : ∀ i, i < n → f i = 0 := by
  intro i hi
  have h1 := sm_all0 (f := fun i => 0 - f i) (n := n) (fun i hi => by have := h i hi; omega) (by rw [sm_sub (fun _ => 0) f, sm_0]; omega) i hi
  omega
def inner (P : Pj) (l : Nat) : Prop := 1 ≤ jf P (l / 2) ∧ jt P (l / 2) ≤ 4
def rel (P : Pj) (j : Nat) : Prop := 1 ≤ jf P j ∧ jt P j ≤ 4 ∧ (∃ g, g < jn P ∧ jt P g = jf P j) ∧ (∃ h, h < jn P ∧ jf P h = jt P j)
/-- a line in the midst that carries flow: a job leads to it, and one goes on from it -/
theorem rel_of {P : Pj} {f : Nat → Int} {F : Int} (hp : pok P) (hf : ∀ l, l < 2 * jn P → 0 ≤ f l) (hc : cons P f F) {l : Nat} (hl : l < 2 * jn P) (hi : inner P l) (h0 : f l ≠ 0) : rel P (l / 2) := by
  have hj := hp.2 (l / 2) (by omega)
  refine ⟨hi.1, hi.2, ?_, ?_⟩
  · refine Classical.byContradiction (fun hno => h0 ?_)
    have hno' : ∀ g, g < jn P → jt P g ≠ jf P (l / 2) := fun g hg e => hno ⟨g, hg, e⟩
    have h := hc (fun v => if v = jf P (l / 2) then 1 else 0)
    have h1 := hj.1
    have h2 := hi.1
    have h3 := hi.2
    rw [if_neg (show ¬ (5 = jf P (l / 2)) by omega), if_neg (show ¬ (0 = jf P (l / 2)) by omega)] at h
    have h4 := sm_np (f := fun l' => f l' * ((if jt P (l' / 2) = jf P (l / 2) then (1 : Int) else 0) - (if jf P (l' / 2) = jf P (l / 2) then (1 : Int) else 0))) (n := 2 * jn P) (fun i hi' => by
      have a := hf i hi'
      rw [if_neg (hno' (i / 2) (by omega))]
      split <;> omega) (by omega) l hl
    simp only at h4
    rw [if_neg (hno' (l / 2) (by omega)), if_pos trivial] at h4
    omega
  · refine Classical.byContradiction (fun hno => h0 ?_)
    have hno' : ∀ g, g < jn P → jf P g ≠ jt P (l / 2) := fun g hg e => hno ⟨g, hg, e⟩
    have h := hc (fun v => if v = jt P (l / 2) then 1 else 0)
    have h1 := hj.1
    have h2 := hi.1
    have h3 := hi.2
    rw [if_neg (show ¬ (5 = jt P (l / 2)) by omega), if_neg (show ¬ (0 = jt P (l / 2)) by omega)] at h
    have h4 := sm_all0 (f := fun l' => f l' * ((if jt P (l' / 2) = jt P (l / 2) then (1 : Int) else 0) - (if jf P (l' / 2) = jt P (l / 2) then (1 : Int) else 0))) (n := 2 * jn P) (fun i hi' => by
      have a := hf i hi'
      rw [if_neg (hno' (i / 2) (by omega))]
      split <;> omega) (by omega) l hl
    simp only at h4
    rw [if_neg (hno' (l / 2) (by omega)), if_pos trivial] at h4
    omega
def RecS (P : Pj) (f y : Nat → Int) (l M : Nat) : Prop := M = 0 ∨ ∃ t, (kt P t = 2 * l ∨ kt P t = 2 * l + 1) ∧ ¬ att P f y t (eb P (kt P t)) ∧ t / (4 * jn P) ≤ 3 ∧ M ≤ t / (4 * jn P) + (if er P f (kt P t) = 0 then 1 else 0)
def RecF (P : Pj) (f y : Nat → Int) (l M : Nat) : Prop := M = 0 ∨ ∃ t, ¬ att P f y t (eb P (kt P t)) ∧ t / (4 * jn P) ≤ 3 ∧ ((kt P t = 2 * l ∧ M ≤ (t / (4 * jn P) + 1) / 2) ∨ (kt P t = 2 * l + 1 ∧ M ≤ t / (4 * jn P) / 2 + (if er P f (kt P t) = 0 then 1 else 0)))
def Rec (P : Pj) (f y : Nat → Int) (l M : Nat) : Prop := (inner P l → (M = 0 ∨ rel P (l / 2)) ∧ (l % 2 = 0 → RecS P f y l M) ∧ (l % 2 = 1 → RecF P f y l M)) ∧ (¬ inner P l → (l % 2 = 0 → M ≤ if er P f (2 * l) = 0 then 1 else 0) ∧ (l % 2 = 1 → M = 0))
theorem rec_0 (P : Pj) (f y : Nat → Int) (l : Nat) : Rec P f y l 0 := ⟨fun _ => ⟨Or.inl rfl, fun _ => Or.inl rfl, fun _ => Or.inl rfl⟩, fun _ => ⟨fun _ => Nat.zero_le _, fun _ => rfl⟩⟩
/-- no more than so often -/
theorem rec_cap {P : Pj} {f y : Nat → Int} {l M : Nat} (h : Rec P f y l M) : (l % 2 = 0 → (rel P (l / 2) → M ≤ 4) ∧ (¬ rel P (l / 2) → M ≤ 1)) ∧ (l % 2 = 1 → (rel P (l / 2) → M ≤ 2) ∧ (¬ rel P (l / 2) → M = 0)) := by
  by_cases hi : inner P l
  · obtain ⟨h1, h2, h3⟩ := h.1 hi
    refine ⟨fun q => ⟨fun _ => ?_, fun hr => ?_⟩, fun q => ⟨fun _ => ?_, fun hr => ?_⟩⟩
    · rcases h2 q with e | ⟨t, -, -, a, b⟩
      · omega
      · split at b <;> omega
    · rcases h1 with e | e
      · omega
      · exact absurd e hr
    · rcases h3 q with e | ⟨t, -, a, b⟩
      · omega
      · rcases b with ⟨-, b⟩ | ⟨-, b⟩
        · omega
        · split at b <;> omega
    · rcases h1 with e | e
      · exact e
      · exact absurd e hr
  · obtain ⟨h1, h2⟩ := h.2 hi
    have hnr : ¬ rel P (l / 2) := fun r => hi ⟨r.1, r.2.1⟩
    refine ⟨fun q => ⟨fun r => absurd r hnr, fun _ => ?_⟩, fun q => ⟨fun r => absurd r hnr, fun _ => h2 q⟩⟩
    have := h1 q
    split at this <;> omega
set_option maxHeartbeats 1000000 in
/-- a way at the level, narrowest at kc -/
theorem rec_step {P : Pj} {f f' y : Nat → Int} {F amt : Int} {kc : Nat} (g : good P f y) (g' : good P f' y) (h5 : fR P f 5) (hc : cons P f F) (hf' : f' = send f amt (W5 P f)) (hc' : cons P f' (F + amt)) (hy5 : fO P f 5 = y 5) (ha : 0 < amt) (hkc : kc ∈ W5 P f) (her : er P f kc = amt) (hnf : ¬ fastF kc) {l M : Nat} (hl : l < 2 * jn P) (h : Rec P f y l M) : Rec P f' y l (if kc / 2 = l then M + 1 else M) := by
  obtain ⟨w1, w2, w3, w4, -⟩ := w5 g h5
  have hnd := way_nd w2 w3
  have hwy := way_y g _ _ w1 w2 hy5
  have hlate := later g g' w2 (fun k hk hr => by
    by_cases h0 : er P f k = 0
    · by_cases h1 : rev k ∈ W5 P f
      · exact Or.inr h1
      · exfalso
        have h2 : k ∉ W5 P f := fun q => (w2 k q).2.1 h0
        rw [hf', er_no h2 h1] at hr
        exact hr h0
    · exact Or.inl h0)
  have r2 : rev (2 * l) = 2 * l + 1 := by simp only [rev]; rw [if_neg (by omega)]
  have r3 : rev (2 * l + 1) = 2 * l := by simp only [rev]; rw [if_pos (by omega)]; omega
  by_cases hex : ∃ k, k ∈ W5 P f ∧ k / 2 = l
  · obtain ⟨k, hk, hkl⟩ := hex
    have hek := w2 k hk
    obtain ⟨t, hU⟩ := us_of hek (hwy k hk).1 (hwy k hk).2.1
    have hnat : ¬ att P f' y t (eb P k) := fun q => hU.2.2.1 (hlate _ _ q)
    have hcr : kc / 2 = l → kc = k := fun e => way_lines (w2 kc hkc) hek (by omega)
    have hk01 : k = 2 * l ∨ k = 2 * l + 1 := by omega
    have hz : kc / 2 = l → er P f' k = 0 := fun e => by
      have e2 := hcr e
      subst e2
      rw [hf', er_in hnd hk hnf, her]
      omega
    by_cases hi : inner P l
    · refine ⟨fun _ => ?_, fun q => absurd hi q⟩
      obtain ⟨h1, h2, h3⟩ := h.1 hi
      have hrel : rel P (l / 2) := by
        rcases hk01 with e | e
        · refine rel_of g.1 (fun l hl => (g'.2.2.1 l hl).1) hc' hl hi ?_
          have := send_in amt _ f hnd k hk
          rw [hf', ← hkl, this, if_neg (by omega)]
          have := (g.2.2.1 (k / 2) (by omega)).1
          omega
        · refine rel_of g.1 (fun l hl => (g.2.2.1 l hl).1) hc hl hi ?_
          have := hek.2.1
          rw [er, if_pos (by omega), hkl] at this
          exact this
      have hb5 : eb P k ≠ 5 := by
        have := hi.2
        have := (g.1.2 (l / 2) (by omega)).1
        simp only [eb]
        rw [show k / 4 = l / 2 by omega]
        split <;> omega
      have hr3 : t / (4 * jn P) ≤ 3 := inner_time g h5 hk hb5 hU.2.2.2.2
      have hktk : kt P t = k := hU.1
      refine ⟨Or.inr hrel, fun q => ?_, fun q => ?_⟩
      · have hM : M ≤ t / (4 * jn P) := by
          rcases h2 q with e | ⟨t0, a1, a2, a3, a4⟩
          · rw [e]; exact Nat.zero_le _
          · by_cases hs : kt P t0 = k
            · rw [hs] at a2 a4
              rw [if_neg hek.2.1] at a4
              have := round_same g a2 hU
              omega
            · have hrv : k = rev (kt P t0) := by
                rcases a1 with a1 | a1 <;> rcases hk01 with e | e
                · omega
                · rw [a1, r2, e]
                · rw [a1, r3, e]
                · omega
              rw [hrv] at hU
              have := round_rev g rfl a2 hU
              split at a4 <;> omega
        refine Or.inr ⟨t, by rw [hktk]; omega, by rw [hktk]; exact hnat, hr3, ?_⟩
        rw [hktk]
        by_cases e : kc / 2 = l
        · rw [if_pos e, if_pos (hz e)]
          omega
        · rw [if_neg e]
          split <;> omega
      · rcases hk01 with e | e
        · have hnk : kc / 2 ≠ l := fun e2 => by
            have e3 := hcr e2
            subst e3
            exact hnf ⟨by omega, by omega⟩
          rw [if_neg hnk]
          have hM : M ≤ (t / (4 * jn P) + 1) / 2 := by
            rcases h3 q with z | ⟨t0, a2, a3, a4⟩
            · rw [z]; exact Nat.zero_le _
            · rcases a4 with ⟨a1, a4⟩ | ⟨a1, a4⟩
              · rw [a1, ← e] at a2
                have := round_same g a2 hU
                omega
              · have hrv : k = rev (kt P t0) := by rw [a1, r3, e]
                rw [hrv] at hU
                have := round_rev g rfl a2 hU
                split at a4 <;> omega
          exact Or.inr ⟨t, by rw [hktk]; exact hnat, hr3, Or.inl ⟨by rw [hktk, e], hM⟩⟩
        · have hM : M ≤ t / (4 * jn P) / 2 := by
            rcases h3 q with z | ⟨t0, a2, a3, a4⟩
            · rw [z]; exact Nat.zero_le _
            · rcases a4 with ⟨a1, a4⟩ | ⟨a1, a4⟩
              · have hrv : k = rev (kt P t0) := by rw [a1, r2, e]
                rw [hrv] at hU
                have := round_rev g rfl a2 hU
                omega
              · rw [a1, ← e] at a2 a4
                rw [if_neg hek.2.1] at a4
                have := round_same g a2 hU
                omega
          refine Or.inr ⟨t, by rw [hktk]; exact hnat, hr3, Or.inr ⟨by rw [hktk, e], ?_⟩⟩
          rw [hktk]
          by_cases e2 : kc / 2 = l
          · rw [if_pos e2, if_pos (hz e2)]
            omega
          · rw [if_neg e2]
            split <;> omega
    · refine ⟨fun q => absurd q hi, fun _ => ?_⟩
      obtain ⟨h1, h2⟩ := h.2 hi
      have hkf : k = 2 * l := by
        rcases hk01 with e | e
        · exact e
        · exfalso
          have hj := g.1.2 (l / 2) (by omega)
          have b0 := hek.2.2.2.2.1
          have b5 := no_tail5 g h5 hk
          rw [eb, if_pos (by omega), show k / 4 = l / 2 by omega] at b0
          rw [ea, if_pos (by omega), show k / 4 = l / 2 by omega] at b5
          have := hj.2.1
          exact hi ⟨by omega, by omega⟩
      refine ⟨fun q => ?_, fun q => ?_⟩
      · have h3 := h1 q
        rw [← hkf, if_neg hek.2.1] at h3
        rw [← hkf]
        by_cases e2 : kc / 2 = l
        · rw [if_pos e2, if_pos (hz e2)]
          omega
        · rw [if_neg e2]
          split <;> omega
      · have hnk : kc / 2 ≠ l := fun e2 => by
          have e3 := hcr e2
          subst e3
          exact hnf ⟨by omega, by omega⟩
        rw [if_neg hnk]
        exact h2 q
  · have hnk : kc / 2 ≠ l := fun e => hex ⟨kc, hkc, e⟩
    rw [if_neg hnk]
    have n0 : 2 * l ∉ W5 P f := fun q => hex ⟨_, q, by omega⟩
    have n1 : 2 * l + 1 ∉ W5 P f := fun q => hex ⟨_, q, by omega⟩
    have e0 : er P f' (2 * l) = er P f (2 * l) := by rw [hf']; exact er_no n0 (by rw [r2]; exact n1)
    have e1 : er P f' (2 * l + 1) = er P f (2 * l + 1) := by rw [hf']; exact er_no n1 (by rw [r3]; exact n0)
    refine ⟨fun hi => ?_, fun hi => ?_⟩
    · obtain ⟨h1, h2, h3⟩ := h.1 hi
      refine ⟨h1, fun q => ?_, fun q => ?_⟩
      · rcases h2 q with e | ⟨t0, a1, a2, a3, a4⟩
        · exact Or.inl e
        · refine Or.inr ⟨t0, a1, fun z => a2 (hlate _ _ z), a3, ?_⟩
          rcases a1 with a1 | a1
          · rw [a1] at a4 ⊢
            rw [e0]
            exact a4
          · rw [a1] at a4 ⊢
            rw [e1]
            exact a4
      · rcases h3 q with e | ⟨t0, a2, a3, a4⟩
        · exact Or.inl e
        · refine Or.inr ⟨t0, fun z => a2 (hlate _ _ z), a3, ?_⟩
          rcases a4 with ⟨a1, a4⟩ | ⟨a1, a4⟩
          · exact Or.inl ⟨a1, a4⟩
          · refine Or.inr ⟨a1, ?_⟩
            rw [a1] at a4 ⊢
            rw [e1]
            exact a4
    · obtain ⟨h1, h2⟩ := h.2 hi
      refine ⟨fun q => ?_, h2⟩
      rw [e0]
      exact h1 q
end
section
/-! PURE 7: counting -/
noncomputable def ind (p : Prop) : Int := @ite Int p (Classical.propDecidable p) 1 0
theorem ind_t {p : Prop} (h : p) : ind p = 1 := by
  simp only [ind]
  rw [if_pos h]
theorem ind_f {p : Prop} (h : ¬ p) : ind p = 0 := by
  simp only [ind]
  rw [if_neg h]
theorem ind_b (p : Prop) : 0 ≤ ind p ∧ ind p ≤ 1 := by
  by_cases h : p
  · rw [ind_t h]; omega
  · rw [ind_f h]; omega
theorem sm_c (c : Int) : ∀ n : Nat, sm (fun _ => c) n = c * n
  | 0 => by simp [sm]
  | n + 1 => by
    simp only [sm]
    rw [sm_c c n]
    grind
theorem sm_at (g : Nat) : ∀ n, g < n → sm (fun j => if j = g then 1 else 0) n = 1
  | 0, h => absurd h (by omega)
  | n + 1, h => by
    simp only [sm]
    rcases Nat.lt_or_ge g n with q | q
    · rw [sm_at g n q, if_neg (by omega)]
      rfl
    · have : g = n := by omega
      subst this
      rw [sm_zero (fun i hi => by rw [if_neg (by omega)]), if_pos rfl]
      rfl
/-- terms at most a, one of them less -/
theorem sm_less1 {f : Nat → Int} {a c : Int} {n g : Nat} (hg : g < n) (h : ∀ j, j < n → f j ≤ a - c * (if j = g then 1 else 0)) : sm f n ≤ a * n - c := by
  have h1 := sm_le h
  rw [sm_sub (fun _ => a) (fun j => c * (if j = g then 1 else 0)), sm_c, sm_mul, sm_at g n hg] at h1
  omega
theorem sm_less2 {f : Nat → Int} {a c : Int} {n g g' : Nat} (hg : g < n) (hg' : g' < n) (h : ∀ j, j < n → f j ≤ a - c * (if j = g then 1 else 0) - c * (if j = g' then 1 else 0)) : sm f n ≤ a * n - 2 * c := by
  have h1 := sm_le h
  rw [sm_sub (fun j => a - c * (if j = g then 1 else 0)) (fun j => c * (if j = g' then 1 else 0)), sm_sub (fun _ => a) (fun j => c * (if j = g then 1 else 0)), sm_c, sm_mul, sm_mul, sm_at g n hg, sm_at g' n hg'] at h1
  omega
theorem count7 {P : Pj} (hp : pok P) (W : Nat → Prop) : sm (fun j => 20 * ind (W (jf P j) ∧ ¬ W (jt P j)) + 1 + 5 * ind (rel P j)) (jn P) ≤ 147 := by
  have hn := hp.1
  by_cases h0 : ∃ e, e < jn P ∧ rel P e
  · by_cases h1 : ∃ e, e < jn P ∧ rel P e ∧ W (jf P e) ∧ ¬ W (jt P e)
    · obtain ⟨e, he, hr, hw1, hw2⟩ := h1
      obtain ⟨-, -, ⟨g, g1, g2⟩, ⟨h, h1, h2⟩⟩ := hr
      have hgh : g ≠ h := fun q => by
        subst q
        have a := (hp.2 e he).1
        have b := (hp.2 g g1).1
        omega
      have := sm_less2 (a := 26) (c := 20) g1 h1 (f := fun j => 20 * ind (W (jf P j) ∧ ¬ W (jt P j)) + 1 + 5 * ind (rel P j)) (fun j hj => by
        have b1 := ind_b (W (jf P j) ∧ ¬ W (jt P j))
        have b2 := ind_b (rel P j)
        by_cases e1 : j = g
        · rw [if_pos e1, if_neg (by omega), ind_f (p := W (jf P j) ∧ ¬ W (jt P j)) (fun q => q.2 (by rw [e1, g2]; exact hw1))]
          omega
        · by_cases e2 : j = h
          · rw [if_neg e1, if_pos e2, ind_f (p := W (jf P j) ∧ ¬ W (jt P j)) (fun q => hw2 (by rw [← h2, ← e2]; exact q.1))]
            omega
          · rw [if_neg e1, if_neg e2]
            omega)
      omega
    · obtain ⟨e, he, hr⟩ := h0
      have := sm_less1 (a := 21) (c := 15) he (f := fun j => 20 * ind (W (jf P j) ∧ ¬ W (jt P j)) + 1 + 5 * ind (rel P j)) (fun j hj => by
        have b1 := ind_b (W (jf P j) ∧ ¬ W (jt P j))
        have b2 := ind_b (rel P j)
        by_cases e1 : rel P j
        · rw [ind_f (p := W (jf P j) ∧ ¬ W (jt P j)) (fun q => h1 ⟨j, hj, e1, q.1, q.2⟩)]
          split <;> omega
        · rw [ind_f e1, if_neg (fun q : j = e => e1 (by rw [q]; exact hr))]
          omega)
      omega
  · have := sm_le (f := fun j => 20 * ind (W (jf P j) ∧ ¬ W (jt P j)) + 1 + 5 * ind (rel P j)) (g := fun _ => 21) (n := jn P) (fun j hj => by
      have b1 := ind_b (W (jf P j) ∧ ¬ W (jt P j))
      rw [ind_f (p := rel P j) (fun q => h0 ⟨j, hj, q⟩)]
      omega)
    rw [sm_c] at this
    omega
theorem leastm (Q : Nat → Prop) (μ : Nat → Nat) : ∀ (N e : Nat), μ e ≤ N → Q e → ∃ e', Q e' ∧ ∀ e'', Q e'' → μ e' ≤ μ e''
  | N, e, hN, hQ => by
    by_cases h : ∃ e2, Q e2 ∧ μ e2 < μ e
    · obtain ⟨e2, a, b⟩ := h
      exact match N, hN with
      | 0, hN => absurd b (by omega)
      | N + 1, hN => leastm Q μ N e2 (by omega) a
    · exact ⟨e, hQ, fun e2 a => Classical.byContradiction (fun q => h ⟨e2, a, by omega⟩)⟩
theorem rel5 {P : Pj} (hp : pok P) : sm (fun j => ind (rel P j)) (jn P) ≤ 5 := by
  have hn := hp.1
  by_cases h0 : ∃ e, e < jn P ∧ rel P e
  · obtain ⟨e, he⟩ := h0
    obtain ⟨e1, ⟨a1, a2⟩, a3⟩ := leastm (fun e => e < jn P ∧ rel P e) (jf P) _ e (Nat.le_refl _) he
    obtain ⟨e2, ⟨b1, b2⟩, b3⟩ := leastm (fun e => e < jn P ∧ rel P e) (fun e => 5 - jt P e) _ e (Nat.le_refl _) he
    obtain ⟨-, -, ⟨g, g1, g2⟩, -⟩ := a2
    have h6 : jf P e1 ≤ jf P e2 := a3 e2 ⟨b1, b2⟩
    obtain ⟨c1, c2, -, ⟨h, h1, h2⟩⟩ := b2
    have q1 := (hp.2 g g1).1
    have q2 := (hp.2 h h1).1
    have q3 := (hp.2 h h1).2.1
    have q4 := (hp.2 e1 a1).1
    have q5 := (hp.2 e1 a1).2.1
    have ng : ¬ rel P g := fun r => by
      have := a3 g ⟨g1, r⟩
      omega
    have nh : ¬ rel P h := fun r => by
      have := b3 h ⟨h1, r⟩
      have := r.2.1
      omega
    have hgh : g ≠ h := fun q => by
      subst q
      have h3 := (hp.2 e2 b1).1
      omega
    have := sm_less2 (a := 1) (c := 1) g1 h1 (f := fun j => ind (rel P j)) (fun j hj => by
      have b2 := ind_b (rel P j)
      by_cases e1 : j = g
      · rw [if_pos e1, if_neg (by omega), ind_f (p := rel P j) (by rw [e1]; exact ng)]
        omega
      · by_cases e2 : j = h
        · rw [if_neg e1, if_pos e2, ind_f (p := rel P j) (by rw [e2]; exact nh)]
          omega
        · rw [if_neg e1, if_neg e2]
          omega)
    omega
  · rw [sm_zero (fun j hj => ind_f (fun q => h0 ⟨j, hj, q⟩))]
    omega
/-- the longest sums of times t, by what they answer -/
def isLate (P : Pj) (t d : Nat → Int) : Prop := d 0 = 0 ∧ (∀ j, j < jn P → Bn P (jf P j) → d (jf P j) + t j ≤ d (jt P j)) ∧ ∀ y : Nat → Int, y 0 = 0 → (∀ j, j < jn P → Bn P (jf P j) → y (jf P j) + t j ≤ y (jt P j)) → ∀ v, Bn P v → d v ≤ y v
theorem fast_le {P : Pj} {f y : Nat → Int} (hy : pot P f y) {j : Nat} (hj : j < jn P) (hb : Bn P (jf P j)) : y (jf P j) + ja P j ≤ y (jt P j) := by
  have hF : fastF (4 * j + 2) := ⟨by omega, by omega⟩
  have h := hy.2 (4 * j + 2) (by omega) (by rw [er_fast hF]; decide) (by rw [ea, if_neg (by omega), show (4 * j + 2) / 4 = j by omega]; exact hb)
  rw [ea, eb, el, if_neg (by omega), if_neg (by omega), if_neg (by omega), show (4 * j + 2) / 4 = j by omega, ln, if_neg (by omega), show (4 * j + 2) / 2 / 2 = j by omega] at h
  omega
theorem fast_tight {P : Pj} {f y : Nat → Int} (hf : fok P f) (hy : pot P f y) {j : Nat} (hj : j < jn P) (h0 : f (2 * j + 1) ≠ 0) : Bn P (jf P j) ∧ y (jt P j) ≤ y (jf P j) + ja P j := by
  have hb : Bn P (jf P j) := by
    have := (hf (2 * j + 1) (by omega)).2.2 h0
    rw [show (2 * j + 1) / 2 = j by omega] at this
    exact this
  refine ⟨hb, ?_⟩
  have h := hy.2 (4 * j + 3) (by omega) (by rw [er, if_pos (by omega), show (4 * j + 3) / 2 = 2 * j + 1 by omega]; exact h0) (by rw [ea, if_pos (by omega), show (4 * j + 3) / 4 = j by omega]; exact Bn_job hj hb)
  rw [ea, eb, el, if_pos (by omega), if_pos (by omega), if_pos (by omega), show (4 * j + 3) / 4 = j by omega, show (4 * j + 3) / 2 = 2 * j + 1 by omega, ln, if_neg (by omega), show (2 * j + 1) / 2 = j by omega] at h
  omega
/-- above the shortest length: the flow is no more than the prices that leave a set -/
theorem cut {P : Pj} {f y d : Nat → Int} {F : Int} (g : good P f y) (hc : cons P f F) (hd : isLate P (ja P) d) (h5 : d 5 < y 5) : F ≤ sm (fun j => 20 * ind (y (jf P j) ≤ d (jf P j) ∧ ¬ y (jt P j) ≤ d (jt P j))) (jn P) := by
  have h := hc (fun v => ind (¬ y v ≤ d v))
  rw [ind_t (p := ¬ y 5 ≤ d 5) (by omega), ind_f (p := ¬ y 0 ≤ d 0) (by rw [g.2.2.2.1, hd.1]; simp)] at h
  rw [sm_two] at h
  have hb := sm_le (f := fun j => f (2 * j) * (ind (¬ y (jt P (2 * j / 2)) ≤ d (jt P (2 * j / 2))) - ind (¬ y (jf P (2 * j / 2)) ≤ d (jf P (2 * j / 2)))) + f (2 * j + 1) * (ind (¬ y (jt P ((2 * j + 1) / 2)) ≤ d (jt P ((2 * j + 1) / 2))) - ind (¬ y (jf P ((2 * j + 1) / 2)) ≤ d (jf P ((2 * j + 1) / 2))))) (g := fun j => 20 * ind (y (jf P j) ≤ d (jf P j) ∧ ¬ y (jt P j) ≤ d (jt P j))) (n := jn P) (fun j hj => by
    rw [show 2 * j / 2 = j by omega, show (2 * j + 1) / 2 = j by omega]
    have hs := g.2.2.1 (2 * j) (by omega)
    have hs2 := hs.2.1 (by omega)
    rw [show 2 * j / 2 = j by omega] at hs2
    have hq := g.2.2.1 (2 * j + 1) (by omega)
    have hpr := (g.1.2 j hj).2.2.2.2.2.2.2
    have hfast : f (2 * j + 1) * (ind (¬ y (jt P j) ≤ d (jt P j)) - ind (¬ y (jf P j) ≤ d (jf P j))) ≤ 0 := by
      by_cases h0 : f (2 * j + 1) = 0
      · rw [h0]; omega
      · obtain ⟨b1, b2⟩ := fast_tight g.2.2.1 g.2.2.2 hj h0
        have b3 := hd.2.1 j hj b1
        by_cases w : y (jf P j) ≤ d (jf P j)
        · rw [ind_f (p := ¬ y (jt P j) ≤ d (jt P j)) (by omega), ind_f (p := ¬ y (jf P j) ≤ d (jf P j)) (by omega)]
          omega
        · rw [ind_t (p := ¬ y (jf P j) ≤ d (jf P j)) w]
          have := ind_b (¬ y (jt P j) ≤ d (jt P j))
          exact Int.mul_nonpos_of_nonneg_of_nonpos hq.1 (by omega)
    have hslow : f (2 * j) * (ind (¬ y (jt P j) ≤ d (jt P j)) - ind (¬ y (jf P j) ≤ d (jf P j))) ≤ 20 * ind (y (jf P j) ≤ d (jf P j) ∧ ¬ y (jt P j) ≤ d (jt P j)) := by
      by_cases w : y (jf P j) ≤ d (jf P j)
      · rw [ind_f (p := ¬ y (jf P j) ≤ d (jf P j)) (by omega)]
        by_cases w2 : y (jt P j) ≤ d (jt P j)
        · rw [ind_f (p := ¬ y (jt P j) ≤ d (jt P j)) (by omega), ind_f (fun q => q.2 w2)]
          omega
        · rw [ind_t (p := ¬ y (jt P j) ≤ d (jt P j)) w2, ind_t ⟨w, w2⟩]
          omega
      · rw [ind_t (p := ¬ y (jf P j) ≤ d (jf P j)) w, ind_f (p := y (jf P j) ≤ d (jf P j) ∧ ¬ y (jt P j) ≤ d (jt P j)) (fun q => w q.1)]
        have := ind_b (¬ y (jt P j) ≤ d (jt P j))
        exact Int.mul_nonpos_of_nonneg_of_nonpos hs.1 (by omega)
    omega)
  omega
end
section
/-! PURE 8: the ways, one behind another; at most 148 -/
def fl (P : Pj) : Nat → Nat → Int
  | 0 => fun _ => 0
  | i + 1 => send (fl P i) (wid P (fl P i) 1000000 (W5 P (fl P i))) (W5 P (fl P i))
def am (P : Pj) (i : Nat) : Int := wid P (fl P i) 1000000 (W5 P (fl P i))
def Ls (P : Pj) (i : Nat) : Int := fO P (fl P i) 5
def FF (P : Pj) (i : Nat) : Int := sm (am P) i
def TT (P : Pj) (i : Nat) : Int := sm (fun j => am P j * Ls P j) i
def py (P : Pj) : Nat → Nat → Int
  | 0 => fun v => 9 * (v : Int)
  | i + 1 => fO P (fl P i)
theorem fl_s (P : Pj) (i : Nat) : fl P (i + 1) = send (fl P i) (am P i) (W5 P (fl P i)) := rfl
def Ok (P : Pj) (i : Nat) : Prop := good P (fl P i) (py P i) ∧ cons P (fl P i) (FF P i) ∧ tot P (fl P i) = TT P i
theorem ok_0 {P : Pj} (hp : pok P) (hn : 0 < jn P) : Ok P 0 := by
  refine ⟨⟨hp, hn, ?_, ?_⟩, cons_0 P, tot_0 P⟩
  · intro l hl
    have := hp.2 (l / 2) (by omega)
    refine ⟨Int.le_refl _, fun _ => ?_, fun h => absurd rfl h⟩
    have := this.2.2.2.2.2.2.1
    show (0 : Int) ≤ _
    omega
  · refine ⟨rfl, fun k hk hr _ => ?_⟩
    have hj := ek_job hp hk
    have hl := ln_b hp (show k / 2 < 2 * jn P by omega)
    by_cases h : k % 2 = 1
    · rw [er, if_pos h] at hr
      exact absurd rfl hr
    · rw [el, ea, eb, if_neg h, if_neg h, if_neg h]
      have := hj.1
      show ln P (k / 2) + 9 * (jf P (k / 4) : Int) ≤ 9 * (jt P (k / 4) : Int)
      omega
/-- an open step that isn't endless -/
theorem er_small {P : Pj} {f : Nat → Int} {F : Int} (hp : pok P) (hf : fok P f) (hc : cons P f F) {k : Nat} (hk : k < 4 * jn P) (hF : ¬ fastF k) : (k / 2 % 2 = 0 → er P f k ≤ 20) ∧ (k / 2 % 2 = 1 → er P f k ≤ F) := by
  have h := hf (k / 2) (by omega)
  have hj := (ek_job hp hk).2.2.2.2.2.2.2
  have hle := le_F hp (fun l hl => (hf l hl).1) hc (show k / 2 < 2 * jn P by omega)
  rw [show k / 2 / 2 = k / 4 by omega] at h
  simp only [fastF] at hF
  simp only [er]
  refine ⟨fun q => ?_, fun q => ?_⟩
  · have := h.2.1 q
    split
    · omega
    · omega
  · rw [if_pos (by omega)]
    exact hle
theorem am_pos {P : Pj} {i : Nat} (h : Ok P i) (h5 : Bn P 5) : 0 < am P i ∧ am P i ≤ 1000000 := by
  obtain ⟨g, -, -⟩ := h
  obtain ⟨w1, w2, -⟩ := w5 g ((fR_Bn g 5).mpr h5)
  have hw := wid_le P (fl P i) (W5 P (fl P i)) 1000000
  refine ⟨?_, hw.1⟩
  rcases wid_at P (fl P i) (W5 P (fl P i)) 1000000 with e | ⟨k, a, b⟩
  · show 0 < wid P (fl P i) 1000000 (W5 P (fl P i))
    rw [e]; decide
  · show 0 < wid P (fl P i) 1000000 (W5 P (fl P i))
    rw [b]
    have h1 := (w2 k a).2.1
    have h2 := er_nn g.2.2.1 (w2 k a).1
    omega
/-- where a way that isn't endless is narrowest -/
theorem am_at {P : Pj} {i : Nat} (hf : am P i < 1000000) : ∃ k ∈ W5 P (fl P i), er P (fl P i) k = am P i ∧ ¬ fastF k := by
  rcases wid_at P (fl P i) (W5 P (fl P i)) 1000000 with e | ⟨k, a, b⟩
  · have : am P i = 1000000 := e
    omega
  · refine ⟨k, a, b.symm, fun q => ?_⟩
    have : am P i = er P (fl P i) k := b
    rw [er_fast q] at this
    omega
theorem ok_s {P : Pj} {i : Nat} (h : Ok P i) (h5 : Bn P 5) : Ok P (i + 1) := by
  have hpos := am_pos h h5
  obtain ⟨g, hc, ht⟩ := h
  have hr5 := (fR_Bn g 5).mpr h5
  obtain ⟨w1, w2, w3, -⟩ := w5 g hr5
  have hs := sent g hc w1 w2 w3 hpos.1 (wid_le P (fl P i) (W5 P (fl P i)) 1000000).2
  have hpt := pot_send (amt := am P i) (fpot g) w2 (fun k hk => (w2 k hk).2.2.2.2.2.1)
  refine ⟨⟨g.1, g.2.1, hs.1, hpt⟩, hs.2.1, ?_⟩
  rw [fl_s, hs.2.2, ht]
  rfl
theorem Ls_le {P : Pj} {i : Nat} (h : Ok P (i + 1)) (h5 : Bn P 5) : Ls P (i + 1) ≤ Ls P i := fle h.1 ((fR_Bn h.1 5).mpr h5)
theorem L_ge {P : Pj} {d : Nat → Int} (hd : isLate P (ja P) d) {i : Nat} (h : Ok P i) (h5 : Bn P 5) : d 5 ≤ Ls P i := by
  have hp := fpot h.1
  exact hd.2.2 (fO P (fl P i)) hp.1 (fun j hj hb => fast_le hp hj hb) 5 h5
/-- an endless way is at most as long as the shortest plan -/
theorem end_len {P : Pj} {f d : Nat → Int} (hd : isLate P (ja P) d) (hp : pok P) {y : Nat → Int} (g : good P f y) : ∀ (L : List Nat) (v : Nat), isW P v L → (∀ k ∈ L, eok P f k ∧ fastF k) → fO P f v ≤ d v
  | [], v, hW, _ => by
    have : v = 0 := hW
    subst this
    rw [(fR_0 P f).2, hd.1]
    exact Int.le_refl _
  | k :: L, v, hW, hL => by
    have ih := end_len hd hp g L _ hW.2 (fun k' h' => hL k' (List.mem_cons_of_mem _ h'))
    obtain ⟨h1, h2⟩ := hL k List.mem_cons_self
    have h3 := h1.2.2.2.2.2.1
    have e1 : ea P k = jf P (k / 4) := by rw [ea, if_neg (by have := h2.1; omega)]
    have e2 : eb P k = jt P (k / 4) := by rw [eb, if_neg (by have := h2.1; omega)]
    have e3 : el P k = ja P (k / 4) := by
      rw [el, if_neg (by have := h2.1; omega), ln, if_neg (by have := h2.2; omega), show k / 2 / 2 = k / 4 by omega]
    have h4 := hd.2.1 (k / 4) (by have := h1.1; omega) (by rw [← e1]; exact (fR_Bn g _).mp h1.2.2.1)
    rw [← hW.1]
    rw [e1, e2, e3] at h3
    rw [e1] at ih
    rw [e2]
    omega
theorem endless {P : Pj} {d : Nat → Int} (hd : isLate P (ja P) d) {i : Nat} (h : Ok P i) (h5 : Bn P 5) (hF : FF P i < 1000000) (he : ¬ am P i < 1000000) : Ls P i = d 5 := by
  have h1 := L_ge hd h h5
  obtain ⟨g, hc, -⟩ := h
  obtain ⟨w1, w2, -⟩ := w5 g ((fR_Bn g 5).mpr h5)
  have h2 := end_len hd g.1 g _ _ w1 (fun k hk => ⟨w2 k hk, Classical.byContradiction (fun q => by
    have a := er_small g.1 g.2.2.1 hc (w2 k hk).1 q
    have b := (wid_le P (fl P i) (W5 P (fl P i)) 1000000).2 k hk
    have c : am P i ≤ er P (fl P i) k := b
    rcases Nat.mod_two_eq_zero_or_one (k / 2) with z | z
    · have := a.1 z
      omega
    · have := a.2 z
      omega)⟩)
  have : Ls P i ≤ d 5 := h2
  omega
def Pre (P : Pj) (d : Nat → Int) (i : Nat) : Prop := Ok P i ∧ (i : Int) ≤ FF P i ∧ (i = 0 ∨ d 5 < py P i 5)
theorem pre_F {P : Pj} {d : Nat → Int} (hd : isLate P (ja P) d) {i : Nat} (h : Pre P d i) : ∃ W : Nat → Prop, FF P i ≤ sm (fun j => 20 * ind (W (jf P j) ∧ ¬ W (jt P j))) (jn P) := by
  obtain ⟨h1, h2, h3⟩ := h
  rcases h3 with e | e
  · subst e
    refine ⟨fun _ => True, ?_⟩
    exact sm_nn (fun j _ => by have := (ind_b ((fun _ : Nat => True) (jf P j) ∧ ¬ (fun _ : Nat => True) (jt P j))).1; omega)
  · exact ⟨fun v => py P i v ≤ d v, cut h1.1 h1.2.1 hd e⟩
theorem c140 {P : Pj} (hp : pok P) (W : Nat → Prop) : sm (fun j => 20 * ind (W (jf P j) ∧ ¬ W (jt P j))) (jn P) ≤ 140 := by
  have h := sm_le (f := fun j => 20 * ind (W (jf P j) ∧ ¬ W (jt P j))) (g := fun _ => 20) (n := jn P) (fun j _ => by have := (ind_b (W (jf P j) ∧ ¬ W (jt P j))).2; omega)
  rw [sm_c] at h
  have := hp.1
  omega
/-- at the level of the shortest length -/
def Lev (P : Pj) (d : Nat → Int) (i : Nat) : Prop := Ok P i ∧ ∃ (y : Nat → Int) (W : Nat → Prop) (M : Nat → Nat) (Y : Nat), good P (fl P i) y ∧ y 5 = d 5 ∧ (∀ l, l < 2 * jn P → Rec P (fl P i) y l (M l)) ∧ (i : Int) ≤ sm (fun j => 20 * ind (W (jf P j) ∧ ¬ W (jt P j))) (jn P) + sm (fun l => (M l : Int)) (2 * jn P) ∧ FF P i ≤ (140 + 20 * sm (fun j => (M (2 * j) : Int)) (jn P)) * 2 ^ Y ∧ (Y : Int) = sm (fun j => (M (2 * j + 1) : Int)) (jn P)
theorem lev_of {P : Pj} {d : Nat → Int} (hd : isLate P (ja P) d) {i : Nat} (h : Pre P d i) (he : Ls P i = d 5) : Lev P d i := by
  obtain ⟨W, hW⟩ := pre_F hd h
  have h140 := c140 h.1.1.1 W
  refine ⟨h.1, fO P (fl P i), W, fun _ => 0, 0, fgood h.1.1, he, fun l _ => rec_0 P _ _ l, ?_, ?_, ?_⟩
  · have := h.2.1
    rw [sm_zero (f := fun l => ((fun _ => 0 : Nat → Nat) l : Int)) (fun _ _ => rfl)]
    omega
  · rw [sm_zero (f := fun j => ((fun _ => 0 : Nat → Nat) (2 * j) : Int)) (fun _ _ => rfl)]
    omega
  · rw [sm_zero (f := fun j => ((fun _ => 0 : Nat → Nat) (2 * j + 1) : Int)) (fun _ _ => rfl)]
    rfl
/-- bounds out of the records -/
theorem lev_M {P : Pj} {f y : Nat → Int} {M : Nat → Nat} (hR : ∀ l, l < 2 * jn P → Rec P f y l (M l)) : sm (fun l => (M l : Int)) (2 * jn P) ≤ sm (fun j => 1 + 5 * ind (rel P j)) (jn P) ∧ sm (fun j => (M (2 * j) : Int)) (jn P) ≤ sm (fun j => 1 + 3 * ind (rel P j)) (jn P) ∧ sm (fun j => (M (2 * j + 1) : Int)) (jn P) ≤ sm (fun j => 2 * ind (rel P j)) (jn P) := by
  have key : ∀ j, j < jn P → (M (2 * j) : Int) ≤ 1 + 3 * ind (rel P j) ∧ (M (2 * j + 1) : Int) ≤ 2 * ind (rel P j) := by
    intro j hj
    have c1 := (rec_cap (hR (2 * j) (by omega))).1 (by omega)
    have c2 := (rec_cap (hR (2 * j + 1) (by omega))).2 (by omega)
    rw [show 2 * j / 2 = j by omega] at c1
    rw [show (2 * j + 1) / 2 = j by omega] at c2
    by_cases hr : rel P j
    · rw [ind_t hr]
      have := c1.1 hr
      have := c2.1 hr
      omega
    · rw [ind_f hr]
      have := c1.2 hr
      have := c2.2 hr
      omega
  refine ⟨?_, sm_le (fun j hj => (key j hj).1), sm_le (fun j hj => (key j hj).2)⟩
  rw [sm_two]
  exact sm_le (fun j hj => by have := key j hj; omega)
theorem pow10 : ∀ {Y : Nat}, Y ≤ 10 → (2 : Int) ^ Y ≤ 1024 := by
  intro Y h
  have h1 : (2 : Nat) ^ Y ≤ 2 ^ 10 := Nat.pow_le_pow_right (by decide) h
  have h2 : ((2 ^ Y : Nat) : Int) ≤ ((2 ^ 10 : Nat) : Int) := Int.ofNat_le.mpr h1
  simpa using h2
theorem lev_b {P : Pj} {d : Nat → Int} {i : Nat} (h : Lev P d i) : (i : Int) ≤ 147 ∧ FF P i ≤ 593920 := by
  obtain ⟨h1, y, W, M, Y, g, h2, h3, h4, h5, h6⟩ := h
  obtain ⟨m1, m2, m3⟩ := lev_M h3
  have hp := g.1
  have c := count7 hp W
  have r := rel5 hp
  have hn := hp.1
  have e1 : sm (fun j => 20 * ind (W (jf P j) ∧ ¬ W (jt P j)) + 1 + 5 * ind (rel P j)) (jn P) = sm (fun j => 20 * ind (W (jf P j) ∧ ¬ W (jt P j))) (jn P) + sm (fun j => 1 + 5 * ind (rel P j)) (jn P) := by
    rw [← sm_add]
    exact sm_congr (fun j _ => by omega)
  have e2 : sm (fun j => 1 + 3 * ind (rel P j)) (jn P) = jn P + 3 * sm (fun j => ind (rel P j)) (jn P) := by
    rw [sm_add (fun _ => 1) (fun j => 3 * ind (rel P j)), sm_c, sm_mul]
    omega
  have e3 : sm (fun j => 2 * ind (rel P j)) (jn P) = 2 * sm (fun j => ind (rel P j)) (jn P) := sm_mul _ _ _
  refine ⟨by omega, ?_⟩
  have hY := pow10 (Y := Y) (by omega)
  have hx : 140 + 20 * sm (fun j => (M (2 * j) : Int)) (jn P) ≤ 580 := by omega
  have hx0 : 0 ≤ sm (fun j => (M (2 * j) : Int)) (jn P) := sm_nn (fun j _ => Int.natCast_nonneg _)
  have h7 : (140 + 20 * sm (fun j => (M (2 * j) : Int)) (jn P)) * 2 ^ Y ≤ 580 * 1024 := by
    refine Int.le_trans (Int.mul_le_mul_of_nonneg_left hY (by omega)) ?_
    exact Int.mul_le_mul_of_nonneg_right hx (by decide)
  omega
theorem sm_inc (M : Nat → Nat) (a : Nat) : ∀ n, a < n → sm (fun l => ((if a = l then M l + 1 else M l : Nat) : Int)) n = sm (fun l => (M l : Int)) n + 1
  | 0, h => absurd h (by omega)
  | n + 1, h => by
    simp only [sm]
    rcases Nat.lt_or_ge a n with q | q
    · rw [sm_inc M a n q, if_neg (by omega)]
      omega
    · have : a = n := by omega
      subst this
      rw [sm_congr (g := fun l => (M l : Int)) (fun i hi => by rw [if_neg (by omega)]), if_pos rfl]
      omega
set_option maxHeartbeats 1000000 in
theorem lev_s {P : Pj} {d : Nat → Int} (hd : isLate P (ja P) d) {i : Nat} (h5 : Bn P 5) (h : Lev P d i) (hf : am P i < 1000000) : Lev P d (i + 1) := by
  obtain ⟨hO, y, W, M, Y, g, hy, hR, h4, h6, hYe⟩ := h
  have hO' := ok_s hO h5
  have hpos := am_pos hO h5
  have hr5 : fR P (fl P i) 5 := (fR_Bn g 5).mpr h5
  obtain ⟨w1, w2, w3, -⟩ := w5 g hr5
  obtain ⟨kc, k1, k2, k3⟩ := am_at hf
  have hy5 : fO P (fl P i) 5 = y 5 := by
    have a := L_ge hd hO h5
    have b := fle g hr5
    simp only [Ls] at a
    omega
  have hwy := way_y g _ _ w1 w2 hy5
  have g' : good P (fl P (i + 1)) y := ⟨g.1, g.2.1, hO'.1.2.2.1, pot_send (amt := am P i) g.2.2.2 w2 (fun k hk => (hwy k hk).2.2)⟩
  have hkc := (w2 kc k1).1
  have hsm := er_small g.1 g.2.2.1 hO.2.1 hkc k3
  rw [k2] at hsm
  have hF' : FF P (i + 1) = FF P i + am P i := rfl
  have hFp : 0 < (2 : Int) ^ Y := Int.pow_pos (by decide)
  have hX0 : 0 ≤ sm (fun j => (M (2 * j) : Int)) (jn P) := sm_nn (fun j _ => Int.natCast_nonneg _)
  have hcnt : ((i + 1 : Nat) : Int) ≤ sm (fun j => 20 * ind (W (jf P j) ∧ ¬ W (jt P j))) (jn P) + sm (fun l => ((if kc / 2 = l then M l + 1 else M l : Nat) : Int)) (2 * jn P) := by
    rw [sm_inc M (kc / 2) (2 * jn P) (by omega)]
    omega
  rcases Nat.mod_two_eq_zero_or_one (kc / 2) with z | z
  · have ham := hsm.1 z
    refine ⟨hO', y, W, fun l => if kc / 2 = l then M l + 1 else M l, Y, g', hy, fun l hl => rec_step g g' hr5 hO.2.1 rfl hO'.2.1 hy5 hpos.1 k1 k2 k3 hl (hR l hl), hcnt, ?_, ?_⟩
    · have e : sm (fun j => (((fun l => if kc / 2 = l then M l + 1 else M l) (2 * j) : Nat) : Int)) (jn P) = sm (fun j => (M (2 * j) : Int)) (jn P) + 1 := by
        rw [← sm_inc (fun j => M (2 * j)) (kc / 4) (jn P) (by omega)]
        refine sm_congr (fun j _ => ?_)
        dsimp only
        by_cases q : kc / 4 = j
        · rw [if_pos q, if_pos (by omega)]
        · rw [if_neg q, if_neg (by omega)]
      rw [e, hF', show (140 + 20 * (sm (fun j => (M (2 * j) : Int)) (jn P) + 1)) * 2 ^ Y = (140 + 20 * sm (fun j => (M (2 * j) : Int)) (jn P)) * 2 ^ Y + 20 * 2 ^ Y by grind]
      omega
    · rw [hYe]
      refine sm_congr (fun j _ => ?_)
      dsimp only
      rw [if_neg (by omega)]
  · have ham := hsm.2 z
    refine ⟨hO', y, W, fun l => if kc / 2 = l then M l + 1 else M l, Y + 1, g', hy, fun l hl => rec_step g g' hr5 hO.2.1 rfl hO'.2.1 hy5 hpos.1 k1 k2 k3 hl (hR l hl), hcnt, ?_, ?_⟩
    · have e : sm (fun j => (((fun l => if kc / 2 = l then M l + 1 else M l) (2 * j) : Nat) : Int)) (jn P) = sm (fun j => (M (2 * j) : Int)) (jn P) := by
        refine sm_congr (fun j _ => ?_)
        dsimp only
        rw [if_neg (by omega)]
      rw [e, hF', Int.pow_succ, ← Int.mul_assoc]
      omega
    · have e : sm (fun j => (((fun l => if kc / 2 = l then M l + 1 else M l) (2 * j + 1) : Nat) : Int)) (jn P) = sm (fun j => (M (2 * j + 1) : Int)) (jn P) + 1 := by
        rw [← sm_inc (fun j => M (2 * j + 1)) (kc / 4) (jn P) (by omega)]
        refine sm_congr (fun j _ => ?_)
        dsimp only
        by_cases q : kc / 4 = j
        · rw [if_pos q, if_pos (by omega)]
        · rw [if_neg q, if_neg (by omega)]
      rw [e, ← hYe]
      rfl
theorem pre_s {P : Pj} {d : Nat → Int} (hd : isLate P (ja P) d) {i : Nat} (h5 : Bn P 5) (h : Pre P d i) (hL : d 5 < Ls P i) : Pre P d (i + 1) := by
  have hpos := am_pos h.1 h5
  refine ⟨ok_s h.1 h5, ?_, Or.inr hL⟩
  have hF' : FF P (i + 1) = FF P i + am P i := rfl
  have := h.2.1
  omega
theorem phases {P : Pj} {d : Nat → Int} (hp : pok P) (hn : 0 < jn P) (hd : isLate P (ja P) d) (h5 : Bn P 5) : ∀ i, (∀ j, j < i → am P j < 1000000) → Pre P d i ∨ Lev P d i
  | 0, _ => Or.inl ⟨ok_0 hp hn, Int.le_refl _, Or.inl rfl⟩
  | i + 1, h => by
    have hf := h i (by omega)
    rcases phases hp hn hd h5 i (fun j hj => h j (by omega)) with q | q
    · have hg := L_ge hd q.1 h5
      by_cases e : d 5 < Ls P i
      · exact Or.inl (pre_s hd h5 q e)
      · exact Or.inr (lev_s hd h5 (lev_of hd q (by omega)) hf)
    · exact Or.inr (lev_s hd h5 q hf)
theorem ph_ok {P : Pj} {d : Nat → Int} (hd : isLate P (ja P) d) {i : Nat} (h : Pre P d i ∨ Lev P d i) : Ok P i ∧ (i : Int) ≤ 147 ∧ FF P i ≤ 593920 := by
  rcases h with h | h
  · obtain ⟨W, hW⟩ := pre_F hd h
    have := c140 h.1.1.1 W
    have := h.2.1
    exact ⟨h.1, by omega, by omega⟩
  · exact ⟨h.1, (lev_b h).1, (lev_b h).2⟩
/-- the ways end with an endless one, the 148th at the latest -/
theorem ends {P : Pj} {d : Nat → Int} (hp : pok P) (hn : 0 < jn P) (hd : isLate P (ja P) d) (h5 : Bn P 5) : ∃ N, N ≤ 147 ∧ am P N = 1000000 ∧ (∀ i, i < N → 0 < am P i ∧ am P i < 1000000) ∧ (∀ i, i ≤ N → Ok P i ∧ FF P i ≤ 593920) ∧ Ls P N = d 5 := by
  have hex : ∃ e, e < 148 ∧ ¬ am P e < 1000000 := Classical.byContradiction (fun q => by
    have := ph_ok hd (phases hp hn hd h5 148 (fun j hj => Classical.byContradiction (fun z => q ⟨j, hj, z⟩)))
    omega)
  obtain ⟨e, he⟩ := hex
  obtain ⟨N, ⟨n1, n2⟩, n3⟩ := leastm (fun e => e < 148 ∧ ¬ am P e < 1000000) (fun e => e) _ e (Nat.le_refl _) he
  have hfin : ∀ i, i < N → am P i < 1000000 := fun i hi => Classical.byContradiction (fun z => by
    have := n3 i ⟨by omega, z⟩
    omega)
  have hall : ∀ i, i ≤ N → Ok P i ∧ (i : Int) ≤ 147 ∧ FF P i ≤ 593920 := fun i hi => ph_ok hd (phases hp hn hd h5 i (fun j hj => hfin j (by omega)))
  have hN := hall N (Nat.le_refl _)
  have hpN := am_pos hN.1 h5
  refine ⟨N, by omega, by omega, fun i hi => ⟨(am_pos (hall i (by omega)).1 h5).1, hfin i hi⟩, fun i hi => ⟨(hall i hi).1, (hall i hi).2.2⟩, ?_⟩
  exact endless hd hN.1 h5 (by omega) n2
end
section
/-! PURE 9: the reference's length -/
def l0 : Nat → Int := fun v => if v = 0 then 0 else -1
def lstep (P : Pj) (t : Nat → Int) (e i : Nat) (d : Nat → Int) : Nat → Int := if jf P i = e ∧ 0 ≤ d e ∧ d (jt P i) < d e + t i then uu d (jt P i) (d e + t i) else d
def lin (P : Pj) (t : Nat → Int) (e : Nat) (d : Nat → Int) : Nat → Nat → Int
  | 0 => d
  | i + 1 => lstep P t e i (lin P t e d i)
def lout (P : Pj) (t : Nat → Int) : Nat → Nat → Int
  | 0 => l0
  | e + 1 => lin P t e (lout P t e) (jn P)
def late (P : Pj) (t : Nat → Int) : Nat → Int := lout P t 5
def feas (P : Pj) (t y : Nat → Int) : Prop := y 0 = 0 ∧ ∀ j, j < jn P → Bn P (jf P j) → y (jf P j) + t j ≤ y (jt P j)
def linv (P : Pj) (t : Nat → Int) (e i : Nat) (d : Nat → Int) : Prop := d 0 = 0 ∧ (∀ v, 0 ≤ d v → Bn P v ∧ ∀ y, feas P t y → d v ≤ y v) ∧ (∀ v, -1 ≤ d v) ∧ ∀ j, j < jn P → (jf P j < e ∨ jf P j = e ∧ j < i) → 0 ≤ d (jf P j) → d (jf P j) + t j ≤ d (jt P j)
theorem linv_step {P : Pj} {t : Nat → Int} (hp : pok P) (ht : ∀ j, j < jn P → 0 ≤ t j) {e i : Nat} {d : Nat → Int} (hi : i < jn P) (h : linv P t e i d) : linv P t e (i + 1) (lstep P t e i d) := by
  obtain ⟨h1, h2, h3, h4⟩ := h
  have hj := hp.2 i hi
  simp only [lstep]
  by_cases hc : jf P i = e ∧ 0 ≤ d e ∧ d (jt P i) < d e + t i
  · rw [if_pos hc]
    obtain ⟨c1, c2, c3⟩ := hc
    have hlt := hj.1
    have hb : Bn P (jt P i) := Bn_job hi (by rw [c1]; exact (h2 e c2).1)
    refine ⟨by rw [uu_n (by omega)]; exact h1, fun v hv => ?_, fun v => ?_, fun j hj2 hd hn => ?_⟩
    · by_cases e1 : v = jt P i
      · subst e1
        refine ⟨hb, fun y hy => ?_⟩
        rw [uu_s]
        have a := (h2 e c2).2 y hy
        have b := hy.2 i hi (by rw [c1]; exact (h2 e c2).1)
        rw [c1] at b
        omega
      · rw [uu_n e1] at hv ⊢
        exact h2 v hv
    · by_cases e1 : v = jt P i
      · subst e1
        rw [uu_s]
        have := ht i hi
        omega
      · rw [uu_n e1]
        exact h3 v
    · have hne : jf P j ≠ jt P i := by
        rcases hd with q | q <;> omega
      rw [uu_n hne] at hn ⊢
      by_cases e2 : jt P j = jt P i
      · rw [e2, uu_s]
        by_cases e3 : j = i
        · subst e3
          rw [c1]
          exact Int.le_refl _
        · have := h4 j hj2 (by omega) hn
          rw [e2] at this
          omega
      · rw [uu_n e2]
        by_cases e3 : j = i
        · subst e3
          exact absurd rfl e2
        · exact h4 j hj2 (by omega) hn
  · rw [if_neg hc]
    refine ⟨h1, h2, h3, fun j hj2 hd hn => ?_⟩
    by_cases e3 : jf P j < e ∨ jf P j = e ∧ j < i
    · exact h4 j hj2 e3 hn
    · have e4 : j = i ∧ jf P j = e := by omega
      obtain ⟨rfl, e5⟩ := e4
      rw [e5] at hn ⊢
      have : ¬ d (jt P j) < d e + t j := fun q => hc ⟨e5, hn, q⟩
      omega
theorem linv_in {P : Pj} {t : Nat → Int} (hp : pok P) (ht : ∀ j, j < jn P → 0 ≤ t j) {e : Nat} {d : Nat → Int} (h : linv P t e 0 d) : ∀ i, i ≤ jn P → linv P t e i (lin P t e d i)
  | 0, _ => h
  | i + 1, hi => linv_step hp ht (by omega) (linv_in hp ht h i (by omega))
theorem linv_out {P : Pj} {t : Nat → Int} (hp : pok P) (ht : ∀ j, j < jn P → 0 ≤ t j) : ∀ e, linv P t e 0 (lout P t e)
  | 0 => by
    refine ⟨rfl, fun v hv => ?_, fun v => ?_, fun j _ hd => ?_⟩
    · have : v = 0 := Classical.byContradiction (fun q => by
        simp only [lout, l0] at hv
        rw [if_neg q] at hv
        omega)
      subst this
      exact ⟨Bn_0 P, fun y hy => by rw [hy.1]; exact Int.le_refl _⟩
    · simp only [lout, l0]
      split <;> omega
    · omega
  | e + 1 => by
    obtain ⟨h1, h2, h3, h4⟩ := linv_in hp ht (linv_out hp ht e) (jn P) (Nat.le_refl _)
    exact ⟨h1, h2, h3, fun j hj hd hn => h4 j hj (by omega) hn⟩
theorem late_ok {P : Pj} {t : Nat → Int} (hp : pok P) (ht : ∀ j, j < jn P → 0 ≤ t j) : isLate P t (late P t) ∧ (∀ v, Bn P v ↔ 0 ≤ late P t v) := by
  obtain ⟨h1, h2, h3, h4⟩ := linv_out hp ht 5
  have h5 : ∀ j, j < jn P → 0 ≤ late P t (jf P j) → late P t (jf P j) + t j ≤ late P t (jt P j) := fun j hj hn => h4 j hj (by have := (hp.2 j hj).1; have := (hp.2 j hj).2.1; omega) hn
  have h6 : ∀ v, Bn P v ↔ 0 ≤ late P t v := fun v => ⟨fun hb => hb (fun v => 0 ≤ late P t v) (by show 0 ≤ lout P t 5 0; rw [h1]; exact Int.le_refl _) (fun j hj q => by
    have := h5 j hj q
    have := ht j hj
    omega), fun q => (h2 v q).1⟩
  exact ⟨⟨h1, fun j hj hb => h5 j hj ((h6 _).mp hb), fun y y0 hy v hb => (h2 v ((h6 v).mp hb)).2 y ⟨y0, hy⟩⟩, h6⟩
/-- the length of the plan in times t -/
def plen (P : Pj) (t : Nat → Int) : Int := if late P t 5 < 0 then 0 else late P t 5
theorem plen_b {P : Pj} {t : Nat → Int} (hp : pok P) (ht : ∀ j, j < jn P → 0 ≤ t j) : (Bn P 5 → plen P t = late P t 5) ∧ (¬ Bn P 5 → plen P t = 0) := by
  have h := (late_ok hp ht).2 5
  simp only [plen]
  refine ⟨fun q => ?_, fun q => ?_⟩
  · have := h.mp q
    rw [if_neg (by omega)]
  · have : ¬ 0 ≤ late P t 5 := fun z => q (h.mpr z)
    rw [if_pos (by omega)]
/-- never longer than five jobs of nine -/
theorem plen_le {P : Pj} {t : Nat → Int} (hp : pok P) (ht : ∀ j, j < jn P → 0 ≤ t j ∧ t j ≤ 9) : 0 ≤ plen P t ∧ plen P t ≤ 45 := by
  have hl := late_ok hp (fun j hj => (ht j hj).1)
  by_cases hb : Bn P 5
  · rw [(plen_b hp (fun j hj => (ht j hj).1)).1 hb]
    refine ⟨(hl.2 5).mp hb, ?_⟩
    have := hl.1.2.2 (fun v => 9 * (v : Int)) rfl (fun j hj _ => by
      have := (ht j hj).2
      have := (hp.2 j hj).1
      show 9 * (jf P j : Int) + t j ≤ 9 * (jt P j : Int)
      omega) 5 hb
    simpa using this
  · rw [(plen_b hp (fun j hj => (ht j hj).1)).2 hb]
    decide
end
section
/-! PURE 10: what the ways say of the cost -/
def isPlan (P : Pj) (t : Nat → Int) : Prop := ∀ j, j < jn P → ja P j ≤ t j ∧ t j ≤ js P j
def pc (P : Pj) (t : Nat → Int) : Int := sm (fun j => jp P j * (js P j - t j)) (jn P)
/-- c is the least cost of a plan no longer than T, -1 if there is none -/
def isCost (P : Pj) (T c : Int) : Prop := (∃ t, isPlan P t ∧ plen P t ≤ T ∧ pc P t = c ∧ ∀ t', isPlan P t' → plen P t' ≤ T → c ≤ pc P t') ∨ (c = -1 ∧ ∀ t, isPlan P t → ¬ plen P t ≤ T)
theorem pl_nn {P : Pj} (hp : pok P) {t : Nat → Int} (h : isPlan P t) : ∀ j, j < jn P → 0 ≤ t j := fun j hj => by
  have a := h j hj
  have b := (hp.2 j hj).2.2.1
  omega
theorem pc_nn {P : Pj} (hp : pok P) {t : Nat → Int} (h : isPlan P t) : 0 ≤ pc P t := sm_nn (fun j hj => by
  have a := h j hj
  have b := (hp.2 j hj).2.2.2.2.2.2.1
  exact Int.mul_nonneg (by omega) (by omega))
theorem cost_one {P : Pj} (hp : pok P) {T c c' : Int} (h : isCost P T c) (h' : isCost P T c') : c = c' := by
  rcases h with ⟨t, a1, a2, a3, a4⟩ | ⟨a1, a2⟩ <;> rcases h' with ⟨t', b1, b2, b3, b4⟩ | ⟨b1, b2⟩
  · have := a4 t' b1 b2
    have := b4 t a1 a2
    omega
  · exact absurd a2 (b2 t a1)
  · exact absurd b2 (a2 t' b1)
  · omega
/-- the sum of lengths against heights -/
theorem dual_eq {P : Pj} {f y : Nat → Int} {F : Int} (hc : cons P f F) : tot P f - F * (y 5 - y 0) = sm (fun j => f (2 * j) * (js P j - (y (jt P j) - y (jf P j))) + f (2 * j + 1) * (ja P j - (y (jt P j) - y (jf P j)))) (jn P) := by
  rw [← hc y, tot, ← sm_sub, sm_two]
  refine sm_congr (fun j _ => ?_)
  rw [show 2 * j / 2 = j by omega, show (2 * j + 1) / 2 = j by omega, ln, if_pos (by omega), ln, if_neg (by omega), show 2 * j / 2 = j by omega, show (2 * j + 1) / 2 = j by omega]
  grind
theorem dual_le {P : Pj} {f y : Nat → Int} {F T : Int} (g : good P f y) (hc : cons P f F) (hF : 0 ≤ F) {t : Nat → Int} (ht : isPlan P t) (h5 : Bn P 5) (hT : plen P t ≤ T) : tot P f - F * T ≤ pc P t := by
  have hl := (late_ok g.1 (pl_nn g.1 ht)).1
  rw [(plen_b g.1 (pl_nn g.1 ht)).1 h5] at hT
  have e := dual_eq (y := late P t) hc
  rw [hl.1, Int.sub_zero] at e
  have h1 : F * late P t 5 ≤ F * T := Int.mul_le_mul_of_nonneg_left hT hF
  refine Int.le_trans (b := tot P f - F * late P t 5) (by omega) ?_
  rw [e]
  refine sm_le (fun j hj => ?_)
  have hs := g.2.2.1 (2 * j) (by omega)
  have hq := g.2.2.1 (2 * j + 1) (by omega)
  have hs2 := hs.2.1 (by omega)
  have hs3 := hs.2.2
  have hq3 := hq.2.2
  rw [show 2 * j / 2 = j by omega] at hs2 hs3
  rw [show (2 * j + 1) / 2 = j by omega] at hq3
  have hpl := ht j hj
  have hp0 := (g.1.2 j hj).2.2.2.2.2.2.1
  by_cases hb : Bn P (jf P j)
  · have hd := hl.2.1 j hj hb
    have a1 : f (2 * j) * (js P j - (late P t (jt P j) - late P t (jf P j))) ≤ f (2 * j) * (js P j - t j) := Int.mul_le_mul_of_nonneg_left (by omega) hs.1
    have a2 : f (2 * j) * (js P j - t j) ≤ jp P j * (js P j - t j) := Int.mul_le_mul_of_nonneg_right hs2 (by omega)
    have a3 : f (2 * j + 1) * (ja P j - (late P t (jt P j) - late P t (jf P j))) ≤ 0 := Int.mul_nonpos_of_nonneg_of_nonpos hq.1 (by omega)
    omega
  · have z1 : f (2 * j) = 0 := Classical.byContradiction (fun q => hb (hs3 q))
    have z2 : f (2 * j + 1) = 0 := Classical.byContradiction (fun q => hb (hq3 q))
    rw [z1, z2]
    have : 0 ≤ jp P j * (js P j - t j) := Int.mul_nonneg (by omega) (by omega)
    omega
/-- times out of heights -/
noncomputable def tm (P : Pj) (y : Nat → Int) (j : Nat) : Int := @ite Int (Bn P (jf P j) ∧ y (jt P j) - y (jf P j) < js P j) (Classical.propDecidable _) (y (jt P j) - y (jf P j)) (js P j)
theorem tm_a {P : Pj} {y : Nat → Int} {j : Nat} (h : Bn P (jf P j) ∧ y (jt P j) - y (jf P j) < js P j) : tm P y j = y (jt P j) - y (jf P j) := by
  simp only [tm]
  rw [if_pos h]
theorem tm_b {P : Pj} {y : Nat → Int} {j : Nat} (h : ¬ (Bn P (jf P j) ∧ y (jt P j) - y (jf P j) < js P j)) : tm P y j = js P j := by
  simp only [tm]
  rw [if_neg h]
theorem tm_plan {P : Pj} {f y : Nat → Int} (hp : pok P) (hy : pot P f y) : isPlan P (tm P y) := by
  intro j hj
  have h1 := (hp.2 j hj).2.2.2.1
  by_cases h : Bn P (jf P j) ∧ y (jt P j) - y (jf P j) < js P j
  · rw [tm_a h]
    have := fast_le hy hj h.1
    omega
  · rw [tm_b h]
    omega
theorem tm_len {P : Pj} {f y : Nat → Int} (hp : pok P) (hy : pot P f y) (h5 : Bn P 5) : plen P (tm P y) ≤ y 5 := by
  have hpl := pl_nn hp (tm_plan hp hy)
  rw [(plen_b hp hpl).1 h5]
  refine (late_ok hp hpl).1.2.2 y hy.1 (fun j hj hb => ?_) 5 h5
  by_cases h : Bn P (jf P j) ∧ y (jt P j) - y (jf P j) < js P j
  · rw [tm_a h]
    omega
  · rw [tm_b h]
    have : ¬ y (jt P j) - y (jf P j) < js P j := fun q => h ⟨hb, q⟩
    omega
theorem slow_le {P : Pj} {f y : Nat → Int} (hy : pot P f y) {j : Nat} (hj : j < jn P) (hb : Bn P (jf P j)) (h0 : jp P j - f (2 * j) ≠ 0) : y (jf P j) + js P j ≤ y (jt P j) := by
  have h := hy.2 (4 * j) (by omega) (by rw [er, if_neg (by omega), if_pos (by omega), show 4 * j / 4 = j by omega, show 4 * j / 2 = 2 * j by omega]; exact h0) (by rw [ea, if_neg (by omega), show 4 * j / 4 = j by omega]; exact hb)
  rw [ea, eb, el, if_neg (by omega), if_neg (by omega), if_neg (by omega), show 4 * j / 4 = j by omega, ln, if_pos (by omega), show 4 * j / 2 / 2 = j by omega] at h
  omega
theorem slow_ge {P : Pj} {f y : Nat → Int} (hf : fok P f) (hy : pot P f y) {j : Nat} (hj : j < jn P) (h0 : f (2 * j) ≠ 0) : Bn P (jf P j) ∧ y (jt P j) ≤ y (jf P j) + js P j := by
  have hb : Bn P (jf P j) := by
    have := (hf (2 * j) (by omega)).2.2 h0
    rw [show 2 * j / 2 = j by omega] at this
    exact this
  refine ⟨hb, ?_⟩
  have h := hy.2 (4 * j + 1) (by omega) (by rw [er, if_pos (by omega), show (4 * j + 1) / 2 = 2 * j by omega]; exact h0) (by rw [ea, if_pos (by omega), show (4 * j + 1) / 4 = j by omega]; exact Bn_job hj hb)
  rw [ea, eb, el, if_pos (by omega), if_pos (by omega), if_pos (by omega), show (4 * j + 1) / 4 = j by omega, show (4 * j + 1) / 2 = 2 * j by omega, ln, if_pos (by omega), show 2 * j / 2 = j by omega] at h
  omega
theorem dual_tm {P : Pj} {f y : Nat → Int} {F : Int} (g : good P f y) (hc : cons P f F) : pc P (tm P y) = tot P f - F * y 5 := by
  have e := dual_eq (y := y) hc
  rw [g.2.2.2.1, Int.sub_zero] at e
  rw [e]
  refine sm_congr (fun j hj => ?_)
  have hs := g.2.2.1 (2 * j) (by omega)
  have hq := g.2.2.1 (2 * j + 1) (by omega)
  have hF : f (2 * j + 1) * (ja P j - (y (jt P j) - y (jf P j))) = 0 := by
    by_cases h0 : f (2 * j + 1) = 0
    · rw [h0, Int.zero_mul]
    · obtain ⟨b1, b2⟩ := fast_tight g.2.2.1 g.2.2.2 hj h0
      have b3 := fast_le g.2.2.2 hj b1
      rw [show ja P j - (y (jt P j) - y (jf P j)) = 0 by omega, Int.mul_zero]
  rw [hF, Int.add_zero]
  by_cases h : Bn P (jf P j) ∧ y (jt P j) - y (jf P j) < js P j
  · rw [tm_a h]
    have : jp P j - f (2 * j) = 0 := Classical.byContradiction (fun q => by
      have := slow_le g.2.2.2 hj h.1 q
      omega)
    rw [show f (2 * j) = jp P j by omega]
  · rw [tm_b h, Int.sub_self, Int.mul_zero]
    by_cases h0 : f (2 * j) = 0
    · rw [h0, Int.zero_mul]
    · obtain ⟨b1, b2⟩ := slow_ge g.2.2.1 g.2.2.2 hj h0
      have : ¬ y (jt P j) - y (jf P j) < js P j := fun q => h ⟨b1, q⟩
      rw [show js P j - (y (jt P j) - y (jf P j)) = 0 by omega, Int.mul_zero]
theorem FF_nn {P : Pj} {i : Nat} (h : ∀ j, j < i → 0 < am P j) : 0 ≤ FF P i := sm_nn (fun j hj => by have := h j hj; omega)
/-- the cost at T, by the ways that are longer than T -/
theorem cost_at {P : Pj} {K : Nat} {T : Int} (h5 : Bn P 5) (hO : Ok P K) (hF : 0 ≤ FF P K) (h1 : Ls P K ≤ T) (h2 : K = 0 ∨ T < py P K 5) : isCost P T (TT P K - FF P K * T) := by
  have hex : ∃ y, pot P (fl P K) y ∧ y 5 ≤ T ∧ FF P K * y 5 = FF P K * T := by
    rcases h2 with e | e
    · subst e
      exact ⟨fO P (fl P 0), fpot hO.1, h1, by rw [show FF P 0 = 0 from rfl, Int.zero_mul, Int.zero_mul]⟩
    · have p1 := fpot hO.1
      have p2 := hO.1.2.2.2
      refine ⟨fun v => if fO P (fl P K) v ≤ py P K v - (py P K 5 - T) then py P K v - (py P K 5 - T) else fO P (fl P K) v, ⟨?_, fun k hk hr ha => ?_⟩, ?_, ?_⟩
      · have a1 := p1.1
        have a2 := p2.1
        dsimp only
        rw [if_neg (by omega)]
        exact a1
      · have a1 := p1.2 k hk hr ha
        have a2 := p2.2 k hk hr ha
        dsimp only
        split <;> split <;> omega
      · have : fO P (fl P K) 5 = Ls P K := rfl
        dsimp only
        split <;> omega
      · have : fO P (fl P K) 5 = Ls P K := rfl
        dsimp only
        rw [if_pos (by omega)]
        rw [show py P K 5 - (py P K 5 - T) = T by omega]
  obtain ⟨y, y1, y2, y3⟩ := hex
  have g : good P (fl P K) y := ⟨hO.1.1, hO.1.2.1, hO.1.2.2.1, y1⟩
  refine Or.inl ⟨tm P y, tm_plan g.1 y1, Int.le_trans (tm_len g.1 y1 h5) y2, ?_, fun t' ht' hT' => ?_⟩
  · rw [dual_tm g hO.2.1, hO.2.2, y3]
  · rw [← hO.2.2]
    exact dual_le g hO.2.1 hF ht' h5 hT'
/-- the cost out of the list of ways: m of them from k on -/
def cfr (wl wa : Nat → Int) (T : Int) : Nat → Nat → Int → Int
  | 0, _, s => s
  | m + 1, k, s => if T < wl k then (if 1000000 ≤ wa k then -1 else cfr wl wa T m (k + 1) (s + wa k * (wl k - T))) else cfr wl wa T m (k + 1) s
theorem cfr_tail {wl wa : Nat → Int} {T : Int} : ∀ (m k : Nat) (s : Int), (∀ i, k ≤ i → i < k + m → wl i ≤ T) → cfr wl wa T m k s = s
  | 0, _, _, _ => rfl
  | m + 1, k, s, h => by
    simp only [cfr]
    rw [if_neg (by have := h k (Nat.le_refl _) (by omega); omega)]
    exact cfr_tail m (k + 1) s (fun i h1 h2 => h i (by omega) (by omega))
theorem cfr_head {wl wa : Nat → Int} {T : Int} : ∀ (a m k : Nat) (s : Int), (∀ i, k ≤ i → i < k + a → T < wl i ∧ wa i < 1000000) → cfr wl wa T (a + m) k s = cfr wl wa T m (k + a) (s + (sm (fun i => wa i * (wl i - T)) (k + a) - sm (fun i => wa i * (wl i - T)) k))
  | 0, m, k, s, _ => by simp
  | a + 1, m, k, s, h => by
    rw [show a + 1 + m = (a + m) + 1 by omega]
    simp only [cfr]
    have h0 := h k (Nat.le_refl _) (by omega)
    rw [if_pos h0.1, if_neg (by omega), cfr_head a m (k + 1) _ (fun i h1 h2 => h i (by omega) (by omega))]
    rw [show k + 1 + a = k + (a + 1) by omega]
    have : sm (fun i => wa i * (wl i - T)) (k + 1) = sm (fun i => wa i * (wl i - T)) k + wa k * (wl k - T) := rfl
    rw [this]
    congr 1
    omega
theorem anti {L : Nat → Int} {N : Nat} (h : ∀ i, i < N → L (i + 1) ≤ L i) : ∀ {i j : Nat}, i ≤ j → j ≤ N → L j ≤ L i := by
  intro i j hij
  induction j with
  | zero => intro _; have : i = 0 := by omega
            subst this; exact Int.le_refl _
  | succ j ih =>
    intro hj
    by_cases e : i = j + 1
    · subst e; exact Int.le_refl _
    · exact Int.le_trans (h j (by omega)) (ih (by omega) (by omega))
theorem sm_TF (P : Pj) (T : Int) : ∀ K, sm (fun i => am P i * (Ls P i - T)) K = TT P K - FF P K * T
  | 0 => by simp [sm, TT, FF]
  | K + 1 => by
    have e1 : TT P (K + 1) = TT P K + am P K * Ls P K := rfl
    have e2 : FF P (K + 1) = FF P K + am P K := rfl
    simp only [sm]
    rw [sm_TF P T K, e1, e2]
    grind
/-- what the component answers is the cost -/
theorem cost_ways {P : Pj} (hp : pok P) (hn : 0 < jn P) (h5 : Bn P 5) {N : Nat} (hN : am P N = 1000000) (hfin : ∀ i, i < N → 0 < am P i ∧ am P i < 1000000) (hok : ∀ i, i ≤ N → Ok P i) (hL : Ls P N = late P (ja P) 5) (T : Int) : isCost P T (cfr (Ls P) (am P) T (N + 1) 0 0) := by
  have hja : ∀ j, j < jn P → 0 ≤ ja P j := fun j hj => (hp.2 j hj).2.2.1
  have hd := late_ok hp hja
  have hmon : ∀ {i j : Nat}, i ≤ j → j ≤ N → Ls P j ≤ Ls P i := anti (fun i hi => Ls_le (hok (i + 1) (by omega)) h5)
  by_cases hT : T < Ls P N
  · have e : cfr (Ls P) (am P) T (N + 1) 0 0 = -1 := by
      rw [cfr_head N 1 0 0 (fun i _ hi => ⟨by have := hmon (i := i) (j := N) (by omega) (Nat.le_refl _); omega, (hfin i (by omega)).2⟩)]
      rw [Nat.zero_add]
      simp only [cfr]
      rw [if_pos hT, if_pos (by omega)]
    rw [e]
    refine Or.inr ⟨rfl, fun t ht q => ?_⟩
    rw [(plen_b hp (pl_nn hp ht)).1 h5] at q
    have hl := (late_ok hp (pl_nn hp ht)).1
    have := hd.1.2.2 (late P t) hl.1 (fun j hj hb => by
      have a := hl.2.1 j hj hb
      have b := (ht j hj).1
      omega) 5 h5
    omega
  · obtain ⟨K, k1, k2⟩ := leastm (fun i => Ls P i ≤ T) (fun i => i) N N (Nat.le_refl _) (by omega)
    have hKN : K ≤ N := k2 N (by omega)
    have hgt : ∀ i, i < K → T < Ls P i := fun i hi => Classical.byContradiction (fun q => by
      have := k2 i (by omega)
      omega)
    have e : cfr (Ls P) (am P) T (N + 1) 0 0 = TT P K - FF P K * T := by
      rw [show N + 1 = K + (N + 1 - K) by omega, cfr_head K (N + 1 - K) 0 0 (fun i _ hi => ⟨hgt i (by omega), (hfin i (by omega)).2⟩), Nat.zero_add]
      rw [cfr_tail _ _ _ (fun i h1 h2 => Int.le_trans (hmon (i := K) h1 (by omega)) k1), sm_TF]
      simp [sm]
    rw [e]
    refine cost_at h5 (hok K hKN) (FF_nn (fun j hj => (hfin j (by omega)).1)) k1 ?_
    cases K with
    | zero => exact Or.inl rfl
    | succ K => exact Or.inr (hgt K (by omega))
theorem slowest_eq {P : Pj} (hp : pok P) (hn : 0 < jn P) (h5 : Bn P 5) : Ls P 0 = late P (js P) 5 := by
  have hjs : ∀ j, j < jn P → 0 ≤ js P j := fun j hj => by
    have a := (hp.2 j hj).2.2.1
    have b := (hp.2 j hj).2.2.2.1
    omega
  have hl := (late_ok hp hjs).1
  have hO := ok_0 hp hn
  have hpot : pot P (fl P 0) (late P (js P)) := by
    refine ⟨hl.1, fun k hk hr ha => ?_⟩
    have hj := ek_job hp hk
    by_cases h : k % 2 = 1
    · rw [er, if_pos h] at hr
      exact absurd rfl hr
    · rw [ea, if_neg h] at ha
      rw [el, ea, eb, if_neg h, if_neg h, if_neg h]
      have := hl.2.1 (k / 4) (by omega) ha
      have := hj.2.2.2.1
      simp only [ln]
      rw [show k / 2 / 2 = k / 4 by omega]
      split <;> omega
  have g : good P (fl P 0) (late P (js P)) := ⟨hp, hn, hO.1.2.2.1, hpot⟩
  have h1 : Ls P 0 ≤ late P (js P) 5 := fle g ((fR_Bn g 5).mpr h5)
  have h2 := hl.2.2 (fO P (fl P 0)) (fpot g).1 (fun j hj hb => slow_le (fpot g) hj hb (by
    have := (hp.2 j hj).2.2.2.2.2.2.1
    show jp P j - 0 ≠ 0
    omega)) 5 h5
  have h3 : Ls P 0 = fO P (fl P 0) 5 := rfl
  omega
/-- no way at all -/
theorem cost_none {P : Pj} (hp : pok P) (h5 : ¬ Bn P 5) {T : Int} (hT : 0 ≤ T) : isCost P T 0 := by
  have hpl : isPlan P (js P) := fun j hj => ⟨(hp.2 j hj).2.2.2.1, Int.le_refl _⟩
  refine Or.inl ⟨js P, hpl, by rw [(plen_b hp (pl_nn hp hpl)).2 h5]; exact hT, ?_, fun t ht _ => pc_nn hp ht⟩
  exact sm_zero (fun j _ => by rw [Int.sub_self, Int.mul_zero])
theorem no_jobs {P : Pj} (h : jn P = 0) : ¬ Bn P 5 := fun hb => by
  have := hb (fun v => v = 0) rfl (fun j hj => absurd hj (by omega))
  omega
end
section
/-! PURE 11: the reference's curve and costs -/
theorem lin_congr {P : Pj} {t t' : Nat → Int} (h : ∀ j, j < jn P → t j = t' j) {e : Nat} {d : Nat → Int} : ∀ i, i ≤ jn P → lin P t e d i = lin P t' e d i
  | 0, _ => rfl
  | i + 1, hi => by
    simp only [lin]
    rw [lin_congr h i (by omega), lstep, lstep, h i (by omega)]
theorem lout_congr {P : Pj} {t t' : Nat → Int} (h : ∀ j, j < jn P → t j = t' j) : ∀ e, lout P t e = lout P t' e
  | 0 => rfl
  | e + 1 => by
    simp only [lout]
    rw [lout_congr h e, lin_congr h _ (Nat.le_refl _)]
theorem plen_congr {P : Pj} {t t' : Nat → Int} (h : ∀ j, j < jn P → t j = t' j) : plen P t = plen P t' := by
  have e : late P t = late P t' := lout_congr h 5
  simp only [plen, e]
theorem pc_congr {P : Pj} {t t' : Nat → Int} (h : ∀ j, j < jn P → t j = t' j) : pc P t = pc P t' := sm_congr (fun j hj => by rw [h j hj])
/-- how much less than slow, in the plan with number m -/
def dg (m i : Nat) : Nat := m / 4 ^ i % 4
def pt (P : Pj) (m i : Nat) : Int := js P i - dg m i
def num (P : Pj) (t : Nat → Int) : Nat → Nat
  | 0 => 0
  | i + 1 => num P t i + 4 ^ i * (js P i - t i).toNat
theorem num_ok {P : Pj} (hp : pok P) {t : Nat → Int} (ht : isPlan P t) : ∀ i, i ≤ jn P → num P t i < 4 ^ i ∧ ∀ k, k < i → dg (num P t i) k = (js P k - t k).toNat
  | 0, _ => ⟨by simp [num], fun k hk => absurd hk (by omega)⟩
  | i + 1, hi => by
    obtain ⟨h1, h2⟩ := num_ok hp ht i (by omega)
    have hj := (hp.2 i (by omega)).2.2.2.2.2.1
    have hpl := ht i (by omega)
    have hd : (js P i - t i).toNat ≤ 3 := by omega
    have hm : 4 ^ i * (js P i - t i).toNat ≤ 4 ^ i * 3 := Nat.mul_le_mul_left _ hd
    have hs : 4 ^ (i + 1) = 4 ^ i * 4 := Nat.pow_succ 4 i
    simp only [num]
    refine ⟨by omega, fun k hk => ?_⟩
    by_cases e : k = i
    · subst e
      simp only [dg]
      rw [Nat.add_mul_div_left _ _ (Nat.pow_pos (by decide)), Nat.div_eq_of_lt h1, Nat.zero_add]
      exact Nat.mod_eq_of_lt (by omega)
    · rw [← h2 k (by omega)]
      simp only [dg]
      have e1 : 4 ^ i = 4 ^ k * (4 * 4 ^ (i - k - 1)) := by
        rw [← Nat.pow_succ', ← Nat.pow_add]
        congr 1
        omega
      rw [e1, Nat.mul_assoc, Nat.mul_assoc, Nat.add_mul_div_left _ _ (Nat.pow_pos (by decide)), Nat.add_mul_mod_self_left]
theorem num_plan {P : Pj} (hp : pok P) {t : Nat → Int} (ht : isPlan P t) : num P t (jn P) < 4 ^ jn P ∧ ∀ j, j < jn P → pt P (num P t (jn P)) j = t j := by
  obtain ⟨h1, h2⟩ := num_ok hp ht (jn P) (Nat.le_refl _)
  refine ⟨h1, fun j hj => ?_⟩
  simp only [pt]
  rw [h2 j hj]
  have := ht j hj
  omega
def pv (P : Pj) (m : Nat) : Prop := ∀ i, i < jn P → ja P i ≤ pt P m i
theorem pv_plan {P : Pj} {m : Nat} (h : pv P m) : isPlan P (pt P m) := fun j hj => ⟨h j hj, by simp only [pt]; omega⟩
/-- a plan's cost by its number, -1 if there is no such plan -/
def pn (P : Pj) (m : Nat) : Int := if ∀ i, i < jn P → ja P i ≤ pt P m i then pc P (pt P m) else -1
theorem pn_y {P : Pj} {m : Nat} (h : pv P m) : pn P m = pc P (pt P m) := by
  exact if_pos h
theorem pn_n {P : Pj} {m : Nat} (h : ¬ pv P m) : pn P m = -1 := by
  exact if_neg h
def pl (P : Pj) (m : Nat) : Nat := (plen P (pt P m)).toNat
def cstep (P : Pj) (m : Nat) (ch : Nat → Int) : Nat → Int := if 0 ≤ pn P m ∧ (ch (pl P m) < 0 ∨ pn P m < ch (pl P m)) then uu ch (pl P m) (pn P m) else ch
def chp (P : Pj) : Nat → Nat → Int
  | 0 => fun _ => -1
  | m + 1 => cstep P m (chp P m)
def cinv (P : Pj) (m : Nat) (ch : Nat → Int) : Prop := ∀ t, (ch t = -1 ∧ ∀ m', m' < m → pv P m' → pl P m' ≠ t) ∨ (0 ≤ ch t ∧ (∃ m', m' < m ∧ pv P m' ∧ pl P m' = t ∧ pc P (pt P m') = ch t) ∧ ∀ m', m' < m → pv P m' → pl P m' = t → ch t ≤ pc P (pt P m'))
theorem cinv_all {P : Pj} (hp : pok P) : ∀ m, cinv P m (chp P m)
  | 0 => fun t => Or.inl ⟨rfl, fun m' h => absurd h (by omega)⟩
  | m + 1 => by
    intro t
    have ih := cinv_all hp m t
    simp only [chp, cstep]
    by_cases hv : pv P m
    · have hnn := pc_nn hp (pv_plan hv)
      rw [pn_y hv]
      by_cases e : pl P m = t
      · subst e
        by_cases hc : 0 ≤ pc P (pt P m) ∧ (chp P m (pl P m) < 0 ∨ pc P (pt P m) < chp P m (pl P m))
        · rw [if_pos hc, uu_s]
          refine Or.inr ⟨hnn, ⟨m, by omega, hv, rfl, rfl⟩, fun m' h1 h2 h3 => ?_⟩
          by_cases e2 : m' = m
          · subst e2; exact Int.le_refl _
          · rcases ih with ⟨a1, a2⟩ | ⟨a1, a2, a3⟩
            · exact absurd h3 (a2 m' (by omega) h2)
            · have := a3 m' (by omega) h2 h3
              omega
        · rw [if_neg hc]
          rcases ih with ⟨a1, a2⟩ | ⟨a1, ⟨m', b1, b2, b3, b4⟩, a3⟩
          · exact absurd ⟨hnn, Or.inl (by omega)⟩ hc
          · refine Or.inr ⟨a1, ⟨m', by omega, b2, b3, b4⟩, fun m2 h1 h2 h3 => ?_⟩
            by_cases e2 : m2 = m
            · subst e2
              exact Classical.byContradiction (fun q => hc ⟨hnn, Or.inr (by omega)⟩)
            · exact a3 m2 (by omega) h2 h3
      · have e0 : (if 0 ≤ pc P (pt P m) ∧ (chp P m (pl P m) < 0 ∨ pc P (pt P m) < chp P m (pl P m)) then uu (chp P m) (pl P m) (pc P (pt P m)) else chp P m) t = chp P m t := by
          split
          · rw [uu_n (fun q => e q.symm)]
          · rfl
        rw [e0]
        rcases ih with ⟨a1, a2⟩ | ⟨a1, ⟨m', b1, b2, b3, b4⟩, a3⟩
        · refine Or.inl ⟨a1, fun m' h1 h2 => ?_⟩
          by_cases e2 : m' = m
          · subst e2; exact e
          · exact a2 m' (by omega) h2
        · refine Or.inr ⟨a1, ⟨m', by omega, b2, b3, b4⟩, fun m2 h1 h2 h3 => ?_⟩
          by_cases e2 : m2 = m
          · subst e2; exact absurd h3 e
          · exact a3 m2 (by omega) h2 h3
    · rw [pn_n hv, if_neg (by omega)]
      rcases ih with ⟨a1, a2⟩ | ⟨a1, ⟨m', b1, b2, b3, b4⟩, a3⟩
      · refine Or.inl ⟨a1, fun m' h1 h2 => ?_⟩
        by_cases e2 : m' = m
        · subst e2; exact absurd h2 hv
        · exact a2 m' (by omega) h2
      · refine Or.inr ⟨a1, ⟨m', by omega, b2, b3, b4⟩, fun m2 h1 h2 h3 => ?_⟩
        by_cases e2 : m2 = m
        · subst e2; exact absurd h2 hv
        · exact a3 m2 (by omega) h2 h3
/-- the least of the first entries that are there -/
def bst (ch : Nat → Int) : Nat → Int
  | 0 => -1
  | t + 1 => if 0 ≤ ch t ∧ (bst ch t < 0 ∨ ch t < bst ch t) then ch t else bst ch t
theorem bst_ok {ch : Nat → Int} (h : ∀ t, ch t = -1 ∨ 0 ≤ ch t) : ∀ m, (bst ch m = -1 ∧ ∀ t, t < m → ch t = -1) ∨ (0 ≤ bst ch m ∧ (∃ t, t < m ∧ ch t = bst ch m) ∧ ∀ t, t < m → 0 ≤ ch t → bst ch m ≤ ch t)
  | 0 => Or.inl ⟨rfl, fun t h => absurd h (by omega)⟩
  | m + 1 => by
    simp only [bst]
    rcases bst_ok h m with ⟨a1, a2⟩ | ⟨a1, ⟨t0, b1, b2⟩, a3⟩
    · rcases h m with e | e
      · rw [if_neg (by omega)]
        refine Or.inl ⟨a1, fun t ht => ?_⟩
        by_cases e2 : t = m
        · subst e2; exact e
        · exact a2 t (by omega)
      · rw [if_pos ⟨e, Or.inl (by omega)⟩]
        refine Or.inr ⟨e, ⟨m, by omega, rfl⟩, fun t ht hn => ?_⟩
        by_cases e2 : t = m
        · subst e2; exact Int.le_refl _
        · have := a2 t (by omega)
          omega
    · by_cases hc : 0 ≤ ch m ∧ (bst ch m < 0 ∨ ch m < bst ch m)
      · rw [if_pos hc]
        refine Or.inr ⟨hc.1, ⟨m, by omega, rfl⟩, fun t ht hn => ?_⟩
        by_cases e2 : t = m
        · subst e2; exact Int.le_refl _
        · have := a3 t (by omega) hn
          omega
      · rw [if_neg hc]
        refine Or.inr ⟨a1, ⟨t0, by omega, b2⟩, fun t ht hn => ?_⟩
        by_cases e2 : t = m
        · subst e2; omega
        · exact a3 t (by omega) hn
/-- how many entries count for the deadline T -/
def cnt (T : Int) : Nat := if T < 0 then 0 else if 63 ≤ T then 64 else T.toNat + 1
/-- the reference's cost at T -/
def mC (P : Pj) (T : Int) : Int := bst (chp P (4 ^ jn P)) (cnt T)
theorem pl_of {P : Pj} (hp : pok P) {m : Nat} (h : pv P m) : (pl P m : Int) = plen P (pt P m) ∧ pl P m ≤ 45 := by
  have := plen_le hp (t := pt P m) (fun j hj => by
    have a := pl_nn hp (pv_plan h) j hj
    have b := (pv_plan h j hj).2
    have c := (hp.2 j hj).2.2.2.2.1
    omega)
  simp only [pl]
  omega
theorem cnt_iff {P : Pj} (hp : pok P) {m : Nat} (h : pv P m) (T : Int) : pl P m < cnt T ↔ plen P (pt P m) ≤ T := by
  have := pl_of hp h
  simp only [cnt]
  split
  · omega
  · split <;> omega
theorem mC_cost {P : Pj} (hp : pok P) (T : Int) : isCost P T (mC P T) := by
  have hc := cinv_all hp (4 ^ jn P)
  have hb := bst_ok (ch := chp P (4 ^ jn P)) (fun t => by
    rcases hc t with ⟨a, -⟩ | ⟨a, -⟩
    · exact Or.inl a
    · exact Or.inr a) (cnt T)
  have hnum : ∀ t, isPlan P t → ∃ m, m < 4 ^ jn P ∧ pv P m ∧ plen P (pt P m) = plen P t ∧ pc P (pt P m) = pc P t := fun t ht => by
    obtain ⟨n1, n2⟩ := num_plan hp ht
    exact ⟨_, n1, fun i hi => by rw [n2 i hi]; exact (ht i hi).1, plen_congr n2, pc_congr n2⟩
  rcases hb with ⟨a1, a2⟩ | ⟨a1, ⟨t0, b1, b2⟩, a3⟩
  · refine Or.inr ⟨a1, fun t ht q => ?_⟩
    obtain ⟨m, m1, m2, m3, m4⟩ := hnum t ht
    have h1 := a2 (pl P m) ((cnt_iff hp m2 T).mpr (by omega))
    rcases hc (pl P m) with ⟨-, c2⟩ | ⟨c1, -⟩
    · exact c2 m m1 m2 rfl
    · omega
  · rcases hc t0 with ⟨c1, -⟩ | ⟨c1, ⟨m, d1, d2, d3, d4⟩, c3⟩
    · simp only [mC] at *
      omega
    · refine Or.inl ⟨pt P m, pv_plan d2, (cnt_iff hp d2 T).mp (by rw [d3]; exact b1), by rw [d4, b2]; rfl, fun t ht q => ?_⟩
      obtain ⟨m', m1, m2, m3, m4⟩ := hnum t ht
      rw [← m4]
      have h1 := (cnt_iff hp m2 T).mpr (by omega)
      rcases hc (pl P m') with ⟨-, e2⟩ | ⟨e1, -, e3⟩
      · exact absurd rfl (e2 m' m1 m2)
      · have h2 := a3 _ h1 e1
        have h3 := e3 m' m1 m2 rfl
        exact Int.le_trans h2 h3
theorem mC_neg {P : Pj} {T : Int} (h : T < 0) : mC P T = -1 := by
  simp only [mC, cnt]
  rw [if_pos h]
  rfl
/-- from 45 on all is free -/
theorem mC_45 {P : Pj} (hp : pok P) {T : Int} (h : 45 ≤ T) : mC P T = 0 := by
  have hpl : isPlan P (js P) := fun j hj => ⟨(hp.2 j hj).2.2.2.1, Int.le_refl _⟩
  refine cost_one hp (mC_cost hp T) (Or.inl ⟨js P, hpl, ?_, sm_zero (fun j _ => by rw [Int.sub_self, Int.mul_zero]), fun t ht _ => pc_nn hp ht⟩)
  have := plen_le hp (t := js P) (fun j hj => ⟨pl_nn hp hpl j hj, (hp.2 j hj).2.2.2.2.1⟩)
  omega
theorem mC_ge {P : Pj} (hp : pok P) (T : Int) : -1 ≤ mC P T := by
  rcases mC_cost hp T with ⟨t, a, -, b, -⟩ | ⟨a, -⟩
  · have := pc_nn hp a
    omega
  · omega
theorem pc_le {P : Pj} (hp : pok P) {t : Nat → Int} (h : isPlan P t) : pc P t ≤ 420 := by
  have h1 := sm_le (f := fun j => jp P j * (js P j - t j)) (g := fun _ => 60) (n := jn P) (fun j hj => by
    have a := h j hj
    obtain ⟨b1, b2, b3, b4, b5, b6, b7, b8⟩ := hp.2 j hj
    have c1 : jp P j * (js P j - t j) ≤ 20 * (js P j - t j) := Int.mul_le_mul_of_nonneg_right b8 (by omega)
    omega)
  rw [sm_c] at h1
  have := hp.1
  simp only [pc]
  omega
theorem mC_le {P : Pj} (hp : pok P) (T : Int) : mC P T ≤ 420 := by
  rcases mC_cost hp T with ⟨t, a, -, b, -⟩ | ⟨a, -⟩
  · have := pc_le hp a
    omega
  · omega
/-- the first place with a cost within b -/
def wi (C : Int → Int) (b : Int) : Nat → Nat → Int
  | 0, _ => -1
  | m + 1, t => if 0 ≤ C t ∧ C t ≤ b then t else wi C b m (t + 1)
theorem wi_eq {C : Int → Int} {b : Int} (h45 : C 45 = 0) (hb : 0 ≤ b) : ∀ (m t a : Nat), t + m = 46 → 1 ≤ m → wi C b (m + a) t = wi C b m t
  | 0, _, _, _, h => absurd h (by omega)
  | m + 1, t, a, h, _ => by
    rw [show m + 1 + a = (m + a) + 1 by omega]
    simp only [wi]
    by_cases hc : 0 ≤ C t ∧ C t ≤ b
    · rw [if_pos hc, if_pos hc]
    · rw [if_neg hc, if_neg hc]
      by_cases hm : m = 0
      · subst hm
        have : t = 45 := by omega
        subst this
        exact absurd ⟨by rw [show ((45 : Nat) : Int) = 45 from rfl, h45]; omega, by rw [show ((45 : Nat) : Int) = 45 from rfl, h45]; exact hb⟩ hc
      · exact wi_eq h45 hb m (t + 1) a (by omega) (by omega)
theorem wi_neg {C : Int → Int} {b : Int} (hb : b < 0) : ∀ (m t : Nat), wi C b m t = -1
  | 0, _ => rfl
  | m + 1, t => by
    simp only [wi]
    rw [if_neg (by omega)]
    exact wi_neg hb m (t + 1)
/-- the least cost with a price for each day, over the first m days -/
def tl (C : Int → Int) (d : Int) : Nat → Int
  | 0 => -1
  | t + 1 => if 0 ≤ C t ∧ (tl C d t < 0 ∨ C t + d * t < tl C d t) then C t + d * t else tl C d t
theorem tl_b {C : Int → Int} {d : Int} (hd : 0 ≤ d) : ∀ m, -1 ≤ tl C d m
  | 0 => by simp [tl]
  | m + 1 => by
    have := tl_b (C := C) hd m
    have h2 : 0 ≤ d * (m : Int) := Int.mul_nonneg hd (Int.natCast_nonneg _)
    simp only [tl]
    split <;> omega
theorem tl_46 {C : Int → Int} {d : Int} (hd : 0 ≤ d) (h : ∀ T, 45 ≤ T → C T = 0) : ∀ a, tl C d (46 + a) = tl C d 46 ∧ 0 ≤ tl C d 46 ∧ tl C d 46 ≤ d * 45
  | 0 => by
    refine ⟨rfl, ?_⟩
    have h45 := h 45 (by omega)
    have hb := tl_b (C := C) hd 45
    have e : tl C d 46 = if 0 ≤ C ((45 : Nat) : Int) ∧ (tl C d 45 < 0 ∨ C ((45 : Nat) : Int) + d * ((45 : Nat) : Int) < tl C d 45) then C ((45 : Nat) : Int) + d * ((45 : Nat) : Int) else tl C d 45 := rfl
    rw [e, show ((45 : Nat) : Int) = 45 from rfl, h45]
    split <;> omega
  | a + 1 => by
    obtain ⟨h1, h2, h3⟩ := tl_46 hd h a
    refine ⟨?_, h2, h3⟩
    rw [← h1]
    have e : tl C d (46 + a + 1) = if 0 ≤ C ((46 + a : Nat) : Int) ∧ (tl C d (46 + a) < 0 ∨ C ((46 + a : Nat) : Int) + d * ((46 + a : Nat) : Int) < tl C d (46 + a)) then C ((46 + a : Nat) : Int) + d * ((46 + a : Nat) : Int) else tl C d (46 + a) := rfl
    rw [show 46 + (a + 1) = 46 + a + 1 by omega, e, h _ (by omega), if_neg]
    intro q
    have : d * 45 ≤ d * ((46 + a : Nat) : Int) := Int.mul_le_mul_of_nonneg_left (by omega) hd
    omega
end
section
def lw_okq (q : MethodName × Nat) : Prop := (q.1.cls ≠ "java/lang/invoke/MethodHandle" ∧ q.1.cls ≠ "java/lang/invoke/VarHandle") ∧ Cond.instantiable q.1.cls q.2 ∈ tables_1 ∧ Cond.privateMethod q.1 ∈ tables_1 ∧ Cond.instanceMethod q.1 ∈ tables_1
set_option maxRecDepth 100000
theorem lw_p0 : lw_okq (⟨"CrashPlanner", "sendAll", "()V"⟩, 14) := ⟨⟨by decide +kernel, by decide +kernel⟩, List.mem_of_getElem? (i := 4) rfl, List.mem_of_getElem? (i := 73) rfl, List.mem_of_getElem? (i := 74) rfl⟩
theorem lw_p1 : lw_okq (⟨"CrashPlanner", "findLongest", "()V"⟩, 14) := ⟨⟨by decide +kernel, by decide +kernel⟩, List.mem_of_getElem? (i := 4) rfl, List.mem_of_getElem? (i := 77) rfl, List.mem_of_getElem? (i := 78) rfl⟩
theorem lw_p2 : lw_okq (⟨"CrashPlanner", "stretch", "(IZ)Z"⟩, 14) := ⟨⟨by decide +kernel, by decide +kernel⟩, List.mem_of_getElem? (i := 4) rfl, List.mem_of_getElem? (i := 81) rfl, List.mem_of_getElem? (i := 82) rfl⟩
theorem lw_p3 : lw_okq (⟨"CrashPlanner", "lengthOf", "(I)I"⟩, 14) := ⟨⟨by decide +kernel, by decide +kernel⟩, List.mem_of_getElem? (i := 4) rfl, List.mem_of_getElem? (i := 85) rfl, List.mem_of_getElem? (i := 86) rfl⟩
theorem lw_p4 : lw_okq (⟨"CrashPlanner", "roomOf", "(IZ)I"⟩, 14) := ⟨⟨by decide +kernel, by decide +kernel⟩, List.mem_of_getElem? (i := 4) rfl, List.mem_of_getElem? (i := 89) rfl, List.mem_of_getElem? (i := 90) rfl⟩
theorem lw_p5 : lw_okq (⟨"CrashPlanner", "widthOfWay", "()I"⟩, 14) := ⟨⟨by decide +kernel, by decide +kernel⟩, List.mem_of_getElem? (i := 4) rfl, List.mem_of_getElem? (i := 94) rfl, List.mem_of_getElem? (i := 95) rfl⟩
theorem lw_p6 : lw_okq (⟨"CrashPlanner", "send", "(I)V"⟩, 14) := ⟨⟨by decide +kernel, by decide +kernel⟩, List.mem_of_getElem? (i := 4) rfl, List.mem_of_getElem? (i := 98) rfl, List.mem_of_getElem? (i := 99) rfl⟩
theorem lw_p7 : lw_okq (⟨"CrashPlanner", "costFor", "(I)I"⟩, 14) := ⟨⟨by decide +kernel, by decide +kernel⟩, List.mem_of_getElem? (i := 4) rfl, List.mem_of_getElem? (i := 110) rfl, List.mem_of_getElem? (i := 111) rfl⟩
theorem lw_p8 : lw_okq (⟨"CrashPlannerModel", "length", "()I"⟩, 9) := ⟨⟨by decide +kernel, by decide +kernel⟩, List.mem_of_getElem? (i := 126) rfl, List.mem_of_getElem? (i := 179) rfl, List.mem_of_getElem? (i := 180) rfl⟩
theorem lw_p9 : lw_okq (⟨"CrashPlannerModel", "curve", "()V"⟩, 9) := ⟨⟨by decide +kernel, by decide +kernel⟩, List.mem_of_getElem? (i := 126) rfl, List.mem_of_getElem? (i := 191) rfl, List.mem_of_getElem? (i := 192) rfl⟩
theorem lw_p10 : lw_okq (⟨"CrashPlannerModel", "plan", "(I)I"⟩, 9) := ⟨⟨by decide +kernel, by decide +kernel⟩, List.mem_of_getElem? (i := 126) rfl, List.mem_of_getElem? (i := 195) rfl, List.mem_of_getElem? (i := 196) rfl⟩
theorem lw_p11 : lw_okq (⟨"CrashPlannerModel", "costAt", "(I)I"⟩, 9) := ⟨⟨by decide +kernel, by decide +kernel⟩, List.mem_of_getElem? (i := 126) rfl, List.mem_of_getElem? (i := 199) rfl, List.mem_of_getElem? (i := 200) rfl⟩
def lw_privs_1 : List (MethodName × Nat) := [(⟨"CrashPlanner", "sendAll", "()V"⟩, 14), (⟨"CrashPlanner", "findLongest", "()V"⟩, 14), (⟨"CrashPlanner", "stretch", "(IZ)Z"⟩, 14), (⟨"CrashPlanner", "lengthOf", "(I)I"⟩, 14), (⟨"CrashPlanner", "roomOf", "(IZ)I"⟩, 14), (⟨"CrashPlanner", "widthOfWay", "()I"⟩, 14), (⟨"CrashPlanner", "send", "(I)V"⟩, 14), (⟨"CrashPlanner", "costFor", "(I)I"⟩, 14), (⟨"CrashPlannerModel", "length", "()I"⟩, 9), (⟨"CrashPlannerModel", "curve", "()V"⟩, 9), (⟨"CrashPlannerModel", "plan", "(I)I"⟩, 9), (⟨"CrashPlannerModel", "costAt", "(I)I"⟩, 9)]
theorem lw_r1 : ∀ q ∈ lw_privs_1, lw_okq q := List.forall_mem_cons.mpr ⟨lw_p0, List.forall_mem_cons.mpr ⟨lw_p1, List.forall_mem_cons.mpr ⟨lw_p2, List.forall_mem_cons.mpr ⟨lw_p3, List.forall_mem_cons.mpr ⟨lw_p4, List.forall_mem_cons.mpr ⟨lw_p5, List.forall_mem_cons.mpr ⟨lw_p6, List.forall_mem_cons.mpr ⟨lw_p7, List.forall_mem_cons.mpr ⟨lw_p8, List.forall_mem_cons.mpr ⟨lw_p9, List.forall_mem_cons.mpr ⟨lw_p10, List.forall_mem_cons.mpr ⟨lw_p11, fun _ h => absurd h List.not_mem_nil⟩⟩⟩⟩⟩⟩⟩⟩⟩⟩⟩⟩
def lw_privs : List (MethodName × Nat) := lw_privs_1
def lw_tbl : List Cond := k2_sels lw_privs ++ tables_1
theorem lw_privs_ok : ∀ q ∈ lw_privs, lw_okq q := lw_r1
def lw_all : List Cond := lw_tbl.filter goodWord
theorem lw_w {w : Cond} (i : Nat) (h : lw_tbl[i]? = some w) (g : goodWord w = true) : w ∈ lw_all := List.mem_filter.mpr ⟨List.mem_of_getElem? h, g⟩
theorem lw_all_tbl {w : Cond} (h : w ∈ lw_all) : w ∈ lw_tbl := (List.mem_filter.mp h).1
theorem lw_self : GoodIn lw_all lw_all := fun w h => ⟨h, good_of_word (List.mem_filter.mp h).2⟩
theorem lw_in (ws : List Cond) (ps : List Nat) (hp : ws = ps.filterMap (fun i => lw_tbl[i]?)) (hg : ws.all goodWord = true) : ∀ w ∈ ws, w ∈ lw_all := by
  intro w h
  have h1 := List.all_eq_true.mp hg w h
  rw [hp] at h
  obtain ⟨i, -, hi⟩ := List.mem_filterMap.mp h
  exact lw_w i hi h1
abbrev ws_ (y : MethodName) (b : ByteArray) (L : Nat) (r : Option FieldType) : List Cond := Cond.code y b L r :: lw_all
theorem lw_meth {y : MethodName} {b : ByteArray} {L : Nat} {r : Option FieldType} (h : Cond.code y b L r ∈ lw_all) : GoodIn lw_all (ws_ y b L r) := by
  intro w hw
  rcases List.mem_cons.mp hw with e | e
  · rw [e]
    exact lw_self _ h
  · exact lw_self _ e
theorem lw_app {a c : List Cond} (ha : ∀ w ∈ a, w ∈ lw_all) (hc : GoodIn lw_all c) : GoodIn lw_all (a ++ c) := by
  intro w hw
  rcases List.mem_append.mp hw with e | e
  · exact lw_self w (ha w e)
  · exact hc w e
theorem lw_V {own : String} {idx : Nat} {C : String} {y : MethodName} {b : ByteArray} {L : Nat} {r : Option FieldType} (h1 : Cond.methodLink own idx y ∈ lw_all) (h2 : Cond.instanceMethod y ∈ lw_all) (h3 : Cond.selects C y y ∈ lw_all) (h4 : Cond.initialized C ∈ lw_all) (h5 : Cond.code y b L r ∈ lw_all) : GoodIn lw_all (wsV own idx C y (ws_ y b L r)) := by
  refine lw_app ?_ (lw_meth h5)
  intro w hw
  simp only [List.mem_cons, List.not_mem_nil, or_false] at hw
  rcases hw with e | e | e | e
  · rw [e]; exact h1
  · rw [e]; exact h2
  · rw [e]; exact h3
  · rw [e]; exact h4
theorem lw_S {own : String} {idx : Nat} {y : MethodName} {b : ByteArray} {L : Nat} {r : Option FieldType} (h1 : Cond.methodLink own idx y ∈ lw_all) (h2 : Cond.static y ∈ lw_all) (h3 : Cond.initialized y.cls ∈ lw_all) (h4 : Cond.code y b L r ∈ lw_all) : GoodIn lw_all (va_wsS own idx y (ws_ y b L r)) := by
  refine lw_app ?_ (lw_meth h4)
  intro w hw
  simp only [List.mem_cons, List.not_mem_nil, or_false] at hw
  rcases hw with e | e | e
  · rw [e]; exact h1
  · rw [e]; exact h2
  · rw [e]; exact h3
abbrev wsW_ (y : MethodName) (b : ByteArray) (L : Nat) (r : Option FieldType) (hh : List (Nat × Nat × Nat × Nat)) : List Cond := Cond.codeWith y b L r hh :: lw_all
theorem lw_methW {y : MethodName} {b : ByteArray} {L : Nat} {r : Option FieldType} {hh : List (Nat × Nat × Nat × Nat)} (h : Cond.codeWith y b L r hh ∈ lw_all) : GoodIn lw_all (wsW_ y b L r hh) := by
  intro w hw
  rcases List.mem_cons.mp hw with e | e
  · rw [e]
    exact lw_self _ h
  · exact lw_self _ e
theorem lw_good {ws : List Cond} (h : ∀ w ∈ ws, w ∈ lw_all) : GoodIn lw_all ws := fun w hw => lw_self w (h w hw)
theorem lw_VW {own : String} {idx : Nat} {C : String} {y : MethodName} {b : ByteArray} {L : Nat} {r : Option FieldType} {hh : List (Nat × Nat × Nat × Nat)} (h1 : Cond.methodLink own idx y ∈ lw_all) (h2 : Cond.instanceMethod y ∈ lw_all) (h3 : Cond.selects C y y ∈ lw_all) (h4 : Cond.initialized C ∈ lw_all) (h5 : Cond.codeWith y b L r hh ∈ lw_all) : GoodIn lw_all (wsV own idx C y (wsW_ y b L r hh)) := by
  refine lw_app ?_ (lw_methW h5)
  intro w hw
  simp only [List.mem_cons, List.not_mem_nil, or_false] at hw
  rcases hw with e | e | e | e
  · rw [e]; exact h1
  · rw [e]; exact h2
  · rw [e]; exact h3
  · rw [e]; exact h4
theorem lw_SW {own : String} {idx : Nat} {y : MethodName} {b : ByteArray} {L : Nat} {r : Option FieldType} {hh : List (Nat × Nat × Nat × Nat)} (h1 : Cond.methodLink own idx y ∈ lw_all) (h2 : Cond.static y ∈ lw_all) (h3 : Cond.initialized y.cls ∈ lw_all) (h4 : Cond.codeWith y b L r hh ∈ lw_all) : GoodIn lw_all (va_wsS own idx y (wsW_ y b L r hh)) := by
  refine lw_app ?_ (lw_methW h4)
  intro w hw
  simp only [List.mem_cons, List.not_mem_nil, or_false] at hw
  rcases hw with e | e | e
  · rw [e]; exact h1
  · rw [e]; exact h2
  · rw [e]; exact h3
theorem lw_at {r : List Cond} (hr : ∀ w ∈ r, w ∈ lw_tbl) {w : Cond} (i : Nat) (h : r[i]? = some w) : w ∈ lw_tbl := hr w (List.mem_of_getElem? h)
theorem lw_g {w : Cond} (h : w ∈ lw_tbl) (g : goodWord w = true) : w ∈ lw_all := List.mem_filter.mpr ⟨h, g⟩
theorem lw_ms : ∀ w ∈ k2_sels lw_privs, w ∈ lw_tbl := fun w h => show w ∈ k2_sels lw_privs ++ tables_1 from List.mem_append_left _ h
theorem lw_m0 : ∀ w ∈ tables_1, w ∈ lw_tbl := fun w h => show w ∈ k2_sels lw_privs ++ tables_1 from List.mem_append_right (k2_sels lw_privs) h
theorem qs0 : (Cond.selects "CrashPlanner" ⟨"CrashPlanner", "sendAll", "()V"⟩ ⟨"CrashPlanner", "sendAll", "()V"⟩) ∈ lw_all := lw_g (lw_at lw_ms 0 rfl) rfl
theorem qs1 : (Cond.selects "CrashPlanner" ⟨"CrashPlanner", "findLongest", "()V"⟩ ⟨"CrashPlanner", "findLongest", "()V"⟩) ∈ lw_all := lw_g (lw_at lw_ms 1 rfl) rfl
theorem qs2 : (Cond.selects "CrashPlanner" ⟨"CrashPlanner", "stretch", "(IZ)Z"⟩ ⟨"CrashPlanner", "stretch", "(IZ)Z"⟩) ∈ lw_all := lw_g (lw_at lw_ms 2 rfl) rfl
theorem qs3 : (Cond.selects "CrashPlanner" ⟨"CrashPlanner", "lengthOf", "(I)I"⟩ ⟨"CrashPlanner", "lengthOf", "(I)I"⟩) ∈ lw_all := lw_g (lw_at lw_ms 3 rfl) rfl
theorem qs4 : (Cond.selects "CrashPlanner" ⟨"CrashPlanner", "roomOf", "(IZ)I"⟩ ⟨"CrashPlanner", "roomOf", "(IZ)I"⟩) ∈ lw_all := lw_g (lw_at lw_ms 4 rfl) rfl
theorem qs5 : (Cond.selects "CrashPlanner" ⟨"CrashPlanner", "widthOfWay", "()I"⟩ ⟨"CrashPlanner", "widthOfWay", "()I"⟩) ∈ lw_all := lw_g (lw_at lw_ms 5 rfl) rfl
theorem qs6 : (Cond.selects "CrashPlanner" ⟨"CrashPlanner", "send", "(I)V"⟩ ⟨"CrashPlanner", "send", "(I)V"⟩) ∈ lw_all := lw_g (lw_at lw_ms 6 rfl) rfl
theorem qs7 : (Cond.selects "CrashPlanner" ⟨"CrashPlanner", "costFor", "(I)I"⟩ ⟨"CrashPlanner", "costFor", "(I)I"⟩) ∈ lw_all := lw_g (lw_at lw_ms 7 rfl) rfl
theorem qs8 : (Cond.selects "CrashPlannerModel" ⟨"CrashPlannerModel", "length", "()I"⟩ ⟨"CrashPlannerModel", "length", "()I"⟩) ∈ lw_all := lw_g (lw_at lw_ms 8 rfl) rfl
theorem qs9 : (Cond.selects "CrashPlannerModel" ⟨"CrashPlannerModel", "curve", "()V"⟩ ⟨"CrashPlannerModel", "curve", "()V"⟩) ∈ lw_all := lw_g (lw_at lw_ms 9 rfl) rfl
theorem qs10 : (Cond.selects "CrashPlannerModel" ⟨"CrashPlannerModel", "plan", "(I)I"⟩ ⟨"CrashPlannerModel", "plan", "(I)I"⟩) ∈ lw_all := lw_g (lw_at lw_ms 10 rfl) rfl
theorem qs11 : (Cond.selects "CrashPlannerModel" ⟨"CrashPlannerModel", "costAt", "(I)I"⟩ ⟨"CrashPlannerModel", "costAt", "(I)I"⟩) ∈ lw_all := lw_g (lw_at lw_ms 11 rfl) rfl
end
section
/-! CrashPlanner -/
set_option maxRecDepth 100000
def RX0 : String := "CrashPlanner"
def TX0 : u_T := fun k => match k with
  | 0 => ("CrashPlanner", "jobs", "I", false)
  | 1 => ("CrashPlanner", "from", "[I", true)
  | 2 => ("CrashPlanner", "to", "[I", true)
  | 3 => ("CrashPlanner", "slow", "[I", true)
  | 4 => ("CrashPlanner", "fast", "[I", true)
  | 5 => ("CrashPlanner", "price", "[I", true)
  | 6 => ("CrashPlanner", "flow", "[I", true)
  | 7 => ("CrashPlanner", "longest", "[I", true)
  | 8 => ("CrashPlanner", "reached", "[Z", true)
  | 9 => ("CrashPlanner", "lastLine", "[I", true)
  | 10 => ("CrashPlanner", "known", "Z", false)
  | 11 => ("CrashPlanner", "ways", "I", false)
  | 12 => ("CrashPlanner", "wayLength", "[I", true)
  | _ => ("CrashPlanner", "wayAmount", "[I", true)
def tyX0 : Nat → FieldType := fun k => match k with
  | 0 => .int
  | 1 => .array .int
  | 2 => .array .int
  | 3 => .array .int
  | 4 => .array .int
  | 5 => .array .int
  | 6 => .array .int
  | 7 => .array .int
  | 8 => .array .boolean
  | 9 => .array .int
  | 10 => .boolean
  | 11 => .int
  | 12 => .array .int
  | _ => .array .int
abbrev wsX00 : List Cond := u_ws RX0 TX0 14
set_option maxRecDepth 100000 in
theorem nmX0 : ∀ a, a < 14 → ∀ b, b < 14 → a ≠ b → (TX0 a).2.1 ≠ (TX0 b).2.1 := by decide +kernel
set_option maxRecDepth 100000 in
theorem tyX0_ok : ∀ k, k < 14 → parseFieldDescriptor (TX0 k).2.2.1 = some (tyX0 k) := by decide +kernel
abbrev cX0_init : ByteArray := prog_1_method_1_code
def yX0_init : MethodName := ⟨RX0, "<init>", "()V"⟩
theorem dX0_init_0 : decode cX0_init 0 = .ok (.aload_n 0, 1) := by decide +kernel
theorem dX0_init_1 : decode cX0_init 1 = .ok (.invokespecial 1, 3) := by decide +kernel
theorem dX0_init_4 : decode cX0_init 4 = .ok (.aload_n 0, 1) := by decide +kernel
theorem dX0_init_5 : decode cX0_init 5 = .ok (.bipush 7, 2) := by decide +kernel
theorem dX0_init_7 : decode cX0_init 7 = .ok (.newarray .int, 2) := by decide +kernel
theorem dX0_init_9 : decode cX0_init 9 = .ok (.putfield 7, 3) := by decide +kernel
theorem dX0_init_12 : decode cX0_init 12 = .ok (.aload_n 0, 1) := by decide +kernel
theorem dX0_init_13 : decode cX0_init 13 = .ok (.bipush 7, 2) := by decide +kernel
theorem dX0_init_15 : decode cX0_init 15 = .ok (.newarray .int, 2) := by decide +kernel
theorem dX0_init_17 : decode cX0_init 17 = .ok (.putfield 13, 3) := by decide +kernel
theorem dX0_init_20 : decode cX0_init 20 = .ok (.aload_n 0, 1) := by decide +kernel
theorem dX0_init_21 : decode cX0_init 21 = .ok (.bipush 7, 2) := by decide +kernel
theorem dX0_init_23 : decode cX0_init 23 = .ok (.newarray .int, 2) := by decide +kernel
theorem dX0_init_25 : decode cX0_init 25 = .ok (.putfield 16, 3) := by decide +kernel
theorem dX0_init_28 : decode cX0_init 28 = .ok (.aload_n 0, 1) := by decide +kernel
theorem dX0_init_29 : decode cX0_init 29 = .ok (.bipush 7, 2) := by decide +kernel
theorem dX0_init_31 : decode cX0_init 31 = .ok (.newarray .int, 2) := by decide +kernel
theorem dX0_init_33 : decode cX0_init 33 = .ok (.putfield 19, 3) := by decide +kernel
theorem dX0_init_36 : decode cX0_init 36 = .ok (.aload_n 0, 1) := by decide +kernel
theorem dX0_init_37 : decode cX0_init 37 = .ok (.bipush 7, 2) := by decide +kernel
theorem dX0_init_39 : decode cX0_init 39 = .ok (.newarray .int, 2) := by decide +kernel
theorem dX0_init_41 : decode cX0_init 41 = .ok (.putfield 22, 3) := by decide +kernel
theorem dX0_init_44 : decode cX0_init 44 = .ok (.aload_n 0, 1) := by decide +kernel
theorem dX0_init_45 : decode cX0_init 45 = .ok (.bipush 14, 2) := by decide +kernel
theorem dX0_init_47 : decode cX0_init 47 = .ok (.newarray .int, 2) := by decide +kernel
theorem dX0_init_49 : decode cX0_init 49 = .ok (.putfield 25, 3) := by decide +kernel
theorem dX0_init_52 : decode cX0_init 52 = .ok (.aload_n 0, 1) := by decide +kernel
theorem dX0_init_53 : decode cX0_init 53 = .ok (.bipush 6, 2) := by decide +kernel
theorem dX0_init_55 : decode cX0_init 55 = .ok (.newarray .int, 2) := by decide +kernel
theorem dX0_init_57 : decode cX0_init 57 = .ok (.putfield 28, 3) := by decide +kernel
theorem dX0_init_60 : decode cX0_init 60 = .ok (.aload_n 0, 1) := by decide +kernel
theorem dX0_init_61 : decode cX0_init 61 = .ok (.bipush 6, 2) := by decide +kernel
theorem dX0_init_63 : decode cX0_init 63 = .ok (.newarray .boolean, 2) := by decide +kernel
theorem dX0_init_65 : decode cX0_init 65 = .ok (.putfield 31, 3) := by decide +kernel
theorem dX0_init_68 : decode cX0_init 68 = .ok (.aload_n 0, 1) := by decide +kernel
theorem dX0_init_69 : decode cX0_init 69 = .ok (.bipush 6, 2) := by decide +kernel
theorem dX0_init_71 : decode cX0_init 71 = .ok (.newarray .int, 2) := by decide +kernel
theorem dX0_init_73 : decode cX0_init 73 = .ok (.putfield 35, 3) := by decide +kernel
theorem dX0_init_76 : decode cX0_init 76 = .ok (.aload_n 0, 1) := by decide +kernel
theorem dX0_init_77 : decode cX0_init 77 = .ok (.sipush 150, 3) := by decide +kernel
theorem dX0_init_80 : decode cX0_init 80 = .ok (.newarray .int, 2) := by decide +kernel
theorem dX0_init_82 : decode cX0_init 82 = .ok (.putfield 38, 3) := by decide +kernel
theorem dX0_init_85 : decode cX0_init 85 = .ok (.aload_n 0, 1) := by decide +kernel
theorem dX0_init_86 : decode cX0_init 86 = .ok (.sipush 150, 3) := by decide +kernel
theorem dX0_init_89 : decode cX0_init 89 = .ok (.newarray .int, 2) := by decide +kernel
theorem dX0_init_91 : decode cX0_init 91 = .ok (.putfield 41, 3) := by decide +kernel
theorem dX0_init_94 : decode cX0_init 94 = .ok (.return_, 1) := by decide +kernel
abbrev cX0_add : ByteArray := prog_1_method_2_code
def yX0_add : MethodName := ⟨RX0, "add", "(IIIII)I"⟩
theorem dX0_add_0 : decode cX0_add 0 = .ok (.iload_n 1, 1) := by decide +kernel
theorem dX0_add_1 : decode cX0_add 1 = .ok (.ifCond .lt 17, 3) := by decide +kernel
theorem dX0_add_4 : decode cX0_add 4 = .ok (.iload_n 1, 1) := by decide +kernel
theorem dX0_add_5 : decode cX0_add 5 = .ok (.iload_n 2, 1) := by decide +kernel
theorem dX0_add_6 : decode cX0_add 6 = .ok (.if_icmp .ge 12, 3) := by decide +kernel
theorem dX0_add_9 : decode cX0_add 9 = .ok (.iload_n 2, 1) := by decide +kernel
theorem dX0_add_10 : decode cX0_add 10 = .ok (.iconst 5, 1) := by decide +kernel
theorem dX0_add_11 : decode cX0_add 11 = .ok (.if_icmp .gt 7, 3) := by decide +kernel
theorem dX0_add_14 : decode cX0_add 14 = .ok (.iconst 1, 1) := by decide +kernel
theorem dX0_add_15 : decode cX0_add 15 = .ok (.goto 4, 3) := by decide +kernel
theorem dX0_add_18 : decode cX0_add 18 = .ok (.iconst 0, 1) := by decide +kernel
theorem dX0_add_19 : decode cX0_add 19 = .ok (.istore 6, 2) := by decide +kernel
theorem dX0_add_21 : decode cX0_add 21 = .ok (.iload 4, 2) := by decide +kernel
theorem dX0_add_23 : decode cX0_add 23 = .ok (.ifCond .lt 27, 3) := by decide +kernel
theorem dX0_add_26 : decode cX0_add 26 = .ok (.iload 4, 2) := by decide +kernel
theorem dX0_add_28 : decode cX0_add 28 = .ok (.iload_n 3, 1) := by decide +kernel
theorem dX0_add_29 : decode cX0_add 29 = .ok (.if_icmp .gt 21, 3) := by decide +kernel
theorem dX0_add_32 : decode cX0_add 32 = .ok (.iload_n 3, 1) := by decide +kernel
theorem dX0_add_33 : decode cX0_add 33 = .ok (.bipush 9, 2) := by decide +kernel
theorem dX0_add_35 : decode cX0_add 35 = .ok (.if_icmp .gt 15, 3) := by decide +kernel
theorem dX0_add_38 : decode cX0_add 38 = .ok (.iload_n 3, 1) := by decide +kernel
theorem dX0_add_39 : decode cX0_add 39 = .ok (.iload 4, 2) := by decide +kernel
theorem dX0_add_41 : decode cX0_add 41 = .ok (.isub, 1) := by decide +kernel
theorem dX0_add_42 : decode cX0_add 42 = .ok (.iconst 3, 1) := by decide +kernel
theorem dX0_add_43 : decode cX0_add 43 = .ok (.if_icmp .gt 7, 3) := by decide +kernel
theorem dX0_add_46 : decode cX0_add 46 = .ok (.iconst 1, 1) := by decide +kernel
theorem dX0_add_47 : decode cX0_add 47 = .ok (.goto 4, 3) := by decide +kernel
theorem dX0_add_50 : decode cX0_add 50 = .ok (.iconst 0, 1) := by decide +kernel
theorem dX0_add_51 : decode cX0_add 51 = .ok (.istore 7, 2) := by decide +kernel
theorem dX0_add_53 : decode cX0_add 53 = .ok (.aload_n 0, 1) := by decide +kernel
theorem dX0_add_54 : decode cX0_add 54 = .ok (.getfield 44, 3) := by decide +kernel
theorem dX0_add_57 : decode cX0_add 57 = .ok (.bipush 7, 2) := by decide +kernel
theorem dX0_add_59 : decode cX0_add 59 = .ok (.if_icmp .ge 26, 3) := by decide +kernel
theorem dX0_add_62 : decode cX0_add 62 = .ok (.iload 6, 2) := by decide +kernel
theorem dX0_add_64 : decode cX0_add 64 = .ok (.ifCond .eq 21, 3) := by decide +kernel
theorem dX0_add_67 : decode cX0_add 67 = .ok (.iload 7, 2) := by decide +kernel
theorem dX0_add_69 : decode cX0_add 69 = .ok (.ifCond .eq 16, 3) := by decide +kernel
theorem dX0_add_72 : decode cX0_add 72 = .ok (.iload 5, 2) := by decide +kernel
theorem dX0_add_74 : decode cX0_add 74 = .ok (.iconst 1, 1) := by decide +kernel
theorem dX0_add_75 : decode cX0_add 75 = .ok (.if_icmp .lt 10, 3) := by decide +kernel
theorem dX0_add_78 : decode cX0_add 78 = .ok (.iload 5, 2) := by decide +kernel
theorem dX0_add_80 : decode cX0_add 80 = .ok (.bipush 20, 2) := by decide +kernel
theorem dX0_add_82 : decode cX0_add 82 = .ok (.if_icmp .le 5, 3) := by decide +kernel
theorem dX0_add_85 : decode cX0_add 85 = .ok (.iconst (-1), 1) := by decide +kernel
theorem dX0_add_86 : decode cX0_add 86 = .ok (.ireturn, 1) := by decide +kernel
theorem dX0_add_87 : decode cX0_add 87 = .ok (.aload_n 0, 1) := by decide +kernel
theorem dX0_add_88 : decode cX0_add 88 = .ok (.getfield 7, 3) := by decide +kernel
theorem dX0_add_91 : decode cX0_add 91 = .ok (.aload_n 0, 1) := by decide +kernel
theorem dX0_add_92 : decode cX0_add 92 = .ok (.getfield 44, 3) := by decide +kernel
theorem dX0_add_95 : decode cX0_add 95 = .ok (.iload_n 1, 1) := by decide +kernel
theorem dX0_add_96 : decode cX0_add 96 = .ok (.iastore, 1) := by decide +kernel
theorem dX0_add_97 : decode cX0_add 97 = .ok (.aload_n 0, 1) := by decide +kernel
theorem dX0_add_98 : decode cX0_add 98 = .ok (.getfield 13, 3) := by decide +kernel
theorem dX0_add_101 : decode cX0_add 101 = .ok (.aload_n 0, 1) := by decide +kernel
theorem dX0_add_102 : decode cX0_add 102 = .ok (.getfield 44, 3) := by decide +kernel
theorem dX0_add_105 : decode cX0_add 105 = .ok (.iload_n 2, 1) := by decide +kernel
theorem dX0_add_106 : decode cX0_add 106 = .ok (.iastore, 1) := by decide +kernel
theorem dX0_add_107 : decode cX0_add 107 = .ok (.aload_n 0, 1) := by decide +kernel
theorem dX0_add_108 : decode cX0_add 108 = .ok (.getfield 16, 3) := by decide +kernel
theorem dX0_add_111 : decode cX0_add 111 = .ok (.aload_n 0, 1) := by decide +kernel
theorem dX0_add_112 : decode cX0_add 112 = .ok (.getfield 44, 3) := by decide +kernel
theorem dX0_add_115 : decode cX0_add 115 = .ok (.iload_n 3, 1) := by decide +kernel
theorem dX0_add_116 : decode cX0_add 116 = .ok (.iastore, 1) := by decide +kernel
theorem dX0_add_117 : decode cX0_add 117 = .ok (.aload_n 0, 1) := by decide +kernel
theorem dX0_add_118 : decode cX0_add 118 = .ok (.getfield 19, 3) := by decide +kernel
theorem dX0_add_121 : decode cX0_add 121 = .ok (.aload_n 0, 1) := by decide +kernel
theorem dX0_add_122 : decode cX0_add 122 = .ok (.getfield 44, 3) := by decide +kernel
theorem dX0_add_125 : decode cX0_add 125 = .ok (.iload 4, 2) := by decide +kernel
theorem dX0_add_127 : decode cX0_add 127 = .ok (.iastore, 1) := by decide +kernel
theorem dX0_add_128 : decode cX0_add 128 = .ok (.aload_n 0, 1) := by decide +kernel
theorem dX0_add_129 : decode cX0_add 129 = .ok (.getfield 22, 3) := by decide +kernel
theorem dX0_add_132 : decode cX0_add 132 = .ok (.aload_n 0, 1) := by decide +kernel
theorem dX0_add_133 : decode cX0_add 133 = .ok (.getfield 44, 3) := by decide +kernel
theorem dX0_add_136 : decode cX0_add 136 = .ok (.iload 5, 2) := by decide +kernel
theorem dX0_add_138 : decode cX0_add 138 = .ok (.iastore, 1) := by decide +kernel
theorem dX0_add_139 : decode cX0_add 139 = .ok (.aload_n 0, 1) := by decide +kernel
theorem dX0_add_140 : decode cX0_add 140 = .ok (.dup, 1) := by decide +kernel
theorem dX0_add_141 : decode cX0_add 141 = .ok (.getfield 44, 3) := by decide +kernel
theorem dX0_add_144 : decode cX0_add 144 = .ok (.iconst 1, 1) := by decide +kernel
theorem dX0_add_145 : decode cX0_add 145 = .ok (.iadd, 1) := by decide +kernel
theorem dX0_add_146 : decode cX0_add 146 = .ok (.putfield 44, 3) := by decide +kernel
theorem dX0_add_149 : decode cX0_add 149 = .ok (.aload_n 0, 1) := by decide +kernel
theorem dX0_add_150 : decode cX0_add 150 = .ok (.iconst 0, 1) := by decide +kernel
theorem dX0_add_151 : decode cX0_add 151 = .ok (.putfield 48, 3) := by decide +kernel
theorem dX0_add_154 : decode cX0_add 154 = .ok (.aload_n 0, 1) := by decide +kernel
theorem dX0_add_155 : decode cX0_add 155 = .ok (.getfield 44, 3) := by decide +kernel
theorem dX0_add_158 : decode cX0_add 158 = .ok (.ireturn, 1) := by decide +kernel
abbrev cX0_drop : ByteArray := prog_1_method_3_code
def yX0_drop : MethodName := ⟨RX0, "drop", "(I)I"⟩
theorem dX0_drop_0 : decode cX0_drop 0 = .ok (.iload_n 1, 1) := by decide +kernel
theorem dX0_drop_1 : decode cX0_drop 1 = .ok (.ifCond .lt 11, 3) := by decide +kernel
theorem dX0_drop_4 : decode cX0_drop 4 = .ok (.iload_n 1, 1) := by decide +kernel
theorem dX0_drop_5 : decode cX0_drop 5 = .ok (.aload_n 0, 1) := by decide +kernel
theorem dX0_drop_6 : decode cX0_drop 6 = .ok (.getfield 44, 3) := by decide +kernel
theorem dX0_drop_9 : decode cX0_drop 9 = .ok (.if_icmp .lt 5, 3) := by decide +kernel
theorem dX0_drop_12 : decode cX0_drop 12 = .ok (.iconst (-1), 1) := by decide +kernel
theorem dX0_drop_13 : decode cX0_drop 13 = .ok (.ireturn, 1) := by decide +kernel
theorem dX0_drop_14 : decode cX0_drop 14 = .ok (.aload_n 0, 1) := by decide +kernel
theorem dX0_drop_15 : decode cX0_drop 15 = .ok (.dup, 1) := by decide +kernel
theorem dX0_drop_16 : decode cX0_drop 16 = .ok (.getfield 44, 3) := by decide +kernel
theorem dX0_drop_19 : decode cX0_drop 19 = .ok (.iconst 1, 1) := by decide +kernel
theorem dX0_drop_20 : decode cX0_drop 20 = .ok (.isub, 1) := by decide +kernel
theorem dX0_drop_21 : decode cX0_drop 21 = .ok (.putfield 44, 3) := by decide +kernel
theorem dX0_drop_24 : decode cX0_drop 24 = .ok (.iload_n 1, 1) := by decide +kernel
theorem dX0_drop_25 : decode cX0_drop 25 = .ok (.istore_n 2, 1) := by decide +kernel
theorem dX0_drop_26 : decode cX0_drop 26 = .ok (.iload_n 2, 1) := by decide +kernel
theorem dX0_drop_27 : decode cX0_drop 27 = .ok (.aload_n 0, 1) := by decide +kernel
theorem dX0_drop_28 : decode cX0_drop 28 = .ok (.getfield 44, 3) := by decide +kernel
theorem dX0_drop_31 : decode cX0_drop 31 = .ok (.if_icmp .ge 79, 3) := by decide +kernel
theorem dX0_drop_34 : decode cX0_drop 34 = .ok (.aload_n 0, 1) := by decide +kernel
theorem dX0_drop_35 : decode cX0_drop 35 = .ok (.getfield 7, 3) := by decide +kernel
theorem dX0_drop_38 : decode cX0_drop 38 = .ok (.iload_n 2, 1) := by decide +kernel
theorem dX0_drop_39 : decode cX0_drop 39 = .ok (.aload_n 0, 1) := by decide +kernel
theorem dX0_drop_40 : decode cX0_drop 40 = .ok (.getfield 7, 3) := by decide +kernel
theorem dX0_drop_43 : decode cX0_drop 43 = .ok (.iload_n 2, 1) := by decide +kernel
theorem dX0_drop_44 : decode cX0_drop 44 = .ok (.iconst 1, 1) := by decide +kernel
theorem dX0_drop_45 : decode cX0_drop 45 = .ok (.iadd, 1) := by decide +kernel
theorem dX0_drop_46 : decode cX0_drop 46 = .ok (.iaload, 1) := by decide +kernel
theorem dX0_drop_47 : decode cX0_drop 47 = .ok (.iastore, 1) := by decide +kernel
theorem dX0_drop_48 : decode cX0_drop 48 = .ok (.aload_n 0, 1) := by decide +kernel
theorem dX0_drop_49 : decode cX0_drop 49 = .ok (.getfield 13, 3) := by decide +kernel
theorem dX0_drop_52 : decode cX0_drop 52 = .ok (.iload_n 2, 1) := by decide +kernel
theorem dX0_drop_53 : decode cX0_drop 53 = .ok (.aload_n 0, 1) := by decide +kernel
theorem dX0_drop_54 : decode cX0_drop 54 = .ok (.getfield 13, 3) := by decide +kernel
theorem dX0_drop_57 : decode cX0_drop 57 = .ok (.iload_n 2, 1) := by decide +kernel
theorem dX0_drop_58 : decode cX0_drop 58 = .ok (.iconst 1, 1) := by decide +kernel
theorem dX0_drop_59 : decode cX0_drop 59 = .ok (.iadd, 1) := by decide +kernel
theorem dX0_drop_60 : decode cX0_drop 60 = .ok (.iaload, 1) := by decide +kernel
theorem dX0_drop_61 : decode cX0_drop 61 = .ok (.iastore, 1) := by decide +kernel
theorem dX0_drop_62 : decode cX0_drop 62 = .ok (.aload_n 0, 1) := by decide +kernel
theorem dX0_drop_63 : decode cX0_drop 63 = .ok (.getfield 16, 3) := by decide +kernel
theorem dX0_drop_66 : decode cX0_drop 66 = .ok (.iload_n 2, 1) := by decide +kernel
theorem dX0_drop_67 : decode cX0_drop 67 = .ok (.aload_n 0, 1) := by decide +kernel
theorem dX0_drop_68 : decode cX0_drop 68 = .ok (.getfield 16, 3) := by decide +kernel
theorem dX0_drop_71 : decode cX0_drop 71 = .ok (.iload_n 2, 1) := by decide +kernel
theorem dX0_drop_72 : decode cX0_drop 72 = .ok (.iconst 1, 1) := by decide +kernel
theorem dX0_drop_73 : decode cX0_drop 73 = .ok (.iadd, 1) := by decide +kernel
theorem dX0_drop_74 : decode cX0_drop 74 = .ok (.iaload, 1) := by decide +kernel
theorem dX0_drop_75 : decode cX0_drop 75 = .ok (.iastore, 1) := by decide +kernel
theorem dX0_drop_76 : decode cX0_drop 76 = .ok (.aload_n 0, 1) := by decide +kernel
theorem dX0_drop_77 : decode cX0_drop 77 = .ok (.getfield 19, 3) := by decide +kernel
theorem dX0_drop_80 : decode cX0_drop 80 = .ok (.iload_n 2, 1) := by decide +kernel
theorem dX0_drop_81 : decode cX0_drop 81 = .ok (.aload_n 0, 1) := by decide +kernel
theorem dX0_drop_82 : decode cX0_drop 82 = .ok (.getfield 19, 3) := by decide +kernel
theorem dX0_drop_85 : decode cX0_drop 85 = .ok (.iload_n 2, 1) := by decide +kernel
theorem dX0_drop_86 : decode cX0_drop 86 = .ok (.iconst 1, 1) := by decide +kernel
theorem dX0_drop_87 : decode cX0_drop 87 = .ok (.iadd, 1) := by decide +kernel
theorem dX0_drop_88 : decode cX0_drop 88 = .ok (.iaload, 1) := by decide +kernel
theorem dX0_drop_89 : decode cX0_drop 89 = .ok (.iastore, 1) := by decide +kernel
theorem dX0_drop_90 : decode cX0_drop 90 = .ok (.aload_n 0, 1) := by decide +kernel
theorem dX0_drop_91 : decode cX0_drop 91 = .ok (.getfield 22, 3) := by decide +kernel
theorem dX0_drop_94 : decode cX0_drop 94 = .ok (.iload_n 2, 1) := by decide +kernel
theorem dX0_drop_95 : decode cX0_drop 95 = .ok (.aload_n 0, 1) := by decide +kernel
theorem dX0_drop_96 : decode cX0_drop 96 = .ok (.getfield 22, 3) := by decide +kernel
theorem dX0_drop_99 : decode cX0_drop 99 = .ok (.iload_n 2, 1) := by decide +kernel
theorem dX0_drop_100 : decode cX0_drop 100 = .ok (.iconst 1, 1) := by decide +kernel
theorem dX0_drop_101 : decode cX0_drop 101 = .ok (.iadd, 1) := by decide +kernel
theorem dX0_drop_102 : decode cX0_drop 102 = .ok (.iaload, 1) := by decide +kernel
theorem dX0_drop_103 : decode cX0_drop 103 = .ok (.iastore, 1) := by decide +kernel
theorem dX0_drop_104 : decode cX0_drop 104 = .ok (.iinc 2 1, 3) := by decide +kernel
theorem dX0_drop_107 : decode cX0_drop 107 = .ok (.goto (-81), 3) := by decide +kernel
theorem dX0_drop_110 : decode cX0_drop 110 = .ok (.aload_n 0, 1) := by decide +kernel
theorem dX0_drop_111 : decode cX0_drop 111 = .ok (.iconst 0, 1) := by decide +kernel
theorem dX0_drop_112 : decode cX0_drop 112 = .ok (.putfield 48, 3) := by decide +kernel
theorem dX0_drop_115 : decode cX0_drop 115 = .ok (.aload_n 0, 1) := by decide +kernel
theorem dX0_drop_116 : decode cX0_drop 116 = .ok (.getfield 44, 3) := by decide +kernel
theorem dX0_drop_119 : decode cX0_drop 119 = .ok (.ireturn, 1) := by decide +kernel
abbrev cX0_price : ByteArray := prog_1_method_4_code
def yX0_price : MethodName := ⟨RX0, "price", "(II)I"⟩
theorem dX0_price_0 : decode cX0_price 0 = .ok (.iload_n 1, 1) := by decide +kernel
theorem dX0_price_1 : decode cX0_price 1 = .ok (.ifCond .lt 22, 3) := by decide +kernel
theorem dX0_price_4 : decode cX0_price 4 = .ok (.iload_n 1, 1) := by decide +kernel
theorem dX0_price_5 : decode cX0_price 5 = .ok (.aload_n 0, 1) := by decide +kernel
theorem dX0_price_6 : decode cX0_price 6 = .ok (.getfield 44, 3) := by decide +kernel
theorem dX0_price_9 : decode cX0_price 9 = .ok (.if_icmp .ge 14, 3) := by decide +kernel
theorem dX0_price_12 : decode cX0_price 12 = .ok (.iload_n 2, 1) := by decide +kernel
theorem dX0_price_13 : decode cX0_price 13 = .ok (.iconst 1, 1) := by decide +kernel
theorem dX0_price_14 : decode cX0_price 14 = .ok (.if_icmp .lt 9, 3) := by decide +kernel
theorem dX0_price_17 : decode cX0_price 17 = .ok (.iload_n 2, 1) := by decide +kernel
theorem dX0_price_18 : decode cX0_price 18 = .ok (.bipush 20, 2) := by decide +kernel
theorem dX0_price_20 : decode cX0_price 20 = .ok (.if_icmp .le 5, 3) := by decide +kernel
theorem dX0_price_23 : decode cX0_price 23 = .ok (.iconst (-1), 1) := by decide +kernel
theorem dX0_price_24 : decode cX0_price 24 = .ok (.ireturn, 1) := by decide +kernel
theorem dX0_price_25 : decode cX0_price 25 = .ok (.aload_n 0, 1) := by decide +kernel
theorem dX0_price_26 : decode cX0_price 26 = .ok (.getfield 22, 3) := by decide +kernel
theorem dX0_price_29 : decode cX0_price 29 = .ok (.iload_n 1, 1) := by decide +kernel
theorem dX0_price_30 : decode cX0_price 30 = .ok (.iaload, 1) := by decide +kernel
theorem dX0_price_31 : decode cX0_price 31 = .ok (.istore_n 3, 1) := by decide +kernel
theorem dX0_price_32 : decode cX0_price 32 = .ok (.aload_n 0, 1) := by decide +kernel
theorem dX0_price_33 : decode cX0_price 33 = .ok (.getfield 22, 3) := by decide +kernel
theorem dX0_price_36 : decode cX0_price 36 = .ok (.iload_n 1, 1) := by decide +kernel
theorem dX0_price_37 : decode cX0_price 37 = .ok (.iload_n 2, 1) := by decide +kernel
theorem dX0_price_38 : decode cX0_price 38 = .ok (.iastore, 1) := by decide +kernel
theorem dX0_price_39 : decode cX0_price 39 = .ok (.aload_n 0, 1) := by decide +kernel
theorem dX0_price_40 : decode cX0_price 40 = .ok (.iconst 0, 1) := by decide +kernel
theorem dX0_price_41 : decode cX0_price 41 = .ok (.putfield 48, 3) := by decide +kernel
theorem dX0_price_44 : decode cX0_price 44 = .ok (.iload_n 3, 1) := by decide +kernel
theorem dX0_price_45 : decode cX0_price 45 = .ok (.ireturn, 1) := by decide +kernel
abbrev cX0_slowest : ByteArray := prog_1_method_5_code
def yX0_slowest : MethodName := ⟨RX0, "slowest", "()I"⟩
theorem dX0_slowest_0 : decode cX0_slowest 0 = .ok (.aload_n 0, 1) := by decide +kernel
theorem dX0_slowest_1 : decode cX0_slowest 1 = .ok (.invokevirtual 52, 3) := by decide +kernel
theorem dX0_slowest_4 : decode cX0_slowest 4 = .ok (.aload_n 0, 1) := by decide +kernel
theorem dX0_slowest_5 : decode cX0_slowest 5 = .ok (.getfield 55, 3) := by decide +kernel
theorem dX0_slowest_8 : decode cX0_slowest 8 = .ok (.ifCond .ne 7, 3) := by decide +kernel
theorem dX0_slowest_11 : decode cX0_slowest 11 = .ok (.iconst 0, 1) := by decide +kernel
theorem dX0_slowest_12 : decode cX0_slowest 12 = .ok (.goto 9, 3) := by decide +kernel
theorem dX0_slowest_15 : decode cX0_slowest 15 = .ok (.aload_n 0, 1) := by decide +kernel
theorem dX0_slowest_16 : decode cX0_slowest 16 = .ok (.getfield 38, 3) := by decide +kernel
theorem dX0_slowest_19 : decode cX0_slowest 19 = .ok (.iconst 0, 1) := by decide +kernel
theorem dX0_slowest_20 : decode cX0_slowest 20 = .ok (.iaload, 1) := by decide +kernel
theorem dX0_slowest_21 : decode cX0_slowest 21 = .ok (.ireturn, 1) := by decide +kernel
end
section
set_option maxRecDepth 100000
abbrev cX0_sendAll : ByteArray := prog_1_method_12_code
def yX0_sendAll : MethodName := ⟨RX0, "sendAll", "()V"⟩
theorem dX0_sendAll_0 : decode cX0_sendAll 0 = .ok (.aload_n 0, 1) := by decide +kernel
theorem dX0_sendAll_1 : decode cX0_sendAll 1 = .ok (.getfield 48, 3) := by decide +kernel
theorem dX0_sendAll_4 : decode cX0_sendAll 4 = .ok (.ifCond .eq 4, 3) := by decide +kernel
theorem dX0_sendAll_7 : decode cX0_sendAll 7 = .ok (.return_, 1) := by decide +kernel
theorem dX0_sendAll_8 : decode cX0_sendAll 8 = .ok (.aload_n 0, 1) := by decide +kernel
theorem dX0_sendAll_9 : decode cX0_sendAll 9 = .ok (.iconst 1, 1) := by decide +kernel
theorem dX0_sendAll_10 : decode cX0_sendAll 10 = .ok (.putfield 48, 3) := by decide +kernel
theorem dX0_sendAll_13 : decode cX0_sendAll 13 = .ok (.aload_n 0, 1) := by decide +kernel
theorem dX0_sendAll_14 : decode cX0_sendAll 14 = .ok (.iconst 0, 1) := by decide +kernel
theorem dX0_sendAll_15 : decode cX0_sendAll 15 = .ok (.putfield 55, 3) := by decide +kernel
theorem dX0_sendAll_18 : decode cX0_sendAll 18 = .ok (.iconst 0, 1) := by decide +kernel
theorem dX0_sendAll_19 : decode cX0_sendAll 19 = .ok (.istore_n 1, 1) := by decide +kernel
theorem dX0_sendAll_20 : decode cX0_sendAll 20 = .ok (.iload_n 1, 1) := by decide +kernel
theorem dX0_sendAll_21 : decode cX0_sendAll 21 = .ok (.bipush 14, 2) := by decide +kernel
theorem dX0_sendAll_23 : decode cX0_sendAll 23 = .ok (.if_icmp .ge 16, 3) := by decide +kernel
theorem dX0_sendAll_26 : decode cX0_sendAll 26 = .ok (.aload_n 0, 1) := by decide +kernel
theorem dX0_sendAll_27 : decode cX0_sendAll 27 = .ok (.getfield 25, 3) := by decide +kernel
theorem dX0_sendAll_30 : decode cX0_sendAll 30 = .ok (.iload_n 1, 1) := by decide +kernel
theorem dX0_sendAll_31 : decode cX0_sendAll 31 = .ok (.iconst 0, 1) := by decide +kernel
theorem dX0_sendAll_32 : decode cX0_sendAll 32 = .ok (.iastore, 1) := by decide +kernel
theorem dX0_sendAll_33 : decode cX0_sendAll 33 = .ok (.iinc 1 1, 3) := by decide +kernel
theorem dX0_sendAll_36 : decode cX0_sendAll 36 = .ok (.goto (-16), 3) := by decide +kernel
theorem dX0_sendAll_39 : decode cX0_sendAll 39 = .ok (.iconst 1, 1) := by decide +kernel
theorem dX0_sendAll_40 : decode cX0_sendAll 40 = .ok (.istore_n 1, 1) := by decide +kernel
theorem dX0_sendAll_41 : decode cX0_sendAll 41 = .ok (.iconst 0, 1) := by decide +kernel
theorem dX0_sendAll_42 : decode cX0_sendAll 42 = .ok (.istore_n 2, 1) := by decide +kernel
theorem dX0_sendAll_43 : decode cX0_sendAll 43 = .ok (.iload_n 2, 1) := by decide +kernel
theorem dX0_sendAll_44 : decode cX0_sendAll 44 = .ok (.sipush 149, 3) := by decide +kernel
theorem dX0_sendAll_47 : decode cX0_sendAll 47 = .ok (.if_icmp .ge 85, 3) := by decide +kernel
theorem dX0_sendAll_50 : decode cX0_sendAll 50 = .ok (.iload_n 1, 1) := by decide +kernel
theorem dX0_sendAll_51 : decode cX0_sendAll 51 = .ok (.ifCond .eq 81, 3) := by decide +kernel
theorem dX0_sendAll_54 : decode cX0_sendAll 54 = .ok (.aload_n 0, 1) := by decide +kernel
theorem dX0_sendAll_55 : decode cX0_sendAll 55 = .ok (.invokevirtual 63, 3) := by decide +kernel
theorem dX0_sendAll_58 : decode cX0_sendAll 58 = .ok (.aload_n 0, 1) := by decide +kernel
theorem dX0_sendAll_59 : decode cX0_sendAll 59 = .ok (.getfield 31, 3) := by decide +kernel
theorem dX0_sendAll_62 : decode cX0_sendAll 62 = .ok (.iconst 5, 1) := by decide +kernel
theorem dX0_sendAll_63 : decode cX0_sendAll 63 = .ok (.baload, 1) := by decide +kernel
theorem dX0_sendAll_64 : decode cX0_sendAll 64 = .ok (.istore_n 1, 1) := by decide +kernel
theorem dX0_sendAll_65 : decode cX0_sendAll 65 = .ok (.iload_n 1, 1) := by decide +kernel
theorem dX0_sendAll_66 : decode cX0_sendAll 66 = .ok (.ifCond .eq 60, 3) := by decide +kernel
theorem dX0_sendAll_69 : decode cX0_sendAll 69 = .ok (.aload_n 0, 1) := by decide +kernel
theorem dX0_sendAll_70 : decode cX0_sendAll 70 = .ok (.invokevirtual 66, 3) := by decide +kernel
theorem dX0_sendAll_73 : decode cX0_sendAll 73 = .ok (.istore_n 3, 1) := by decide +kernel
theorem dX0_sendAll_74 : decode cX0_sendAll 74 = .ok (.aload_n 0, 1) := by decide +kernel
theorem dX0_sendAll_75 : decode cX0_sendAll 75 = .ok (.getfield 38, 3) := by decide +kernel
theorem dX0_sendAll_78 : decode cX0_sendAll 78 = .ok (.aload_n 0, 1) := by decide +kernel
theorem dX0_sendAll_79 : decode cX0_sendAll 79 = .ok (.getfield 55, 3) := by decide +kernel
theorem dX0_sendAll_82 : decode cX0_sendAll 82 = .ok (.aload_n 0, 1) := by decide +kernel
theorem dX0_sendAll_83 : decode cX0_sendAll 83 = .ok (.getfield 28, 3) := by decide +kernel
theorem dX0_sendAll_86 : decode cX0_sendAll 86 = .ok (.iconst 5, 1) := by decide +kernel
theorem dX0_sendAll_87 : decode cX0_sendAll 87 = .ok (.iaload, 1) := by decide +kernel
theorem dX0_sendAll_88 : decode cX0_sendAll 88 = .ok (.iastore, 1) := by decide +kernel
theorem dX0_sendAll_89 : decode cX0_sendAll 89 = .ok (.aload_n 0, 1) := by decide +kernel
theorem dX0_sendAll_90 : decode cX0_sendAll 90 = .ok (.getfield 41, 3) := by decide +kernel
theorem dX0_sendAll_93 : decode cX0_sendAll 93 = .ok (.aload_n 0, 1) := by decide +kernel
theorem dX0_sendAll_94 : decode cX0_sendAll 94 = .ok (.getfield 55, 3) := by decide +kernel
theorem dX0_sendAll_97 : decode cX0_sendAll 97 = .ok (.iload_n 3, 1) := by decide +kernel
theorem dX0_sendAll_98 : decode cX0_sendAll 98 = .ok (.iastore, 1) := by decide +kernel
theorem dX0_sendAll_99 : decode cX0_sendAll 99 = .ok (.aload_n 0, 1) := by decide +kernel
theorem dX0_sendAll_100 : decode cX0_sendAll 100 = .ok (.dup, 1) := by decide +kernel
theorem dX0_sendAll_101 : decode cX0_sendAll 101 = .ok (.getfield 55, 3) := by decide +kernel
theorem dX0_sendAll_104 : decode cX0_sendAll 104 = .ok (.iconst 1, 1) := by decide +kernel
theorem dX0_sendAll_105 : decode cX0_sendAll 105 = .ok (.iadd, 1) := by decide +kernel
theorem dX0_sendAll_106 : decode cX0_sendAll 106 = .ok (.putfield 55, 3) := by decide +kernel
theorem dX0_sendAll_109 : decode cX0_sendAll 109 = .ok (.iload_n 3, 1) := by decide +kernel
theorem dX0_sendAll_110 : decode cX0_sendAll 110 = .ok (.ldc 62, 2) := by decide +kernel
theorem dX0_sendAll_112 : decode cX0_sendAll 112 = .ok (.if_icmp .ge 7, 3) := by decide +kernel
theorem dX0_sendAll_115 : decode cX0_sendAll 115 = .ok (.iconst 1, 1) := by decide +kernel
theorem dX0_sendAll_116 : decode cX0_sendAll 116 = .ok (.goto 4, 3) := by decide +kernel
theorem dX0_sendAll_119 : decode cX0_sendAll 119 = .ok (.iconst 0, 1) := by decide +kernel
theorem dX0_sendAll_120 : decode cX0_sendAll 120 = .ok (.istore_n 1, 1) := by decide +kernel
theorem dX0_sendAll_121 : decode cX0_sendAll 121 = .ok (.aload_n 0, 1) := by decide +kernel
theorem dX0_sendAll_122 : decode cX0_sendAll 122 = .ok (.iload_n 3, 1) := by decide +kernel
theorem dX0_sendAll_123 : decode cX0_sendAll 123 = .ok (.invokevirtual 70, 3) := by decide +kernel
theorem dX0_sendAll_126 : decode cX0_sendAll 126 = .ok (.iinc 2 1, 3) := by decide +kernel
theorem dX0_sendAll_129 : decode cX0_sendAll 129 = .ok (.goto (-86), 3) := by decide +kernel
theorem dX0_sendAll_132 : decode cX0_sendAll 132 = .ok (.return_, 1) := by decide +kernel
abbrev cX0_findLongest : ByteArray := prog_1_method_15_code
def yX0_findLongest : MethodName := ⟨RX0, "findLongest", "()V"⟩
theorem dX0_findLongest_0 : decode cX0_findLongest 0 = .ok (.iconst 0, 1) := by decide +kernel
theorem dX0_findLongest_1 : decode cX0_findLongest 1 = .ok (.istore_n 1, 1) := by decide +kernel
theorem dX0_findLongest_2 : decode cX0_findLongest 2 = .ok (.iload_n 1, 1) := by decide +kernel
theorem dX0_findLongest_3 : decode cX0_findLongest 3 = .ok (.bipush 6, 2) := by decide +kernel
theorem dX0_findLongest_5 : decode cX0_findLongest 5 = .ok (.if_icmp .ge 38, 3) := by decide +kernel
theorem dX0_findLongest_8 : decode cX0_findLongest 8 = .ok (.aload_n 0, 1) := by decide +kernel
theorem dX0_findLongest_9 : decode cX0_findLongest 9 = .ok (.getfield 31, 3) := by decide +kernel
theorem dX0_findLongest_12 : decode cX0_findLongest 12 = .ok (.iload_n 1, 1) := by decide +kernel
theorem dX0_findLongest_13 : decode cX0_findLongest 13 = .ok (.iload_n 1, 1) := by decide +kernel
theorem dX0_findLongest_14 : decode cX0_findLongest 14 = .ok (.ifCond .ne 7, 3) := by decide +kernel
theorem dX0_findLongest_17 : decode cX0_findLongest 17 = .ok (.iconst 1, 1) := by decide +kernel
theorem dX0_findLongest_18 : decode cX0_findLongest 18 = .ok (.goto 4, 3) := by decide +kernel
theorem dX0_findLongest_21 : decode cX0_findLongest 21 = .ok (.iconst 0, 1) := by decide +kernel
theorem dX0_findLongest_22 : decode cX0_findLongest 22 = .ok (.bastore, 1) := by decide +kernel
theorem dX0_findLongest_23 : decode cX0_findLongest 23 = .ok (.aload_n 0, 1) := by decide +kernel
theorem dX0_findLongest_24 : decode cX0_findLongest 24 = .ok (.getfield 28, 3) := by decide +kernel
theorem dX0_findLongest_27 : decode cX0_findLongest 27 = .ok (.iload_n 1, 1) := by decide +kernel
theorem dX0_findLongest_28 : decode cX0_findLongest 28 = .ok (.iconst 0, 1) := by decide +kernel
theorem dX0_findLongest_29 : decode cX0_findLongest 29 = .ok (.iastore, 1) := by decide +kernel
theorem dX0_findLongest_30 : decode cX0_findLongest 30 = .ok (.aload_n 0, 1) := by decide +kernel
theorem dX0_findLongest_31 : decode cX0_findLongest 31 = .ok (.getfield 35, 3) := by decide +kernel
theorem dX0_findLongest_34 : decode cX0_findLongest 34 = .ok (.iload_n 1, 1) := by decide +kernel
theorem dX0_findLongest_35 : decode cX0_findLongest 35 = .ok (.iconst (-1), 1) := by decide +kernel
theorem dX0_findLongest_36 : decode cX0_findLongest 36 = .ok (.iastore, 1) := by decide +kernel
theorem dX0_findLongest_37 : decode cX0_findLongest 37 = .ok (.iinc 1 1, 3) := by decide +kernel
theorem dX0_findLongest_40 : decode cX0_findLongest 40 = .ok (.goto (-38), 3) := by decide +kernel
theorem dX0_findLongest_43 : decode cX0_findLongest 43 = .ok (.iconst 1, 1) := by decide +kernel
theorem dX0_findLongest_44 : decode cX0_findLongest 44 = .ok (.istore_n 1, 1) := by decide +kernel
theorem dX0_findLongest_45 : decode cX0_findLongest 45 = .ok (.iconst 0, 1) := by decide +kernel
theorem dX0_findLongest_46 : decode cX0_findLongest 46 = .ok (.istore_n 2, 1) := by decide +kernel
theorem dX0_findLongest_47 : decode cX0_findLongest 47 = .ok (.iload_n 2, 1) := by decide +kernel
theorem dX0_findLongest_48 : decode cX0_findLongest 48 = .ok (.bipush 6, 2) := by decide +kernel
theorem dX0_findLongest_50 : decode cX0_findLongest 50 = .ok (.if_icmp .ge 71, 3) := by decide +kernel
theorem dX0_findLongest_53 : decode cX0_findLongest 53 = .ok (.iload_n 1, 1) := by decide +kernel
theorem dX0_findLongest_54 : decode cX0_findLongest 54 = .ok (.ifCond .eq 67, 3) := by decide +kernel
theorem dX0_findLongest_57 : decode cX0_findLongest 57 = .ok (.iconst 0, 1) := by decide +kernel
theorem dX0_findLongest_58 : decode cX0_findLongest 58 = .ok (.istore_n 1, 1) := by decide +kernel
theorem dX0_findLongest_59 : decode cX0_findLongest 59 = .ok (.iconst 0, 1) := by decide +kernel
theorem dX0_findLongest_60 : decode cX0_findLongest 60 = .ok (.istore_n 3, 1) := by decide +kernel
theorem dX0_findLongest_61 : decode cX0_findLongest 61 = .ok (.iload_n 3, 1) := by decide +kernel
theorem dX0_findLongest_62 : decode cX0_findLongest 62 = .ok (.iconst 2, 1) := by decide +kernel
theorem dX0_findLongest_63 : decode cX0_findLongest 63 = .ok (.aload_n 0, 1) := by decide +kernel
theorem dX0_findLongest_64 : decode cX0_findLongest 64 = .ok (.getfield 44, 3) := by decide +kernel
theorem dX0_findLongest_67 : decode cX0_findLongest 67 = .ok (.imul, 1) := by decide +kernel
theorem dX0_findLongest_68 : decode cX0_findLongest 68 = .ok (.if_icmp .ge 47, 3) := by decide +kernel
theorem dX0_findLongest_71 : decode cX0_findLongest 71 = .ok (.aload_n 0, 1) := by decide +kernel
theorem dX0_findLongest_72 : decode cX0_findLongest 72 = .ok (.iload_n 3, 1) := by decide +kernel
theorem dX0_findLongest_73 : decode cX0_findLongest 73 = .ok (.iconst 0, 1) := by decide +kernel
theorem dX0_findLongest_74 : decode cX0_findLongest 74 = .ok (.invokevirtual 74, 3) := by decide +kernel
theorem dX0_findLongest_77 : decode cX0_findLongest 77 = .ok (.ifCond .ne 7, 3) := by decide +kernel
theorem dX0_findLongest_80 : decode cX0_findLongest 80 = .ok (.iload_n 1, 1) := by decide +kernel
theorem dX0_findLongest_81 : decode cX0_findLongest 81 = .ok (.ifCond .eq 7, 3) := by decide +kernel
theorem dX0_findLongest_84 : decode cX0_findLongest 84 = .ok (.iconst 1, 1) := by decide +kernel
theorem dX0_findLongest_85 : decode cX0_findLongest 85 = .ok (.goto 4, 3) := by decide +kernel
theorem dX0_findLongest_88 : decode cX0_findLongest 88 = .ok (.iconst 0, 1) := by decide +kernel
theorem dX0_findLongest_89 : decode cX0_findLongest 89 = .ok (.istore_n 1, 1) := by decide +kernel
theorem dX0_findLongest_90 : decode cX0_findLongest 90 = .ok (.aload_n 0, 1) := by decide +kernel
theorem dX0_findLongest_91 : decode cX0_findLongest 91 = .ok (.iload_n 3, 1) := by decide +kernel
theorem dX0_findLongest_92 : decode cX0_findLongest 92 = .ok (.iconst 1, 1) := by decide +kernel
theorem dX0_findLongest_93 : decode cX0_findLongest 93 = .ok (.invokevirtual 74, 3) := by decide +kernel
theorem dX0_findLongest_96 : decode cX0_findLongest 96 = .ok (.ifCond .ne 7, 3) := by decide +kernel
theorem dX0_findLongest_99 : decode cX0_findLongest 99 = .ok (.iload_n 1, 1) := by decide +kernel
theorem dX0_findLongest_100 : decode cX0_findLongest 100 = .ok (.ifCond .eq 7, 3) := by decide +kernel
theorem dX0_findLongest_103 : decode cX0_findLongest 103 = .ok (.iconst 1, 1) := by decide +kernel
theorem dX0_findLongest_104 : decode cX0_findLongest 104 = .ok (.goto 4, 3) := by decide +kernel
theorem dX0_findLongest_107 : decode cX0_findLongest 107 = .ok (.iconst 0, 1) := by decide +kernel
theorem dX0_findLongest_108 : decode cX0_findLongest 108 = .ok (.istore_n 1, 1) := by decide +kernel
theorem dX0_findLongest_109 : decode cX0_findLongest 109 = .ok (.iinc 3 1, 3) := by decide +kernel
theorem dX0_findLongest_112 : decode cX0_findLongest 112 = .ok (.goto (-51), 3) := by decide +kernel
theorem dX0_findLongest_115 : decode cX0_findLongest 115 = .ok (.iinc 2 1, 3) := by decide +kernel
theorem dX0_findLongest_118 : decode cX0_findLongest 118 = .ok (.goto (-71), 3) := by decide +kernel
theorem dX0_findLongest_121 : decode cX0_findLongest 121 = .ok (.return_, 1) := by decide +kernel
abbrev cX0_stretch : ByteArray := prog_1_method_16_code
def yX0_stretch : MethodName := ⟨RX0, "stretch", "(IZ)Z"⟩
theorem dX0_stretch_0 : decode cX0_stretch 0 = .ok (.iload_n 2, 1) := by decide +kernel
theorem dX0_stretch_1 : decode cX0_stretch 1 = .ok (.ifCond .eq 14, 3) := by decide +kernel
theorem dX0_stretch_4 : decode cX0_stretch 4 = .ok (.aload_n 0, 1) := by decide +kernel
theorem dX0_stretch_5 : decode cX0_stretch 5 = .ok (.getfield 13, 3) := by decide +kernel
theorem dX0_stretch_8 : decode cX0_stretch 8 = .ok (.iload_n 1, 1) := by decide +kernel
theorem dX0_stretch_9 : decode cX0_stretch 9 = .ok (.iconst 2, 1) := by decide +kernel
theorem dX0_stretch_10 : decode cX0_stretch 10 = .ok (.idiv, 1) := by decide +kernel
theorem dX0_stretch_11 : decode cX0_stretch 11 = .ok (.iaload, 1) := by decide +kernel
theorem dX0_stretch_12 : decode cX0_stretch 12 = .ok (.goto 11, 3) := by decide +kernel
theorem dX0_stretch_15 : decode cX0_stretch 15 = .ok (.aload_n 0, 1) := by decide +kernel
theorem dX0_stretch_16 : decode cX0_stretch 16 = .ok (.getfield 7, 3) := by decide +kernel
theorem dX0_stretch_19 : decode cX0_stretch 19 = .ok (.iload_n 1, 1) := by decide +kernel
theorem dX0_stretch_20 : decode cX0_stretch 20 = .ok (.iconst 2, 1) := by decide +kernel
theorem dX0_stretch_21 : decode cX0_stretch 21 = .ok (.idiv, 1) := by decide +kernel
theorem dX0_stretch_22 : decode cX0_stretch 22 = .ok (.iaload, 1) := by decide +kernel
theorem dX0_stretch_23 : decode cX0_stretch 23 = .ok (.istore_n 3, 1) := by decide +kernel
theorem dX0_stretch_24 : decode cX0_stretch 24 = .ok (.iload_n 2, 1) := by decide +kernel
theorem dX0_stretch_25 : decode cX0_stretch 25 = .ok (.ifCond .eq 14, 3) := by decide +kernel
theorem dX0_stretch_28 : decode cX0_stretch 28 = .ok (.aload_n 0, 1) := by decide +kernel
theorem dX0_stretch_29 : decode cX0_stretch 29 = .ok (.getfield 7, 3) := by decide +kernel
theorem dX0_stretch_32 : decode cX0_stretch 32 = .ok (.iload_n 1, 1) := by decide +kernel
theorem dX0_stretch_33 : decode cX0_stretch 33 = .ok (.iconst 2, 1) := by decide +kernel
theorem dX0_stretch_34 : decode cX0_stretch 34 = .ok (.idiv, 1) := by decide +kernel
theorem dX0_stretch_35 : decode cX0_stretch 35 = .ok (.iaload, 1) := by decide +kernel
theorem dX0_stretch_36 : decode cX0_stretch 36 = .ok (.goto 11, 3) := by decide +kernel
theorem dX0_stretch_39 : decode cX0_stretch 39 = .ok (.aload_n 0, 1) := by decide +kernel
theorem dX0_stretch_40 : decode cX0_stretch 40 = .ok (.getfield 13, 3) := by decide +kernel
theorem dX0_stretch_43 : decode cX0_stretch 43 = .ok (.iload_n 1, 1) := by decide +kernel
theorem dX0_stretch_44 : decode cX0_stretch 44 = .ok (.iconst 2, 1) := by decide +kernel
theorem dX0_stretch_45 : decode cX0_stretch 45 = .ok (.idiv, 1) := by decide +kernel
theorem dX0_stretch_46 : decode cX0_stretch 46 = .ok (.iaload, 1) := by decide +kernel
theorem dX0_stretch_47 : decode cX0_stretch 47 = .ok (.istore 4, 2) := by decide +kernel
theorem dX0_stretch_49 : decode cX0_stretch 49 = .ok (.aload_n 0, 1) := by decide +kernel
theorem dX0_stretch_50 : decode cX0_stretch 50 = .ok (.getfield 28, 3) := by decide +kernel
theorem dX0_stretch_53 : decode cX0_stretch 53 = .ok (.iload_n 3, 1) := by decide +kernel
theorem dX0_stretch_54 : decode cX0_stretch 54 = .ok (.iaload, 1) := by decide +kernel
theorem dX0_stretch_55 : decode cX0_stretch 55 = .ok (.iload_n 2, 1) := by decide +kernel
theorem dX0_stretch_56 : decode cX0_stretch 56 = .ok (.ifCond .eq 12, 3) := by decide +kernel
theorem dX0_stretch_59 : decode cX0_stretch 59 = .ok (.aload_n 0, 1) := by decide +kernel
theorem dX0_stretch_60 : decode cX0_stretch 60 = .ok (.iload_n 1, 1) := by decide +kernel
theorem dX0_stretch_61 : decode cX0_stretch 61 = .ok (.invokevirtual 78, 3) := by decide +kernel
theorem dX0_stretch_64 : decode cX0_stretch 64 = .ok (.ineg, 1) := by decide +kernel
theorem dX0_stretch_65 : decode cX0_stretch 65 = .ok (.goto 8, 3) := by decide +kernel
theorem dX0_stretch_68 : decode cX0_stretch 68 = .ok (.aload_n 0, 1) := by decide +kernel
theorem dX0_stretch_69 : decode cX0_stretch 69 = .ok (.iload_n 1, 1) := by decide +kernel
theorem dX0_stretch_70 : decode cX0_stretch 70 = .ok (.invokevirtual 78, 3) := by decide +kernel
theorem dX0_stretch_73 : decode cX0_stretch 73 = .ok (.iadd, 1) := by decide +kernel
theorem dX0_stretch_74 : decode cX0_stretch 74 = .ok (.istore 5, 2) := by decide +kernel
theorem dX0_stretch_76 : decode cX0_stretch 76 = .ok (.aload_n 0, 1) := by decide +kernel
theorem dX0_stretch_77 : decode cX0_stretch 77 = .ok (.getfield 31, 3) := by decide +kernel
theorem dX0_stretch_80 : decode cX0_stretch 80 = .ok (.iload_n 3, 1) := by decide +kernel
theorem dX0_stretch_81 : decode cX0_stretch 81 = .ok (.baload, 1) := by decide +kernel
theorem dX0_stretch_82 : decode cX0_stretch 82 = .ok (.ifCond .eq 39, 3) := by decide +kernel
theorem dX0_stretch_85 : decode cX0_stretch 85 = .ok (.aload_n 0, 1) := by decide +kernel
theorem dX0_stretch_86 : decode cX0_stretch 86 = .ok (.iload_n 1, 1) := by decide +kernel
theorem dX0_stretch_87 : decode cX0_stretch 87 = .ok (.iload_n 2, 1) := by decide +kernel
theorem dX0_stretch_88 : decode cX0_stretch 88 = .ok (.invokevirtual 81, 3) := by decide +kernel
theorem dX0_stretch_91 : decode cX0_stretch 91 = .ok (.ifCond .eq 30, 3) := by decide +kernel
theorem dX0_stretch_94 : decode cX0_stretch 94 = .ok (.iload 4, 2) := by decide +kernel
theorem dX0_stretch_96 : decode cX0_stretch 96 = .ok (.ifCond .eq 25, 3) := by decide +kernel
theorem dX0_stretch_99 : decode cX0_stretch 99 = .ok (.aload_n 0, 1) := by decide +kernel
theorem dX0_stretch_100 : decode cX0_stretch 100 = .ok (.getfield 31, 3) := by decide +kernel
theorem dX0_stretch_103 : decode cX0_stretch 103 = .ok (.iload 4, 2) := by decide +kernel
theorem dX0_stretch_105 : decode cX0_stretch 105 = .ok (.baload, 1) := by decide +kernel
theorem dX0_stretch_106 : decode cX0_stretch 106 = .ok (.ifCond .eq 17, 3) := by decide +kernel
theorem dX0_stretch_109 : decode cX0_stretch 109 = .ok (.aload_n 0, 1) := by decide +kernel
theorem dX0_stretch_110 : decode cX0_stretch 110 = .ok (.getfield 28, 3) := by decide +kernel
theorem dX0_stretch_113 : decode cX0_stretch 113 = .ok (.iload 4, 2) := by decide +kernel
theorem dX0_stretch_115 : decode cX0_stretch 115 = .ok (.iaload, 1) := by decide +kernel
theorem dX0_stretch_116 : decode cX0_stretch 116 = .ok (.iload 5, 2) := by decide +kernel
theorem dX0_stretch_118 : decode cX0_stretch 118 = .ok (.if_icmp .lt 5, 3) := by decide +kernel
theorem dX0_stretch_121 : decode cX0_stretch 121 = .ok (.iconst 0, 1) := by decide +kernel
theorem dX0_stretch_122 : decode cX0_stretch 122 = .ok (.ireturn, 1) := by decide +kernel
theorem dX0_stretch_123 : decode cX0_stretch 123 = .ok (.aload_n 0, 1) := by decide +kernel
theorem dX0_stretch_124 : decode cX0_stretch 124 = .ok (.getfield 31, 3) := by decide +kernel
theorem dX0_stretch_127 : decode cX0_stretch 127 = .ok (.iload 4, 2) := by decide +kernel
theorem dX0_stretch_129 : decode cX0_stretch 129 = .ok (.iconst 1, 1) := by decide +kernel
theorem dX0_stretch_130 : decode cX0_stretch 130 = .ok (.bastore, 1) := by decide +kernel
theorem dX0_stretch_131 : decode cX0_stretch 131 = .ok (.aload_n 0, 1) := by decide +kernel
theorem dX0_stretch_132 : decode cX0_stretch 132 = .ok (.getfield 28, 3) := by decide +kernel
theorem dX0_stretch_135 : decode cX0_stretch 135 = .ok (.iload 4, 2) := by decide +kernel
theorem dX0_stretch_137 : decode cX0_stretch 137 = .ok (.iload 5, 2) := by decide +kernel
theorem dX0_stretch_139 : decode cX0_stretch 139 = .ok (.iastore, 1) := by decide +kernel
theorem dX0_stretch_140 : decode cX0_stretch 140 = .ok (.aload_n 0, 1) := by decide +kernel
theorem dX0_stretch_141 : decode cX0_stretch 141 = .ok (.getfield 35, 3) := by decide +kernel
theorem dX0_stretch_144 : decode cX0_stretch 144 = .ok (.iload 4, 2) := by decide +kernel
theorem dX0_stretch_146 : decode cX0_stretch 146 = .ok (.iload_n 2, 1) := by decide +kernel
theorem dX0_stretch_147 : decode cX0_stretch 147 = .ok (.ifCond .eq 10, 3) := by decide +kernel
theorem dX0_stretch_150 : decode cX0_stretch 150 = .ok (.iload_n 1, 1) := by decide +kernel
theorem dX0_stretch_151 : decode cX0_stretch 151 = .ok (.bipush 28, 2) := by decide +kernel
theorem dX0_stretch_153 : decode cX0_stretch 153 = .ok (.iadd, 1) := by decide +kernel
theorem dX0_stretch_154 : decode cX0_stretch 154 = .ok (.goto 4, 3) := by decide +kernel
theorem dX0_stretch_157 : decode cX0_stretch 157 = .ok (.iload_n 1, 1) := by decide +kernel
theorem dX0_stretch_158 : decode cX0_stretch 158 = .ok (.iastore, 1) := by decide +kernel
theorem dX0_stretch_159 : decode cX0_stretch 159 = .ok (.iconst 1, 1) := by decide +kernel
theorem dX0_stretch_160 : decode cX0_stretch 160 = .ok (.ireturn, 1) := by decide +kernel
end
section
set_option maxRecDepth 100000
abbrev cX0_lengthOf : ByteArray := prog_1_method_13_code
def yX0_lengthOf : MethodName := ⟨RX0, "lengthOf", "(I)I"⟩
theorem dX0_lengthOf_0 : decode cX0_lengthOf 0 = .ok (.iload_n 1, 1) := by decide +kernel
theorem dX0_lengthOf_1 : decode cX0_lengthOf 1 = .ok (.iconst 1, 1) := by decide +kernel
theorem dX0_lengthOf_2 : decode cX0_lengthOf 2 = .ok (.iand, 1) := by decide +kernel
theorem dX0_lengthOf_3 : decode cX0_lengthOf 3 = .ok (.ifCond .ne 14, 3) := by decide +kernel
theorem dX0_lengthOf_6 : decode cX0_lengthOf 6 = .ok (.aload_n 0, 1) := by decide +kernel
theorem dX0_lengthOf_7 : decode cX0_lengthOf 7 = .ok (.getfield 16, 3) := by decide +kernel
theorem dX0_lengthOf_10 : decode cX0_lengthOf 10 = .ok (.iload_n 1, 1) := by decide +kernel
theorem dX0_lengthOf_11 : decode cX0_lengthOf 11 = .ok (.iconst 2, 1) := by decide +kernel
theorem dX0_lengthOf_12 : decode cX0_lengthOf 12 = .ok (.idiv, 1) := by decide +kernel
theorem dX0_lengthOf_13 : decode cX0_lengthOf 13 = .ok (.iaload, 1) := by decide +kernel
theorem dX0_lengthOf_14 : decode cX0_lengthOf 14 = .ok (.goto 11, 3) := by decide +kernel
theorem dX0_lengthOf_17 : decode cX0_lengthOf 17 = .ok (.aload_n 0, 1) := by decide +kernel
theorem dX0_lengthOf_18 : decode cX0_lengthOf 18 = .ok (.getfield 19, 3) := by decide +kernel
theorem dX0_lengthOf_21 : decode cX0_lengthOf 21 = .ok (.iload_n 1, 1) := by decide +kernel
theorem dX0_lengthOf_22 : decode cX0_lengthOf 22 = .ok (.iconst 2, 1) := by decide +kernel
theorem dX0_lengthOf_23 : decode cX0_lengthOf 23 = .ok (.idiv, 1) := by decide +kernel
theorem dX0_lengthOf_24 : decode cX0_lengthOf 24 = .ok (.iaload, 1) := by decide +kernel
theorem dX0_lengthOf_25 : decode cX0_lengthOf 25 = .ok (.ireturn, 1) := by decide +kernel
abbrev cX0_roomOf : ByteArray := prog_1_method_14_code
def yX0_roomOf : MethodName := ⟨RX0, "roomOf", "(IZ)I"⟩
theorem dX0_roomOf_0 : decode cX0_roomOf 0 = .ok (.iload_n 2, 1) := by decide +kernel
theorem dX0_roomOf_1 : decode cX0_roomOf 1 = .ok (.ifCond .eq 10, 3) := by decide +kernel
theorem dX0_roomOf_4 : decode cX0_roomOf 4 = .ok (.aload_n 0, 1) := by decide +kernel
theorem dX0_roomOf_5 : decode cX0_roomOf 5 = .ok (.getfield 25, 3) := by decide +kernel
theorem dX0_roomOf_8 : decode cX0_roomOf 8 = .ok (.iload_n 1, 1) := by decide +kernel
theorem dX0_roomOf_9 : decode cX0_roomOf 9 = .ok (.iaload, 1) := by decide +kernel
theorem dX0_roomOf_10 : decode cX0_roomOf 10 = .ok (.ireturn, 1) := by decide +kernel
theorem dX0_roomOf_11 : decode cX0_roomOf 11 = .ok (.iload_n 1, 1) := by decide +kernel
theorem dX0_roomOf_12 : decode cX0_roomOf 12 = .ok (.iconst 1, 1) := by decide +kernel
theorem dX0_roomOf_13 : decode cX0_roomOf 13 = .ok (.iand, 1) := by decide +kernel
theorem dX0_roomOf_14 : decode cX0_roomOf 14 = .ok (.ifCond .ne 21, 3) := by decide +kernel
theorem dX0_roomOf_17 : decode cX0_roomOf 17 = .ok (.aload_n 0, 1) := by decide +kernel
theorem dX0_roomOf_18 : decode cX0_roomOf 18 = .ok (.getfield 22, 3) := by decide +kernel
theorem dX0_roomOf_21 : decode cX0_roomOf 21 = .ok (.iload_n 1, 1) := by decide +kernel
theorem dX0_roomOf_22 : decode cX0_roomOf 22 = .ok (.iconst 2, 1) := by decide +kernel
theorem dX0_roomOf_23 : decode cX0_roomOf 23 = .ok (.idiv, 1) := by decide +kernel
theorem dX0_roomOf_24 : decode cX0_roomOf 24 = .ok (.iaload, 1) := by decide +kernel
theorem dX0_roomOf_25 : decode cX0_roomOf 25 = .ok (.aload_n 0, 1) := by decide +kernel
theorem dX0_roomOf_26 : decode cX0_roomOf 26 = .ok (.getfield 25, 3) := by decide +kernel
theorem dX0_roomOf_29 : decode cX0_roomOf 29 = .ok (.iload_n 1, 1) := by decide +kernel
theorem dX0_roomOf_30 : decode cX0_roomOf 30 = .ok (.iaload, 1) := by decide +kernel
theorem dX0_roomOf_31 : decode cX0_roomOf 31 = .ok (.isub, 1) := by decide +kernel
theorem dX0_roomOf_32 : decode cX0_roomOf 32 = .ok (.goto 5, 3) := by decide +kernel
theorem dX0_roomOf_35 : decode cX0_roomOf 35 = .ok (.ldc 62, 2) := by decide +kernel
theorem dX0_roomOf_37 : decode cX0_roomOf 37 = .ok (.ireturn, 1) := by decide +kernel
abbrev cX0_widthOfWay : ByteArray := prog_1_method_17_code
def yX0_widthOfWay : MethodName := ⟨RX0, "widthOfWay", "()I"⟩
theorem dX0_widthOfWay_0 : decode cX0_widthOfWay 0 = .ok (.ldc 62, 2) := by decide +kernel
theorem dX0_widthOfWay_2 : decode cX0_widthOfWay 2 = .ok (.istore_n 1, 1) := by decide +kernel
theorem dX0_widthOfWay_3 : decode cX0_widthOfWay 3 = .ok (.iconst 5, 1) := by decide +kernel
theorem dX0_widthOfWay_4 : decode cX0_widthOfWay 4 = .ok (.istore_n 2, 1) := by decide +kernel
theorem dX0_widthOfWay_5 : decode cX0_widthOfWay 5 = .ok (.iconst 0, 1) := by decide +kernel
theorem dX0_widthOfWay_6 : decode cX0_widthOfWay 6 = .ok (.istore_n 3, 1) := by decide +kernel
theorem dX0_widthOfWay_7 : decode cX0_widthOfWay 7 = .ok (.iload_n 3, 1) := by decide +kernel
theorem dX0_widthOfWay_8 : decode cX0_widthOfWay 8 = .ok (.bipush 6, 2) := by decide +kernel
theorem dX0_widthOfWay_10 : decode cX0_widthOfWay 10 = .ok (.if_icmp .ge 106, 3) := by decide +kernel
theorem dX0_widthOfWay_13 : decode cX0_widthOfWay 13 = .ok (.iload_n 2, 1) := by decide +kernel
theorem dX0_widthOfWay_14 : decode cX0_widthOfWay 14 = .ok (.ifCond .eq 102, 3) := by decide +kernel
theorem dX0_widthOfWay_17 : decode cX0_widthOfWay 17 = .ok (.aload_n 0, 1) := by decide +kernel
theorem dX0_widthOfWay_18 : decode cX0_widthOfWay 18 = .ok (.getfield 35, 3) := by decide +kernel
theorem dX0_widthOfWay_21 : decode cX0_widthOfWay 21 = .ok (.iload_n 2, 1) := by decide +kernel
theorem dX0_widthOfWay_22 : decode cX0_widthOfWay 22 = .ok (.iaload, 1) := by decide +kernel
theorem dX0_widthOfWay_23 : decode cX0_widthOfWay 23 = .ok (.bipush 28, 2) := by decide +kernel
theorem dX0_widthOfWay_25 : decode cX0_widthOfWay 25 = .ok (.if_icmp .lt 7, 3) := by decide +kernel
theorem dX0_widthOfWay_28 : decode cX0_widthOfWay 28 = .ok (.iconst 1, 1) := by decide +kernel
theorem dX0_widthOfWay_29 : decode cX0_widthOfWay 29 = .ok (.goto 4, 3) := by decide +kernel
theorem dX0_widthOfWay_32 : decode cX0_widthOfWay 32 = .ok (.iconst 0, 1) := by decide +kernel
theorem dX0_widthOfWay_33 : decode cX0_widthOfWay 33 = .ok (.istore 4, 2) := by decide +kernel
theorem dX0_widthOfWay_35 : decode cX0_widthOfWay 35 = .ok (.iload 4, 2) := by decide +kernel
theorem dX0_widthOfWay_37 : decode cX0_widthOfWay 37 = .ok (.ifCond .eq 15, 3) := by decide +kernel
theorem dX0_widthOfWay_40 : decode cX0_widthOfWay 40 = .ok (.aload_n 0, 1) := by decide +kernel
theorem dX0_widthOfWay_41 : decode cX0_widthOfWay 41 = .ok (.getfield 35, 3) := by decide +kernel
theorem dX0_widthOfWay_44 : decode cX0_widthOfWay 44 = .ok (.iload_n 2, 1) := by decide +kernel
theorem dX0_widthOfWay_45 : decode cX0_widthOfWay 45 = .ok (.iaload, 1) := by decide +kernel
theorem dX0_widthOfWay_46 : decode cX0_widthOfWay 46 = .ok (.bipush 28, 2) := by decide +kernel
theorem dX0_widthOfWay_48 : decode cX0_widthOfWay 48 = .ok (.isub, 1) := by decide +kernel
theorem dX0_widthOfWay_49 : decode cX0_widthOfWay 49 = .ok (.goto 9, 3) := by decide +kernel
theorem dX0_widthOfWay_52 : decode cX0_widthOfWay 52 = .ok (.aload_n 0, 1) := by decide +kernel
theorem dX0_widthOfWay_53 : decode cX0_widthOfWay 53 = .ok (.getfield 35, 3) := by decide +kernel
theorem dX0_widthOfWay_56 : decode cX0_widthOfWay 56 = .ok (.iload_n 2, 1) := by decide +kernel
theorem dX0_widthOfWay_57 : decode cX0_widthOfWay 57 = .ok (.iaload, 1) := by decide +kernel
theorem dX0_widthOfWay_58 : decode cX0_widthOfWay 58 = .ok (.istore 5, 2) := by decide +kernel
theorem dX0_widthOfWay_60 : decode cX0_widthOfWay 60 = .ok (.aload_n 0, 1) := by decide +kernel
theorem dX0_widthOfWay_61 : decode cX0_widthOfWay 61 = .ok (.iload 5, 2) := by decide +kernel
theorem dX0_widthOfWay_63 : decode cX0_widthOfWay 63 = .ok (.iload 4, 2) := by decide +kernel
theorem dX0_widthOfWay_65 : decode cX0_widthOfWay 65 = .ok (.invokevirtual 81, 3) := by decide +kernel
theorem dX0_widthOfWay_68 : decode cX0_widthOfWay 68 = .ok (.istore 6, 2) := by decide +kernel
theorem dX0_widthOfWay_70 : decode cX0_widthOfWay 70 = .ok (.iload 6, 2) := by decide +kernel
theorem dX0_widthOfWay_72 : decode cX0_widthOfWay 72 = .ok (.iload_n 1, 1) := by decide +kernel
theorem dX0_widthOfWay_73 : decode cX0_widthOfWay 73 = .ok (.if_icmp .ge 8, 3) := by decide +kernel
theorem dX0_widthOfWay_76 : decode cX0_widthOfWay 76 = .ok (.iload 6, 2) := by decide +kernel
theorem dX0_widthOfWay_78 : decode cX0_widthOfWay 78 = .ok (.goto 4, 3) := by decide +kernel
theorem dX0_widthOfWay_81 : decode cX0_widthOfWay 81 = .ok (.iload_n 1, 1) := by decide +kernel
theorem dX0_widthOfWay_82 : decode cX0_widthOfWay 82 = .ok (.istore_n 1, 1) := by decide +kernel
theorem dX0_widthOfWay_83 : decode cX0_widthOfWay 83 = .ok (.iload 4, 2) := by decide +kernel
theorem dX0_widthOfWay_85 : decode cX0_widthOfWay 85 = .ok (.ifCond .eq 15, 3) := by decide +kernel
theorem dX0_widthOfWay_88 : decode cX0_widthOfWay 88 = .ok (.aload_n 0, 1) := by decide +kernel
theorem dX0_widthOfWay_89 : decode cX0_widthOfWay 89 = .ok (.getfield 13, 3) := by decide +kernel
theorem dX0_widthOfWay_92 : decode cX0_widthOfWay 92 = .ok (.iload 5, 2) := by decide +kernel
theorem dX0_widthOfWay_94 : decode cX0_widthOfWay 94 = .ok (.iconst 2, 1) := by decide +kernel
theorem dX0_widthOfWay_95 : decode cX0_widthOfWay 95 = .ok (.idiv, 1) := by decide +kernel
theorem dX0_widthOfWay_96 : decode cX0_widthOfWay 96 = .ok (.iaload, 1) := by decide +kernel
theorem dX0_widthOfWay_97 : decode cX0_widthOfWay 97 = .ok (.goto 12, 3) := by decide +kernel
theorem dX0_widthOfWay_100 : decode cX0_widthOfWay 100 = .ok (.aload_n 0, 1) := by decide +kernel
theorem dX0_widthOfWay_101 : decode cX0_widthOfWay 101 = .ok (.getfield 7, 3) := by decide +kernel
theorem dX0_widthOfWay_104 : decode cX0_widthOfWay 104 = .ok (.iload 5, 2) := by decide +kernel
theorem dX0_widthOfWay_106 : decode cX0_widthOfWay 106 = .ok (.iconst 2, 1) := by decide +kernel
theorem dX0_widthOfWay_107 : decode cX0_widthOfWay 107 = .ok (.idiv, 1) := by decide +kernel
theorem dX0_widthOfWay_108 : decode cX0_widthOfWay 108 = .ok (.iaload, 1) := by decide +kernel
theorem dX0_widthOfWay_109 : decode cX0_widthOfWay 109 = .ok (.istore_n 2, 1) := by decide +kernel
theorem dX0_widthOfWay_110 : decode cX0_widthOfWay 110 = .ok (.iinc 3 1, 3) := by decide +kernel
theorem dX0_widthOfWay_113 : decode cX0_widthOfWay 113 = .ok (.goto (-106), 3) := by decide +kernel
theorem dX0_widthOfWay_116 : decode cX0_widthOfWay 116 = .ok (.iload_n 1, 1) := by decide +kernel
theorem dX0_widthOfWay_117 : decode cX0_widthOfWay 117 = .ok (.ireturn, 1) := by decide +kernel
abbrev cX0_send : ByteArray := prog_1_method_18_code
def yX0_send : MethodName := ⟨RX0, "send", "(I)V"⟩
theorem dX0_send_0 : decode cX0_send 0 = .ok (.iconst 5, 1) := by decide +kernel
theorem dX0_send_1 : decode cX0_send 1 = .ok (.istore_n 2, 1) := by decide +kernel
theorem dX0_send_2 : decode cX0_send 2 = .ok (.iconst 0, 1) := by decide +kernel
theorem dX0_send_3 : decode cX0_send 3 = .ok (.istore_n 3, 1) := by decide +kernel
theorem dX0_send_4 : decode cX0_send 4 = .ok (.iload_n 3, 1) := by decide +kernel
theorem dX0_send_5 : decode cX0_send 5 = .ok (.bipush 6, 2) := by decide +kernel
theorem dX0_send_7 : decode cX0_send 7 = .ok (.if_icmp .ge 104, 3) := by decide +kernel
theorem dX0_send_10 : decode cX0_send 10 = .ok (.iload_n 2, 1) := by decide +kernel
theorem dX0_send_11 : decode cX0_send 11 = .ok (.ifCond .eq 100, 3) := by decide +kernel
theorem dX0_send_14 : decode cX0_send 14 = .ok (.aload_n 0, 1) := by decide +kernel
theorem dX0_send_15 : decode cX0_send 15 = .ok (.getfield 35, 3) := by decide +kernel
theorem dX0_send_18 : decode cX0_send 18 = .ok (.iload_n 2, 1) := by decide +kernel
theorem dX0_send_19 : decode cX0_send 19 = .ok (.iaload, 1) := by decide +kernel
theorem dX0_send_20 : decode cX0_send 20 = .ok (.bipush 28, 2) := by decide +kernel
theorem dX0_send_22 : decode cX0_send 22 = .ok (.if_icmp .lt 7, 3) := by decide +kernel
theorem dX0_send_25 : decode cX0_send 25 = .ok (.iconst 1, 1) := by decide +kernel
theorem dX0_send_26 : decode cX0_send 26 = .ok (.goto 4, 3) := by decide +kernel
theorem dX0_send_29 : decode cX0_send 29 = .ok (.iconst 0, 1) := by decide +kernel
theorem dX0_send_30 : decode cX0_send 30 = .ok (.istore 4, 2) := by decide +kernel
theorem dX0_send_32 : decode cX0_send 32 = .ok (.iload 4, 2) := by decide +kernel
theorem dX0_send_34 : decode cX0_send 34 = .ok (.ifCond .eq 15, 3) := by decide +kernel
theorem dX0_send_37 : decode cX0_send 37 = .ok (.aload_n 0, 1) := by decide +kernel
theorem dX0_send_38 : decode cX0_send 38 = .ok (.getfield 35, 3) := by decide +kernel
theorem dX0_send_41 : decode cX0_send 41 = .ok (.iload_n 2, 1) := by decide +kernel
theorem dX0_send_42 : decode cX0_send 42 = .ok (.iaload, 1) := by decide +kernel
theorem dX0_send_43 : decode cX0_send 43 = .ok (.bipush 28, 2) := by decide +kernel
theorem dX0_send_45 : decode cX0_send 45 = .ok (.isub, 1) := by decide +kernel
theorem dX0_send_46 : decode cX0_send 46 = .ok (.goto 9, 3) := by decide +kernel
theorem dX0_send_49 : decode cX0_send 49 = .ok (.aload_n 0, 1) := by decide +kernel
theorem dX0_send_50 : decode cX0_send 50 = .ok (.getfield 35, 3) := by decide +kernel
theorem dX0_send_53 : decode cX0_send 53 = .ok (.iload_n 2, 1) := by decide +kernel
theorem dX0_send_54 : decode cX0_send 54 = .ok (.iaload, 1) := by decide +kernel
theorem dX0_send_55 : decode cX0_send 55 = .ok (.istore 5, 2) := by decide +kernel
theorem dX0_send_57 : decode cX0_send 57 = .ok (.aload_n 0, 1) := by decide +kernel
theorem dX0_send_58 : decode cX0_send 58 = .ok (.getfield 25, 3) := by decide +kernel
theorem dX0_send_61 : decode cX0_send 61 = .ok (.iload 5, 2) := by decide +kernel
theorem dX0_send_63 : decode cX0_send 63 = .ok (.dup2, 1) := by decide +kernel
theorem dX0_send_64 : decode cX0_send 64 = .ok (.iaload, 1) := by decide +kernel
theorem dX0_send_65 : decode cX0_send 65 = .ok (.iload 4, 2) := by decide +kernel
theorem dX0_send_67 : decode cX0_send 67 = .ok (.ifCond .eq 8, 3) := by decide +kernel
theorem dX0_send_70 : decode cX0_send 70 = .ok (.iload_n 1, 1) := by decide +kernel
theorem dX0_send_71 : decode cX0_send 71 = .ok (.ineg, 1) := by decide +kernel
theorem dX0_send_72 : decode cX0_send 72 = .ok (.goto 4, 3) := by decide +kernel
theorem dX0_send_75 : decode cX0_send 75 = .ok (.iload_n 1, 1) := by decide +kernel
theorem dX0_send_76 : decode cX0_send 76 = .ok (.iadd, 1) := by decide +kernel
theorem dX0_send_77 : decode cX0_send 77 = .ok (.iastore, 1) := by decide +kernel
theorem dX0_send_78 : decode cX0_send 78 = .ok (.iload 4, 2) := by decide +kernel
theorem dX0_send_80 : decode cX0_send 80 = .ok (.ifCond .eq 15, 3) := by decide +kernel
theorem dX0_send_83 : decode cX0_send 83 = .ok (.aload_n 0, 1) := by decide +kernel
theorem dX0_send_84 : decode cX0_send 84 = .ok (.getfield 13, 3) := by decide +kernel
theorem dX0_send_87 : decode cX0_send 87 = .ok (.iload 5, 2) := by decide +kernel
theorem dX0_send_89 : decode cX0_send 89 = .ok (.iconst 2, 1) := by decide +kernel
theorem dX0_send_90 : decode cX0_send 90 = .ok (.idiv, 1) := by decide +kernel
theorem dX0_send_91 : decode cX0_send 91 = .ok (.iaload, 1) := by decide +kernel
theorem dX0_send_92 : decode cX0_send 92 = .ok (.goto 12, 3) := by decide +kernel
theorem dX0_send_95 : decode cX0_send 95 = .ok (.aload_n 0, 1) := by decide +kernel
theorem dX0_send_96 : decode cX0_send 96 = .ok (.getfield 7, 3) := by decide +kernel
theorem dX0_send_99 : decode cX0_send 99 = .ok (.iload 5, 2) := by decide +kernel
theorem dX0_send_101 : decode cX0_send 101 = .ok (.iconst 2, 1) := by decide +kernel
theorem dX0_send_102 : decode cX0_send 102 = .ok (.idiv, 1) := by decide +kernel
theorem dX0_send_103 : decode cX0_send 103 = .ok (.iaload, 1) := by decide +kernel
theorem dX0_send_104 : decode cX0_send 104 = .ok (.istore_n 2, 1) := by decide +kernel
theorem dX0_send_105 : decode cX0_send 105 = .ok (.iinc 3 1, 3) := by decide +kernel
theorem dX0_send_108 : decode cX0_send 108 = .ok (.goto (-104), 3) := by decide +kernel
theorem dX0_send_111 : decode cX0_send 111 = .ok (.return_, 1) := by decide +kernel
abbrev cX0_fastest : ByteArray := prog_1_method_6_code
def yX0_fastest : MethodName := ⟨RX0, "fastest", "()I"⟩
theorem dX0_fastest_0 : decode cX0_fastest 0 = .ok (.aload_n 0, 1) := by decide +kernel
theorem dX0_fastest_1 : decode cX0_fastest 1 = .ok (.invokevirtual 52, 3) := by decide +kernel
theorem dX0_fastest_4 : decode cX0_fastest 4 = .ok (.aload_n 0, 1) := by decide +kernel
theorem dX0_fastest_5 : decode cX0_fastest 5 = .ok (.getfield 55, 3) := by decide +kernel
theorem dX0_fastest_8 : decode cX0_fastest 8 = .ok (.ifCond .ne 7, 3) := by decide +kernel
theorem dX0_fastest_11 : decode cX0_fastest 11 = .ok (.iconst 0, 1) := by decide +kernel
theorem dX0_fastest_12 : decode cX0_fastest 12 = .ok (.goto 14, 3) := by decide +kernel
theorem dX0_fastest_15 : decode cX0_fastest 15 = .ok (.aload_n 0, 1) := by decide +kernel
theorem dX0_fastest_16 : decode cX0_fastest 16 = .ok (.getfield 38, 3) := by decide +kernel
theorem dX0_fastest_19 : decode cX0_fastest 19 = .ok (.aload_n 0, 1) := by decide +kernel
theorem dX0_fastest_20 : decode cX0_fastest 20 = .ok (.getfield 55, 3) := by decide +kernel
theorem dX0_fastest_23 : decode cX0_fastest 23 = .ok (.iconst 1, 1) := by decide +kernel
theorem dX0_fastest_24 : decode cX0_fastest 24 = .ok (.isub, 1) := by decide +kernel
theorem dX0_fastest_25 : decode cX0_fastest 25 = .ok (.iaload, 1) := by decide +kernel
theorem dX0_fastest_26 : decode cX0_fastest 26 = .ok (.ireturn, 1) := by decide +kernel
abbrev cX0_cost : ByteArray := prog_1_method_7_code
def yX0_cost : MethodName := ⟨RX0, "cost", "(I)I"⟩
theorem dX0_cost_0 : decode cX0_cost 0 = .ok (.iload_n 1, 1) := by decide +kernel
theorem dX0_cost_1 : decode cX0_cost 1 = .ok (.ifCond .ge 5, 3) := by decide +kernel
theorem dX0_cost_4 : decode cX0_cost 4 = .ok (.iconst (-1), 1) := by decide +kernel
theorem dX0_cost_5 : decode cX0_cost 5 = .ok (.ireturn, 1) := by decide +kernel
theorem dX0_cost_6 : decode cX0_cost 6 = .ok (.aload_n 0, 1) := by decide +kernel
theorem dX0_cost_7 : decode cX0_cost 7 = .ok (.invokevirtual 52, 3) := by decide +kernel
theorem dX0_cost_10 : decode cX0_cost 10 = .ok (.aload_n 0, 1) := by decide +kernel
theorem dX0_cost_11 : decode cX0_cost 11 = .ok (.iload_n 1, 1) := by decide +kernel
theorem dX0_cost_12 : decode cX0_cost 12 = .ok (.invokevirtual 58, 3) := by decide +kernel
theorem dX0_cost_15 : decode cX0_cost 15 = .ok (.ireturn, 1) := by decide +kernel
abbrev cX0_costFor : ByteArray := prog_1_method_11_code
def yX0_costFor : MethodName := ⟨RX0, "costFor", "(I)I"⟩
theorem dX0_costFor_0 : decode cX0_costFor 0 = .ok (.iconst 0, 1) := by decide +kernel
theorem dX0_costFor_1 : decode cX0_costFor 1 = .ok (.istore_n 2, 1) := by decide +kernel
theorem dX0_costFor_2 : decode cX0_costFor 2 = .ok (.iconst 0, 1) := by decide +kernel
theorem dX0_costFor_3 : decode cX0_costFor 3 = .ok (.istore_n 3, 1) := by decide +kernel
theorem dX0_costFor_4 : decode cX0_costFor 4 = .ok (.iload_n 3, 1) := by decide +kernel
theorem dX0_costFor_5 : decode cX0_costFor 5 = .ok (.aload_n 0, 1) := by decide +kernel
theorem dX0_costFor_6 : decode cX0_costFor 6 = .ok (.getfield 55, 3) := by decide +kernel
theorem dX0_costFor_9 : decode cX0_costFor 9 = .ok (.if_icmp .ge 50, 3) := by decide +kernel
theorem dX0_costFor_12 : decode cX0_costFor 12 = .ok (.aload_n 0, 1) := by decide +kernel
theorem dX0_costFor_13 : decode cX0_costFor 13 = .ok (.getfield 38, 3) := by decide +kernel
theorem dX0_costFor_16 : decode cX0_costFor 16 = .ok (.iload_n 3, 1) := by decide +kernel
theorem dX0_costFor_17 : decode cX0_costFor 17 = .ok (.iaload, 1) := by decide +kernel
theorem dX0_costFor_18 : decode cX0_costFor 18 = .ok (.iload_n 1, 1) := by decide +kernel
theorem dX0_costFor_19 : decode cX0_costFor 19 = .ok (.if_icmp .le 34, 3) := by decide +kernel
theorem dX0_costFor_22 : decode cX0_costFor 22 = .ok (.aload_n 0, 1) := by decide +kernel
theorem dX0_costFor_23 : decode cX0_costFor 23 = .ok (.getfield 41, 3) := by decide +kernel
theorem dX0_costFor_26 : decode cX0_costFor 26 = .ok (.iload_n 3, 1) := by decide +kernel
theorem dX0_costFor_27 : decode cX0_costFor 27 = .ok (.iaload, 1) := by decide +kernel
theorem dX0_costFor_28 : decode cX0_costFor 28 = .ok (.ldc 62, 2) := by decide +kernel
theorem dX0_costFor_30 : decode cX0_costFor 30 = .ok (.if_icmp .lt 5, 3) := by decide +kernel
theorem dX0_costFor_33 : decode cX0_costFor 33 = .ok (.iconst (-1), 1) := by decide +kernel
theorem dX0_costFor_34 : decode cX0_costFor 34 = .ok (.ireturn, 1) := by decide +kernel
theorem dX0_costFor_35 : decode cX0_costFor 35 = .ok (.iload_n 2, 1) := by decide +kernel
theorem dX0_costFor_36 : decode cX0_costFor 36 = .ok (.aload_n 0, 1) := by decide +kernel
theorem dX0_costFor_37 : decode cX0_costFor 37 = .ok (.getfield 41, 3) := by decide +kernel
theorem dX0_costFor_40 : decode cX0_costFor 40 = .ok (.iload_n 3, 1) := by decide +kernel
theorem dX0_costFor_41 : decode cX0_costFor 41 = .ok (.iaload, 1) := by decide +kernel
theorem dX0_costFor_42 : decode cX0_costFor 42 = .ok (.aload_n 0, 1) := by decide +kernel
theorem dX0_costFor_43 : decode cX0_costFor 43 = .ok (.getfield 38, 3) := by decide +kernel
theorem dX0_costFor_46 : decode cX0_costFor 46 = .ok (.iload_n 3, 1) := by decide +kernel
theorem dX0_costFor_47 : decode cX0_costFor 47 = .ok (.iaload, 1) := by decide +kernel
theorem dX0_costFor_48 : decode cX0_costFor 48 = .ok (.iload_n 1, 1) := by decide +kernel
theorem dX0_costFor_49 : decode cX0_costFor 49 = .ok (.isub, 1) := by decide +kernel
theorem dX0_costFor_50 : decode cX0_costFor 50 = .ok (.imul, 1) := by decide +kernel
theorem dX0_costFor_51 : decode cX0_costFor 51 = .ok (.iadd, 1) := by decide +kernel
theorem dX0_costFor_52 : decode cX0_costFor 52 = .ok (.istore_n 2, 1) := by decide +kernel
theorem dX0_costFor_53 : decode cX0_costFor 53 = .ok (.iinc 3 1, 3) := by decide +kernel
theorem dX0_costFor_56 : decode cX0_costFor 56 = .ok (.goto (-52), 3) := by decide +kernel
theorem dX0_costFor_59 : decode cX0_costFor 59 = .ok (.iload_n 2, 1) := by decide +kernel
theorem dX0_costFor_60 : decode cX0_costFor 60 = .ok (.ireturn, 1) := by decide +kernel
abbrev cX0_step : ByteArray := prog_1_method_8_code
def yX0_step : MethodName := ⟨RX0, "step", "(I)I"⟩
theorem dX0_step_0 : decode cX0_step 0 = .ok (.iload_n 1, 1) := by decide +kernel
theorem dX0_step_1 : decode cX0_step 1 = .ok (.ifCond .ge 5, 3) := by decide +kernel
theorem dX0_step_4 : decode cX0_step 4 = .ok (.iconst (-1), 1) := by decide +kernel
theorem dX0_step_5 : decode cX0_step 5 = .ok (.ireturn, 1) := by decide +kernel
theorem dX0_step_6 : decode cX0_step 6 = .ok (.aload_n 0, 1) := by decide +kernel
theorem dX0_step_7 : decode cX0_step 7 = .ok (.invokevirtual 52, 3) := by decide +kernel
theorem dX0_step_10 : decode cX0_step 10 = .ok (.aload_n 0, 1) := by decide +kernel
theorem dX0_step_11 : decode cX0_step 11 = .ok (.iload_n 1, 1) := by decide +kernel
theorem dX0_step_12 : decode cX0_step 12 = .ok (.invokevirtual 58, 3) := by decide +kernel
theorem dX0_step_15 : decode cX0_step 15 = .ok (.istore_n 2, 1) := by decide +kernel
theorem dX0_step_16 : decode cX0_step 16 = .ok (.iload_n 2, 1) := by decide +kernel
theorem dX0_step_17 : decode cX0_step 17 = .ok (.ifCond .ge 7, 3) := by decide +kernel
theorem dX0_step_20 : decode cX0_step 20 = .ok (.iconst (-1), 1) := by decide +kernel
theorem dX0_step_21 : decode cX0_step 21 = .ok (.goto 23, 3) := by decide +kernel
theorem dX0_step_24 : decode cX0_step 24 = .ok (.iload_n 1, 1) := by decide +kernel
theorem dX0_step_25 : decode cX0_step 25 = .ok (.sipush 1000, 3) := by decide +kernel
theorem dX0_step_28 : decode cX0_step 28 = .ok (.if_icmp .le 7, 3) := by decide +kernel
theorem dX0_step_31 : decode cX0_step 31 = .ok (.iconst 0, 1) := by decide +kernel
theorem dX0_step_32 : decode cX0_step 32 = .ok (.goto 12, 3) := by decide +kernel
theorem dX0_step_35 : decode cX0_step 35 = .ok (.iload_n 2, 1) := by decide +kernel
theorem dX0_step_36 : decode cX0_step 36 = .ok (.aload_n 0, 1) := by decide +kernel
theorem dX0_step_37 : decode cX0_step 37 = .ok (.iload_n 1, 1) := by decide +kernel
theorem dX0_step_38 : decode cX0_step 38 = .ok (.iconst 1, 1) := by decide +kernel
theorem dX0_step_39 : decode cX0_step 39 = .ok (.iadd, 1) := by decide +kernel
theorem dX0_step_40 : decode cX0_step 40 = .ok (.invokevirtual 58, 3) := by decide +kernel
theorem dX0_step_43 : decode cX0_step 43 = .ok (.isub, 1) := by decide +kernel
theorem dX0_step_44 : decode cX0_step 44 = .ok (.ireturn, 1) := by decide +kernel
abbrev cX0_within : ByteArray := prog_1_method_9_code
def yX0_within : MethodName := ⟨RX0, "within", "(I)I"⟩
theorem dX0_within_0 : decode cX0_within 0 = .ok (.iload_n 1, 1) := by decide +kernel
theorem dX0_within_1 : decode cX0_within 1 = .ok (.ifCond .ge 5, 3) := by decide +kernel
theorem dX0_within_4 : decode cX0_within 4 = .ok (.iconst (-1), 1) := by decide +kernel
theorem dX0_within_5 : decode cX0_within 5 = .ok (.ireturn, 1) := by decide +kernel
theorem dX0_within_6 : decode cX0_within 6 = .ok (.aload_n 0, 1) := by decide +kernel
theorem dX0_within_7 : decode cX0_within 7 = .ok (.invokevirtual 52, 3) := by decide +kernel
theorem dX0_within_10 : decode cX0_within 10 = .ok (.iconst 0, 1) := by decide +kernel
theorem dX0_within_11 : decode cX0_within 11 = .ok (.istore_n 2, 1) := by decide +kernel
theorem dX0_within_12 : decode cX0_within 12 = .ok (.iload_n 2, 1) := by decide +kernel
theorem dX0_within_13 : decode cX0_within 13 = .ok (.bipush 45, 2) := by decide +kernel
theorem dX0_within_15 : decode cX0_within 15 = .ok (.if_icmp .gt 26, 3) := by decide +kernel
theorem dX0_within_18 : decode cX0_within 18 = .ok (.aload_n 0, 1) := by decide +kernel
theorem dX0_within_19 : decode cX0_within 19 = .ok (.iload_n 2, 1) := by decide +kernel
theorem dX0_within_20 : decode cX0_within 20 = .ok (.invokevirtual 58, 3) := by decide +kernel
theorem dX0_within_23 : decode cX0_within 23 = .ok (.istore_n 3, 1) := by decide +kernel
theorem dX0_within_24 : decode cX0_within 24 = .ok (.iload_n 3, 1) := by decide +kernel
theorem dX0_within_25 : decode cX0_within 25 = .ok (.ifCond .lt 10, 3) := by decide +kernel
theorem dX0_within_28 : decode cX0_within 28 = .ok (.iload_n 3, 1) := by decide +kernel
theorem dX0_within_29 : decode cX0_within 29 = .ok (.iload_n 1, 1) := by decide +kernel
theorem dX0_within_30 : decode cX0_within 30 = .ok (.if_icmp .gt 5, 3) := by decide +kernel
theorem dX0_within_33 : decode cX0_within 33 = .ok (.iload_n 2, 1) := by decide +kernel
theorem dX0_within_34 : decode cX0_within 34 = .ok (.ireturn, 1) := by decide +kernel
theorem dX0_within_35 : decode cX0_within 35 = .ok (.iinc 2 1, 3) := by decide +kernel
theorem dX0_within_38 : decode cX0_within 38 = .ok (.goto (-26), 3) := by decide +kernel
theorem dX0_within_41 : decode cX0_within 41 = .ok (.iconst (-1), 1) := by decide +kernel
theorem dX0_within_42 : decode cX0_within 42 = .ok (.ireturn, 1) := by decide +kernel
abbrev cX0_total : ByteArray := prog_1_method_10_code
def yX0_total : MethodName := ⟨RX0, "total", "(I)I"⟩
theorem dX0_total_0 : decode cX0_total 0 = .ok (.iload_n 1, 1) := by decide +kernel
theorem dX0_total_1 : decode cX0_total 1 = .ok (.ifCond .lt 10, 3) := by decide +kernel
theorem dX0_total_4 : decode cX0_total 4 = .ok (.iload_n 1, 1) := by decide +kernel
theorem dX0_total_5 : decode cX0_total 5 = .ok (.sipush 200, 3) := by decide +kernel
theorem dX0_total_8 : decode cX0_total 8 = .ok (.if_icmp .le 5, 3) := by decide +kernel
theorem dX0_total_11 : decode cX0_total 11 = .ok (.iconst (-1), 1) := by decide +kernel
theorem dX0_total_12 : decode cX0_total 12 = .ok (.ireturn, 1) := by decide +kernel
theorem dX0_total_13 : decode cX0_total 13 = .ok (.aload_n 0, 1) := by decide +kernel
theorem dX0_total_14 : decode cX0_total 14 = .ok (.invokevirtual 52, 3) := by decide +kernel
theorem dX0_total_17 : decode cX0_total 17 = .ok (.iconst (-1), 1) := by decide +kernel
theorem dX0_total_18 : decode cX0_total 18 = .ok (.istore_n 2, 1) := by decide +kernel
theorem dX0_total_19 : decode cX0_total 19 = .ok (.iconst 0, 1) := by decide +kernel
theorem dX0_total_20 : decode cX0_total 20 = .ok (.istore_n 3, 1) := by decide +kernel
theorem dX0_total_21 : decode cX0_total 21 = .ok (.iload_n 3, 1) := by decide +kernel
theorem dX0_total_22 : decode cX0_total 22 = .ok (.bipush 45, 2) := by decide +kernel
theorem dX0_total_24 : decode cX0_total 24 = .ok (.if_icmp .gt 42, 3) := by decide +kernel
theorem dX0_total_27 : decode cX0_total 27 = .ok (.aload_n 0, 1) := by decide +kernel
theorem dX0_total_28 : decode cX0_total 28 = .ok (.iload_n 3, 1) := by decide +kernel
theorem dX0_total_29 : decode cX0_total 29 = .ok (.invokevirtual 58, 3) := by decide +kernel
theorem dX0_total_32 : decode cX0_total 32 = .ok (.istore 4, 2) := by decide +kernel
theorem dX0_total_34 : decode cX0_total 34 = .ok (.iload 4, 2) := by decide +kernel
theorem dX0_total_36 : decode cX0_total 36 = .ok (.ifCond .lt 24, 3) := by decide +kernel
theorem dX0_total_39 : decode cX0_total 39 = .ok (.iload_n 2, 1) := by decide +kernel
theorem dX0_total_40 : decode cX0_total 40 = .ok (.ifCond .lt 13, 3) := by decide +kernel
theorem dX0_total_43 : decode cX0_total 43 = .ok (.iload 4, 2) := by decide +kernel
theorem dX0_total_45 : decode cX0_total 45 = .ok (.iload_n 1, 1) := by decide +kernel
theorem dX0_total_46 : decode cX0_total 46 = .ok (.iload_n 3, 1) := by decide +kernel
theorem dX0_total_47 : decode cX0_total 47 = .ok (.imul, 1) := by decide +kernel
theorem dX0_total_48 : decode cX0_total 48 = .ok (.iadd, 1) := by decide +kernel
theorem dX0_total_49 : decode cX0_total 49 = .ok (.iload_n 2, 1) := by decide +kernel
theorem dX0_total_50 : decode cX0_total 50 = .ok (.if_icmp .ge 10, 3) := by decide +kernel
theorem dX0_total_53 : decode cX0_total 53 = .ok (.iload 4, 2) := by decide +kernel
theorem dX0_total_55 : decode cX0_total 55 = .ok (.iload_n 1, 1) := by decide +kernel
theorem dX0_total_56 : decode cX0_total 56 = .ok (.iload_n 3, 1) := by decide +kernel
theorem dX0_total_57 : decode cX0_total 57 = .ok (.imul, 1) := by decide +kernel
theorem dX0_total_58 : decode cX0_total 58 = .ok (.iadd, 1) := by decide +kernel
theorem dX0_total_59 : decode cX0_total 59 = .ok (.istore_n 2, 1) := by decide +kernel
theorem dX0_total_60 : decode cX0_total 60 = .ok (.iinc 3 1, 3) := by decide +kernel
theorem dX0_total_63 : decode cX0_total 63 = .ok (.goto (-42), 3) := by decide +kernel
theorem dX0_total_66 : decode cX0_total 66 = .ok (.iload_n 2, 1) := by decide +kernel
theorem dX0_total_67 : decode cX0_total 67 = .ok (.ireturn, 1) := by decide +kernel
end
section
set_option maxRecDepth 100000
theorem q13 : (Jvm.Cond.initialized "CrashPlanner") ∈ lw_all := lw_g (lw_at lw_m0 1 rfl) rfl
theorem q16 : (Jvm.Cond.instantiable "CrashPlanner" (14 : Nat)) ∈ lw_all := lw_g (lw_at lw_m0 4 rfl) rfl
theorem q18 : (Jvm.Cond.instanceMethod ({ cls := "CrashPlanner", name := "<init>", desc := "()V" } : Jvm.MethodName)) ∈ lw_all := lw_g (lw_at lw_m0 6 rfl) rfl
theorem q19 : (Jvm.Cond.code ({ cls := "CrashPlanner", name := "<init>", desc := "()V" } : Jvm.MethodName) prog_1_method_1_code (1 : Nat) (Option.none : Option Jvm.ClassFile.FieldType)) ∈ lw_all := lw_g (lw_at lw_m0 7 rfl) rfl
theorem q20 : (Jvm.Cond.methodLink "CrashPlanner" (1 : Nat) ({ cls := "java/lang/Object", name := "<init>", desc := "()V" } : Jvm.MethodName)) ∈ lw_all := lw_g (lw_at lw_m0 8 rfl) rfl
theorem q23 : (Jvm.Cond.fieldLink "CrashPlanner" (44 : Nat) "CrashPlanner" "jobs" "I") ∈ lw_all := lw_g (lw_at lw_m0 11 rfl) rfl
theorem q24 : (Jvm.Cond.fieldLink "CrashPlanner" (7 : Nat) "CrashPlanner" "from" "[I") ∈ lw_all := lw_g (lw_at lw_m0 12 rfl) rfl
theorem q25 : (Jvm.Cond.fieldLink "CrashPlanner" (13 : Nat) "CrashPlanner" "to" "[I") ∈ lw_all := lw_g (lw_at lw_m0 13 rfl) rfl
theorem q26 : (Jvm.Cond.fieldLink "CrashPlanner" (16 : Nat) "CrashPlanner" "slow" "[I") ∈ lw_all := lw_g (lw_at lw_m0 14 rfl) rfl
theorem q27 : (Jvm.Cond.fieldLink "CrashPlanner" (19 : Nat) "CrashPlanner" "fast" "[I") ∈ lw_all := lw_g (lw_at lw_m0 15 rfl) rfl
theorem q28 : (Jvm.Cond.fieldLink "CrashPlanner" (22 : Nat) "CrashPlanner" "price" "[I") ∈ lw_all := lw_g (lw_at lw_m0 16 rfl) rfl
theorem q29 : (Jvm.Cond.fieldLink "CrashPlanner" (25 : Nat) "CrashPlanner" "flow" "[I") ∈ lw_all := lw_g (lw_at lw_m0 17 rfl) rfl
theorem q30 : (Jvm.Cond.fieldLink "CrashPlanner" (28 : Nat) "CrashPlanner" "longest" "[I") ∈ lw_all := lw_g (lw_at lw_m0 18 rfl) rfl
theorem q31 : (Jvm.Cond.fieldLink "CrashPlanner" (31 : Nat) "CrashPlanner" "reached" "[Z") ∈ lw_all := lw_g (lw_at lw_m0 19 rfl) rfl
theorem q32 : (Jvm.Cond.fieldLink "CrashPlanner" (35 : Nat) "CrashPlanner" "lastLine" "[I") ∈ lw_all := lw_g (lw_at lw_m0 20 rfl) rfl
theorem q33 : (Jvm.Cond.fieldLink "CrashPlanner" (48 : Nat) "CrashPlanner" "known" "Z") ∈ lw_all := lw_g (lw_at lw_m0 21 rfl) rfl
theorem q34 : (Jvm.Cond.fieldLink "CrashPlanner" (55 : Nat) "CrashPlanner" "ways" "I") ∈ lw_all := lw_g (lw_at lw_m0 22 rfl) rfl
theorem q35 : (Jvm.Cond.fieldLink "CrashPlanner" (38 : Nat) "CrashPlanner" "wayLength" "[I") ∈ lw_all := lw_g (lw_at lw_m0 23 rfl) rfl
theorem q36 : (Jvm.Cond.fieldLink "CrashPlanner" (41 : Nat) "CrashPlanner" "wayAmount" "[I") ∈ lw_all := lw_g (lw_at lw_m0 24 rfl) rfl
theorem q37 : (Jvm.Cond.lays "CrashPlanner" "CrashPlanner" "jobs" "I") ∈ lw_all := lw_g (lw_at lw_m0 25 rfl) rfl
theorem q38 : (Jvm.Cond.soleField "CrashPlanner" "jobs") ∈ lw_all := lw_g (lw_at lw_m0 26 rfl) rfl
theorem q39 : (Jvm.Cond.laysFinal "CrashPlanner" "CrashPlanner" "from" "[I") ∈ lw_all := lw_g (lw_at lw_m0 27 rfl) rfl
theorem q40 : (Jvm.Cond.soleField "CrashPlanner" "from") ∈ lw_all := lw_g (lw_at lw_m0 28 rfl) rfl
theorem q41 : (Jvm.Cond.laysFinal "CrashPlanner" "CrashPlanner" "to" "[I") ∈ lw_all := lw_g (lw_at lw_m0 29 rfl) rfl
theorem q42 : (Jvm.Cond.soleField "CrashPlanner" "to") ∈ lw_all := lw_g (lw_at lw_m0 30 rfl) rfl
theorem q43 : (Jvm.Cond.laysFinal "CrashPlanner" "CrashPlanner" "slow" "[I") ∈ lw_all := lw_g (lw_at lw_m0 31 rfl) rfl
theorem q44 : (Jvm.Cond.soleField "CrashPlanner" "slow") ∈ lw_all := lw_g (lw_at lw_m0 32 rfl) rfl
theorem q45 : (Jvm.Cond.laysFinal "CrashPlanner" "CrashPlanner" "fast" "[I") ∈ lw_all := lw_g (lw_at lw_m0 33 rfl) rfl
theorem q46 : (Jvm.Cond.soleField "CrashPlanner" "fast") ∈ lw_all := lw_g (lw_at lw_m0 34 rfl) rfl
theorem q47 : (Jvm.Cond.laysFinal "CrashPlanner" "CrashPlanner" "price" "[I") ∈ lw_all := lw_g (lw_at lw_m0 35 rfl) rfl
theorem q48 : (Jvm.Cond.soleField "CrashPlanner" "price") ∈ lw_all := lw_g (lw_at lw_m0 36 rfl) rfl
theorem q49 : (Jvm.Cond.laysFinal "CrashPlanner" "CrashPlanner" "flow" "[I") ∈ lw_all := lw_g (lw_at lw_m0 37 rfl) rfl
theorem q50 : (Jvm.Cond.soleField "CrashPlanner" "flow") ∈ lw_all := lw_g (lw_at lw_m0 38 rfl) rfl
theorem q51 : (Jvm.Cond.laysFinal "CrashPlanner" "CrashPlanner" "longest" "[I") ∈ lw_all := lw_g (lw_at lw_m0 39 rfl) rfl
theorem q52 : (Jvm.Cond.soleField "CrashPlanner" "longest") ∈ lw_all := lw_g (lw_at lw_m0 40 rfl) rfl
theorem q53 : (Jvm.Cond.laysFinal "CrashPlanner" "CrashPlanner" "reached" "[Z") ∈ lw_all := lw_g (lw_at lw_m0 41 rfl) rfl
theorem q54 : (Jvm.Cond.soleField "CrashPlanner" "reached") ∈ lw_all := lw_g (lw_at lw_m0 42 rfl) rfl
theorem q55 : (Jvm.Cond.laysFinal "CrashPlanner" "CrashPlanner" "lastLine" "[I") ∈ lw_all := lw_g (lw_at lw_m0 43 rfl) rfl
theorem q56 : (Jvm.Cond.soleField "CrashPlanner" "lastLine") ∈ lw_all := lw_g (lw_at lw_m0 44 rfl) rfl
theorem q57 : (Jvm.Cond.lays "CrashPlanner" "CrashPlanner" "known" "Z") ∈ lw_all := lw_g (lw_at lw_m0 45 rfl) rfl
theorem q58 : (Jvm.Cond.soleField "CrashPlanner" "known") ∈ lw_all := lw_g (lw_at lw_m0 46 rfl) rfl
theorem q59 : (Jvm.Cond.lays "CrashPlanner" "CrashPlanner" "ways" "I") ∈ lw_all := lw_g (lw_at lw_m0 47 rfl) rfl
theorem q60 : (Jvm.Cond.soleField "CrashPlanner" "ways") ∈ lw_all := lw_g (lw_at lw_m0 48 rfl) rfl
theorem q61 : (Jvm.Cond.laysFinal "CrashPlanner" "CrashPlanner" "wayLength" "[I") ∈ lw_all := lw_g (lw_at lw_m0 49 rfl) rfl
theorem q62 : (Jvm.Cond.soleField "CrashPlanner" "wayLength") ∈ lw_all := lw_g (lw_at lw_m0 50 rfl) rfl
theorem q63 : (Jvm.Cond.laysFinal "CrashPlanner" "CrashPlanner" "wayAmount" "[I") ∈ lw_all := lw_g (lw_at lw_m0 51 rfl) rfl
theorem q64 : (Jvm.Cond.soleField "CrashPlanner" "wayAmount") ∈ lw_all := lw_g (lw_at lw_m0 52 rfl) rfl
theorem q65 : (Jvm.Cond.superclass "CrashPlanner" "java/lang/Object") ∈ lw_all := lw_g (lw_at lw_m0 53 rfl) rfl
theorem q69 : (Jvm.Cond.instanceMethod ({ cls := "CrashPlanner", name := "add", desc := "(IIIII)I" } : Jvm.MethodName)) ∈ lw_all := lw_g (lw_at lw_m0 57 rfl) rfl
theorem q70 : (Jvm.Cond.selects "CrashPlanner" ({ cls := "CrashPlanner", name := "add", desc := "(IIIII)I" } : Jvm.MethodName) ({ cls := "CrashPlanner", name := "add", desc := "(IIIII)I" } : Jvm.MethodName)) ∈ lw_all := lw_g (lw_at lw_m0 58 rfl) rfl
theorem q71 : (Jvm.Cond.code ({ cls := "CrashPlanner", name := "add", desc := "(IIIII)I" } : Jvm.MethodName) prog_1_method_2_code (8 : Nat) (Option.some Jvm.ClassFile.FieldType.int)) ∈ lw_all := lw_g (lw_at lw_m0 59 rfl) rfl
theorem q73 : (Jvm.Cond.instanceMethod ({ cls := "CrashPlanner", name := "drop", desc := "(I)I" } : Jvm.MethodName)) ∈ lw_all := lw_g (lw_at lw_m0 61 rfl) rfl
theorem q74 : (Jvm.Cond.selects "CrashPlanner" ({ cls := "CrashPlanner", name := "drop", desc := "(I)I" } : Jvm.MethodName) ({ cls := "CrashPlanner", name := "drop", desc := "(I)I" } : Jvm.MethodName)) ∈ lw_all := lw_g (lw_at lw_m0 62 rfl) rfl
theorem q75 : (Jvm.Cond.code ({ cls := "CrashPlanner", name := "drop", desc := "(I)I" } : Jvm.MethodName) prog_1_method_3_code (3 : Nat) (Option.some Jvm.ClassFile.FieldType.int)) ∈ lw_all := lw_g (lw_at lw_m0 63 rfl) rfl
theorem q77 : (Jvm.Cond.instanceMethod ({ cls := "CrashPlanner", name := "price", desc := "(II)I" } : Jvm.MethodName)) ∈ lw_all := lw_g (lw_at lw_m0 65 rfl) rfl
theorem q78 : (Jvm.Cond.selects "CrashPlanner" ({ cls := "CrashPlanner", name := "price", desc := "(II)I" } : Jvm.MethodName) ({ cls := "CrashPlanner", name := "price", desc := "(II)I" } : Jvm.MethodName)) ∈ lw_all := lw_g (lw_at lw_m0 66 rfl) rfl
theorem q79 : (Jvm.Cond.code ({ cls := "CrashPlanner", name := "price", desc := "(II)I" } : Jvm.MethodName) prog_1_method_4_code (4 : Nat) (Option.some Jvm.ClassFile.FieldType.int)) ∈ lw_all := lw_g (lw_at lw_m0 67 rfl) rfl
theorem q81 : (Jvm.Cond.instanceMethod ({ cls := "CrashPlanner", name := "slowest", desc := "()I" } : Jvm.MethodName)) ∈ lw_all := lw_g (lw_at lw_m0 69 rfl) rfl
theorem q82 : (Jvm.Cond.selects "CrashPlanner" ({ cls := "CrashPlanner", name := "slowest", desc := "()I" } : Jvm.MethodName) ({ cls := "CrashPlanner", name := "slowest", desc := "()I" } : Jvm.MethodName)) ∈ lw_all := lw_g (lw_at lw_m0 70 rfl) rfl
theorem q83 : (Jvm.Cond.code ({ cls := "CrashPlanner", name := "slowest", desc := "()I" } : Jvm.MethodName) prog_1_method_5_code (1 : Nat) (Option.some Jvm.ClassFile.FieldType.int)) ∈ lw_all := lw_g (lw_at lw_m0 71 rfl) rfl
theorem q84 : (Jvm.Cond.methodLink "CrashPlanner" (52 : Nat) ({ cls := "CrashPlanner", name := "sendAll", desc := "()V" } : Jvm.MethodName)) ∈ lw_all := lw_g (lw_at lw_m0 72 rfl) rfl
theorem q85 : (Jvm.Cond.privateMethod ({ cls := "CrashPlanner", name := "sendAll", desc := "()V" } : Jvm.MethodName)) ∈ lw_tbl := lw_at lw_m0 73 rfl
theorem q86 : (Jvm.Cond.instanceMethod ({ cls := "CrashPlanner", name := "sendAll", desc := "()V" } : Jvm.MethodName)) ∈ lw_all := lw_g (lw_at lw_m0 74 rfl) rfl
theorem q87 : (Jvm.Cond.code ({ cls := "CrashPlanner", name := "sendAll", desc := "()V" } : Jvm.MethodName) prog_1_method_12_code (4 : Nat) (Option.none : Option Jvm.ClassFile.FieldType)) ∈ lw_all := lw_g (lw_at lw_m0 75 rfl) rfl
theorem q88 : (Jvm.Cond.methodLink "CrashPlanner" (63 : Nat) ({ cls := "CrashPlanner", name := "findLongest", desc := "()V" } : Jvm.MethodName)) ∈ lw_all := lw_g (lw_at lw_m0 76 rfl) rfl
theorem q89 : (Jvm.Cond.privateMethod ({ cls := "CrashPlanner", name := "findLongest", desc := "()V" } : Jvm.MethodName)) ∈ lw_tbl := lw_at lw_m0 77 rfl
theorem q90 : (Jvm.Cond.instanceMethod ({ cls := "CrashPlanner", name := "findLongest", desc := "()V" } : Jvm.MethodName)) ∈ lw_all := lw_g (lw_at lw_m0 78 rfl) rfl
theorem q91 : (Jvm.Cond.code ({ cls := "CrashPlanner", name := "findLongest", desc := "()V" } : Jvm.MethodName) prog_1_method_15_code (4 : Nat) (Option.none : Option Jvm.ClassFile.FieldType)) ∈ lw_all := lw_g (lw_at lw_m0 79 rfl) rfl
theorem q92 : (Jvm.Cond.methodLink "CrashPlanner" (74 : Nat) ({ cls := "CrashPlanner", name := "stretch", desc := "(IZ)Z" } : Jvm.MethodName)) ∈ lw_all := lw_g (lw_at lw_m0 80 rfl) rfl
theorem q93 : (Jvm.Cond.privateMethod ({ cls := "CrashPlanner", name := "stretch", desc := "(IZ)Z" } : Jvm.MethodName)) ∈ lw_tbl := lw_at lw_m0 81 rfl
theorem q94 : (Jvm.Cond.instanceMethod ({ cls := "CrashPlanner", name := "stretch", desc := "(IZ)Z" } : Jvm.MethodName)) ∈ lw_all := lw_g (lw_at lw_m0 82 rfl) rfl
theorem q95 : (Jvm.Cond.code ({ cls := "CrashPlanner", name := "stretch", desc := "(IZ)Z" } : Jvm.MethodName) prog_1_method_16_code (6 : Nat) (Option.some Jvm.ClassFile.FieldType.boolean)) ∈ lw_all := lw_g (lw_at lw_m0 83 rfl) rfl
theorem q96 : (Jvm.Cond.methodLink "CrashPlanner" (78 : Nat) ({ cls := "CrashPlanner", name := "lengthOf", desc := "(I)I" } : Jvm.MethodName)) ∈ lw_all := lw_g (lw_at lw_m0 84 rfl) rfl
theorem q97 : (Jvm.Cond.privateMethod ({ cls := "CrashPlanner", name := "lengthOf", desc := "(I)I" } : Jvm.MethodName)) ∈ lw_tbl := lw_at lw_m0 85 rfl
theorem q98 : (Jvm.Cond.instanceMethod ({ cls := "CrashPlanner", name := "lengthOf", desc := "(I)I" } : Jvm.MethodName)) ∈ lw_all := lw_g (lw_at lw_m0 86 rfl) rfl
theorem q99 : (Jvm.Cond.code ({ cls := "CrashPlanner", name := "lengthOf", desc := "(I)I" } : Jvm.MethodName) prog_1_method_13_code (2 : Nat) (Option.some Jvm.ClassFile.FieldType.int)) ∈ lw_all := lw_g (lw_at lw_m0 87 rfl) rfl
theorem q100 : (Jvm.Cond.methodLink "CrashPlanner" (81 : Nat) ({ cls := "CrashPlanner", name := "roomOf", desc := "(IZ)I" } : Jvm.MethodName)) ∈ lw_all := lw_g (lw_at lw_m0 88 rfl) rfl
theorem q101 : (Jvm.Cond.privateMethod ({ cls := "CrashPlanner", name := "roomOf", desc := "(IZ)I" } : Jvm.MethodName)) ∈ lw_tbl := lw_at lw_m0 89 rfl
theorem q102 : (Jvm.Cond.instanceMethod ({ cls := "CrashPlanner", name := "roomOf", desc := "(IZ)I" } : Jvm.MethodName)) ∈ lw_all := lw_g (lw_at lw_m0 90 rfl) rfl
theorem q103 : (Jvm.Cond.code ({ cls := "CrashPlanner", name := "roomOf", desc := "(IZ)I" } : Jvm.MethodName) prog_1_method_14_code (3 : Nat) (Option.some Jvm.ClassFile.FieldType.int)) ∈ lw_all := lw_g (lw_at lw_m0 91 rfl) rfl
theorem q104 : (Jvm.Cond.constant "CrashPlanner" (62 : Nat) (1000000 : Int32)) ∈ lw_all := lw_g (lw_at lw_m0 92 rfl) rfl
theorem q105 : (Jvm.Cond.methodLink "CrashPlanner" (66 : Nat) ({ cls := "CrashPlanner", name := "widthOfWay", desc := "()I" } : Jvm.MethodName)) ∈ lw_all := lw_g (lw_at lw_m0 93 rfl) rfl
theorem q106 : (Jvm.Cond.privateMethod ({ cls := "CrashPlanner", name := "widthOfWay", desc := "()I" } : Jvm.MethodName)) ∈ lw_tbl := lw_at lw_m0 94 rfl
theorem q107 : (Jvm.Cond.instanceMethod ({ cls := "CrashPlanner", name := "widthOfWay", desc := "()I" } : Jvm.MethodName)) ∈ lw_all := lw_g (lw_at lw_m0 95 rfl) rfl
theorem q108 : (Jvm.Cond.code ({ cls := "CrashPlanner", name := "widthOfWay", desc := "()I" } : Jvm.MethodName) prog_1_method_17_code (7 : Nat) (Option.some Jvm.ClassFile.FieldType.int)) ∈ lw_all := lw_g (lw_at lw_m0 96 rfl) rfl
theorem q109 : (Jvm.Cond.methodLink "CrashPlanner" (70 : Nat) ({ cls := "CrashPlanner", name := "send", desc := "(I)V" } : Jvm.MethodName)) ∈ lw_all := lw_g (lw_at lw_m0 97 rfl) rfl
theorem q110 : (Jvm.Cond.privateMethod ({ cls := "CrashPlanner", name := "send", desc := "(I)V" } : Jvm.MethodName)) ∈ lw_tbl := lw_at lw_m0 98 rfl
theorem q111 : (Jvm.Cond.instanceMethod ({ cls := "CrashPlanner", name := "send", desc := "(I)V" } : Jvm.MethodName)) ∈ lw_all := lw_g (lw_at lw_m0 99 rfl) rfl
theorem q112 : (Jvm.Cond.code ({ cls := "CrashPlanner", name := "send", desc := "(I)V" } : Jvm.MethodName) prog_1_method_18_code (6 : Nat) (Option.none : Option Jvm.ClassFile.FieldType)) ∈ lw_all := lw_g (lw_at lw_m0 100 rfl) rfl
theorem q114 : (Jvm.Cond.instanceMethod ({ cls := "CrashPlanner", name := "fastest", desc := "()I" } : Jvm.MethodName)) ∈ lw_all := lw_g (lw_at lw_m0 102 rfl) rfl
theorem q115 : (Jvm.Cond.selects "CrashPlanner" ({ cls := "CrashPlanner", name := "fastest", desc := "()I" } : Jvm.MethodName) ({ cls := "CrashPlanner", name := "fastest", desc := "()I" } : Jvm.MethodName)) ∈ lw_all := lw_g (lw_at lw_m0 103 rfl) rfl
theorem q116 : (Jvm.Cond.code ({ cls := "CrashPlanner", name := "fastest", desc := "()I" } : Jvm.MethodName) prog_1_method_6_code (1 : Nat) (Option.some Jvm.ClassFile.FieldType.int)) ∈ lw_all := lw_g (lw_at lw_m0 104 rfl) rfl
theorem q118 : (Jvm.Cond.instanceMethod ({ cls := "CrashPlanner", name := "cost", desc := "(I)I" } : Jvm.MethodName)) ∈ lw_all := lw_g (lw_at lw_m0 106 rfl) rfl
theorem q119 : (Jvm.Cond.selects "CrashPlanner" ({ cls := "CrashPlanner", name := "cost", desc := "(I)I" } : Jvm.MethodName) ({ cls := "CrashPlanner", name := "cost", desc := "(I)I" } : Jvm.MethodName)) ∈ lw_all := lw_g (lw_at lw_m0 107 rfl) rfl
theorem q120 : (Jvm.Cond.code ({ cls := "CrashPlanner", name := "cost", desc := "(I)I" } : Jvm.MethodName) prog_1_method_7_code (2 : Nat) (Option.some Jvm.ClassFile.FieldType.int)) ∈ lw_all := lw_g (lw_at lw_m0 108 rfl) rfl
theorem q121 : (Jvm.Cond.methodLink "CrashPlanner" (58 : Nat) ({ cls := "CrashPlanner", name := "costFor", desc := "(I)I" } : Jvm.MethodName)) ∈ lw_all := lw_g (lw_at lw_m0 109 rfl) rfl
theorem q122 : (Jvm.Cond.privateMethod ({ cls := "CrashPlanner", name := "costFor", desc := "(I)I" } : Jvm.MethodName)) ∈ lw_tbl := lw_at lw_m0 110 rfl
theorem q123 : (Jvm.Cond.instanceMethod ({ cls := "CrashPlanner", name := "costFor", desc := "(I)I" } : Jvm.MethodName)) ∈ lw_all := lw_g (lw_at lw_m0 111 rfl) rfl
theorem q124 : (Jvm.Cond.code ({ cls := "CrashPlanner", name := "costFor", desc := "(I)I" } : Jvm.MethodName) prog_1_method_11_code (4 : Nat) (Option.some Jvm.ClassFile.FieldType.int)) ∈ lw_all := lw_g (lw_at lw_m0 112 rfl) rfl
theorem q126 : (Jvm.Cond.instanceMethod ({ cls := "CrashPlanner", name := "step", desc := "(I)I" } : Jvm.MethodName)) ∈ lw_all := lw_g (lw_at lw_m0 114 rfl) rfl
theorem q127 : (Jvm.Cond.selects "CrashPlanner" ({ cls := "CrashPlanner", name := "step", desc := "(I)I" } : Jvm.MethodName) ({ cls := "CrashPlanner", name := "step", desc := "(I)I" } : Jvm.MethodName)) ∈ lw_all := lw_g (lw_at lw_m0 115 rfl) rfl
theorem q128 : (Jvm.Cond.code ({ cls := "CrashPlanner", name := "step", desc := "(I)I" } : Jvm.MethodName) prog_1_method_8_code (3 : Nat) (Option.some Jvm.ClassFile.FieldType.int)) ∈ lw_all := lw_g (lw_at lw_m0 116 rfl) rfl
theorem q130 : (Jvm.Cond.instanceMethod ({ cls := "CrashPlanner", name := "within", desc := "(I)I" } : Jvm.MethodName)) ∈ lw_all := lw_g (lw_at lw_m0 118 rfl) rfl
theorem q131 : (Jvm.Cond.selects "CrashPlanner" ({ cls := "CrashPlanner", name := "within", desc := "(I)I" } : Jvm.MethodName) ({ cls := "CrashPlanner", name := "within", desc := "(I)I" } : Jvm.MethodName)) ∈ lw_all := lw_g (lw_at lw_m0 119 rfl) rfl
theorem q132 : (Jvm.Cond.code ({ cls := "CrashPlanner", name := "within", desc := "(I)I" } : Jvm.MethodName) prog_1_method_9_code (4 : Nat) (Option.some Jvm.ClassFile.FieldType.int)) ∈ lw_all := lw_g (lw_at lw_m0 120 rfl) rfl
theorem q134 : (Jvm.Cond.instanceMethod ({ cls := "CrashPlanner", name := "total", desc := "(I)I" } : Jvm.MethodName)) ∈ lw_all := lw_g (lw_at lw_m0 122 rfl) rfl
theorem q135 : (Jvm.Cond.selects "CrashPlanner" ({ cls := "CrashPlanner", name := "total", desc := "(I)I" } : Jvm.MethodName) ({ cls := "CrashPlanner", name := "total", desc := "(I)I" } : Jvm.MethodName)) ∈ lw_all := lw_g (lw_at lw_m0 123 rfl) rfl
theorem q136 : (Jvm.Cond.code ({ cls := "CrashPlanner", name := "total", desc := "(I)I" } : Jvm.MethodName) prog_1_method_10_code (5 : Nat) (Option.some Jvm.ClassFile.FieldType.int)) ∈ lw_all := lw_g (lw_at lw_m0 124 rfl) rfl
theorem in_X0 : ∀ w ∈ wsX00, w ∈ lw_all := lw_in wsX00 [37, 39, 41, 43, 45, 47, 49, 51, 53, 55, 57, 59, 61, 63] (by decide +kernel) (by decide +kernel)
end
section
/-! CrashPlannerModel -/
set_option maxRecDepth 100000
def RX1 : String := "CrashPlannerModel"
def TX1 : u_T := fun k => match k with
  | 0 => ("CrashPlannerModel", "held", "I", false)
  | 1 => ("CrashPlannerModel", "froms", "[I", true)
  | 2 => ("CrashPlannerModel", "tos", "[I", true)
  | 3 => ("CrashPlannerModel", "slows", "[I", true)
  | 4 => ("CrashPlannerModel", "fasts", "[I", true)
  | 5 => ("CrashPlannerModel", "prices", "[I", true)
  | 6 => ("CrashPlannerModel", "times", "[I", true)
  | 7 => ("CrashPlannerModel", "late", "[I", true)
  | _ => ("CrashPlannerModel", "cheapest", "[I", true)
def tyX1 : Nat → FieldType := fun k => match k with
  | 0 => .int
  | 1 => .array .int
  | 2 => .array .int
  | 3 => .array .int
  | 4 => .array .int
  | 5 => .array .int
  | 6 => .array .int
  | 7 => .array .int
  | _ => .array .int
abbrev wsX10 : List Cond := u_ws RX1 TX1 9
theorem nmX1 : ∀ a, a < 9 → ∀ b, b < 9 → a ≠ b → (TX1 a).2.1 ≠ (TX1 b).2.1 := by decide +kernel
theorem tyX1_ok : ∀ k, k < 9 → parseFieldDescriptor (TX1 k).2.2.1 = some (tyX1 k) := by decide +kernel
abbrev cX1_init : ByteArray := prog_3_method_1_code
def yX1_init : MethodName := ⟨RX1, "<init>", "()V"⟩
theorem dX1_init_0 : decode cX1_init 0 = .ok (.aload_n 0, 1) := by decide +kernel
theorem dX1_init_1 : decode cX1_init 1 = .ok (.invokespecial 1, 3) := by decide +kernel
theorem dX1_init_4 : decode cX1_init 4 = .ok (.aload_n 0, 1) := by decide +kernel
theorem dX1_init_5 : decode cX1_init 5 = .ok (.bipush 7, 2) := by decide +kernel
theorem dX1_init_7 : decode cX1_init 7 = .ok (.newarray .int, 2) := by decide +kernel
theorem dX1_init_9 : decode cX1_init 9 = .ok (.putfield 7, 3) := by decide +kernel
theorem dX1_init_12 : decode cX1_init 12 = .ok (.aload_n 0, 1) := by decide +kernel
theorem dX1_init_13 : decode cX1_init 13 = .ok (.bipush 7, 2) := by decide +kernel
theorem dX1_init_15 : decode cX1_init 15 = .ok (.newarray .int, 2) := by decide +kernel
theorem dX1_init_17 : decode cX1_init 17 = .ok (.putfield 13, 3) := by decide +kernel
theorem dX1_init_20 : decode cX1_init 20 = .ok (.aload_n 0, 1) := by decide +kernel
theorem dX1_init_21 : decode cX1_init 21 = .ok (.bipush 7, 2) := by decide +kernel
theorem dX1_init_23 : decode cX1_init 23 = .ok (.newarray .int, 2) := by decide +kernel
theorem dX1_init_25 : decode cX1_init 25 = .ok (.putfield 16, 3) := by decide +kernel
theorem dX1_init_28 : decode cX1_init 28 = .ok (.aload_n 0, 1) := by decide +kernel
theorem dX1_init_29 : decode cX1_init 29 = .ok (.bipush 7, 2) := by decide +kernel
theorem dX1_init_31 : decode cX1_init 31 = .ok (.newarray .int, 2) := by decide +kernel
theorem dX1_init_33 : decode cX1_init 33 = .ok (.putfield 19, 3) := by decide +kernel
theorem dX1_init_36 : decode cX1_init 36 = .ok (.aload_n 0, 1) := by decide +kernel
theorem dX1_init_37 : decode cX1_init 37 = .ok (.bipush 7, 2) := by decide +kernel
theorem dX1_init_39 : decode cX1_init 39 = .ok (.newarray .int, 2) := by decide +kernel
theorem dX1_init_41 : decode cX1_init 41 = .ok (.putfield 22, 3) := by decide +kernel
theorem dX1_init_44 : decode cX1_init 44 = .ok (.aload_n 0, 1) := by decide +kernel
theorem dX1_init_45 : decode cX1_init 45 = .ok (.bipush 7, 2) := by decide +kernel
theorem dX1_init_47 : decode cX1_init 47 = .ok (.newarray .int, 2) := by decide +kernel
theorem dX1_init_49 : decode cX1_init 49 = .ok (.putfield 25, 3) := by decide +kernel
theorem dX1_init_52 : decode cX1_init 52 = .ok (.aload_n 0, 1) := by decide +kernel
theorem dX1_init_53 : decode cX1_init 53 = .ok (.bipush 6, 2) := by decide +kernel
theorem dX1_init_55 : decode cX1_init 55 = .ok (.newarray .int, 2) := by decide +kernel
theorem dX1_init_57 : decode cX1_init 57 = .ok (.putfield 28, 3) := by decide +kernel
theorem dX1_init_60 : decode cX1_init 60 = .ok (.aload_n 0, 1) := by decide +kernel
theorem dX1_init_61 : decode cX1_init 61 = .ok (.bipush 64, 2) := by decide +kernel
theorem dX1_init_63 : decode cX1_init 63 = .ok (.newarray .int, 2) := by decide +kernel
theorem dX1_init_65 : decode cX1_init 65 = .ok (.putfield 31, 3) := by decide +kernel
theorem dX1_init_68 : decode cX1_init 68 = .ok (.return_, 1) := by decide +kernel
abbrev cX1_add : ByteArray := prog_3_method_2_code
def yX1_add : MethodName := ⟨RX1, "add", "(IIIII)I"⟩
theorem dX1_add_0 : decode cX1_add 0 = .ok (.aload_n 0, 1) := by decide +kernel
theorem dX1_add_1 : decode cX1_add 1 = .ok (.getfield 34, 3) := by decide +kernel
theorem dX1_add_4 : decode cX1_add 4 = .ok (.bipush 7, 2) := by decide +kernel
theorem dX1_add_6 : decode cX1_add 6 = .ok (.if_icmp .eq 25, 3) := by decide +kernel
theorem dX1_add_9 : decode cX1_add 9 = .ok (.iload_n 1, 1) := by decide +kernel
theorem dX1_add_10 : decode cX1_add 10 = .ok (.ifCond .lt 21, 3) := by decide +kernel
theorem dX1_add_13 : decode cX1_add 13 = .ok (.iload_n 2, 1) := by decide +kernel
theorem dX1_add_14 : decode cX1_add 14 = .ok (.iload_n 1, 1) := by decide +kernel
theorem dX1_add_15 : decode cX1_add 15 = .ok (.if_icmp .le 16, 3) := by decide +kernel
theorem dX1_add_18 : decode cX1_add 18 = .ok (.iload_n 2, 1) := by decide +kernel
theorem dX1_add_19 : decode cX1_add 19 = .ok (.iconst 5, 1) := by decide +kernel
theorem dX1_add_20 : decode cX1_add 20 = .ok (.if_icmp .gt 11, 3) := by decide +kernel
theorem dX1_add_23 : decode cX1_add 23 = .ok (.iload 5, 2) := by decide +kernel
theorem dX1_add_25 : decode cX1_add 25 = .ok (.invokestatic 38, 3) := by decide +kernel
theorem dX1_add_28 : decode cX1_add 28 = .ok (.ifCond .eq 5, 3) := by decide +kernel
theorem dX1_add_31 : decode cX1_add 31 = .ok (.iconst (-1), 1) := by decide +kernel
theorem dX1_add_32 : decode cX1_add 32 = .ok (.ireturn, 1) := by decide +kernel
theorem dX1_add_33 : decode cX1_add 33 = .ok (.iload 4, 2) := by decide +kernel
theorem dX1_add_35 : decode cX1_add 35 = .ok (.ifCond .lt 23, 3) := by decide +kernel
theorem dX1_add_38 : decode cX1_add 38 = .ok (.iload 4, 2) := by decide +kernel
theorem dX1_add_40 : decode cX1_add 40 = .ok (.iload_n 3, 1) := by decide +kernel
theorem dX1_add_41 : decode cX1_add 41 = .ok (.if_icmp .gt 17, 3) := by decide +kernel
theorem dX1_add_44 : decode cX1_add 44 = .ok (.iload_n 3, 1) := by decide +kernel
theorem dX1_add_45 : decode cX1_add 45 = .ok (.bipush 9, 2) := by decide +kernel
theorem dX1_add_47 : decode cX1_add 47 = .ok (.if_icmp .gt 11, 3) := by decide +kernel
theorem dX1_add_50 : decode cX1_add 50 = .ok (.iload_n 3, 1) := by decide +kernel
theorem dX1_add_51 : decode cX1_add 51 = .ok (.iload 4, 2) := by decide +kernel
theorem dX1_add_53 : decode cX1_add 53 = .ok (.isub, 1) := by decide +kernel
theorem dX1_add_54 : decode cX1_add 54 = .ok (.iconst 3, 1) := by decide +kernel
theorem dX1_add_55 : decode cX1_add 55 = .ok (.if_icmp .le 5, 3) := by decide +kernel
theorem dX1_add_58 : decode cX1_add 58 = .ok (.iconst (-1), 1) := by decide +kernel
theorem dX1_add_59 : decode cX1_add 59 = .ok (.ireturn, 1) := by decide +kernel
theorem dX1_add_60 : decode cX1_add 60 = .ok (.aload_n 0, 1) := by decide +kernel
theorem dX1_add_61 : decode cX1_add 61 = .ok (.getfield 7, 3) := by decide +kernel
theorem dX1_add_64 : decode cX1_add 64 = .ok (.aload_n 0, 1) := by decide +kernel
theorem dX1_add_65 : decode cX1_add 65 = .ok (.getfield 34, 3) := by decide +kernel
theorem dX1_add_68 : decode cX1_add 68 = .ok (.iload_n 1, 1) := by decide +kernel
theorem dX1_add_69 : decode cX1_add 69 = .ok (.iastore, 1) := by decide +kernel
theorem dX1_add_70 : decode cX1_add 70 = .ok (.aload_n 0, 1) := by decide +kernel
theorem dX1_add_71 : decode cX1_add 71 = .ok (.getfield 13, 3) := by decide +kernel
theorem dX1_add_74 : decode cX1_add 74 = .ok (.aload_n 0, 1) := by decide +kernel
theorem dX1_add_75 : decode cX1_add 75 = .ok (.getfield 34, 3) := by decide +kernel
theorem dX1_add_78 : decode cX1_add 78 = .ok (.iload_n 2, 1) := by decide +kernel
theorem dX1_add_79 : decode cX1_add 79 = .ok (.iastore, 1) := by decide +kernel
theorem dX1_add_80 : decode cX1_add 80 = .ok (.aload_n 0, 1) := by decide +kernel
theorem dX1_add_81 : decode cX1_add 81 = .ok (.getfield 16, 3) := by decide +kernel
theorem dX1_add_84 : decode cX1_add 84 = .ok (.aload_n 0, 1) := by decide +kernel
theorem dX1_add_85 : decode cX1_add 85 = .ok (.getfield 34, 3) := by decide +kernel
theorem dX1_add_88 : decode cX1_add 88 = .ok (.iload_n 3, 1) := by decide +kernel
theorem dX1_add_89 : decode cX1_add 89 = .ok (.iastore, 1) := by decide +kernel
theorem dX1_add_90 : decode cX1_add 90 = .ok (.aload_n 0, 1) := by decide +kernel
theorem dX1_add_91 : decode cX1_add 91 = .ok (.getfield 19, 3) := by decide +kernel
theorem dX1_add_94 : decode cX1_add 94 = .ok (.aload_n 0, 1) := by decide +kernel
theorem dX1_add_95 : decode cX1_add 95 = .ok (.getfield 34, 3) := by decide +kernel
theorem dX1_add_98 : decode cX1_add 98 = .ok (.iload 4, 2) := by decide +kernel
theorem dX1_add_100 : decode cX1_add 100 = .ok (.iastore, 1) := by decide +kernel
theorem dX1_add_101 : decode cX1_add 101 = .ok (.aload_n 0, 1) := by decide +kernel
theorem dX1_add_102 : decode cX1_add 102 = .ok (.getfield 22, 3) := by decide +kernel
theorem dX1_add_105 : decode cX1_add 105 = .ok (.aload_n 0, 1) := by decide +kernel
theorem dX1_add_106 : decode cX1_add 106 = .ok (.getfield 34, 3) := by decide +kernel
theorem dX1_add_109 : decode cX1_add 109 = .ok (.iload 5, 2) := by decide +kernel
theorem dX1_add_111 : decode cX1_add 111 = .ok (.iastore, 1) := by decide +kernel
theorem dX1_add_112 : decode cX1_add 112 = .ok (.aload_n 0, 1) := by decide +kernel
theorem dX1_add_113 : decode cX1_add 113 = .ok (.dup, 1) := by decide +kernel
theorem dX1_add_114 : decode cX1_add 114 = .ok (.getfield 34, 3) := by decide +kernel
theorem dX1_add_117 : decode cX1_add 117 = .ok (.iconst 1, 1) := by decide +kernel
theorem dX1_add_118 : decode cX1_add 118 = .ok (.iadd, 1) := by decide +kernel
theorem dX1_add_119 : decode cX1_add 119 = .ok (.putfield 34, 3) := by decide +kernel
theorem dX1_add_122 : decode cX1_add 122 = .ok (.aload_n 0, 1) := by decide +kernel
theorem dX1_add_123 : decode cX1_add 123 = .ok (.getfield 34, 3) := by decide +kernel
theorem dX1_add_126 : decode cX1_add 126 = .ok (.ireturn, 1) := by decide +kernel
abbrev cX1_badPrice : ByteArray := prog_3_method_3_code
def yX1_badPrice : MethodName := ⟨RX1, "badPrice", "(I)Z"⟩
theorem dX1_badPrice_0 : decode cX1_badPrice 0 = .ok (.iload_n 0, 1) := by decide +kernel
theorem dX1_badPrice_1 : decode cX1_badPrice 1 = .ok (.iconst 1, 1) := by decide +kernel
theorem dX1_badPrice_2 : decode cX1_badPrice 2 = .ok (.if_icmp .lt 9, 3) := by decide +kernel
theorem dX1_badPrice_5 : decode cX1_badPrice 5 = .ok (.iload_n 0, 1) := by decide +kernel
theorem dX1_badPrice_6 : decode cX1_badPrice 6 = .ok (.bipush 20, 2) := by decide +kernel
theorem dX1_badPrice_8 : decode cX1_badPrice 8 = .ok (.if_icmp .le 7, 3) := by decide +kernel
theorem dX1_badPrice_11 : decode cX1_badPrice 11 = .ok (.iconst 1, 1) := by decide +kernel
theorem dX1_badPrice_12 : decode cX1_badPrice 12 = .ok (.goto 4, 3) := by decide +kernel
theorem dX1_badPrice_15 : decode cX1_badPrice 15 = .ok (.iconst 0, 1) := by decide +kernel
theorem dX1_badPrice_16 : decode cX1_badPrice 16 = .ok (.ireturn, 1) := by decide +kernel
abbrev cX1_drop : ByteArray := prog_3_method_4_code
def yX1_drop : MethodName := ⟨RX1, "drop", "(I)I"⟩
theorem dX1_drop_0 : decode cX1_drop 0 = .ok (.iload_n 1, 1) := by decide +kernel
theorem dX1_drop_1 : decode cX1_drop 1 = .ok (.ifCond .lt 11, 3) := by decide +kernel
theorem dX1_drop_4 : decode cX1_drop 4 = .ok (.iload_n 1, 1) := by decide +kernel
theorem dX1_drop_5 : decode cX1_drop 5 = .ok (.aload_n 0, 1) := by decide +kernel
theorem dX1_drop_6 : decode cX1_drop 6 = .ok (.getfield 34, 3) := by decide +kernel
theorem dX1_drop_9 : decode cX1_drop 9 = .ok (.if_icmp .lt 5, 3) := by decide +kernel
theorem dX1_drop_12 : decode cX1_drop 12 = .ok (.iconst (-1), 1) := by decide +kernel
theorem dX1_drop_13 : decode cX1_drop 13 = .ok (.ireturn, 1) := by decide +kernel
theorem dX1_drop_14 : decode cX1_drop 14 = .ok (.aload_n 0, 1) := by decide +kernel
theorem dX1_drop_15 : decode cX1_drop 15 = .ok (.dup, 1) := by decide +kernel
theorem dX1_drop_16 : decode cX1_drop 16 = .ok (.getfield 34, 3) := by decide +kernel
theorem dX1_drop_19 : decode cX1_drop 19 = .ok (.iconst 1, 1) := by decide +kernel
theorem dX1_drop_20 : decode cX1_drop 20 = .ok (.isub, 1) := by decide +kernel
theorem dX1_drop_21 : decode cX1_drop 21 = .ok (.putfield 34, 3) := by decide +kernel
theorem dX1_drop_24 : decode cX1_drop 24 = .ok (.iload_n 1, 1) := by decide +kernel
theorem dX1_drop_25 : decode cX1_drop 25 = .ok (.istore_n 2, 1) := by decide +kernel
theorem dX1_drop_26 : decode cX1_drop 26 = .ok (.iload_n 2, 1) := by decide +kernel
theorem dX1_drop_27 : decode cX1_drop 27 = .ok (.aload_n 0, 1) := by decide +kernel
theorem dX1_drop_28 : decode cX1_drop 28 = .ok (.getfield 34, 3) := by decide +kernel
theorem dX1_drop_31 : decode cX1_drop 31 = .ok (.if_icmp .ge 79, 3) := by decide +kernel
theorem dX1_drop_34 : decode cX1_drop 34 = .ok (.aload_n 0, 1) := by decide +kernel
theorem dX1_drop_35 : decode cX1_drop 35 = .ok (.getfield 7, 3) := by decide +kernel
theorem dX1_drop_38 : decode cX1_drop 38 = .ok (.iload_n 2, 1) := by decide +kernel
theorem dX1_drop_39 : decode cX1_drop 39 = .ok (.aload_n 0, 1) := by decide +kernel
theorem dX1_drop_40 : decode cX1_drop 40 = .ok (.getfield 7, 3) := by decide +kernel
theorem dX1_drop_43 : decode cX1_drop 43 = .ok (.iload_n 2, 1) := by decide +kernel
theorem dX1_drop_44 : decode cX1_drop 44 = .ok (.iconst 1, 1) := by decide +kernel
theorem dX1_drop_45 : decode cX1_drop 45 = .ok (.iadd, 1) := by decide +kernel
theorem dX1_drop_46 : decode cX1_drop 46 = .ok (.iaload, 1) := by decide +kernel
theorem dX1_drop_47 : decode cX1_drop 47 = .ok (.iastore, 1) := by decide +kernel
theorem dX1_drop_48 : decode cX1_drop 48 = .ok (.aload_n 0, 1) := by decide +kernel
theorem dX1_drop_49 : decode cX1_drop 49 = .ok (.getfield 13, 3) := by decide +kernel
theorem dX1_drop_52 : decode cX1_drop 52 = .ok (.iload_n 2, 1) := by decide +kernel
theorem dX1_drop_53 : decode cX1_drop 53 = .ok (.aload_n 0, 1) := by decide +kernel
theorem dX1_drop_54 : decode cX1_drop 54 = .ok (.getfield 13, 3) := by decide +kernel
theorem dX1_drop_57 : decode cX1_drop 57 = .ok (.iload_n 2, 1) := by decide +kernel
theorem dX1_drop_58 : decode cX1_drop 58 = .ok (.iconst 1, 1) := by decide +kernel
theorem dX1_drop_59 : decode cX1_drop 59 = .ok (.iadd, 1) := by decide +kernel
theorem dX1_drop_60 : decode cX1_drop 60 = .ok (.iaload, 1) := by decide +kernel
theorem dX1_drop_61 : decode cX1_drop 61 = .ok (.iastore, 1) := by decide +kernel
theorem dX1_drop_62 : decode cX1_drop 62 = .ok (.aload_n 0, 1) := by decide +kernel
theorem dX1_drop_63 : decode cX1_drop 63 = .ok (.getfield 16, 3) := by decide +kernel
theorem dX1_drop_66 : decode cX1_drop 66 = .ok (.iload_n 2, 1) := by decide +kernel
theorem dX1_drop_67 : decode cX1_drop 67 = .ok (.aload_n 0, 1) := by decide +kernel
theorem dX1_drop_68 : decode cX1_drop 68 = .ok (.getfield 16, 3) := by decide +kernel
theorem dX1_drop_71 : decode cX1_drop 71 = .ok (.iload_n 2, 1) := by decide +kernel
theorem dX1_drop_72 : decode cX1_drop 72 = .ok (.iconst 1, 1) := by decide +kernel
theorem dX1_drop_73 : decode cX1_drop 73 = .ok (.iadd, 1) := by decide +kernel
theorem dX1_drop_74 : decode cX1_drop 74 = .ok (.iaload, 1) := by decide +kernel
theorem dX1_drop_75 : decode cX1_drop 75 = .ok (.iastore, 1) := by decide +kernel
theorem dX1_drop_76 : decode cX1_drop 76 = .ok (.aload_n 0, 1) := by decide +kernel
theorem dX1_drop_77 : decode cX1_drop 77 = .ok (.getfield 19, 3) := by decide +kernel
theorem dX1_drop_80 : decode cX1_drop 80 = .ok (.iload_n 2, 1) := by decide +kernel
theorem dX1_drop_81 : decode cX1_drop 81 = .ok (.aload_n 0, 1) := by decide +kernel
theorem dX1_drop_82 : decode cX1_drop 82 = .ok (.getfield 19, 3) := by decide +kernel
theorem dX1_drop_85 : decode cX1_drop 85 = .ok (.iload_n 2, 1) := by decide +kernel
theorem dX1_drop_86 : decode cX1_drop 86 = .ok (.iconst 1, 1) := by decide +kernel
theorem dX1_drop_87 : decode cX1_drop 87 = .ok (.iadd, 1) := by decide +kernel
theorem dX1_drop_88 : decode cX1_drop 88 = .ok (.iaload, 1) := by decide +kernel
theorem dX1_drop_89 : decode cX1_drop 89 = .ok (.iastore, 1) := by decide +kernel
theorem dX1_drop_90 : decode cX1_drop 90 = .ok (.aload_n 0, 1) := by decide +kernel
theorem dX1_drop_91 : decode cX1_drop 91 = .ok (.getfield 22, 3) := by decide +kernel
theorem dX1_drop_94 : decode cX1_drop 94 = .ok (.iload_n 2, 1) := by decide +kernel
theorem dX1_drop_95 : decode cX1_drop 95 = .ok (.aload_n 0, 1) := by decide +kernel
theorem dX1_drop_96 : decode cX1_drop 96 = .ok (.getfield 22, 3) := by decide +kernel
theorem dX1_drop_99 : decode cX1_drop 99 = .ok (.iload_n 2, 1) := by decide +kernel
theorem dX1_drop_100 : decode cX1_drop 100 = .ok (.iconst 1, 1) := by decide +kernel
theorem dX1_drop_101 : decode cX1_drop 101 = .ok (.iadd, 1) := by decide +kernel
theorem dX1_drop_102 : decode cX1_drop 102 = .ok (.iaload, 1) := by decide +kernel
theorem dX1_drop_103 : decode cX1_drop 103 = .ok (.iastore, 1) := by decide +kernel
theorem dX1_drop_104 : decode cX1_drop 104 = .ok (.iinc 2 1, 3) := by decide +kernel
theorem dX1_drop_107 : decode cX1_drop 107 = .ok (.goto (-81), 3) := by decide +kernel
theorem dX1_drop_110 : decode cX1_drop 110 = .ok (.aload_n 0, 1) := by decide +kernel
theorem dX1_drop_111 : decode cX1_drop 111 = .ok (.getfield 34, 3) := by decide +kernel
theorem dX1_drop_114 : decode cX1_drop 114 = .ok (.ireturn, 1) := by decide +kernel
abbrev cX1_price : ByteArray := prog_3_method_5_code
def yX1_price : MethodName := ⟨RX1, "price", "(II)I"⟩
theorem dX1_price_0 : decode cX1_price 0 = .ok (.iload_n 1, 1) := by decide +kernel
theorem dX1_price_1 : decode cX1_price 1 = .ok (.ifCond .lt 18, 3) := by decide +kernel
theorem dX1_price_4 : decode cX1_price 4 = .ok (.iload_n 1, 1) := by decide +kernel
theorem dX1_price_5 : decode cX1_price 5 = .ok (.aload_n 0, 1) := by decide +kernel
theorem dX1_price_6 : decode cX1_price 6 = .ok (.getfield 34, 3) := by decide +kernel
theorem dX1_price_9 : decode cX1_price 9 = .ok (.if_icmp .ge 10, 3) := by decide +kernel
theorem dX1_price_12 : decode cX1_price 12 = .ok (.iload_n 2, 1) := by decide +kernel
theorem dX1_price_13 : decode cX1_price 13 = .ok (.invokestatic 38, 3) := by decide +kernel
theorem dX1_price_16 : decode cX1_price 16 = .ok (.ifCond .eq 5, 3) := by decide +kernel
theorem dX1_price_19 : decode cX1_price 19 = .ok (.iconst (-1), 1) := by decide +kernel
theorem dX1_price_20 : decode cX1_price 20 = .ok (.ireturn, 1) := by decide +kernel
theorem dX1_price_21 : decode cX1_price 21 = .ok (.aload_n 0, 1) := by decide +kernel
theorem dX1_price_22 : decode cX1_price 22 = .ok (.getfield 22, 3) := by decide +kernel
theorem dX1_price_25 : decode cX1_price 25 = .ok (.iload_n 1, 1) := by decide +kernel
theorem dX1_price_26 : decode cX1_price 26 = .ok (.iaload, 1) := by decide +kernel
theorem dX1_price_27 : decode cX1_price 27 = .ok (.istore_n 3, 1) := by decide +kernel
theorem dX1_price_28 : decode cX1_price 28 = .ok (.aload_n 0, 1) := by decide +kernel
theorem dX1_price_29 : decode cX1_price 29 = .ok (.getfield 22, 3) := by decide +kernel
theorem dX1_price_32 : decode cX1_price 32 = .ok (.iload_n 1, 1) := by decide +kernel
theorem dX1_price_33 : decode cX1_price 33 = .ok (.iload_n 2, 1) := by decide +kernel
theorem dX1_price_34 : decode cX1_price 34 = .ok (.iastore, 1) := by decide +kernel
theorem dX1_price_35 : decode cX1_price 35 = .ok (.iload_n 3, 1) := by decide +kernel
theorem dX1_price_36 : decode cX1_price 36 = .ok (.ireturn, 1) := by decide +kernel
abbrev cX1_slowest : ByteArray := prog_3_method_7_code
def yX1_slowest : MethodName := ⟨RX1, "slowest", "()I"⟩
theorem dX1_slowest_0 : decode cX1_slowest 0 = .ok (.iconst 0, 1) := by decide +kernel
theorem dX1_slowest_1 : decode cX1_slowest 1 = .ok (.istore_n 1, 1) := by decide +kernel
theorem dX1_slowest_2 : decode cX1_slowest 2 = .ok (.iload_n 1, 1) := by decide +kernel
theorem dX1_slowest_3 : decode cX1_slowest 3 = .ok (.aload_n 0, 1) := by decide +kernel
theorem dX1_slowest_4 : decode cX1_slowest 4 = .ok (.getfield 34, 3) := by decide +kernel
theorem dX1_slowest_7 : decode cX1_slowest 7 = .ok (.if_icmp .ge 21, 3) := by decide +kernel
theorem dX1_slowest_10 : decode cX1_slowest 10 = .ok (.aload_n 0, 1) := by decide +kernel
theorem dX1_slowest_11 : decode cX1_slowest 11 = .ok (.getfield 25, 3) := by decide +kernel
theorem dX1_slowest_14 : decode cX1_slowest 14 = .ok (.iload_n 1, 1) := by decide +kernel
theorem dX1_slowest_15 : decode cX1_slowest 15 = .ok (.aload_n 0, 1) := by decide +kernel
theorem dX1_slowest_16 : decode cX1_slowest 16 = .ok (.getfield 16, 3) := by decide +kernel
theorem dX1_slowest_19 : decode cX1_slowest 19 = .ok (.iload_n 1, 1) := by decide +kernel
theorem dX1_slowest_20 : decode cX1_slowest 20 = .ok (.iaload, 1) := by decide +kernel
theorem dX1_slowest_21 : decode cX1_slowest 21 = .ok (.iastore, 1) := by decide +kernel
theorem dX1_slowest_22 : decode cX1_slowest 22 = .ok (.iinc 1 1, 3) := by decide +kernel
theorem dX1_slowest_25 : decode cX1_slowest 25 = .ok (.goto (-23), 3) := by decide +kernel
theorem dX1_slowest_28 : decode cX1_slowest 28 = .ok (.aload_n 0, 1) := by decide +kernel
theorem dX1_slowest_29 : decode cX1_slowest 29 = .ok (.invokevirtual 42, 3) := by decide +kernel
theorem dX1_slowest_32 : decode cX1_slowest 32 = .ok (.ireturn, 1) := by decide +kernel
end
section
set_option maxRecDepth 100000
abbrev cX1_length : ByteArray := prog_3_method_6_code
def yX1_length : MethodName := ⟨RX1, "length", "()I"⟩
theorem dX1_length_0 : decode cX1_length 0 = .ok (.iconst 0, 1) := by decide +kernel
theorem dX1_length_1 : decode cX1_length 1 = .ok (.istore_n 1, 1) := by decide +kernel
theorem dX1_length_2 : decode cX1_length 2 = .ok (.iload_n 1, 1) := by decide +kernel
theorem dX1_length_3 : decode cX1_length 3 = .ok (.bipush 6, 2) := by decide +kernel
theorem dX1_length_5 : decode cX1_length 5 = .ok (.if_icmp .ge 24, 3) := by decide +kernel
theorem dX1_length_8 : decode cX1_length 8 = .ok (.aload_n 0, 1) := by decide +kernel
theorem dX1_length_9 : decode cX1_length 9 = .ok (.getfield 28, 3) := by decide +kernel
theorem dX1_length_12 : decode cX1_length 12 = .ok (.iload_n 1, 1) := by decide +kernel
theorem dX1_length_13 : decode cX1_length 13 = .ok (.iload_n 1, 1) := by decide +kernel
theorem dX1_length_14 : decode cX1_length 14 = .ok (.ifCond .ne 7, 3) := by decide +kernel
theorem dX1_length_17 : decode cX1_length 17 = .ok (.iconst 0, 1) := by decide +kernel
theorem dX1_length_18 : decode cX1_length 18 = .ok (.goto 4, 3) := by decide +kernel
theorem dX1_length_21 : decode cX1_length 21 = .ok (.iconst (-1), 1) := by decide +kernel
theorem dX1_length_22 : decode cX1_length 22 = .ok (.iastore, 1) := by decide +kernel
theorem dX1_length_23 : decode cX1_length 23 = .ok (.iinc 1 1, 3) := by decide +kernel
theorem dX1_length_26 : decode cX1_length 26 = .ok (.goto (-24), 3) := by decide +kernel
theorem dX1_length_29 : decode cX1_length 29 = .ok (.iconst 0, 1) := by decide +kernel
theorem dX1_length_30 : decode cX1_length 30 = .ok (.istore_n 1, 1) := by decide +kernel
theorem dX1_length_31 : decode cX1_length 31 = .ok (.iload_n 1, 1) := by decide +kernel
theorem dX1_length_32 : decode cX1_length 32 = .ok (.iconst 5, 1) := by decide +kernel
theorem dX1_length_33 : decode cX1_length 33 = .ok (.if_icmp .ge 95, 3) := by decide +kernel
theorem dX1_length_36 : decode cX1_length 36 = .ok (.iconst 0, 1) := by decide +kernel
theorem dX1_length_37 : decode cX1_length 37 = .ok (.istore_n 2, 1) := by decide +kernel
theorem dX1_length_38 : decode cX1_length 38 = .ok (.iload_n 2, 1) := by decide +kernel
theorem dX1_length_39 : decode cX1_length 39 = .ok (.aload_n 0, 1) := by decide +kernel
theorem dX1_length_40 : decode cX1_length 40 = .ok (.getfield 34, 3) := by decide +kernel
theorem dX1_length_43 : decode cX1_length 43 = .ok (.if_icmp .ge 79, 3) := by decide +kernel
theorem dX1_length_46 : decode cX1_length 46 = .ok (.aload_n 0, 1) := by decide +kernel
theorem dX1_length_47 : decode cX1_length 47 = .ok (.getfield 7, 3) := by decide +kernel
theorem dX1_length_50 : decode cX1_length 50 = .ok (.iload_n 2, 1) := by decide +kernel
theorem dX1_length_51 : decode cX1_length 51 = .ok (.iaload, 1) := by decide +kernel
theorem dX1_length_52 : decode cX1_length 52 = .ok (.iload_n 1, 1) := by decide +kernel
theorem dX1_length_53 : decode cX1_length 53 = .ok (.if_icmp .ne 63, 3) := by decide +kernel
theorem dX1_length_56 : decode cX1_length 56 = .ok (.aload_n 0, 1) := by decide +kernel
theorem dX1_length_57 : decode cX1_length 57 = .ok (.getfield 28, 3) := by decide +kernel
theorem dX1_length_60 : decode cX1_length 60 = .ok (.iload_n 1, 1) := by decide +kernel
theorem dX1_length_61 : decode cX1_length 61 = .ok (.iaload, 1) := by decide +kernel
theorem dX1_length_62 : decode cX1_length 62 = .ok (.ifCond .lt 54, 3) := by decide +kernel
theorem dX1_length_65 : decode cX1_length 65 = .ok (.aload_n 0, 1) := by decide +kernel
theorem dX1_length_66 : decode cX1_length 66 = .ok (.getfield 28, 3) := by decide +kernel
theorem dX1_length_69 : decode cX1_length 69 = .ok (.iload_n 1, 1) := by decide +kernel
theorem dX1_length_70 : decode cX1_length 70 = .ok (.iaload, 1) := by decide +kernel
theorem dX1_length_71 : decode cX1_length 71 = .ok (.aload_n 0, 1) := by decide +kernel
theorem dX1_length_72 : decode cX1_length 72 = .ok (.getfield 25, 3) := by decide +kernel
theorem dX1_length_75 : decode cX1_length 75 = .ok (.iload_n 2, 1) := by decide +kernel
theorem dX1_length_76 : decode cX1_length 76 = .ok (.iaload, 1) := by decide +kernel
theorem dX1_length_77 : decode cX1_length 77 = .ok (.iadd, 1) := by decide +kernel
theorem dX1_length_78 : decode cX1_length 78 = .ok (.aload_n 0, 1) := by decide +kernel
theorem dX1_length_79 : decode cX1_length 79 = .ok (.getfield 28, 3) := by decide +kernel
theorem dX1_length_82 : decode cX1_length 82 = .ok (.aload_n 0, 1) := by decide +kernel
theorem dX1_length_83 : decode cX1_length 83 = .ok (.getfield 13, 3) := by decide +kernel
theorem dX1_length_86 : decode cX1_length 86 = .ok (.iload_n 2, 1) := by decide +kernel
theorem dX1_length_87 : decode cX1_length 87 = .ok (.iaload, 1) := by decide +kernel
theorem dX1_length_88 : decode cX1_length 88 = .ok (.iaload, 1) := by decide +kernel
theorem dX1_length_89 : decode cX1_length 89 = .ok (.if_icmp .le 27, 3) := by decide +kernel
theorem dX1_length_92 : decode cX1_length 92 = .ok (.aload_n 0, 1) := by decide +kernel
theorem dX1_length_93 : decode cX1_length 93 = .ok (.getfield 28, 3) := by decide +kernel
theorem dX1_length_96 : decode cX1_length 96 = .ok (.aload_n 0, 1) := by decide +kernel
theorem dX1_length_97 : decode cX1_length 97 = .ok (.getfield 13, 3) := by decide +kernel
theorem dX1_length_100 : decode cX1_length 100 = .ok (.iload_n 2, 1) := by decide +kernel
theorem dX1_length_101 : decode cX1_length 101 = .ok (.iaload, 1) := by decide +kernel
theorem dX1_length_102 : decode cX1_length 102 = .ok (.aload_n 0, 1) := by decide +kernel
theorem dX1_length_103 : decode cX1_length 103 = .ok (.getfield 28, 3) := by decide +kernel
theorem dX1_length_106 : decode cX1_length 106 = .ok (.iload_n 1, 1) := by decide +kernel
theorem dX1_length_107 : decode cX1_length 107 = .ok (.iaload, 1) := by decide +kernel
theorem dX1_length_108 : decode cX1_length 108 = .ok (.aload_n 0, 1) := by decide +kernel
theorem dX1_length_109 : decode cX1_length 109 = .ok (.getfield 25, 3) := by decide +kernel
theorem dX1_length_112 : decode cX1_length 112 = .ok (.iload_n 2, 1) := by decide +kernel
theorem dX1_length_113 : decode cX1_length 113 = .ok (.iaload, 1) := by decide +kernel
theorem dX1_length_114 : decode cX1_length 114 = .ok (.iadd, 1) := by decide +kernel
theorem dX1_length_115 : decode cX1_length 115 = .ok (.iastore, 1) := by decide +kernel
theorem dX1_length_116 : decode cX1_length 116 = .ok (.iinc 2 1, 3) := by decide +kernel
theorem dX1_length_119 : decode cX1_length 119 = .ok (.goto (-81), 3) := by decide +kernel
theorem dX1_length_122 : decode cX1_length 122 = .ok (.iinc 1 1, 3) := by decide +kernel
theorem dX1_length_125 : decode cX1_length 125 = .ok (.goto (-94), 3) := by decide +kernel
theorem dX1_length_128 : decode cX1_length 128 = .ok (.aload_n 0, 1) := by decide +kernel
theorem dX1_length_129 : decode cX1_length 129 = .ok (.getfield 28, 3) := by decide +kernel
theorem dX1_length_132 : decode cX1_length 132 = .ok (.iconst 5, 1) := by decide +kernel
theorem dX1_length_133 : decode cX1_length 133 = .ok (.iaload, 1) := by decide +kernel
theorem dX1_length_134 : decode cX1_length 134 = .ok (.ifCond .ge 7, 3) := by decide +kernel
theorem dX1_length_137 : decode cX1_length 137 = .ok (.iconst 0, 1) := by decide +kernel
theorem dX1_length_138 : decode cX1_length 138 = .ok (.goto 9, 3) := by decide +kernel
theorem dX1_length_141 : decode cX1_length 141 = .ok (.aload_n 0, 1) := by decide +kernel
theorem dX1_length_142 : decode cX1_length 142 = .ok (.getfield 28, 3) := by decide +kernel
theorem dX1_length_145 : decode cX1_length 145 = .ok (.iconst 5, 1) := by decide +kernel
theorem dX1_length_146 : decode cX1_length 146 = .ok (.iaload, 1) := by decide +kernel
theorem dX1_length_147 : decode cX1_length 147 = .ok (.ireturn, 1) := by decide +kernel
abbrev cX1_fastest : ByteArray := prog_3_method_8_code
def yX1_fastest : MethodName := ⟨RX1, "fastest", "()I"⟩
theorem dX1_fastest_0 : decode cX1_fastest 0 = .ok (.iconst 0, 1) := by decide +kernel
theorem dX1_fastest_1 : decode cX1_fastest 1 = .ok (.istore_n 1, 1) := by decide +kernel
theorem dX1_fastest_2 : decode cX1_fastest 2 = .ok (.iload_n 1, 1) := by decide +kernel
theorem dX1_fastest_3 : decode cX1_fastest 3 = .ok (.aload_n 0, 1) := by decide +kernel
theorem dX1_fastest_4 : decode cX1_fastest 4 = .ok (.getfield 34, 3) := by decide +kernel
theorem dX1_fastest_7 : decode cX1_fastest 7 = .ok (.if_icmp .ge 21, 3) := by decide +kernel
theorem dX1_fastest_10 : decode cX1_fastest 10 = .ok (.aload_n 0, 1) := by decide +kernel
theorem dX1_fastest_11 : decode cX1_fastest 11 = .ok (.getfield 25, 3) := by decide +kernel
theorem dX1_fastest_14 : decode cX1_fastest 14 = .ok (.iload_n 1, 1) := by decide +kernel
theorem dX1_fastest_15 : decode cX1_fastest 15 = .ok (.aload_n 0, 1) := by decide +kernel
theorem dX1_fastest_16 : decode cX1_fastest 16 = .ok (.getfield 19, 3) := by decide +kernel
theorem dX1_fastest_19 : decode cX1_fastest 19 = .ok (.iload_n 1, 1) := by decide +kernel
theorem dX1_fastest_20 : decode cX1_fastest 20 = .ok (.iaload, 1) := by decide +kernel
theorem dX1_fastest_21 : decode cX1_fastest 21 = .ok (.iastore, 1) := by decide +kernel
theorem dX1_fastest_22 : decode cX1_fastest 22 = .ok (.iinc 1 1, 3) := by decide +kernel
theorem dX1_fastest_25 : decode cX1_fastest 25 = .ok (.goto (-23), 3) := by decide +kernel
theorem dX1_fastest_28 : decode cX1_fastest 28 = .ok (.aload_n 0, 1) := by decide +kernel
theorem dX1_fastest_29 : decode cX1_fastest 29 = .ok (.invokevirtual 42, 3) := by decide +kernel
theorem dX1_fastest_32 : decode cX1_fastest 32 = .ok (.ireturn, 1) := by decide +kernel
abbrev cX1_cost : ByteArray := prog_3_method_12_code
def yX1_cost : MethodName := ⟨RX1, "cost", "(I)I"⟩
theorem dX1_cost_0 : decode cX1_cost 0 = .ok (.aload_n 0, 1) := by decide +kernel
theorem dX1_cost_1 : decode cX1_cost 1 = .ok (.invokevirtual 50, 3) := by decide +kernel
theorem dX1_cost_4 : decode cX1_cost 4 = .ok (.aload_n 0, 1) := by decide +kernel
theorem dX1_cost_5 : decode cX1_cost 5 = .ok (.iload_n 1, 1) := by decide +kernel
theorem dX1_cost_6 : decode cX1_cost 6 = .ok (.invokevirtual 53, 3) := by decide +kernel
theorem dX1_cost_9 : decode cX1_cost 9 = .ok (.ireturn, 1) := by decide +kernel
abbrev cX1_curve : ByteArray := prog_3_method_10_code
def yX1_curve : MethodName := ⟨RX1, "curve", "()V"⟩
theorem dX1_curve_0 : decode cX1_curve 0 = .ok (.iconst 0, 1) := by decide +kernel
theorem dX1_curve_1 : decode cX1_curve 1 = .ok (.istore_n 1, 1) := by decide +kernel
theorem dX1_curve_2 : decode cX1_curve 2 = .ok (.iload_n 1, 1) := by decide +kernel
theorem dX1_curve_3 : decode cX1_curve 3 = .ok (.bipush 64, 2) := by decide +kernel
theorem dX1_curve_5 : decode cX1_curve 5 = .ok (.if_icmp .ge 16, 3) := by decide +kernel
theorem dX1_curve_8 : decode cX1_curve 8 = .ok (.aload_n 0, 1) := by decide +kernel
theorem dX1_curve_9 : decode cX1_curve 9 = .ok (.getfield 31, 3) := by decide +kernel
theorem dX1_curve_12 : decode cX1_curve 12 = .ok (.iload_n 1, 1) := by decide +kernel
theorem dX1_curve_13 : decode cX1_curve 13 = .ok (.iconst (-1), 1) := by decide +kernel
theorem dX1_curve_14 : decode cX1_curve 14 = .ok (.iastore, 1) := by decide +kernel
theorem dX1_curve_15 : decode cX1_curve 15 = .ok (.iinc 1 1, 3) := by decide +kernel
theorem dX1_curve_18 : decode cX1_curve 18 = .ok (.goto (-16), 3) := by decide +kernel
theorem dX1_curve_21 : decode cX1_curve 21 = .ok (.iconst 1, 1) := by decide +kernel
theorem dX1_curve_22 : decode cX1_curve 22 = .ok (.iconst 2, 1) := by decide +kernel
theorem dX1_curve_23 : decode cX1_curve 23 = .ok (.aload_n 0, 1) := by decide +kernel
theorem dX1_curve_24 : decode cX1_curve 24 = .ok (.getfield 34, 3) := by decide +kernel
theorem dX1_curve_27 : decode cX1_curve 27 = .ok (.imul, 1) := by decide +kernel
theorem dX1_curve_28 : decode cX1_curve 28 = .ok (.ishl, 1) := by decide +kernel
theorem dX1_curve_29 : decode cX1_curve 29 = .ok (.istore_n 1, 1) := by decide +kernel
theorem dX1_curve_30 : decode cX1_curve 30 = .ok (.iconst 0, 1) := by decide +kernel
theorem dX1_curve_31 : decode cX1_curve 31 = .ok (.istore_n 2, 1) := by decide +kernel
theorem dX1_curve_32 : decode cX1_curve 32 = .ok (.iload_n 2, 1) := by decide +kernel
theorem dX1_curve_33 : decode cX1_curve 33 = .ok (.iload_n 1, 1) := by decide +kernel
theorem dX1_curve_34 : decode cX1_curve 34 = .ok (.if_icmp .ge 62, 3) := by decide +kernel
theorem dX1_curve_37 : decode cX1_curve 37 = .ok (.aload_n 0, 1) := by decide +kernel
theorem dX1_curve_38 : decode cX1_curve 38 = .ok (.iload_n 2, 1) := by decide +kernel
theorem dX1_curve_39 : decode cX1_curve 39 = .ok (.invokevirtual 46, 3) := by decide +kernel
theorem dX1_curve_42 : decode cX1_curve 42 = .ok (.istore_n 3, 1) := by decide +kernel
theorem dX1_curve_43 : decode cX1_curve 43 = .ok (.iload_n 3, 1) := by decide +kernel
theorem dX1_curve_44 : decode cX1_curve 44 = .ok (.ifCond .ge 7, 3) := by decide +kernel
theorem dX1_curve_47 : decode cX1_curve 47 = .ok (.iconst 0, 1) := by decide +kernel
theorem dX1_curve_48 : decode cX1_curve 48 = .ok (.goto 7, 3) := by decide +kernel
theorem dX1_curve_51 : decode cX1_curve 51 = .ok (.aload_n 0, 1) := by decide +kernel
theorem dX1_curve_52 : decode cX1_curve 52 = .ok (.invokevirtual 42, 3) := by decide +kernel
theorem dX1_curve_55 : decode cX1_curve 55 = .ok (.istore 4, 2) := by decide +kernel
theorem dX1_curve_57 : decode cX1_curve 57 = .ok (.iload_n 3, 1) := by decide +kernel
theorem dX1_curve_58 : decode cX1_curve 58 = .ok (.ifCond .lt 32, 3) := by decide +kernel
theorem dX1_curve_61 : decode cX1_curve 61 = .ok (.aload_n 0, 1) := by decide +kernel
theorem dX1_curve_62 : decode cX1_curve 62 = .ok (.getfield 31, 3) := by decide +kernel
theorem dX1_curve_65 : decode cX1_curve 65 = .ok (.iload 4, 2) := by decide +kernel
theorem dX1_curve_67 : decode cX1_curve 67 = .ok (.iaload, 1) := by decide +kernel
theorem dX1_curve_68 : decode cX1_curve 68 = .ok (.ifCond .lt 14, 3) := by decide +kernel
theorem dX1_curve_71 : decode cX1_curve 71 = .ok (.iload_n 3, 1) := by decide +kernel
theorem dX1_curve_72 : decode cX1_curve 72 = .ok (.aload_n 0, 1) := by decide +kernel
theorem dX1_curve_73 : decode cX1_curve 73 = .ok (.getfield 31, 3) := by decide +kernel
theorem dX1_curve_76 : decode cX1_curve 76 = .ok (.iload 4, 2) := by decide +kernel
theorem dX1_curve_78 : decode cX1_curve 78 = .ok (.iaload, 1) := by decide +kernel
theorem dX1_curve_79 : decode cX1_curve 79 = .ok (.if_icmp .ge 11, 3) := by decide +kernel
theorem dX1_curve_82 : decode cX1_curve 82 = .ok (.aload_n 0, 1) := by decide +kernel
theorem dX1_curve_83 : decode cX1_curve 83 = .ok (.getfield 31, 3) := by decide +kernel
theorem dX1_curve_86 : decode cX1_curve 86 = .ok (.iload 4, 2) := by decide +kernel
theorem dX1_curve_88 : decode cX1_curve 88 = .ok (.iload_n 3, 1) := by decide +kernel
theorem dX1_curve_89 : decode cX1_curve 89 = .ok (.iastore, 1) := by decide +kernel
theorem dX1_curve_90 : decode cX1_curve 90 = .ok (.iinc 2 1, 3) := by decide +kernel
theorem dX1_curve_93 : decode cX1_curve 93 = .ok (.goto (-61), 3) := by decide +kernel
theorem dX1_curve_96 : decode cX1_curve 96 = .ok (.return_, 1) := by decide +kernel
abbrev cX1_plan : ByteArray := prog_3_method_9_code
def yX1_plan : MethodName := ⟨RX1, "plan", "(I)I"⟩
theorem dX1_plan_0 : decode cX1_plan 0 = .ok (.iconst 0, 1) := by decide +kernel
theorem dX1_plan_1 : decode cX1_plan 1 = .ok (.istore_n 2, 1) := by decide +kernel
theorem dX1_plan_2 : decode cX1_plan 2 = .ok (.iconst 0, 1) := by decide +kernel
theorem dX1_plan_3 : decode cX1_plan 3 = .ok (.istore_n 3, 1) := by decide +kernel
theorem dX1_plan_4 : decode cX1_plan 4 = .ok (.iload_n 3, 1) := by decide +kernel
theorem dX1_plan_5 : decode cX1_plan 5 = .ok (.aload_n 0, 1) := by decide +kernel
theorem dX1_plan_6 : decode cX1_plan 6 = .ok (.getfield 34, 3) := by decide +kernel
theorem dX1_plan_9 : decode cX1_plan 9 = .ok (.if_icmp .ge 62, 3) := by decide +kernel
theorem dX1_plan_12 : decode cX1_plan 12 = .ok (.iload_n 1, 1) := by decide +kernel
theorem dX1_plan_13 : decode cX1_plan 13 = .ok (.iconst 2, 1) := by decide +kernel
theorem dX1_plan_14 : decode cX1_plan 14 = .ok (.iload_n 3, 1) := by decide +kernel
theorem dX1_plan_15 : decode cX1_plan 15 = .ok (.imul, 1) := by decide +kernel
theorem dX1_plan_16 : decode cX1_plan 16 = .ok (.ishr, 1) := by decide +kernel
theorem dX1_plan_17 : decode cX1_plan 17 = .ok (.iconst 3, 1) := by decide +kernel
theorem dX1_plan_18 : decode cX1_plan 18 = .ok (.iand, 1) := by decide +kernel
theorem dX1_plan_19 : decode cX1_plan 19 = .ok (.istore 4, 2) := by decide +kernel
theorem dX1_plan_21 : decode cX1_plan 21 = .ok (.aload_n 0, 1) := by decide +kernel
theorem dX1_plan_22 : decode cX1_plan 22 = .ok (.getfield 25, 3) := by decide +kernel
theorem dX1_plan_25 : decode cX1_plan 25 = .ok (.iload_n 3, 1) := by decide +kernel
theorem dX1_plan_26 : decode cX1_plan 26 = .ok (.aload_n 0, 1) := by decide +kernel
theorem dX1_plan_27 : decode cX1_plan 27 = .ok (.getfield 16, 3) := by decide +kernel
theorem dX1_plan_30 : decode cX1_plan 30 = .ok (.iload_n 3, 1) := by decide +kernel
theorem dX1_plan_31 : decode cX1_plan 31 = .ok (.iaload, 1) := by decide +kernel
theorem dX1_plan_32 : decode cX1_plan 32 = .ok (.iload 4, 2) := by decide +kernel
theorem dX1_plan_34 : decode cX1_plan 34 = .ok (.isub, 1) := by decide +kernel
theorem dX1_plan_35 : decode cX1_plan 35 = .ok (.iastore, 1) := by decide +kernel
theorem dX1_plan_36 : decode cX1_plan 36 = .ok (.aload_n 0, 1) := by decide +kernel
theorem dX1_plan_37 : decode cX1_plan 37 = .ok (.getfield 25, 3) := by decide +kernel
theorem dX1_plan_40 : decode cX1_plan 40 = .ok (.iload_n 3, 1) := by decide +kernel
theorem dX1_plan_41 : decode cX1_plan 41 = .ok (.iaload, 1) := by decide +kernel
theorem dX1_plan_42 : decode cX1_plan 42 = .ok (.aload_n 0, 1) := by decide +kernel
theorem dX1_plan_43 : decode cX1_plan 43 = .ok (.getfield 19, 3) := by decide +kernel
theorem dX1_plan_46 : decode cX1_plan 46 = .ok (.iload_n 3, 1) := by decide +kernel
theorem dX1_plan_47 : decode cX1_plan 47 = .ok (.iaload, 1) := by decide +kernel
theorem dX1_plan_48 : decode cX1_plan 48 = .ok (.if_icmp .ge 5, 3) := by decide +kernel
theorem dX1_plan_51 : decode cX1_plan 51 = .ok (.iconst (-1), 1) := by decide +kernel
theorem dX1_plan_52 : decode cX1_plan 52 = .ok (.ireturn, 1) := by decide +kernel
theorem dX1_plan_53 : decode cX1_plan 53 = .ok (.iload_n 2, 1) := by decide +kernel
theorem dX1_plan_54 : decode cX1_plan 54 = .ok (.aload_n 0, 1) := by decide +kernel
theorem dX1_plan_55 : decode cX1_plan 55 = .ok (.getfield 22, 3) := by decide +kernel
theorem dX1_plan_58 : decode cX1_plan 58 = .ok (.iload_n 3, 1) := by decide +kernel
theorem dX1_plan_59 : decode cX1_plan 59 = .ok (.iaload, 1) := by decide +kernel
theorem dX1_plan_60 : decode cX1_plan 60 = .ok (.iload 4, 2) := by decide +kernel
theorem dX1_plan_62 : decode cX1_plan 62 = .ok (.imul, 1) := by decide +kernel
theorem dX1_plan_63 : decode cX1_plan 63 = .ok (.iadd, 1) := by decide +kernel
theorem dX1_plan_64 : decode cX1_plan 64 = .ok (.istore_n 2, 1) := by decide +kernel
theorem dX1_plan_65 : decode cX1_plan 65 = .ok (.iinc 3 1, 3) := by decide +kernel
theorem dX1_plan_68 : decode cX1_plan 68 = .ok (.goto (-64), 3) := by decide +kernel
theorem dX1_plan_71 : decode cX1_plan 71 = .ok (.iload_n 2, 1) := by decide +kernel
theorem dX1_plan_72 : decode cX1_plan 72 = .ok (.ireturn, 1) := by decide +kernel
abbrev cX1_costAt : ByteArray := prog_3_method_11_code
def yX1_costAt : MethodName := ⟨RX1, "costAt", "(I)I"⟩
theorem dX1_costAt_0 : decode cX1_costAt 0 = .ok (.iconst (-1), 1) := by decide +kernel
theorem dX1_costAt_1 : decode cX1_costAt 1 = .ok (.istore_n 2, 1) := by decide +kernel
theorem dX1_costAt_2 : decode cX1_costAt 2 = .ok (.iconst 0, 1) := by decide +kernel
theorem dX1_costAt_3 : decode cX1_costAt 3 = .ok (.istore_n 3, 1) := by decide +kernel
theorem dX1_costAt_4 : decode cX1_costAt 4 = .ok (.iload_n 3, 1) := by decide +kernel
theorem dX1_costAt_5 : decode cX1_costAt 5 = .ok (.bipush 64, 2) := by decide +kernel
theorem dX1_costAt_7 : decode cX1_costAt 7 = .ok (.if_icmp .ge 44, 3) := by decide +kernel
theorem dX1_costAt_10 : decode cX1_costAt 10 = .ok (.iload_n 3, 1) := by decide +kernel
theorem dX1_costAt_11 : decode cX1_costAt 11 = .ok (.iload_n 1, 1) := by decide +kernel
theorem dX1_costAt_12 : decode cX1_costAt 12 = .ok (.if_icmp .gt 39, 3) := by decide +kernel
theorem dX1_costAt_15 : decode cX1_costAt 15 = .ok (.aload_n 0, 1) := by decide +kernel
theorem dX1_costAt_16 : decode cX1_costAt 16 = .ok (.getfield 31, 3) := by decide +kernel
theorem dX1_costAt_19 : decode cX1_costAt 19 = .ok (.iload_n 3, 1) := by decide +kernel
theorem dX1_costAt_20 : decode cX1_costAt 20 = .ok (.iaload, 1) := by decide +kernel
theorem dX1_costAt_21 : decode cX1_costAt 21 = .ok (.ifCond .lt 24, 3) := by decide +kernel
theorem dX1_costAt_24 : decode cX1_costAt 24 = .ok (.iload_n 2, 1) := by decide +kernel
theorem dX1_costAt_25 : decode cX1_costAt 25 = .ok (.ifCond .lt 13, 3) := by decide +kernel
theorem dX1_costAt_28 : decode cX1_costAt 28 = .ok (.aload_n 0, 1) := by decide +kernel
theorem dX1_costAt_29 : decode cX1_costAt 29 = .ok (.getfield 31, 3) := by decide +kernel
theorem dX1_costAt_32 : decode cX1_costAt 32 = .ok (.iload_n 3, 1) := by decide +kernel
theorem dX1_costAt_33 : decode cX1_costAt 33 = .ok (.iaload, 1) := by decide +kernel
theorem dX1_costAt_34 : decode cX1_costAt 34 = .ok (.iload_n 2, 1) := by decide +kernel
theorem dX1_costAt_35 : decode cX1_costAt 35 = .ok (.if_icmp .ge 10, 3) := by decide +kernel
theorem dX1_costAt_38 : decode cX1_costAt 38 = .ok (.aload_n 0, 1) := by decide +kernel
theorem dX1_costAt_39 : decode cX1_costAt 39 = .ok (.getfield 31, 3) := by decide +kernel
theorem dX1_costAt_42 : decode cX1_costAt 42 = .ok (.iload_n 3, 1) := by decide +kernel
theorem dX1_costAt_43 : decode cX1_costAt 43 = .ok (.iaload, 1) := by decide +kernel
theorem dX1_costAt_44 : decode cX1_costAt 44 = .ok (.istore_n 2, 1) := by decide +kernel
theorem dX1_costAt_45 : decode cX1_costAt 45 = .ok (.iinc 3 1, 3) := by decide +kernel
theorem dX1_costAt_48 : decode cX1_costAt 48 = .ok (.goto (-44), 3) := by decide +kernel
theorem dX1_costAt_51 : decode cX1_costAt 51 = .ok (.iload_n 2, 1) := by decide +kernel
theorem dX1_costAt_52 : decode cX1_costAt 52 = .ok (.ireturn, 1) := by decide +kernel
abbrev cX1_step : ByteArray := prog_3_method_13_code
def yX1_step : MethodName := ⟨RX1, "step", "(I)I"⟩
theorem dX1_step_0 : decode cX1_step 0 = .ok (.aload_n 0, 1) := by decide +kernel
theorem dX1_step_1 : decode cX1_step 1 = .ok (.invokevirtual 50, 3) := by decide +kernel
theorem dX1_step_4 : decode cX1_step 4 = .ok (.aload_n 0, 1) := by decide +kernel
theorem dX1_step_5 : decode cX1_step 5 = .ok (.iload_n 1, 1) := by decide +kernel
theorem dX1_step_6 : decode cX1_step 6 = .ok (.invokevirtual 53, 3) := by decide +kernel
theorem dX1_step_9 : decode cX1_step 9 = .ok (.istore_n 2, 1) := by decide +kernel
theorem dX1_step_10 : decode cX1_step 10 = .ok (.iload_n 2, 1) := by decide +kernel
theorem dX1_step_11 : decode cX1_step 11 = .ok (.ifCond .lt 9, 3) := by decide +kernel
theorem dX1_step_14 : decode cX1_step 14 = .ok (.iload_n 1, 1) := by decide +kernel
theorem dX1_step_15 : decode cX1_step 15 = .ok (.ldc 56, 2) := by decide +kernel
theorem dX1_step_17 : decode cX1_step 17 = .ok (.if_icmp .ne 15, 3) := by decide +kernel
theorem dX1_step_20 : decode cX1_step 20 = .ok (.iload_n 2, 1) := by decide +kernel
theorem dX1_step_21 : decode cX1_step 21 = .ok (.ifCond .ge 7, 3) := by decide +kernel
theorem dX1_step_24 : decode cX1_step 24 = .ok (.iconst (-1), 1) := by decide +kernel
theorem dX1_step_25 : decode cX1_step 25 = .ok (.goto 16, 3) := by decide +kernel
theorem dX1_step_28 : decode cX1_step 28 = .ok (.iconst 0, 1) := by decide +kernel
theorem dX1_step_29 : decode cX1_step 29 = .ok (.goto 12, 3) := by decide +kernel
theorem dX1_step_32 : decode cX1_step 32 = .ok (.iload_n 2, 1) := by decide +kernel
theorem dX1_step_33 : decode cX1_step 33 = .ok (.aload_n 0, 1) := by decide +kernel
theorem dX1_step_34 : decode cX1_step 34 = .ok (.iload_n 1, 1) := by decide +kernel
theorem dX1_step_35 : decode cX1_step 35 = .ok (.iconst 1, 1) := by decide +kernel
theorem dX1_step_36 : decode cX1_step 36 = .ok (.iadd, 1) := by decide +kernel
theorem dX1_step_37 : decode cX1_step 37 = .ok (.invokevirtual 53, 3) := by decide +kernel
theorem dX1_step_40 : decode cX1_step 40 = .ok (.isub, 1) := by decide +kernel
theorem dX1_step_41 : decode cX1_step 41 = .ok (.ireturn, 1) := by decide +kernel
abbrev cX1_within : ByteArray := prog_3_method_14_code
def yX1_within : MethodName := ⟨RX1, "within", "(I)I"⟩
theorem dX1_within_0 : decode cX1_within 0 = .ok (.aload_n 0, 1) := by decide +kernel
theorem dX1_within_1 : decode cX1_within 1 = .ok (.invokevirtual 50, 3) := by decide +kernel
theorem dX1_within_4 : decode cX1_within 4 = .ok (.iconst 0, 1) := by decide +kernel
theorem dX1_within_5 : decode cX1_within 5 = .ok (.istore_n 2, 1) := by decide +kernel
theorem dX1_within_6 : decode cX1_within 6 = .ok (.iload_n 2, 1) := by decide +kernel
theorem dX1_within_7 : decode cX1_within 7 = .ok (.bipush 64, 2) := by decide +kernel
theorem dX1_within_9 : decode cX1_within 9 = .ok (.if_icmp .ge 26, 3) := by decide +kernel
theorem dX1_within_12 : decode cX1_within 12 = .ok (.aload_n 0, 1) := by decide +kernel
theorem dX1_within_13 : decode cX1_within 13 = .ok (.iload_n 2, 1) := by decide +kernel
theorem dX1_within_14 : decode cX1_within 14 = .ok (.invokevirtual 53, 3) := by decide +kernel
theorem dX1_within_17 : decode cX1_within 17 = .ok (.istore_n 3, 1) := by decide +kernel
theorem dX1_within_18 : decode cX1_within 18 = .ok (.iload_n 3, 1) := by decide +kernel
theorem dX1_within_19 : decode cX1_within 19 = .ok (.ifCond .lt 10, 3) := by decide +kernel
theorem dX1_within_22 : decode cX1_within 22 = .ok (.iload_n 3, 1) := by decide +kernel
theorem dX1_within_23 : decode cX1_within 23 = .ok (.iload_n 1, 1) := by decide +kernel
theorem dX1_within_24 : decode cX1_within 24 = .ok (.if_icmp .gt 5, 3) := by decide +kernel
theorem dX1_within_27 : decode cX1_within 27 = .ok (.iload_n 2, 1) := by decide +kernel
theorem dX1_within_28 : decode cX1_within 28 = .ok (.ireturn, 1) := by decide +kernel
theorem dX1_within_29 : decode cX1_within 29 = .ok (.iinc 2 1, 3) := by decide +kernel
theorem dX1_within_32 : decode cX1_within 32 = .ok (.goto (-26), 3) := by decide +kernel
theorem dX1_within_35 : decode cX1_within 35 = .ok (.iconst (-1), 1) := by decide +kernel
theorem dX1_within_36 : decode cX1_within 36 = .ok (.ireturn, 1) := by decide +kernel
abbrev cX1_total : ByteArray := prog_3_method_15_code
def yX1_total : MethodName := ⟨RX1, "total", "(I)I"⟩
theorem dX1_total_0 : decode cX1_total 0 = .ok (.iload_n 1, 1) := by decide +kernel
theorem dX1_total_1 : decode cX1_total 1 = .ok (.ifCond .lt 10, 3) := by decide +kernel
theorem dX1_total_4 : decode cX1_total 4 = .ok (.iload_n 1, 1) := by decide +kernel
theorem dX1_total_5 : decode cX1_total 5 = .ok (.sipush 200, 3) := by decide +kernel
theorem dX1_total_8 : decode cX1_total 8 = .ok (.if_icmp .le 5, 3) := by decide +kernel
theorem dX1_total_11 : decode cX1_total 11 = .ok (.iconst (-1), 1) := by decide +kernel
theorem dX1_total_12 : decode cX1_total 12 = .ok (.ireturn, 1) := by decide +kernel
theorem dX1_total_13 : decode cX1_total 13 = .ok (.aload_n 0, 1) := by decide +kernel
theorem dX1_total_14 : decode cX1_total 14 = .ok (.invokevirtual 50, 3) := by decide +kernel
theorem dX1_total_17 : decode cX1_total 17 = .ok (.iconst (-1), 1) := by decide +kernel
theorem dX1_total_18 : decode cX1_total 18 = .ok (.istore_n 2, 1) := by decide +kernel
theorem dX1_total_19 : decode cX1_total 19 = .ok (.iconst 0, 1) := by decide +kernel
theorem dX1_total_20 : decode cX1_total 20 = .ok (.istore_n 3, 1) := by decide +kernel
theorem dX1_total_21 : decode cX1_total 21 = .ok (.iload_n 3, 1) := by decide +kernel
theorem dX1_total_22 : decode cX1_total 22 = .ok (.bipush 64, 2) := by decide +kernel
theorem dX1_total_24 : decode cX1_total 24 = .ok (.if_icmp .ge 42, 3) := by decide +kernel
theorem dX1_total_27 : decode cX1_total 27 = .ok (.aload_n 0, 1) := by decide +kernel
theorem dX1_total_28 : decode cX1_total 28 = .ok (.iload_n 3, 1) := by decide +kernel
theorem dX1_total_29 : decode cX1_total 29 = .ok (.invokevirtual 53, 3) := by decide +kernel
theorem dX1_total_32 : decode cX1_total 32 = .ok (.istore 4, 2) := by decide +kernel
theorem dX1_total_34 : decode cX1_total 34 = .ok (.iload 4, 2) := by decide +kernel
theorem dX1_total_36 : decode cX1_total 36 = .ok (.iload_n 1, 1) := by decide +kernel
theorem dX1_total_37 : decode cX1_total 37 = .ok (.iload_n 3, 1) := by decide +kernel
theorem dX1_total_38 : decode cX1_total 38 = .ok (.imul, 1) := by decide +kernel
theorem dX1_total_39 : decode cX1_total 39 = .ok (.iadd, 1) := by decide +kernel
theorem dX1_total_40 : decode cX1_total 40 = .ok (.istore 5, 2) := by decide +kernel
theorem dX1_total_42 : decode cX1_total 42 = .ok (.iload 4, 2) := by decide +kernel
theorem dX1_total_44 : decode cX1_total 44 = .ok (.ifCond .lt 16, 3) := by decide +kernel
theorem dX1_total_47 : decode cX1_total 47 = .ok (.iload_n 2, 1) := by decide +kernel
theorem dX1_total_48 : decode cX1_total 48 = .ok (.ifCond .lt 9, 3) := by decide +kernel
theorem dX1_total_51 : decode cX1_total 51 = .ok (.iload 5, 2) := by decide +kernel
theorem dX1_total_53 : decode cX1_total 53 = .ok (.iload_n 2, 1) := by decide +kernel
theorem dX1_total_54 : decode cX1_total 54 = .ok (.if_icmp .ge 6, 3) := by decide +kernel
theorem dX1_total_57 : decode cX1_total 57 = .ok (.iload 5, 2) := by decide +kernel
theorem dX1_total_59 : decode cX1_total 59 = .ok (.istore_n 2, 1) := by decide +kernel
theorem dX1_total_60 : decode cX1_total 60 = .ok (.iinc 3 1, 3) := by decide +kernel
theorem dX1_total_63 : decode cX1_total 63 = .ok (.goto (-42), 3) := by decide +kernel
theorem dX1_total_66 : decode cX1_total 66 = .ok (.iload_n 2, 1) := by decide +kernel
theorem dX1_total_67 : decode cX1_total 67 = .ok (.ireturn, 1) := by decide +kernel
end
section
set_option maxRecDepth 100000
theorem q14 : (Jvm.Cond.initialized "CrashPlannerModel") ∈ lw_all := lw_g (lw_at lw_m0 2 rfl) rfl
theorem q138 : (Jvm.Cond.instantiable "CrashPlannerModel" (9 : Nat)) ∈ lw_all := lw_g (lw_at lw_m0 126 rfl) rfl
theorem q140 : (Jvm.Cond.instanceMethod ({ cls := "CrashPlannerModel", name := "<init>", desc := "()V" } : Jvm.MethodName)) ∈ lw_all := lw_g (lw_at lw_m0 128 rfl) rfl
theorem q141 : (Jvm.Cond.code ({ cls := "CrashPlannerModel", name := "<init>", desc := "()V" } : Jvm.MethodName) prog_3_method_1_code (1 : Nat) (Option.none : Option Jvm.ClassFile.FieldType)) ∈ lw_all := lw_g (lw_at lw_m0 129 rfl) rfl
theorem q142 : (Jvm.Cond.methodLink "CrashPlannerModel" (1 : Nat) ({ cls := "java/lang/Object", name := "<init>", desc := "()V" } : Jvm.MethodName)) ∈ lw_all := lw_g (lw_at lw_m0 130 rfl) rfl
theorem q143 : (Jvm.Cond.fieldLink "CrashPlannerModel" (34 : Nat) "CrashPlannerModel" "held" "I") ∈ lw_all := lw_g (lw_at lw_m0 131 rfl) rfl
theorem q144 : (Jvm.Cond.fieldLink "CrashPlannerModel" (7 : Nat) "CrashPlannerModel" "froms" "[I") ∈ lw_all := lw_g (lw_at lw_m0 132 rfl) rfl
theorem q145 : (Jvm.Cond.fieldLink "CrashPlannerModel" (13 : Nat) "CrashPlannerModel" "tos" "[I") ∈ lw_all := lw_g (lw_at lw_m0 133 rfl) rfl
theorem q146 : (Jvm.Cond.fieldLink "CrashPlannerModel" (16 : Nat) "CrashPlannerModel" "slows" "[I") ∈ lw_all := lw_g (lw_at lw_m0 134 rfl) rfl
theorem q147 : (Jvm.Cond.fieldLink "CrashPlannerModel" (19 : Nat) "CrashPlannerModel" "fasts" "[I") ∈ lw_all := lw_g (lw_at lw_m0 135 rfl) rfl
theorem q148 : (Jvm.Cond.fieldLink "CrashPlannerModel" (22 : Nat) "CrashPlannerModel" "prices" "[I") ∈ lw_all := lw_g (lw_at lw_m0 136 rfl) rfl
theorem q149 : (Jvm.Cond.fieldLink "CrashPlannerModel" (25 : Nat) "CrashPlannerModel" "times" "[I") ∈ lw_all := lw_g (lw_at lw_m0 137 rfl) rfl
theorem q150 : (Jvm.Cond.fieldLink "CrashPlannerModel" (28 : Nat) "CrashPlannerModel" "late" "[I") ∈ lw_all := lw_g (lw_at lw_m0 138 rfl) rfl
theorem q151 : (Jvm.Cond.fieldLink "CrashPlannerModel" (31 : Nat) "CrashPlannerModel" "cheapest" "[I") ∈ lw_all := lw_g (lw_at lw_m0 139 rfl) rfl
theorem q152 : (Jvm.Cond.lays "CrashPlannerModel" "CrashPlannerModel" "held" "I") ∈ lw_all := lw_g (lw_at lw_m0 140 rfl) rfl
theorem q153 : (Jvm.Cond.soleField "CrashPlannerModel" "held") ∈ lw_all := lw_g (lw_at lw_m0 141 rfl) rfl
theorem q154 : (Jvm.Cond.laysFinal "CrashPlannerModel" "CrashPlannerModel" "froms" "[I") ∈ lw_all := lw_g (lw_at lw_m0 142 rfl) rfl
theorem q155 : (Jvm.Cond.soleField "CrashPlannerModel" "froms") ∈ lw_all := lw_g (lw_at lw_m0 143 rfl) rfl
theorem q156 : (Jvm.Cond.laysFinal "CrashPlannerModel" "CrashPlannerModel" "tos" "[I") ∈ lw_all := lw_g (lw_at lw_m0 144 rfl) rfl
theorem q157 : (Jvm.Cond.soleField "CrashPlannerModel" "tos") ∈ lw_all := lw_g (lw_at lw_m0 145 rfl) rfl
theorem q158 : (Jvm.Cond.laysFinal "CrashPlannerModel" "CrashPlannerModel" "slows" "[I") ∈ lw_all := lw_g (lw_at lw_m0 146 rfl) rfl
theorem q159 : (Jvm.Cond.soleField "CrashPlannerModel" "slows") ∈ lw_all := lw_g (lw_at lw_m0 147 rfl) rfl
theorem q160 : (Jvm.Cond.laysFinal "CrashPlannerModel" "CrashPlannerModel" "fasts" "[I") ∈ lw_all := lw_g (lw_at lw_m0 148 rfl) rfl
theorem q161 : (Jvm.Cond.soleField "CrashPlannerModel" "fasts") ∈ lw_all := lw_g (lw_at lw_m0 149 rfl) rfl
theorem q162 : (Jvm.Cond.laysFinal "CrashPlannerModel" "CrashPlannerModel" "prices" "[I") ∈ lw_all := lw_g (lw_at lw_m0 150 rfl) rfl
theorem q163 : (Jvm.Cond.soleField "CrashPlannerModel" "prices") ∈ lw_all := lw_g (lw_at lw_m0 151 rfl) rfl
theorem q164 : (Jvm.Cond.laysFinal "CrashPlannerModel" "CrashPlannerModel" "times" "[I") ∈ lw_all := lw_g (lw_at lw_m0 152 rfl) rfl
theorem q165 : (Jvm.Cond.soleField "CrashPlannerModel" "times") ∈ lw_all := lw_g (lw_at lw_m0 153 rfl) rfl
theorem q166 : (Jvm.Cond.laysFinal "CrashPlannerModel" "CrashPlannerModel" "late" "[I") ∈ lw_all := lw_g (lw_at lw_m0 154 rfl) rfl
theorem q167 : (Jvm.Cond.soleField "CrashPlannerModel" "late") ∈ lw_all := lw_g (lw_at lw_m0 155 rfl) rfl
theorem q168 : (Jvm.Cond.laysFinal "CrashPlannerModel" "CrashPlannerModel" "cheapest" "[I") ∈ lw_all := lw_g (lw_at lw_m0 156 rfl) rfl
theorem q169 : (Jvm.Cond.soleField "CrashPlannerModel" "cheapest") ∈ lw_all := lw_g (lw_at lw_m0 157 rfl) rfl
theorem q170 : (Jvm.Cond.superclass "CrashPlannerModel" "java/lang/Object") ∈ lw_all := lw_g (lw_at lw_m0 158 rfl) rfl
theorem q172 : (Jvm.Cond.instanceMethod ({ cls := "CrashPlannerModel", name := "add", desc := "(IIIII)I" } : Jvm.MethodName)) ∈ lw_all := lw_g (lw_at lw_m0 160 rfl) rfl
theorem q173 : (Jvm.Cond.selects "CrashPlannerModel" ({ cls := "CrashPlannerModel", name := "add", desc := "(IIIII)I" } : Jvm.MethodName) ({ cls := "CrashPlannerModel", name := "add", desc := "(IIIII)I" } : Jvm.MethodName)) ∈ lw_all := lw_g (lw_at lw_m0 161 rfl) rfl
theorem q174 : (Jvm.Cond.code ({ cls := "CrashPlannerModel", name := "add", desc := "(IIIII)I" } : Jvm.MethodName) prog_3_method_2_code (6 : Nat) (Option.some Jvm.ClassFile.FieldType.int)) ∈ lw_all := lw_g (lw_at lw_m0 162 rfl) rfl
theorem q175 : (Jvm.Cond.methodLink "CrashPlannerModel" (38 : Nat) ({ cls := "CrashPlannerModel", name := "badPrice", desc := "(I)Z" } : Jvm.MethodName)) ∈ lw_all := lw_g (lw_at lw_m0 163 rfl) rfl
theorem q176 : (Jvm.Cond.static ({ cls := "CrashPlannerModel", name := "badPrice", desc := "(I)Z" } : Jvm.MethodName)) ∈ lw_all := lw_g (lw_at lw_m0 164 rfl) rfl
theorem q177 : (Jvm.Cond.code ({ cls := "CrashPlannerModel", name := "badPrice", desc := "(I)Z" } : Jvm.MethodName) prog_3_method_3_code (1 : Nat) (Option.some Jvm.ClassFile.FieldType.boolean)) ∈ lw_all := lw_g (lw_at lw_m0 165 rfl) rfl
theorem q179 : (Jvm.Cond.instanceMethod ({ cls := "CrashPlannerModel", name := "drop", desc := "(I)I" } : Jvm.MethodName)) ∈ lw_all := lw_g (lw_at lw_m0 167 rfl) rfl
theorem q180 : (Jvm.Cond.selects "CrashPlannerModel" ({ cls := "CrashPlannerModel", name := "drop", desc := "(I)I" } : Jvm.MethodName) ({ cls := "CrashPlannerModel", name := "drop", desc := "(I)I" } : Jvm.MethodName)) ∈ lw_all := lw_g (lw_at lw_m0 168 rfl) rfl
theorem q181 : (Jvm.Cond.code ({ cls := "CrashPlannerModel", name := "drop", desc := "(I)I" } : Jvm.MethodName) prog_3_method_4_code (3 : Nat) (Option.some Jvm.ClassFile.FieldType.int)) ∈ lw_all := lw_g (lw_at lw_m0 169 rfl) rfl
theorem q183 : (Jvm.Cond.instanceMethod ({ cls := "CrashPlannerModel", name := "price", desc := "(II)I" } : Jvm.MethodName)) ∈ lw_all := lw_g (lw_at lw_m0 171 rfl) rfl
theorem q184 : (Jvm.Cond.selects "CrashPlannerModel" ({ cls := "CrashPlannerModel", name := "price", desc := "(II)I" } : Jvm.MethodName) ({ cls := "CrashPlannerModel", name := "price", desc := "(II)I" } : Jvm.MethodName)) ∈ lw_all := lw_g (lw_at lw_m0 172 rfl) rfl
theorem q185 : (Jvm.Cond.code ({ cls := "CrashPlannerModel", name := "price", desc := "(II)I" } : Jvm.MethodName) prog_3_method_5_code (4 : Nat) (Option.some Jvm.ClassFile.FieldType.int)) ∈ lw_all := lw_g (lw_at lw_m0 173 rfl) rfl
theorem q187 : (Jvm.Cond.instanceMethod ({ cls := "CrashPlannerModel", name := "slowest", desc := "()I" } : Jvm.MethodName)) ∈ lw_all := lw_g (lw_at lw_m0 175 rfl) rfl
theorem q188 : (Jvm.Cond.selects "CrashPlannerModel" ({ cls := "CrashPlannerModel", name := "slowest", desc := "()I" } : Jvm.MethodName) ({ cls := "CrashPlannerModel", name := "slowest", desc := "()I" } : Jvm.MethodName)) ∈ lw_all := lw_g (lw_at lw_m0 176 rfl) rfl
theorem q189 : (Jvm.Cond.code ({ cls := "CrashPlannerModel", name := "slowest", desc := "()I" } : Jvm.MethodName) prog_3_method_7_code (2 : Nat) (Option.some Jvm.ClassFile.FieldType.int)) ∈ lw_all := lw_g (lw_at lw_m0 177 rfl) rfl
theorem q190 : (Jvm.Cond.methodLink "CrashPlannerModel" (42 : Nat) ({ cls := "CrashPlannerModel", name := "length", desc := "()I" } : Jvm.MethodName)) ∈ lw_all := lw_g (lw_at lw_m0 178 rfl) rfl
theorem q191 : (Jvm.Cond.privateMethod ({ cls := "CrashPlannerModel", name := "length", desc := "()I" } : Jvm.MethodName)) ∈ lw_tbl := lw_at lw_m0 179 rfl
theorem q192 : (Jvm.Cond.instanceMethod ({ cls := "CrashPlannerModel", name := "length", desc := "()I" } : Jvm.MethodName)) ∈ lw_all := lw_g (lw_at lw_m0 180 rfl) rfl
theorem q193 : (Jvm.Cond.code ({ cls := "CrashPlannerModel", name := "length", desc := "()I" } : Jvm.MethodName) prog_3_method_6_code (3 : Nat) (Option.some Jvm.ClassFile.FieldType.int)) ∈ lw_all := lw_g (lw_at lw_m0 181 rfl) rfl
theorem q195 : (Jvm.Cond.instanceMethod ({ cls := "CrashPlannerModel", name := "fastest", desc := "()I" } : Jvm.MethodName)) ∈ lw_all := lw_g (lw_at lw_m0 183 rfl) rfl
theorem q196 : (Jvm.Cond.selects "CrashPlannerModel" ({ cls := "CrashPlannerModel", name := "fastest", desc := "()I" } : Jvm.MethodName) ({ cls := "CrashPlannerModel", name := "fastest", desc := "()I" } : Jvm.MethodName)) ∈ lw_all := lw_g (lw_at lw_m0 184 rfl) rfl
theorem q197 : (Jvm.Cond.code ({ cls := "CrashPlannerModel", name := "fastest", desc := "()I" } : Jvm.MethodName) prog_3_method_8_code (2 : Nat) (Option.some Jvm.ClassFile.FieldType.int)) ∈ lw_all := lw_g (lw_at lw_m0 185 rfl) rfl
theorem q199 : (Jvm.Cond.instanceMethod ({ cls := "CrashPlannerModel", name := "cost", desc := "(I)I" } : Jvm.MethodName)) ∈ lw_all := lw_g (lw_at lw_m0 187 rfl) rfl
theorem q200 : (Jvm.Cond.selects "CrashPlannerModel" ({ cls := "CrashPlannerModel", name := "cost", desc := "(I)I" } : Jvm.MethodName) ({ cls := "CrashPlannerModel", name := "cost", desc := "(I)I" } : Jvm.MethodName)) ∈ lw_all := lw_g (lw_at lw_m0 188 rfl) rfl
theorem q201 : (Jvm.Cond.code ({ cls := "CrashPlannerModel", name := "cost", desc := "(I)I" } : Jvm.MethodName) prog_3_method_12_code (2 : Nat) (Option.some Jvm.ClassFile.FieldType.int)) ∈ lw_all := lw_g (lw_at lw_m0 189 rfl) rfl
theorem q202 : (Jvm.Cond.methodLink "CrashPlannerModel" (50 : Nat) ({ cls := "CrashPlannerModel", name := "curve", desc := "()V" } : Jvm.MethodName)) ∈ lw_all := lw_g (lw_at lw_m0 190 rfl) rfl
theorem q203 : (Jvm.Cond.privateMethod ({ cls := "CrashPlannerModel", name := "curve", desc := "()V" } : Jvm.MethodName)) ∈ lw_tbl := lw_at lw_m0 191 rfl
theorem q204 : (Jvm.Cond.instanceMethod ({ cls := "CrashPlannerModel", name := "curve", desc := "()V" } : Jvm.MethodName)) ∈ lw_all := lw_g (lw_at lw_m0 192 rfl) rfl
theorem q205 : (Jvm.Cond.code ({ cls := "CrashPlannerModel", name := "curve", desc := "()V" } : Jvm.MethodName) prog_3_method_10_code (5 : Nat) (Option.none : Option Jvm.ClassFile.FieldType)) ∈ lw_all := lw_g (lw_at lw_m0 193 rfl) rfl
theorem q206 : (Jvm.Cond.methodLink "CrashPlannerModel" (46 : Nat) ({ cls := "CrashPlannerModel", name := "plan", desc := "(I)I" } : Jvm.MethodName)) ∈ lw_all := lw_g (lw_at lw_m0 194 rfl) rfl
theorem q207 : (Jvm.Cond.privateMethod ({ cls := "CrashPlannerModel", name := "plan", desc := "(I)I" } : Jvm.MethodName)) ∈ lw_tbl := lw_at lw_m0 195 rfl
theorem q208 : (Jvm.Cond.instanceMethod ({ cls := "CrashPlannerModel", name := "plan", desc := "(I)I" } : Jvm.MethodName)) ∈ lw_all := lw_g (lw_at lw_m0 196 rfl) rfl
theorem q209 : (Jvm.Cond.code ({ cls := "CrashPlannerModel", name := "plan", desc := "(I)I" } : Jvm.MethodName) prog_3_method_9_code (5 : Nat) (Option.some Jvm.ClassFile.FieldType.int)) ∈ lw_all := lw_g (lw_at lw_m0 197 rfl) rfl
theorem q210 : (Jvm.Cond.methodLink "CrashPlannerModel" (53 : Nat) ({ cls := "CrashPlannerModel", name := "costAt", desc := "(I)I" } : Jvm.MethodName)) ∈ lw_all := lw_g (lw_at lw_m0 198 rfl) rfl
theorem q211 : (Jvm.Cond.privateMethod ({ cls := "CrashPlannerModel", name := "costAt", desc := "(I)I" } : Jvm.MethodName)) ∈ lw_tbl := lw_at lw_m0 199 rfl
theorem q212 : (Jvm.Cond.instanceMethod ({ cls := "CrashPlannerModel", name := "costAt", desc := "(I)I" } : Jvm.MethodName)) ∈ lw_all := lw_g (lw_at lw_m0 200 rfl) rfl
theorem q213 : (Jvm.Cond.code ({ cls := "CrashPlannerModel", name := "costAt", desc := "(I)I" } : Jvm.MethodName) prog_3_method_11_code (4 : Nat) (Option.some Jvm.ClassFile.FieldType.int)) ∈ lw_all := lw_g (lw_at lw_m0 201 rfl) rfl
theorem q215 : (Jvm.Cond.instanceMethod ({ cls := "CrashPlannerModel", name := "step", desc := "(I)I" } : Jvm.MethodName)) ∈ lw_all := lw_g (lw_at lw_m0 203 rfl) rfl
theorem q216 : (Jvm.Cond.selects "CrashPlannerModel" ({ cls := "CrashPlannerModel", name := "step", desc := "(I)I" } : Jvm.MethodName) ({ cls := "CrashPlannerModel", name := "step", desc := "(I)I" } : Jvm.MethodName)) ∈ lw_all := lw_g (lw_at lw_m0 204 rfl) rfl
theorem q217 : (Jvm.Cond.code ({ cls := "CrashPlannerModel", name := "step", desc := "(I)I" } : Jvm.MethodName) prog_3_method_13_code (3 : Nat) (Option.some Jvm.ClassFile.FieldType.int)) ∈ lw_all := lw_g (lw_at lw_m0 205 rfl) rfl
theorem q218 : (Jvm.Cond.constant "CrashPlannerModel" (56 : Nat) (2147483647 : Int32)) ∈ lw_all := lw_g (lw_at lw_m0 206 rfl) rfl
theorem q220 : (Jvm.Cond.instanceMethod ({ cls := "CrashPlannerModel", name := "within", desc := "(I)I" } : Jvm.MethodName)) ∈ lw_all := lw_g (lw_at lw_m0 208 rfl) rfl
theorem q221 : (Jvm.Cond.selects "CrashPlannerModel" ({ cls := "CrashPlannerModel", name := "within", desc := "(I)I" } : Jvm.MethodName) ({ cls := "CrashPlannerModel", name := "within", desc := "(I)I" } : Jvm.MethodName)) ∈ lw_all := lw_g (lw_at lw_m0 209 rfl) rfl
theorem q222 : (Jvm.Cond.code ({ cls := "CrashPlannerModel", name := "within", desc := "(I)I" } : Jvm.MethodName) prog_3_method_14_code (4 : Nat) (Option.some Jvm.ClassFile.FieldType.int)) ∈ lw_all := lw_g (lw_at lw_m0 210 rfl) rfl
theorem q224 : (Jvm.Cond.instanceMethod ({ cls := "CrashPlannerModel", name := "total", desc := "(I)I" } : Jvm.MethodName)) ∈ lw_all := lw_g (lw_at lw_m0 212 rfl) rfl
theorem q225 : (Jvm.Cond.selects "CrashPlannerModel" ({ cls := "CrashPlannerModel", name := "total", desc := "(I)I" } : Jvm.MethodName) ({ cls := "CrashPlannerModel", name := "total", desc := "(I)I" } : Jvm.MethodName)) ∈ lw_all := lw_g (lw_at lw_m0 213 rfl) rfl
theorem q226 : (Jvm.Cond.code ({ cls := "CrashPlannerModel", name := "total", desc := "(I)I" } : Jvm.MethodName) prog_3_method_15_code (6 : Nat) (Option.some Jvm.ClassFile.FieldType.int)) ∈ lw_all := lw_g (lw_at lw_m0 214 rfl) rfl
theorem in_X1 : ∀ w ∈ wsX10, w ∈ lw_all := lw_in wsX10 [152, 154, 156, 158, 160, 162, 164, 166, 168] (by decide +kernel) (by decide +kernel)
end
section
/-! the law's own entry -/
set_option maxRecDepth 100000
abbrev cL_law : ByteArray := code
theorem dL_law_0 : decode cL_law 0 = .ok (.new 7, 3) := by decide +kernel
theorem dL_law_3 : decode cL_law 3 = .ok (.dup, 1) := by decide +kernel
theorem dL_law_4 : decode cL_law 4 = .ok (.invokespecial 9, 3) := by decide +kernel
theorem dL_law_7 : decode cL_law 7 = .ok (.astore_n 1, 1) := by decide +kernel
theorem dL_law_8 : decode cL_law 8 = .ok (.new 10, 3) := by decide +kernel
theorem dL_law_11 : decode cL_law 11 = .ok (.dup, 1) := by decide +kernel
theorem dL_law_12 : decode cL_law 12 = .ok (.invokespecial 12, 3) := by decide +kernel
theorem dL_law_15 : decode cL_law 15 = .ok (.astore_n 2, 1) := by decide +kernel
theorem dL_law_16 : decode cL_law 16 = .ok (.iconst 0, 1) := by decide +kernel
theorem dL_law_17 : decode cL_law 17 = .ok (.istore_n 3, 1) := by decide +kernel
theorem dL_law_18 : decode cL_law 18 = .ok (.iload_n 3, 1) := by decide +kernel
theorem dL_law_19 : decode cL_law 19 = .ok (.aload_n 0, 1) := by decide +kernel
theorem dL_law_20 : decode cL_law 20 = .ok (.arraylength, 1) := by decide +kernel
theorem dL_law_21 : decode cL_law 21 = .ok (.bipush 6, 2) := by decide +kernel
theorem dL_law_23 : decode cL_law 23 = .ok (.isub, 1) := by decide +kernel
theorem dL_law_24 : decode cL_law 24 = .ok (.if_icmp .gt 303, 3) := by decide +kernel
theorem dL_law_27 : decode cL_law 27 = .ok (.aload_n 0, 1) := by decide +kernel
theorem dL_law_28 : decode cL_law 28 = .ok (.iload_n 3, 1) := by decide +kernel
theorem dL_law_29 : decode cL_law 29 = .ok (.iaload, 1) := by decide +kernel
theorem dL_law_30 : decode cL_law 30 = .ok (.bipush 15, 2) := by decide +kernel
theorem dL_law_32 : decode cL_law 32 = .ok (.iand, 1) := by decide +kernel
theorem dL_law_33 : decode cL_law 33 = .ok (.tableswitch 288 0 8 #[51, 114, 137, 170, 183, 196, 219, 242, 265], 51) := by decide +kernel
theorem dL_law_84 : decode cL_law 84 = .ok (.aload_n 1, 1) := by decide +kernel
theorem dL_law_85 : decode cL_law 85 = .ok (.aload_n 0, 1) := by decide +kernel
theorem dL_law_86 : decode cL_law 86 = .ok (.iload_n 3, 1) := by decide +kernel
theorem dL_law_87 : decode cL_law 87 = .ok (.iconst 1, 1) := by decide +kernel
theorem dL_law_88 : decode cL_law 88 = .ok (.iadd, 1) := by decide +kernel
theorem dL_law_89 : decode cL_law 89 = .ok (.iaload, 1) := by decide +kernel
theorem dL_law_90 : decode cL_law 90 = .ok (.aload_n 0, 1) := by decide +kernel
theorem dL_law_91 : decode cL_law 91 = .ok (.iload_n 3, 1) := by decide +kernel
theorem dL_law_92 : decode cL_law 92 = .ok (.iconst 2, 1) := by decide +kernel
theorem dL_law_93 : decode cL_law 93 = .ok (.iadd, 1) := by decide +kernel
theorem dL_law_94 : decode cL_law 94 = .ok (.iaload, 1) := by decide +kernel
theorem dL_law_95 : decode cL_law 95 = .ok (.aload_n 0, 1) := by decide +kernel
theorem dL_law_96 : decode cL_law 96 = .ok (.iload_n 3, 1) := by decide +kernel
theorem dL_law_97 : decode cL_law 97 = .ok (.iconst 3, 1) := by decide +kernel
theorem dL_law_98 : decode cL_law 98 = .ok (.iadd, 1) := by decide +kernel
theorem dL_law_99 : decode cL_law 99 = .ok (.iaload, 1) := by decide +kernel
theorem dL_law_100 : decode cL_law 100 = .ok (.aload_n 0, 1) := by decide +kernel
theorem dL_law_101 : decode cL_law 101 = .ok (.iload_n 3, 1) := by decide +kernel
theorem dL_law_102 : decode cL_law 102 = .ok (.iconst 4, 1) := by decide +kernel
theorem dL_law_103 : decode cL_law 103 = .ok (.iadd, 1) := by decide +kernel
theorem dL_law_104 : decode cL_law 104 = .ok (.iaload, 1) := by decide +kernel
theorem dL_law_105 : decode cL_law 105 = .ok (.aload_n 0, 1) := by decide +kernel
theorem dL_law_106 : decode cL_law 106 = .ok (.iload_n 3, 1) := by decide +kernel
theorem dL_law_107 : decode cL_law 107 = .ok (.iconst 5, 1) := by decide +kernel
theorem dL_law_108 : decode cL_law 108 = .ok (.iadd, 1) := by decide +kernel
theorem dL_law_109 : decode cL_law 109 = .ok (.iaload, 1) := by decide +kernel
theorem dL_law_110 : decode cL_law 110 = .ok (.invokevirtual 13, 3) := by decide +kernel
theorem dL_law_113 : decode cL_law 113 = .ok (.aload_n 2, 1) := by decide +kernel
theorem dL_law_114 : decode cL_law 114 = .ok (.aload_n 0, 1) := by decide +kernel
theorem dL_law_115 : decode cL_law 115 = .ok (.iload_n 3, 1) := by decide +kernel
theorem dL_law_116 : decode cL_law 116 = .ok (.iconst 1, 1) := by decide +kernel
theorem dL_law_117 : decode cL_law 117 = .ok (.iadd, 1) := by decide +kernel
theorem dL_law_118 : decode cL_law 118 = .ok (.iaload, 1) := by decide +kernel
theorem dL_law_119 : decode cL_law 119 = .ok (.aload_n 0, 1) := by decide +kernel
theorem dL_law_120 : decode cL_law 120 = .ok (.iload_n 3, 1) := by decide +kernel
theorem dL_law_121 : decode cL_law 121 = .ok (.iconst 2, 1) := by decide +kernel
theorem dL_law_122 : decode cL_law 122 = .ok (.iadd, 1) := by decide +kernel
theorem dL_law_123 : decode cL_law 123 = .ok (.iaload, 1) := by decide +kernel
theorem dL_law_124 : decode cL_law 124 = .ok (.aload_n 0, 1) := by decide +kernel
theorem dL_law_125 : decode cL_law 125 = .ok (.iload_n 3, 1) := by decide +kernel
theorem dL_law_126 : decode cL_law 126 = .ok (.iconst 3, 1) := by decide +kernel
theorem dL_law_127 : decode cL_law 127 = .ok (.iadd, 1) := by decide +kernel
theorem dL_law_128 : decode cL_law 128 = .ok (.iaload, 1) := by decide +kernel
theorem dL_law_129 : decode cL_law 129 = .ok (.aload_n 0, 1) := by decide +kernel
theorem dL_law_130 : decode cL_law 130 = .ok (.iload_n 3, 1) := by decide +kernel
theorem dL_law_131 : decode cL_law 131 = .ok (.iconst 4, 1) := by decide +kernel
theorem dL_law_132 : decode cL_law 132 = .ok (.iadd, 1) := by decide +kernel
theorem dL_law_133 : decode cL_law 133 = .ok (.iaload, 1) := by decide +kernel
theorem dL_law_134 : decode cL_law 134 = .ok (.aload_n 0, 1) := by decide +kernel
theorem dL_law_135 : decode cL_law 135 = .ok (.iload_n 3, 1) := by decide +kernel
theorem dL_law_136 : decode cL_law 136 = .ok (.iconst 5, 1) := by decide +kernel
theorem dL_law_137 : decode cL_law 137 = .ok (.iadd, 1) := by decide +kernel
theorem dL_law_138 : decode cL_law 138 = .ok (.iaload, 1) := by decide +kernel
theorem dL_law_139 : decode cL_law 139 = .ok (.invokevirtual 17, 3) := by decide +kernel
theorem dL_law_142 : decode cL_law 142 = .ok (.if_icmp .eq 179, 3) := by decide +kernel
theorem dL_law_145 : decode cL_law 145 = .ok (.iconst 0, 1) := by decide +kernel
theorem dL_law_146 : decode cL_law 146 = .ok (.ireturn, 1) := by decide +kernel
theorem dL_law_147 : decode cL_law 147 = .ok (.aload_n 1, 1) := by decide +kernel
theorem dL_law_148 : decode cL_law 148 = .ok (.aload_n 0, 1) := by decide +kernel
theorem dL_law_149 : decode cL_law 149 = .ok (.iload_n 3, 1) := by decide +kernel
theorem dL_law_150 : decode cL_law 150 = .ok (.iconst 1, 1) := by decide +kernel
theorem dL_law_151 : decode cL_law 151 = .ok (.iadd, 1) := by decide +kernel
theorem dL_law_152 : decode cL_law 152 = .ok (.iaload, 1) := by decide +kernel
theorem dL_law_153 : decode cL_law 153 = .ok (.invokevirtual 18, 3) := by decide +kernel
theorem dL_law_156 : decode cL_law 156 = .ok (.aload_n 2, 1) := by decide +kernel
theorem dL_law_157 : decode cL_law 157 = .ok (.aload_n 0, 1) := by decide +kernel
theorem dL_law_158 : decode cL_law 158 = .ok (.iload_n 3, 1) := by decide +kernel
theorem dL_law_159 : decode cL_law 159 = .ok (.iconst 1, 1) := by decide +kernel
theorem dL_law_160 : decode cL_law 160 = .ok (.iadd, 1) := by decide +kernel
theorem dL_law_161 : decode cL_law 161 = .ok (.iaload, 1) := by decide +kernel
theorem dL_law_162 : decode cL_law 162 = .ok (.invokevirtual 22, 3) := by decide +kernel
theorem dL_law_165 : decode cL_law 165 = .ok (.if_icmp .eq 156, 3) := by decide +kernel
theorem dL_law_168 : decode cL_law 168 = .ok (.iconst 0, 1) := by decide +kernel
theorem dL_law_169 : decode cL_law 169 = .ok (.ireturn, 1) := by decide +kernel
theorem dL_law_170 : decode cL_law 170 = .ok (.aload_n 1, 1) := by decide +kernel
theorem dL_law_171 : decode cL_law 171 = .ok (.aload_n 0, 1) := by decide +kernel
theorem dL_law_172 : decode cL_law 172 = .ok (.iload_n 3, 1) := by decide +kernel
theorem dL_law_173 : decode cL_law 173 = .ok (.iconst 1, 1) := by decide +kernel
theorem dL_law_174 : decode cL_law 174 = .ok (.iadd, 1) := by decide +kernel
theorem dL_law_175 : decode cL_law 175 = .ok (.iaload, 1) := by decide +kernel
theorem dL_law_176 : decode cL_law 176 = .ok (.aload_n 0, 1) := by decide +kernel
theorem dL_law_177 : decode cL_law 177 = .ok (.iload_n 3, 1) := by decide +kernel
theorem dL_law_178 : decode cL_law 178 = .ok (.iconst 2, 1) := by decide +kernel
theorem dL_law_179 : decode cL_law 179 = .ok (.iadd, 1) := by decide +kernel
theorem dL_law_180 : decode cL_law 180 = .ok (.iaload, 1) := by decide +kernel
theorem dL_law_181 : decode cL_law 181 = .ok (.invokevirtual 23, 3) := by decide +kernel
theorem dL_law_184 : decode cL_law 184 = .ok (.aload_n 2, 1) := by decide +kernel
theorem dL_law_185 : decode cL_law 185 = .ok (.aload_n 0, 1) := by decide +kernel
theorem dL_law_186 : decode cL_law 186 = .ok (.iload_n 3, 1) := by decide +kernel
theorem dL_law_187 : decode cL_law 187 = .ok (.iconst 1, 1) := by decide +kernel
theorem dL_law_188 : decode cL_law 188 = .ok (.iadd, 1) := by decide +kernel
theorem dL_law_189 : decode cL_law 189 = .ok (.iaload, 1) := by decide +kernel
theorem dL_law_190 : decode cL_law 190 = .ok (.aload_n 0, 1) := by decide +kernel
theorem dL_law_191 : decode cL_law 191 = .ok (.iload_n 3, 1) := by decide +kernel
theorem dL_law_192 : decode cL_law 192 = .ok (.iconst 2, 1) := by decide +kernel
theorem dL_law_193 : decode cL_law 193 = .ok (.iadd, 1) := by decide +kernel
theorem dL_law_194 : decode cL_law 194 = .ok (.iaload, 1) := by decide +kernel
theorem dL_law_195 : decode cL_law 195 = .ok (.invokevirtual 27, 3) := by decide +kernel
theorem dL_law_198 : decode cL_law 198 = .ok (.if_icmp .eq 123, 3) := by decide +kernel
theorem dL_law_201 : decode cL_law 201 = .ok (.iconst 0, 1) := by decide +kernel
theorem dL_law_202 : decode cL_law 202 = .ok (.ireturn, 1) := by decide +kernel
theorem dL_law_203 : decode cL_law 203 = .ok (.aload_n 1, 1) := by decide +kernel
theorem dL_law_204 : decode cL_law 204 = .ok (.invokevirtual 28, 3) := by decide +kernel
theorem dL_law_207 : decode cL_law 207 = .ok (.aload_n 2, 1) := by decide +kernel
theorem dL_law_208 : decode cL_law 208 = .ok (.invokevirtual 32, 3) := by decide +kernel
theorem dL_law_211 : decode cL_law 211 = .ok (.if_icmp .eq 110, 3) := by decide +kernel
theorem dL_law_214 : decode cL_law 214 = .ok (.iconst 0, 1) := by decide +kernel
theorem dL_law_215 : decode cL_law 215 = .ok (.ireturn, 1) := by decide +kernel
theorem dL_law_216 : decode cL_law 216 = .ok (.aload_n 1, 1) := by decide +kernel
theorem dL_law_217 : decode cL_law 217 = .ok (.invokevirtual 33, 3) := by decide +kernel
theorem dL_law_220 : decode cL_law 220 = .ok (.aload_n 2, 1) := by decide +kernel
theorem dL_law_221 : decode cL_law 221 = .ok (.invokevirtual 36, 3) := by decide +kernel
theorem dL_law_224 : decode cL_law 224 = .ok (.if_icmp .eq 97, 3) := by decide +kernel
theorem dL_law_227 : decode cL_law 227 = .ok (.iconst 0, 1) := by decide +kernel
theorem dL_law_228 : decode cL_law 228 = .ok (.ireturn, 1) := by decide +kernel
theorem dL_law_229 : decode cL_law 229 = .ok (.aload_n 1, 1) := by decide +kernel
theorem dL_law_230 : decode cL_law 230 = .ok (.aload_n 0, 1) := by decide +kernel
theorem dL_law_231 : decode cL_law 231 = .ok (.iload_n 3, 1) := by decide +kernel
theorem dL_law_232 : decode cL_law 232 = .ok (.iconst 1, 1) := by decide +kernel
theorem dL_law_233 : decode cL_law 233 = .ok (.iadd, 1) := by decide +kernel
theorem dL_law_234 : decode cL_law 234 = .ok (.iaload, 1) := by decide +kernel
theorem dL_law_235 : decode cL_law 235 = .ok (.invokevirtual 37, 3) := by decide +kernel
theorem dL_law_238 : decode cL_law 238 = .ok (.aload_n 2, 1) := by decide +kernel
theorem dL_law_239 : decode cL_law 239 = .ok (.aload_n 0, 1) := by decide +kernel
theorem dL_law_240 : decode cL_law 240 = .ok (.iload_n 3, 1) := by decide +kernel
theorem dL_law_241 : decode cL_law 241 = .ok (.iconst 1, 1) := by decide +kernel
theorem dL_law_242 : decode cL_law 242 = .ok (.iadd, 1) := by decide +kernel
theorem dL_law_243 : decode cL_law 243 = .ok (.iaload, 1) := by decide +kernel
theorem dL_law_244 : decode cL_law 244 = .ok (.invokevirtual 40, 3) := by decide +kernel
theorem dL_law_247 : decode cL_law 247 = .ok (.if_icmp .eq 74, 3) := by decide +kernel
theorem dL_law_250 : decode cL_law 250 = .ok (.iconst 0, 1) := by decide +kernel
theorem dL_law_251 : decode cL_law 251 = .ok (.ireturn, 1) := by decide +kernel
theorem dL_law_252 : decode cL_law 252 = .ok (.aload_n 1, 1) := by decide +kernel
theorem dL_law_253 : decode cL_law 253 = .ok (.aload_n 0, 1) := by decide +kernel
theorem dL_law_254 : decode cL_law 254 = .ok (.iload_n 3, 1) := by decide +kernel
theorem dL_law_255 : decode cL_law 255 = .ok (.iconst 1, 1) := by decide +kernel
theorem dL_law_256 : decode cL_law 256 = .ok (.iadd, 1) := by decide +kernel
theorem dL_law_257 : decode cL_law 257 = .ok (.iaload, 1) := by decide +kernel
theorem dL_law_258 : decode cL_law 258 = .ok (.invokevirtual 41, 3) := by decide +kernel
theorem dL_law_261 : decode cL_law 261 = .ok (.aload_n 2, 1) := by decide +kernel
theorem dL_law_262 : decode cL_law 262 = .ok (.aload_n 0, 1) := by decide +kernel
theorem dL_law_263 : decode cL_law 263 = .ok (.iload_n 3, 1) := by decide +kernel
theorem dL_law_264 : decode cL_law 264 = .ok (.iconst 1, 1) := by decide +kernel
theorem dL_law_265 : decode cL_law 265 = .ok (.iadd, 1) := by decide +kernel
theorem dL_law_266 : decode cL_law 266 = .ok (.iaload, 1) := by decide +kernel
theorem dL_law_267 : decode cL_law 267 = .ok (.invokevirtual 44, 3) := by decide +kernel
theorem dL_law_270 : decode cL_law 270 = .ok (.if_icmp .eq 51, 3) := by decide +kernel
theorem dL_law_273 : decode cL_law 273 = .ok (.iconst 0, 1) := by decide +kernel
theorem dL_law_274 : decode cL_law 274 = .ok (.ireturn, 1) := by decide +kernel
theorem dL_law_275 : decode cL_law 275 = .ok (.aload_n 1, 1) := by decide +kernel
theorem dL_law_276 : decode cL_law 276 = .ok (.aload_n 0, 1) := by decide +kernel
theorem dL_law_277 : decode cL_law 277 = .ok (.iload_n 3, 1) := by decide +kernel
theorem dL_law_278 : decode cL_law 278 = .ok (.iconst 1, 1) := by decide +kernel
theorem dL_law_279 : decode cL_law 279 = .ok (.iadd, 1) := by decide +kernel
theorem dL_law_280 : decode cL_law 280 = .ok (.iaload, 1) := by decide +kernel
theorem dL_law_281 : decode cL_law 281 = .ok (.invokevirtual 45, 3) := by decide +kernel
theorem dL_law_284 : decode cL_law 284 = .ok (.aload_n 2, 1) := by decide +kernel
theorem dL_law_285 : decode cL_law 285 = .ok (.aload_n 0, 1) := by decide +kernel
theorem dL_law_286 : decode cL_law 286 = .ok (.iload_n 3, 1) := by decide +kernel
theorem dL_law_287 : decode cL_law 287 = .ok (.iconst 1, 1) := by decide +kernel
theorem dL_law_288 : decode cL_law 288 = .ok (.iadd, 1) := by decide +kernel
theorem dL_law_289 : decode cL_law 289 = .ok (.iaload, 1) := by decide +kernel
theorem dL_law_290 : decode cL_law 290 = .ok (.invokevirtual 48, 3) := by decide +kernel
theorem dL_law_293 : decode cL_law 293 = .ok (.if_icmp .eq 28, 3) := by decide +kernel
theorem dL_law_296 : decode cL_law 296 = .ok (.iconst 0, 1) := by decide +kernel
theorem dL_law_297 : decode cL_law 297 = .ok (.ireturn, 1) := by decide +kernel
theorem dL_law_298 : decode cL_law 298 = .ok (.aload_n 1, 1) := by decide +kernel
theorem dL_law_299 : decode cL_law 299 = .ok (.aload_n 0, 1) := by decide +kernel
theorem dL_law_300 : decode cL_law 300 = .ok (.iload_n 3, 1) := by decide +kernel
theorem dL_law_301 : decode cL_law 301 = .ok (.iconst 1, 1) := by decide +kernel
theorem dL_law_302 : decode cL_law 302 = .ok (.iadd, 1) := by decide +kernel
theorem dL_law_303 : decode cL_law 303 = .ok (.iaload, 1) := by decide +kernel
theorem dL_law_304 : decode cL_law 304 = .ok (.invokevirtual 49, 3) := by decide +kernel
theorem dL_law_307 : decode cL_law 307 = .ok (.aload_n 2, 1) := by decide +kernel
theorem dL_law_308 : decode cL_law 308 = .ok (.aload_n 0, 1) := by decide +kernel
theorem dL_law_309 : decode cL_law 309 = .ok (.iload_n 3, 1) := by decide +kernel
theorem dL_law_310 : decode cL_law 310 = .ok (.iconst 1, 1) := by decide +kernel
theorem dL_law_311 : decode cL_law 311 = .ok (.iadd, 1) := by decide +kernel
theorem dL_law_312 : decode cL_law 312 = .ok (.iaload, 1) := by decide +kernel
theorem dL_law_313 : decode cL_law 313 = .ok (.invokevirtual 52, 3) := by decide +kernel
theorem dL_law_316 : decode cL_law 316 = .ok (.if_icmp .eq 5, 3) := by decide +kernel
theorem dL_law_319 : decode cL_law 319 = .ok (.iconst 0, 1) := by decide +kernel
theorem dL_law_320 : decode cL_law 320 = .ok (.ireturn, 1) := by decide +kernel
theorem dL_law_321 : decode cL_law 321 = .ok (.iinc 3 6, 3) := by decide +kernel
theorem dL_law_324 : decode cL_law 324 = .ok (.goto (-306), 3) := by decide +kernel
theorem dL_law_327 : decode cL_law 327 = .ok (.iconst 1, 1) := by decide +kernel
theorem dL_law_328 : decode cL_law 328 = .ok (.ireturn, 1) := by decide +kernel
theorem q12 : (Jvm.Cond.initialized "CrashPlannerLaw") ∈ lw_all := lw_g (lw_at lw_m0 0 rfl) rfl
set_option maxRecDepth 100000
theorem q15 : (Jvm.Cond.classLink "CrashPlannerLaw" (7 : Nat) "CrashPlanner") ∈ lw_all := lw_g (lw_at lw_m0 3 rfl) rfl
theorem q17 : (Jvm.Cond.methodLink "CrashPlannerLaw" (9 : Nat) ({ cls := "CrashPlanner", name := "<init>", desc := "()V" } : Jvm.MethodName)) ∈ lw_all := lw_g (lw_at lw_m0 5 rfl) rfl
theorem q68 : (Jvm.Cond.methodLink "CrashPlannerLaw" (13 : Nat) ({ cls := "CrashPlanner", name := "add", desc := "(IIIII)I" } : Jvm.MethodName)) ∈ lw_all := lw_g (lw_at lw_m0 56 rfl) rfl
theorem q72 : (Jvm.Cond.methodLink "CrashPlannerLaw" (18 : Nat) ({ cls := "CrashPlanner", name := "drop", desc := "(I)I" } : Jvm.MethodName)) ∈ lw_all := lw_g (lw_at lw_m0 60 rfl) rfl
theorem q76 : (Jvm.Cond.methodLink "CrashPlannerLaw" (23 : Nat) ({ cls := "CrashPlanner", name := "price", desc := "(II)I" } : Jvm.MethodName)) ∈ lw_all := lw_g (lw_at lw_m0 64 rfl) rfl
theorem q80 : (Jvm.Cond.methodLink "CrashPlannerLaw" (28 : Nat) ({ cls := "CrashPlanner", name := "slowest", desc := "()I" } : Jvm.MethodName)) ∈ lw_all := lw_g (lw_at lw_m0 68 rfl) rfl
theorem q113 : (Jvm.Cond.methodLink "CrashPlannerLaw" (33 : Nat) ({ cls := "CrashPlanner", name := "fastest", desc := "()I" } : Jvm.MethodName)) ∈ lw_all := lw_g (lw_at lw_m0 101 rfl) rfl
theorem q117 : (Jvm.Cond.methodLink "CrashPlannerLaw" (37 : Nat) ({ cls := "CrashPlanner", name := "cost", desc := "(I)I" } : Jvm.MethodName)) ∈ lw_all := lw_g (lw_at lw_m0 105 rfl) rfl
theorem q125 : (Jvm.Cond.methodLink "CrashPlannerLaw" (41 : Nat) ({ cls := "CrashPlanner", name := "step", desc := "(I)I" } : Jvm.MethodName)) ∈ lw_all := lw_g (lw_at lw_m0 113 rfl) rfl
theorem q129 : (Jvm.Cond.methodLink "CrashPlannerLaw" (45 : Nat) ({ cls := "CrashPlanner", name := "within", desc := "(I)I" } : Jvm.MethodName)) ∈ lw_all := lw_g (lw_at lw_m0 117 rfl) rfl
theorem q133 : (Jvm.Cond.methodLink "CrashPlannerLaw" (49 : Nat) ({ cls := "CrashPlanner", name := "total", desc := "(I)I" } : Jvm.MethodName)) ∈ lw_all := lw_g (lw_at lw_m0 121 rfl) rfl
theorem q137 : (Jvm.Cond.classLink "CrashPlannerLaw" (10 : Nat) "CrashPlannerModel") ∈ lw_all := lw_g (lw_at lw_m0 125 rfl) rfl
theorem q139 : (Jvm.Cond.methodLink "CrashPlannerLaw" (12 : Nat) ({ cls := "CrashPlannerModel", name := "<init>", desc := "()V" } : Jvm.MethodName)) ∈ lw_all := lw_g (lw_at lw_m0 127 rfl) rfl
theorem q171 : (Jvm.Cond.methodLink "CrashPlannerLaw" (17 : Nat) ({ cls := "CrashPlannerModel", name := "add", desc := "(IIIII)I" } : Jvm.MethodName)) ∈ lw_all := lw_g (lw_at lw_m0 159 rfl) rfl
theorem q178 : (Jvm.Cond.methodLink "CrashPlannerLaw" (22 : Nat) ({ cls := "CrashPlannerModel", name := "drop", desc := "(I)I" } : Jvm.MethodName)) ∈ lw_all := lw_g (lw_at lw_m0 166 rfl) rfl
theorem q182 : (Jvm.Cond.methodLink "CrashPlannerLaw" (27 : Nat) ({ cls := "CrashPlannerModel", name := "price", desc := "(II)I" } : Jvm.MethodName)) ∈ lw_all := lw_g (lw_at lw_m0 170 rfl) rfl
theorem q186 : (Jvm.Cond.methodLink "CrashPlannerLaw" (32 : Nat) ({ cls := "CrashPlannerModel", name := "slowest", desc := "()I" } : Jvm.MethodName)) ∈ lw_all := lw_g (lw_at lw_m0 174 rfl) rfl
theorem q194 : (Jvm.Cond.methodLink "CrashPlannerLaw" (36 : Nat) ({ cls := "CrashPlannerModel", name := "fastest", desc := "()I" } : Jvm.MethodName)) ∈ lw_all := lw_g (lw_at lw_m0 182 rfl) rfl
theorem q198 : (Jvm.Cond.methodLink "CrashPlannerLaw" (40 : Nat) ({ cls := "CrashPlannerModel", name := "cost", desc := "(I)I" } : Jvm.MethodName)) ∈ lw_all := lw_g (lw_at lw_m0 186 rfl) rfl
theorem q214 : (Jvm.Cond.methodLink "CrashPlannerLaw" (44 : Nat) ({ cls := "CrashPlannerModel", name := "step", desc := "(I)I" } : Jvm.MethodName)) ∈ lw_all := lw_g (lw_at lw_m0 202 rfl) rfl
theorem q219 : (Jvm.Cond.methodLink "CrashPlannerLaw" (48 : Nat) ({ cls := "CrashPlannerModel", name := "within", desc := "(I)I" } : Jvm.MethodName)) ∈ lw_all := lw_g (lw_at lw_m0 207 rfl) rfl
theorem q223 : (Jvm.Cond.methodLink "CrashPlannerLaw" (52 : Nat) ({ cls := "CrashPlannerModel", name := "total", desc := "(I)I" } : Jvm.MethodName)) ∈ lw_all := lw_g (lw_at lw_m0 211 rfl) rfl
theorem q66 : (Jvm.Cond.arrayClass Jvm.ClassFile.FieldType.int) ∈ lw_all := lw_g (lw_at lw_m0 54 rfl) rfl
set_option maxRecDepth 100000
theorem q67 : (Jvm.Cond.arrayClass Jvm.ClassFile.FieldType.boolean) ∈ lw_all := lw_g (lw_at lw_m0 55 rfl) rfl
/-! java/lang/Object -/
set_option maxRecDepth 100000
def RJ0 : String := "java/lang/Object"
abbrev cJ0_init : ByteArray := object_method_1_code
def yJ0_init : MethodName := ⟨RJ0, "<init>", "()V"⟩
theorem dJ0_init_0 : decode cJ0_init 0 = .ok (.return_, 1) := by decide +kernel
theorem q21 : (Jvm.Cond.instanceMethod ({ cls := "java/lang/Object", name := "<init>", desc := "()V" } : Jvm.MethodName)) ∈ lw_all := lw_g (lw_at lw_m0 9 rfl) rfl
theorem q22 : (Jvm.Cond.code ({ cls := "java/lang/Object", name := "<init>", desc := "()V" } : Jvm.MethodName) object_method_1_code (1 : Nat) (Option.none : Option Jvm.ClassFile.FieldType)) ∈ lw_all := lw_g (lw_at lw_m0 10 rfl) rfl
end
section
/-! MACHINE 1: rows over whole numbers -/
def bI (b : Bool) : Int32 := if b then 1 else 0
def jb (x : Int) : Prop := -2147483648 ≤ x ∧ x < 2147483648
theorem jI_add (a b : Int) : jI a + jI b = jI (a + b) := (Int32.ofInt_add a b).symm
theorem jI_sub (a b : Int) : jI a - jI b = jI (a - b) := (Int32.ofInt_sub a b).symm
theorem jI_mul (a b : Int) : jI a * jI b = jI (a * b) := (Int32.ofInt_mul a b).symm
theorem jI_neg (a : Int) : -jI a = jI (-a) := (Int32.ofInt_neg a).symm
theorem jI_toInt {a : Int} (h : jb a) : (jI a).toInt = a := Int32.toInt_ofInt_of_le (by have := h.1; omega) (by have := h.2; omega)
theorem jI_of (x : Int32) : jI x.toInt = x := Int32.ofInt_toInt x
theorem jb_of (x : Int32) : jb x.toInt := ⟨by have := x.le_toInt; omega, by have := x.toInt_lt; omega⟩
theorem jI_lt {a b : Int} (ha : jb a) (hb : jb b) : jI a < jI b ↔ a < b := by
  rw [Int32.lt_iff_toInt_lt, jI_toInt ha, jI_toInt hb]
theorem jI_le {a b : Int} (ha : jb a) (hb : jb b) : jI a ≤ jI b ↔ a ≤ b := by
  rw [Int32.le_iff_toInt_le, jI_toInt ha, jI_toInt hb]
theorem jI_eq {a b : Int} (ha : jb a) (hb : jb b) : jI a = jI b ↔ a = b := by
  rw [← Int32.toInt_inj, jI_toInt ha, jI_toInt hb]
theorem jI_0 : (0 : Int32) = jI 0 := rfl
theorem jb_0 : jb 0 := by simp only [jb]; omega
theorem jI_nI (i : Nat) : jI (i : Int) = nI i := Int32.ofInt_eq_ofNat
theorem jI_in {i n : Nat} (h : i < n) (hn : n < 2147483648) : vp_in (jI (i : Int)) n := by
  rw [jI_nI]
  exact vp_in_nI h hn
theorem jI_cl {i : Nat} (h : i < 2147483648) : (jI (i : Int)).toNatClampNeg = i := by
  rw [jI_nI]
  exact nI_clamp h
theorem jI_div2 {l : Nat} (h : l < 2147483648) : jI (l : Int) / jI 2 = jI ((l / 2 : Nat) : Int) := by
  rw [jI_nI, jI_nI]
  exact pk_div h (by decide) (by decide)
theorem jI_and1 {l : Nat} (h : l < 2147483648) : jI (l : Int) &&& jI 1 = jI ((l % 2 : Nat) : Int) := by
  rw [jI_nI, jI_nI]
  exact pk_andN (m := jI 1) (by omega) 1 rfl
theorem bI_t : jI 1 = bI true := rfl
theorem bI_f : jI 0 = bI false := rfl
theorem bI_0 (b : Bool) : bI b = 0 ↔ b = false := by cases b <;> simp [bI]
theorem upd_jI (g : Nat → Int) (i : Nat) (y : Int) : upd (fun j => jI (g j)) i (jI y) = fun j => jI (uu g i y j) := by
  funext j
  simp only [upd, uu]
  split <;> rfl
theorem nar_b (b : Bool) : vp_nar .boolean (bI b) = bI b := by cases b <;> decide
theorem upd_bI (g : Nat → Bool) (i : Nat) (b : Bool) : upd (fun j => bI (g j)) i (vp_nar .boolean (bI b)) = fun j => bI (uu g i b j) := by
  rw [nar_b]
  funext j
  simp only [upd, uu]
  split <;> rfl
abbrev cl2 : List vw_C := [(RX0, TX0, 14), (RX1, TX1, 9)]
/-- what stays the same through a method -/
def Cx (p : Program) (s : State) (m : MethodId) (meth : Method) (c : Code) (cc : ByteArray) (nL : Nat) (args : Array Value) (own : String) (D : va_G) (cI cZ : ClassId) : Prop := p.tables.exec = Jvm.exec ∧ c.code = cc ∧ (∀ w ∈ lw_all, w.before args s = true) ∧ s.vm.findClass own = some m.cls ∧ va_K D cl2 [(cI, .int), (cZ, .boolean)] s ∧ c.maxLocals = nL ∧ meth.locks = false
/-- the world: the cells ws, apart, in A, nothing else changed since H0 -/
def Wd (D : va_G) (A : Nat → Prop) (H0 : Heap) (ws : va_W) (H : Heap) (locs : List Loc) : Prop := va_P D cl2 ws H ∧ va_D A ws ∧ va_S A H0 H locs ∧ ∀ q, H0.size ≤ q → A q
section K
variable {p : Program} {l : Launch} {e : Env} {R : Room} {s : State} {m : MethodId} {args : Array Value} {below : List Frame} {meth : Method} {c : Code} {H : Heap} {locs : List Loc} {cells slots : Nat} {Q : State → Prop}
variable {cc : ByteArray} {pc nL : Nat} {ls : Array Slot} {rest : List Value} {D : va_G} {A : Nat → Prop} {a : Nat} {ws ws' : va_W} {H0 : Heap} {own : String} {cI cZ : ClassId} {lv lv' : List (Nat × Value)}
theorem Wcut {g g2 : JFrame} (k2 : W p l e R s m args below meth c H locs cells slots Q g2) (k : W p l e R s m args below meth c H locs cells slots Q g2 → W p l e R s m args below meth c H locs cells slots Q g) : W p l e R s m args below meth c H locs cells slots Q g := k k2
theorem tpi {x y : Int32} (h : x = y) (k : W p l e R s m args below meth c H locs cells slots Q (F0 m pc ls (.int y :: rest))) : W p l e R s m args below meth c H locs cells slots Q (F0 m pc ls (.int x :: rest)) := h ▸ k
theorem kC (C : Cx p s m meth c cc nL args own D cI cZ) {n : Int} (hdg : decode cc pc = .ok (.iconst n, 1)) (k : W p l e R s m args below meth c H locs cells slots Q (F0 m (pc + 1) ls (.int (jI n) :: rest))) : W p l e R s m args below meth c H locs cells slots Q (F0 m pc ls rest) := lv_iconst C.1 C.2.1 hdg rfl k
theorem kB (C : Cx p s m meth c cc nL args own D cI cZ) {n : Int} (hdg : decode cc pc = .ok (.bipush n, 2)) (hv : (Int8.ofInt n).toInt32 = jI n) (k : W p l e R s m args below meth c H locs cells slots Q (F0 m (pc + 2) ls (.int (jI n) :: rest))) : W p l e R s m args below meth c H locs cells slots Q (F0 m pc ls rest) := lv_bipush C.1 C.2.1 hdg hv k
theorem kS (C : Cx p s m meth c cc nL args own D cI cZ) {n : Int} (hdg : decode cc pc = .ok (.sipush n, 3)) (hv : (Int16.ofInt n).toInt32 = jI n) (k : W p l e R s m args below meth c H locs cells slots Q (F0 m (pc + 3) ls (.int (jI n) :: rest))) : W p l e R s m args below meth c H locs cells slots Q (F0 m pc ls rest) := lv_sipush C.1 C.2.1 hdg hv k
theorem kL (C : Cx p s m meth c cc nL args own D cI cZ) {n : Int} {v : Int32} {index : Nat} (hdg : decode cc pc = .ok (.ldc index, 2)) (hc : Jvm.Cond.constant own index v ∈ lw_all) (hv : v = jI n) (k : W p l e R s m args below meth c H locs cells slots Q (F0 m (pc + 2) ls (.int (jI n) :: rest))) : W p l e R s m args below meth c H locs cells slots Q (F0 m pc ls rest) := by
  subst hv
  exact lv_ldc C.1 C.2.1 C.2.2.2.1 (C.2.2.1 _ hc) hdg k
theorem iLn (C : Cx p s m meth c cc nL args own D cI cZ) (hl : lv_has ls nL lv) (k : Nat) {j : Fin 4} {i : Nat} {x : Int32} (hdg : decode cc pc = .ok (.iload_n j, 1)) (hk : lv[k]? = some (i, .int x)) (hi : (j : Nat) = i) (kk : W p l e R s m args below meth c H locs cells slots Q (F0 m (pc + 1) ls (.int x :: rest))) : W p l e R s m args below meth c H locs cells slots Q (F0 m pc ls rest) := lv_iload_n C.1 C.2.1 hdg hi (lv_at hl k hk) kk
theorem iL (C : Cx p s m meth c cc nL args own D cI cZ) (hl : lv_has ls nL lv) (k : Nat) {i : Nat} {x : Int32} (hdg : decode cc pc = .ok (.iload i, 2)) (hk : lv[k]? = some (i, .int x)) (kk : W p l e R s m args below meth c H locs cells slots Q (F0 m (pc + 2) ls (.int x :: rest))) : W p l e R s m args below meth c H locs cells slots Q (F0 m pc ls rest) := lv_iload C.1 C.2.1 hdg (lv_at hl k hk) kk
theorem aLn (C : Cx p s m meth c cc nL args own D cI cZ) (hl : lv_has ls nL lv) (k : Nat) {j : Fin 4} {i x : Nat} (hdg : decode cc pc = .ok (.aload_n j, 1)) (hk : lv[k]? = some (i, .ref x)) (hi : (j : Nat) = i) (kk : W p l e R s m args below meth c H locs cells slots Q (F0 m (pc + 1) ls (.ref x :: rest))) : W p l e R s m args below meth c H locs cells slots Q (F0 m pc ls rest) := lv_aload_n C.1 C.2.1 hdg hi (lv_at hl k hk) kk
theorem iSn (C : Cx p s m meth c cc nL args own D cI cZ) (hl : lv_has ls nL lv) {j : Fin 4} {i : Nat} {x : Int32} (hdg : decode cc pc = .ok (.istore_n j, 1)) (ks : List Nat) (hi : (j : Nat) = i) (hn : i < nL) (hs : lv_pick ((i, Value.int x) :: lv.filter (fun q => !(q.1 == i) && !(q.1 + 1 == i && q.2.category == 2))) ks = lv') (kk : ∀ ls' : Array Slot, lv_has ls' nL lv' → W p l e R s m args below meth c H locs cells slots Q (F0 m (pc + 1) ls' rest)) : W p l e R s m args below meth c H locs cells slots Q (F0 m pc ls (.int x :: rest)) := lv_istore_n C.1 C.2.1 hdg hi hl hn rfl (fun ls' h' => kk ls' (lv_sub h' ks hs))
theorem iS (C : Cx p s m meth c cc nL args own D cI cZ) (hl : lv_has ls nL lv) {i : Nat} {x : Int32} (hdg : decode cc pc = .ok (.istore i, 2)) (ks : List Nat) (hn : i < nL) (hs : lv_pick ((i, Value.int x) :: lv.filter (fun q => !(q.1 == i) && !(q.1 + 1 == i && q.2.category == 2))) ks = lv') (kk : ∀ ls' : Array Slot, lv_has ls' nL lv' → W p l e R s m args below meth c H locs cells slots Q (F0 m (pc + 2) ls' rest)) : W p l e R s m args below meth c H locs cells slots Q (F0 m pc ls (.int x :: rest)) := lv_istore C.1 C.2.1 hdg hl hn rfl (fun ls' h' => kk ls' (lv_sub h' ks hs))
theorem iInc (C : Cx p s m meth c cc nL args own D cI cZ) (hl : lv_has ls nL lv) (k : Nat) {i : Nat} {x n : Int} (hdg : decode cc pc = .ok (.iinc i n, 3)) (ks : List Nat) (hk : lv[k]? = some (i, .int (jI x))) (hn : i < nL) (hs : lv_pick ((i, Value.int (jI (x + n))) :: lv.filter (fun q => !(q.1 == i) && !(q.1 + 1 == i && q.2.category == 2))) ks = lv') (kk : ∀ ls' : Array Slot, lv_has ls' nL lv' → W p l e R s m args below meth c H locs cells slots Q (F0 m (pc + 3) ls' rest)) : W p l e R s m args below meth c H locs cells slots Q (F0 m pc ls rest) := lv_iinc C.1 C.2.1 hdg hl hk (jI_add x n) hn rfl (fun ls' h' => kk ls' (lv_sub h' ks hs))
theorem oAdd (C : Cx p s m meth c cc nL args own D cI cZ) {x y : Int} (hdg : decode cc pc = .ok (.iadd, 1)) (k : W p l e R s m args below meth c H locs cells slots Q (F0 m (pc + 1) ls (.int (jI (x + y)) :: rest))) : W p l e R s m args below meth c H locs cells slots Q (F0 m pc ls (.int (jI y) :: .int (jI x) :: rest)) := lv_iadd C.1 C.2.1 hdg (tpi (jI_add x y) k)
theorem oSub (C : Cx p s m meth c cc nL args own D cI cZ) {x y : Int} (hdg : decode cc pc = .ok (.isub, 1)) (k : W p l e R s m args below meth c H locs cells slots Q (F0 m (pc + 1) ls (.int (jI (x - y)) :: rest))) : W p l e R s m args below meth c H locs cells slots Q (F0 m pc ls (.int (jI y) :: .int (jI x) :: rest)) := lv_isub C.1 C.2.1 hdg (tpi (jI_sub x y) k)
theorem oMul (C : Cx p s m meth c cc nL args own D cI cZ) {x y : Int} (hdg : decode cc pc = .ok (.imul, 1)) (k : W p l e R s m args below meth c H locs cells slots Q (F0 m (pc + 1) ls (.int (jI (x * y)) :: rest))) : W p l e R s m args below meth c H locs cells slots Q (F0 m pc ls (.int (jI y) :: .int (jI x) :: rest)) := lv_imul C.1 C.2.1 hdg (tpi (jI_mul x y) k)
theorem oNeg (C : Cx p s m meth c cc nL args own D cI cZ) {x : Int} (hdg : decode cc pc = .ok (.ineg, 1)) (k : W p l e R s m args below meth c H locs cells slots Q (F0 m (pc + 1) ls (.int (jI (-x)) :: rest))) : W p l e R s m args below meth c H locs cells slots Q (F0 m pc ls (.int (jI x) :: rest)) := lv_ineg C.1 C.2.1 hdg (tpi (jI_neg x) k)
theorem oDiv2 (C : Cx p s m meth c cc nL args own D cI cZ) {x : Nat} (hdg : decode cc pc = .ok (.idiv, 1)) (hx : x < 2147483648) (k : W p l e R s m args below meth c H locs cells slots Q (F0 m (pc + 1) ls (.int (jI ((x / 2 : Nat) : Int)) :: rest))) : W p l e R s m args below meth c H locs cells slots Q (F0 m pc ls (.int (jI 2) :: .int (jI (x : Int)) :: rest)) := lv_idiv C.1 C.2.1 hdg (by decide) (tpi (jI_div2 hx) k)
theorem oAnd1 (C : Cx p s m meth c cc nL args own D cI cZ) {x : Nat} (hdg : decode cc pc = .ok (.iand, 1)) (hx : x < 2147483648) (k : W p l e R s m args below meth c H locs cells slots Q (F0 m (pc + 1) ls (.int (jI ((x % 2 : Nat) : Int)) :: rest))) : W p l e R s m args below meth c H locs cells slots Q (F0 m pc ls (.int (jI 1) :: .int (jI (x : Int)) :: rest)) := lv_iand C.1 C.2.1 hdg (tpi (jI_and1 hx) k)
theorem gTo (C : Cx p s m meth c cc nL args own D cI cZ) (tgt : Nat) {off : Int} (hdg : decode cc pc = .ok (.goto off, 3)) (ht : (pc : Int) + off = (tgt : Int)) (k : W p l e R s m args below meth c H locs cells slots Q (F0 m tgt ls rest)) : W p l e R s m args below meth c H locs cells slots Q (F0 m pc ls rest) := lv_goto C.1 C.2.1 hdg ht k
theorem cGe (C : Cx p s m meth c cc nL args own D cI cZ) (tgt : Nat) {x y off : Int} (hdg : decode cc pc = .ok (.if_icmp .ge off, 3)) (ht : (pc : Int) + off = (tgt : Int)) (hb : jb x ∧ jb y) (kt : y ≤ x → W p l e R s m args below meth c H locs cells slots Q (F0 m tgt ls rest)) (kf : x < y → W p l e R s m args below meth c H locs cells slots Q (F0 m (pc + 3) ls rest)) : W p l e R s m args below meth c H locs cells slots Q (F0 m pc ls (.int (jI y) :: .int (jI x) :: rest)) := lv_icmp_ge C.1 C.2.1 hdg ht (fun q => kt ((jI_le hb.2 hb.1).mp q)) (fun q => kf (by have := (not_congr (jI_le hb.2 hb.1)).mp q; omega))
theorem cGt (C : Cx p s m meth c cc nL args own D cI cZ) (tgt : Nat) {x y off : Int} (hdg : decode cc pc = .ok (.if_icmp .gt off, 3)) (ht : (pc : Int) + off = (tgt : Int)) (hb : jb x ∧ jb y) (kt : y < x → W p l e R s m args below meth c H locs cells slots Q (F0 m tgt ls rest)) (kf : x ≤ y → W p l e R s m args below meth c H locs cells slots Q (F0 m (pc + 3) ls rest)) : W p l e R s m args below meth c H locs cells slots Q (F0 m pc ls (.int (jI y) :: .int (jI x) :: rest)) := lv_icmp_gt C.1 C.2.1 hdg ht (fun q => kt ((jI_lt hb.2 hb.1).mp q)) (fun q => kf (by have := (not_congr (jI_lt hb.2 hb.1)).mp q; omega))
theorem cLe (C : Cx p s m meth c cc nL args own D cI cZ) (tgt : Nat) {x y off : Int} (hdg : decode cc pc = .ok (.if_icmp .le off, 3)) (ht : (pc : Int) + off = (tgt : Int)) (hb : jb x ∧ jb y) (kt : x ≤ y → W p l e R s m args below meth c H locs cells slots Q (F0 m tgt ls rest)) (kf : y < x → W p l e R s m args below meth c H locs cells slots Q (F0 m (pc + 3) ls rest)) : W p l e R s m args below meth c H locs cells slots Q (F0 m pc ls (.int (jI y) :: .int (jI x) :: rest)) := lv_icmp_le C.1 C.2.1 hdg ht (fun q => kt ((jI_le hb.1 hb.2).mp q)) (fun q => kf (by have := (not_congr (jI_le hb.1 hb.2)).mp q; omega))
theorem cLt (C : Cx p s m meth c cc nL args own D cI cZ) (tgt : Nat) {x y off : Int} (hdg : decode cc pc = .ok (.if_icmp .lt off, 3)) (ht : (pc : Int) + off = (tgt : Int)) (hb : jb x ∧ jb y) (kt : x < y → W p l e R s m args below meth c H locs cells slots Q (F0 m tgt ls rest)) (kf : y ≤ x → W p l e R s m args below meth c H locs cells slots Q (F0 m (pc + 3) ls rest)) : W p l e R s m args below meth c H locs cells slots Q (F0 m pc ls (.int (jI y) :: .int (jI x) :: rest)) := lv_icmp_lt C.1 C.2.1 hdg ht (fun q => kt ((jI_lt hb.1 hb.2).mp q)) (fun q => kf (by have := (not_congr (jI_lt hb.1 hb.2)).mp q; omega))
theorem cNe (C : Cx p s m meth c cc nL args own D cI cZ) (tgt : Nat) {x y off : Int} (hdg : decode cc pc = .ok (.if_icmp .ne off, 3)) (ht : (pc : Int) + off = (tgt : Int)) (hb : jb x ∧ jb y) (kt : x ≠ y → W p l e R s m args below meth c H locs cells slots Q (F0 m tgt ls rest)) (kf : x = y → W p l e R s m args below meth c H locs cells slots Q (F0 m (pc + 3) ls rest)) : W p l e R s m args below meth c H locs cells slots Q (F0 m pc ls (.int (jI y) :: .int (jI x) :: rest)) := lv_icmp_ne C.1 C.2.1 hdg ht (fun q => kt (fun z => q ((jI_eq hb.1 hb.2).mpr z))) (fun q => kf ((jI_eq hb.1 hb.2).mp q))
theorem cEq (C : Cx p s m meth c cc nL args own D cI cZ) (tgt : Nat) {x y off : Int} (hdg : decode cc pc = .ok (.if_icmp .eq off, 3)) (ht : (pc : Int) + off = (tgt : Int)) (hb : jb x ∧ jb y) (kt : x = y → W p l e R s m args below meth c H locs cells slots Q (F0 m tgt ls rest)) (kf : x ≠ y → W p l e R s m args below meth c H locs cells slots Q (F0 m (pc + 3) ls rest)) : W p l e R s m args below meth c H locs cells slots Q (F0 m pc ls (.int (jI y) :: .int (jI x) :: rest)) := lv_icmp_eq C.1 C.2.1 hdg ht (fun q => kt ((jI_eq hb.1 hb.2).mp q)) (fun q => kf (fun z => q ((jI_eq hb.1 hb.2).mpr z)))
theorem zLt (C : Cx p s m meth c cc nL args own D cI cZ) (tgt : Nat) {x off : Int} (hdg : decode cc pc = .ok (.ifCond .lt off, 3)) (ht : (pc : Int) + off = (tgt : Int)) (hb : jb x) (kt : x < 0 → W p l e R s m args below meth c H locs cells slots Q (F0 m tgt ls rest)) (kf : 0 ≤ x → W p l e R s m args below meth c H locs cells slots Q (F0 m (pc + 3) ls rest)) : W p l e R s m args below meth c H locs cells slots Q (F0 m pc ls (.int (jI x) :: rest)) := lv_if_lt C.1 C.2.1 hdg ht (fun q => kt ((jI_lt hb jb_0).mp q)) (fun q => kf (by have := (not_congr (jI_lt hb jb_0)).mp q; omega))
theorem zGe (C : Cx p s m meth c cc nL args own D cI cZ) (tgt : Nat) {x off : Int} (hdg : decode cc pc = .ok (.ifCond .ge off, 3)) (ht : (pc : Int) + off = (tgt : Int)) (hb : jb x) (kt : 0 ≤ x → W p l e R s m args below meth c H locs cells slots Q (F0 m tgt ls rest)) (kf : x < 0 → W p l e R s m args below meth c H locs cells slots Q (F0 m (pc + 3) ls rest)) : W p l e R s m args below meth c H locs cells slots Q (F0 m pc ls (.int (jI x) :: rest)) := lv_if_ge C.1 C.2.1 hdg ht (fun q => kt ((jI_le jb_0 hb).mp q)) (fun q => kf (by have := (not_congr (jI_le jb_0 hb)).mp q; omega))
theorem zNe (C : Cx p s m meth c cc nL args own D cI cZ) (tgt : Nat) {x off : Int} (hdg : decode cc pc = .ok (.ifCond .ne off, 3)) (ht : (pc : Int) + off = (tgt : Int)) (hb : jb x) (kt : x ≠ 0 → W p l e R s m args below meth c H locs cells slots Q (F0 m tgt ls rest)) (kf : x = 0 → W p l e R s m args below meth c H locs cells slots Q (F0 m (pc + 3) ls rest)) : W p l e R s m args below meth c H locs cells slots Q (F0 m pc ls (.int (jI x) :: rest)) := lv_if_ne C.1 C.2.1 hdg ht (fun q => kt (fun z => q ((jI_eq hb jb_0).mpr z))) (fun q => kf ((jI_eq hb jb_0).mp q))
theorem zEq (C : Cx p s m meth c cc nL args own D cI cZ) (tgt : Nat) {x off : Int} (hdg : decode cc pc = .ok (.ifCond .eq off, 3)) (ht : (pc : Int) + off = (tgt : Int)) (hb : jb x) (kt : x = 0 → W p l e R s m args below meth c H locs cells slots Q (F0 m tgt ls rest)) (kf : x ≠ 0 → W p l e R s m args below meth c H locs cells slots Q (F0 m (pc + 3) ls rest)) : W p l e R s m args below meth c H locs cells slots Q (F0 m pc ls (.int (jI x) :: rest)) := lv_if_eq C.1 C.2.1 hdg ht (fun q => kt ((jI_eq hb jb_0).mp q)) (fun q => kf (fun z => q ((jI_eq hb jb_0).mpr z)))
/-- a truth value: equal to 0, it is false -/
theorem bEq (C : Cx p s m meth c cc nL args own D cI cZ) (tgt : Nat) {b : Bool} {off : Int} (hdg : decode cc pc = .ok (.ifCond .eq off, 3)) (ht : (pc : Int) + off = (tgt : Int)) (kt : b = false → W p l e R s m args below meth c H locs cells slots Q (F0 m tgt ls rest)) (kf : b = true → W p l e R s m args below meth c H locs cells slots Q (F0 m (pc + 3) ls rest)) : W p l e R s m args below meth c H locs cells slots Q (F0 m pc ls (.int (bI b) :: rest)) := lv_if_eq C.1 C.2.1 hdg ht (fun q => kt ((bI_0 b).mp q)) (fun q => kf (by cases b; exact absurd rfl q; rfl))
theorem bNe (C : Cx p s m meth c cc nL args own D cI cZ) (tgt : Nat) {b : Bool} {off : Int} (hdg : decode cc pc = .ok (.ifCond .ne off, 3)) (ht : (pc : Int) + off = (tgt : Int)) (kt : b = true → W p l e R s m args below meth c H locs cells slots Q (F0 m tgt ls rest)) (kf : b = false → W p l e R s m args below meth c H locs cells slots Q (F0 m (pc + 3) ls rest)) : W p l e R s m args below meth c H locs cells slots Q (F0 m pc ls (.int (bI b) :: rest)) := lv_if_ne C.1 C.2.1 hdg ht (fun q => kt (by cases b; exact absurd rfl q; rfl)) (fun q => kf ((bI_0 b).mp q))
/-- arrays of ints: read, write -/
theorem rdA (C : Cx p s m meth c cc nL args own D cI cZ) (w : Wd D A H0 ws H locs) (q0 : Nat) {n : Nat} {f : Nat → Int32} (hdg : decode cc pc = .ok (.iaload, 1)) (ha : ws[q0]? = some (a, .inl (cI, n, .inl f))) {i : Nat} (hi : i < n) (hn : n < 2147483648) (kk : W p l e R s m args below meth c H locs cells slots Q (F0 m (pc + 1) ls (.int (f i) :: rest))) : W p l e R s m args below meth c H locs cells slots Q (F0 m pc ls (.int (jI (i : Int)) :: .ref a :: rest)) := by
  refine va_iald C.1 C.2.1 C.2.2.2.2.1 w.1 q0 0 ha rfl (jI_in hi hn) hdg ?_
  rw [jI_cl (by omega)]
  exact kk
theorem rdZ (C : Cx p s m meth c cc nL args own D cI cZ) (w : Wd D A H0 ws H locs) (q0 : Nat) {n : Nat} {f : Nat → Int32} (hdg : decode cc pc = .ok (.baload, 1)) (ha : ws[q0]? = some (a, .inl (cZ, n, .inl f))) {i : Nat} (hi : i < n) (hn : n < 2147483648) (kk : W p l e R s m args below meth c H locs cells slots Q (F0 m (pc + 1) ls (.int (f i) :: rest))) : W p l e R s m args below meth c H locs cells slots Q (F0 m pc ls (.int (jI (i : Int)) :: .ref a :: rest)) := by
  refine va_zald C.1 C.2.1 C.2.2.2.2.1 w.1 q0 1 ha rfl (jI_in hi hn) hdg ?_
  rw [jI_cl (by omega)]
  exact kk
theorem wrA (C : Cx p s m meth c cc nL args own D cI cZ) (w : Wd D A H0 ws H locs) (q0 : Nat) {n : Nat} {g : Nat → Int} (hdg : decode cc pc = .ok (.iastore, 1)) (ha : ws[q0]? = some (a, .inl (cI, n, .inl (fun j => jI (g j))))) {i : Nat} {y : Int} (hi : i < n) (hn : n < 2147483648) (hw : ws.set q0 (a, .inl (cI, n, .inl (fun j => jI (uu g i y j)))) = ws') (kk : ∀ (H1 : Heap) (locs1 : List Loc), Wd D A H0 ws' H1 locs1 → W p l e R s m args below meth c H1 locs1 cells slots Q (F0 m (pc + 1) ls rest)) : W p l e R s m args below meth c H locs cells slots Q (F0 m pc ls (.int (jI y) :: .int (jI (i : Int)) :: .ref a :: rest)) := by
  refine va_iast C.1 C.2.1 C.2.2.2.2.1 w.1 w.2.1 w.2.2.1 q0 0 ha rfl (jI_in hi hn) hdg (fun H1 locs1 hP hD hS => ?_)
  rw [jI_cl (by omega), upd_jI, hw] at hP hD
  exact kk H1 locs1 ⟨hP, hD, hS, w.2.2.2⟩
theorem wrZ (C : Cx p s m meth c cc nL args own D cI cZ) (w : Wd D A H0 ws H locs) (q0 : Nat) {n : Nat} {g : Nat → Bool} (hdg : decode cc pc = .ok (.bastore, 1)) (ha : ws[q0]? = some (a, .inl (cZ, n, .inl (fun j => bI (g j))))) {i : Nat} {b : Bool} (hi : i < n) (hn : n < 2147483648) (hw : ws.set q0 (a, .inl (cZ, n, .inl (fun j => bI (uu g i b j)))) = ws') (kk : ∀ (H1 : Heap) (locs1 : List Loc), Wd D A H0 ws' H1 locs1 → W p l e R s m args below meth c H1 locs1 cells slots Q (F0 m (pc + 1) ls rest)) : W p l e R s m args below meth c H locs cells slots Q (F0 m pc ls (.int (bI b) :: .int (jI (i : Int)) :: .ref a :: rest)) := by
  refine va_zast C.1 C.2.1 C.2.2.2.2.1 w.1 w.2.1 w.2.2.1 q0 1 ha rfl (jI_in hi hn) hdg (fun H1 locs1 hP hD hS => ?_)
  rw [jI_cl (by omega), upd_bI, hw] at hP hD
  exact kk H1 locs1 ⟨hP, hD, hS, w.2.2.2⟩
/-- fields of the planner and of the reference -/
theorem gX (C : Cx p s m meth c cc nL args RX0 D cI cZ) (w : Wd D A H0 ws H locs) (q0 k : Nat) {fs : List Value} {index : Nat} {v : Value} (hdg : decode cc pc = .ok (.getfield index, 3)) (hlink : Cond.fieldLink RX0 index "CrashPlanner" (TX0 k).2.1 (TX0 k).2.2.1 ∈ lw_all) (he : ws[q0]? = some (a, .inr (0, fs))) (hk : k < 14) (hT : (TX0 k).1 = "CrashPlanner") (hv : fs[k]? = some v) (kk : W p l e R s m args below meth c H locs cells slots Q (F0 m (pc + 3) ls (v :: rest))) : W p l e R s m args below meth c H locs cells slots Q (F0 m pc ls (.ref a :: rest)) := va_get (ci := 0) (C := RX0) (T := TX0) (N := 14) C.1 C.2.1 C.2.2.1 in_X0 C.2.2.2.1 C.2.2.2.2.1 w.1 q0 he rfl k hk (C.2.2.1 _ hlink) (fun x hx => by rw [hT] at hx; exact hx) hv hdg kk
theorem gM (C : Cx p s m meth c cc nL args RX1 D cI cZ) (w : Wd D A H0 ws H locs) (q0 k : Nat) {fs : List Value} {index : Nat} {v : Value} (hdg : decode cc pc = .ok (.getfield index, 3)) (hlink : Cond.fieldLink RX1 index "CrashPlannerModel" (TX1 k).2.1 (TX1 k).2.2.1 ∈ lw_all) (he : ws[q0]? = some (a, .inr (1, fs))) (hk : k < 9) (hT : (TX1 k).1 = "CrashPlannerModel") (hv : fs[k]? = some v) (kk : W p l e R s m args below meth c H locs cells slots Q (F0 m (pc + 3) ls (v :: rest))) : W p l e R s m args below meth c H locs cells slots Q (F0 m pc ls (.ref a :: rest)) := va_get (ci := 1) (C := RX1) (T := TX1) (N := 9) C.1 C.2.1 C.2.2.1 in_X1 C.2.2.2.1 C.2.2.2.2.1 w.1 q0 he rfl k hk (C.2.2.1 _ hlink) (fun x hx => by rw [hT] at hx; exact hx) hv hdg kk
theorem pX (C : Cx p s m meth c cc nL args RX0 D cI cZ) (w : Wd D A H0 ws H locs) (q0 k : Nat) {fs : List Value} {index : Nat} {v : Value} {ty : FieldType} (hdg : decode cc pc = .ok (.putfield index, 3)) (hlink : Cond.fieldLink RX0 index "CrashPlanner" (TX0 k).2.1 (TX0 k).2.2.1 ∈ lw_all) (he : ws[q0]? = some (a, .inr (0, fs))) (hk : k < 14) (hT : (TX0 k).1 = "CrashPlanner") (hfin : (TX0 k).2.2.2 = false) (hd : parseFieldDescriptor (TX0 k).2.2.1 = some ty) (hn : narrow ty v = v) (hfit : fits ty v = true) (hl : k < fs.length) (hw : ws.set q0 (a, .inr (0, fs.set k v)) = ws') (kk : ∀ (H1 : Heap) (locs1 : List Loc), Wd D A H0 ws' H1 locs1 → W p l e R s m args below meth c H1 locs1 cells slots Q (F0 m (pc + 3) ls rest)) : W p l e R s m args below meth c H locs cells slots Q (F0 m pc ls (v :: .ref a :: rest)) := va_put (ci := 0) (C := RX0) (T := TX0) (N := 14) C.1 C.2.1 C.2.2.1 in_X0 tyX0 tyX0_ok nmX0 C.2.2.2.1 C.2.2.2.2.1 w.1 w.2.1 w.2.2.1 q0 he rfl k hk (C.2.2.1 _ hlink) (fun x hx => by rw [hT] at hx; exact hx) hfin hd hn hfit hl hdg (fun H1 locs1 hP hD hS => kk H1 locs1 (by rw [hw] at hP hD; exact ⟨hP, hD, hS, w.2.2.2⟩))
theorem pM (C : Cx p s m meth c cc nL args RX1 D cI cZ) (w : Wd D A H0 ws H locs) (q0 k : Nat) {fs : List Value} {index : Nat} {v : Value} {ty : FieldType} (hdg : decode cc pc = .ok (.putfield index, 3)) (hlink : Cond.fieldLink RX1 index "CrashPlannerModel" (TX1 k).2.1 (TX1 k).2.2.1 ∈ lw_all) (he : ws[q0]? = some (a, .inr (1, fs))) (hk : k < 9) (hT : (TX1 k).1 = "CrashPlannerModel") (hfin : (TX1 k).2.2.2 = false) (hd : parseFieldDescriptor (TX1 k).2.2.1 = some ty) (hn : narrow ty v = v) (hfit : fits ty v = true) (hl : k < fs.length) (hw : ws.set q0 (a, .inr (1, fs.set k v)) = ws') (kk : ∀ (H1 : Heap) (locs1 : List Loc), Wd D A H0 ws' H1 locs1 → W p l e R s m args below meth c H1 locs1 cells slots Q (F0 m (pc + 3) ls rest)) : W p l e R s m args below meth c H locs cells slots Q (F0 m pc ls (v :: .ref a :: rest)) := va_put (ci := 1) (C := RX1) (T := TX1) (N := 9) C.1 C.2.1 C.2.2.1 in_X1 tyX1 tyX1_ok nmX1 C.2.2.2.1 C.2.2.2.2.1 w.1 w.2.1 w.2.2.1 q0 he rfl k hk (C.2.2.1 _ hlink) (fun x hx => by rw [hT] at hx; exact hx) hfin hd hn hfit hl hdg (fun H1 locs1 hP hD hS => kk H1 locs1 (by rw [hw] at hP hD; exact ⟨hP, hD, hS, w.2.2.2⟩))
end K
end
section
/-! MACHINE 2: worlds, contracts, entries, returns, calls -/
/-- the planner's cells -/
abbrev wX (h : Nat) (a : Nat → Nat) (cI cZ : ClassId) (n : Int) (g1 g2 g3 g4 g5 g6 g7 : Nat → Int) (g8 : Nat → Bool) (g9 : Nat → Int) (kn : Bool) (w : Int) (g12 g13 : Nat → Int) : va_W :=
  [(h, .inr (0, [.int (jI n), .ref (a 1), .ref (a 2), .ref (a 3), .ref (a 4), .ref (a 5), .ref (a 6), .ref (a 7), .ref (a 8), .ref (a 9), .int (bI kn), .int (jI w), .ref (a 12), .ref (a 13)])),
   (a 1, .inl (cI, 7, .inl (fun j => jI (g1 j)))), (a 2, .inl (cI, 7, .inl (fun j => jI (g2 j)))), (a 3, .inl (cI, 7, .inl (fun j => jI (g3 j)))), (a 4, .inl (cI, 7, .inl (fun j => jI (g4 j)))), (a 5, .inl (cI, 7, .inl (fun j => jI (g5 j)))),
   (a 6, .inl (cI, 14, .inl (fun j => jI (g6 j)))), (a 7, .inl (cI, 6, .inl (fun j => jI (g7 j)))), (a 8, .inl (cZ, 6, .inl (fun j => bI (g8 j)))), (a 9, .inl (cI, 6, .inl (fun j => jI (g9 j)))),
   (a 12, .inl (cI, 150, .inl (fun j => jI (g12 j)))), (a 13, .inl (cI, 150, .inl (fun j => jI (g13 j))))]
/-- the reference's cells -/
abbrev wM (h : Nat) (a : Nat → Nat) (cI : ClassId) (n : Int) (g1 g2 g3 g4 g5 g6 g7 g8 : Nat → Int) : va_W :=
  [(h, .inr (1, [.int (jI n), .ref (a 1), .ref (a 2), .ref (a 3), .ref (a 4), .ref (a 5), .ref (a 6), .ref (a 7), .ref (a 8)])),
   (a 1, .inl (cI, 7, .inl (fun j => jI (g1 j)))), (a 2, .inl (cI, 7, .inl (fun j => jI (g2 j)))), (a 3, .inl (cI, 7, .inl (fun j => jI (g3 j)))), (a 4, .inl (cI, 7, .inl (fun j => jI (g4 j)))), (a 5, .inl (cI, 7, .inl (fun j => jI (g5 j)))),
   (a 6, .inl (cI, 7, .inl (fun j => jI (g6 j)))), (a 7, .inl (cI, 6, .inl (fun j => jI (g7 j)))), (a 8, .inl (cI, 64, .inl (fun j => jI (g8 j))))]
abbrev Kw (D : va_G) (cI cZ : ClassId) (U : State) : Prop := va_K D cl2 [(cI, .int), (cZ, .boolean)] U
abbrev rmo (fr lo : Nat) : Room := { frames := fr, cells := 0, slots := 0, locals := lo }
abbrev Pcw (D : va_G) (cI cZ : ClassId) (wc : va_W) (av : List Value) (sz : Nat) : Array Value → State → Prop := va_Pc av (fun U => U.heap.size = sz ∧ va_P D cl2 wc U.heap ∧ Kw D cI cZ U ∧ va_D (fun _ => True) wc)
abbrev QcI {S : Type} (D : va_G) (cI cZ : ClassId) (post : Int32 → S → Prop) (wo : S → va_W) (A : Nat → Prop) : Array Value → State → Outcome → State → Prop := va_Qi post (fun u t => va_P D cl2 (wo u) t.heap ∧ Kw D cI cZ t ∧ va_D A (wo u)) A
abbrev QcV {S : Type} (D : va_G) (cI cZ : ClassId) (post : S → Prop) (wo : S → va_W) (A : Nat → Prop) : Array Value → State → Outcome → State → Prop := va_Qv post (fun u t => va_P D cl2 (wo u) t.heap ∧ Kw D cI cZ t ∧ va_D A (wo u)) A
/-- a contract with an answer; one without -/
def MI {S : Type} (l : Launch) (y : MethodName) (b : ByteArray) (L : Nat) (r : Option FieldType) (fr lo : Nat) (D : va_G) (cI cZ : ClassId) (wc : va_W) (av : List Value) (post : Int32 → S → Prop) (wo : S → va_W) : Prop :=
  ∀ sz, Met l y (ws_ y b L r) (rmo fr lo) (Pcw D cI cZ wc av sz) (QcI D cI cZ post wo (va_A wc sz)) 0 0 (va_A wc sz)
def MV {S : Type} (l : Launch) (y : MethodName) (b : ByteArray) (L : Nat) (fr lo : Nat) (D : va_G) (cI cZ : ClassId) (wc : va_W) (av : List Value) (post : S → Prop) (wo : S → va_W) : Prop :=
  ∀ sz, Met l y (ws_ y b L none) (rmo fr lo) (Pcw D cI cZ wc av sz) (QcV D cI cZ post wo (va_A wc sz)) 0 0 (va_A wc sz)
theorem mi_of {S : Type} {l : Launch} {y : MethodName} {b : ByteArray} {L : Nat} {r : Option FieldType} {fr lo : Nat} {D : va_G} {cI cZ : ClassId} {wc : va_W} {av : List Value} {post : Int32 → S → Prop} {wo : S → va_W} (hy : plainName y.cls = true) (hlen : (lg_sl av).length ≤ L)
    (body : ∀ (p : Program) (e : Env) (s : State) (m : MethodId) (below : List Frame) (meth : Method) (c : Code) (A : Nat → Prop) (ls : Array Slot), Cx p s m meth c b L av.toArray y.cls D cI cZ → meth.sig.returnType = r → Wd D A s.heap wc s.heap [] → lv_has ls L (lv_args 0 av) → W p l e (rmo fr lo) s m av.toArray below meth c s.heap [] 0 0 (MQ below (QcI D cI cZ post wo A) av.toArray s 0 0 A) (F0 m 0 ls [])) : MI l y b L r fr lo D cI cZ wc av post wo := by
  intro sz
  refine Met.ofW (cc := b) (maxL := L) (ret := r) hy rfl ?_
  intro p e s m args below meth c s₁ B hml hv
  obtain ⟨rfl, hsz, hP, hK, hD0⟩ := hv
  have hts := atoms_spec (ws := ws_ y b L r) B.pre
  have hts : ∀ w ∈ lw_all, w.before _ s = true := fun w h => hts w (List.mem_cons_of_mem _ h)
  have hl := lv_entry av (n := L) hlen
  rw [lg_entry_eq]
  subst hsz
  exact body p e s m below meth c _ _ ⟨B.exec, B.bytes, hts, findClass_of_methodNamed B.named, hK, hml, B.notSynchronized⟩ B.returns ⟨hP, hD0.self, va_S.rf, fun q h => Or.inr h⟩ hl
theorem mv_of {S : Type} {l : Launch} {y : MethodName} {b : ByteArray} {L : Nat} {fr lo : Nat} {D : va_G} {cI cZ : ClassId} {wc : va_W} {av : List Value} {post : S → Prop} {wo : S → va_W} (hy : plainName y.cls = true) (hlen : (lg_sl av).length ≤ L)
    (body : ∀ (p : Program) (e : Env) (s : State) (m : MethodId) (below : List Frame) (meth : Method) (c : Code) (A : Nat → Prop) (ls : Array Slot), Cx p s m meth c b L av.toArray y.cls D cI cZ → meth.sig.returnType = none → Wd D A s.heap wc s.heap [] → lv_has ls L (lv_args 0 av) → W p l e (rmo fr lo) s m av.toArray below meth c s.heap [] 0 0 (MQ below (QcV D cI cZ post wo A) av.toArray s 0 0 A) (F0 m 0 ls [])) : MV l y b L fr lo D cI cZ wc av post wo := by
  intro sz
  refine Met.ofW (cc := b) (maxL := L) (ret := none) hy rfl ?_
  intro p e s m args below meth c s₁ B hml hv
  obtain ⟨rfl, hsz, hP, hK, hD0⟩ := hv
  have hts := atoms_spec (ws := ws_ y b L none) B.pre
  have hts : ∀ w ∈ lw_all, w.before _ s = true := fun w h => hts w (List.mem_cons_of_mem _ h)
  have hl := lv_entry av (n := L) hlen
  rw [lg_entry_eq]
  subst hsz
  exact body p e s m below meth c _ _ ⟨B.exec, B.bytes, hts, findClass_of_methodNamed B.named, hK, hml, B.notSynchronized⟩ B.returns ⟨hP, hD0.self, va_S.rf, fun q h => Or.inr h⟩ hl
section K
variable {p : Program} {l : Launch} {e : Env} {R : Room} {s : State} {m : MethodId} {args : Array Value} {below : List Frame} {meth : Method} {c : Code} {H : Heap} {locs : List Loc} {cells slots : Nat} {Q : State → Prop}
variable {cc : ByteArray} {pc nL : Nat} {ls : Array Slot} {rest : List Value} {D : va_G} {A : Nat → Prop} {a : Nat} {ws ws' : va_W} {H0 : Heap} {own : String} {cI cZ : ClassId} {lv lv' : List (Nat × Value)}
theorem retI {S : Type} {post : Int32 → S → Prop} {wo : S → va_W} {r : Int32} (u : S) (C : Cx p s m meth c cc nL args own D cI cZ) (hr : meth.sig.returnType = some .int) (w : Wd D A s.heap (wo u) H locs) (hdg : decode cc pc = .ok (.ireturn, 1)) (hp : post r u) : W p l e R s m args below meth c H locs cells slots (MQ below (QcI D cI cZ post wo A) args s cells slots A) (F0 m pc ls [.int r]) :=
  W.iret C.1 C.2.1 hr (fun t ht hW => ⟨⟨r, u, rfl, hp, by rw [ht]; exact w.1, va_K.moved hW.alike C.2.2.2.2.1, w.2.1⟩, w.2.2.1.F ht⟩) w.2.2.1.2.2 hdg C.2.2.2.2.2.2
theorem retZ {S : Type} {post : Int32 → S → Prop} {wo : S → va_W} {b : Bool} (u : S) (C : Cx p s m meth c cc nL args own D cI cZ) (hr : meth.sig.returnType = some .boolean) (w : Wd D A s.heap (wo u) H locs) (hdg : decode cc pc = .ok (.ireturn, 1)) (hp : post (bI b) u) : W p l e R s m args below meth c H locs cells slots (MQ below (QcI D cI cZ post wo A) args s cells slots A) (F0 m pc ls [.int (bI b)]) :=
  W.zret C.1 C.2.1 hr (by cases b <;> rfl) (fun t ht hW => ⟨⟨bI b, u, rfl, hp, by rw [ht]; exact w.1, va_K.moved hW.alike C.2.2.2.2.1, w.2.1⟩, w.2.2.1.F ht⟩) w.2.2.1.2.2 hdg C.2.2.2.2.2.2
theorem retV {S : Type} {post : S → Prop} {wo : S → va_W} (u : S) (C : Cx p s m meth c cc nL args own D cI cZ) (hr : meth.sig.returnType = none) (w : Wd D A s.heap (wo u) H locs) (hdg : decode cc pc = .ok (.return_, 1)) (hp : post u) : W p l e R s m args below meth c H locs cells slots (MQ below (QcV D cI cZ post wo A) args s cells slots A) (F0 m pc ls []) :=
  W.vret C.1 C.2.1 hr (fun t ht hW => ⟨⟨u, rfl, hp, by rw [ht]; exact w.1, va_K.moved hW.alike C.2.2.2.2.1, w.2.1⟩, w.2.2.1.F ht⟩) w.2.2.1.2.2 hdg C.2.2.2.2.2.2
theorem wd_free (w : Wd D A H0 ws H locs) : ∀ q, va_A ws H.size q → A q := by
  intro q h
  rcases h with ⟨k, e, h⟩ | h
  · exact w.2.1.2 k (q, e) h
  · exact w.2.2.2 q (Nat.le_trans w.2.2.1.1 h)
/-- an object's own method, called with all its cells -/
theorem cpI {S : Type} {post : Int32 → S → Prop} {wo : S → va_W} {y : MethodName} {b : ByteArray} {L fr lo n index ci : Nat} {r : FieldType} {Cn : String} {hh : Nat} {fs : List Value} {qc : vw_C} {As : List Value} {st0 : List Value} (C : Cx p s m meth c cc nL args own D cI cZ) (w : Wd D A H0 ws H locs) (hl : lv_has ls nL lv) (hdg : decode cc pc = .ok (.invokevirtual index, 3))
    (M : MI l y b L (some r) fr lo D cI cZ ws (.ref hh :: As) post wo) (g : GoodIn lw_all (wsV own index Cn y (ws_ y b L (some r)))) (hd : y.cls = Cn ∧ y.cls ≠ "java/lang/invoke/MethodHandle" ∧ y.cls ≠ "java/lang/invoke/VarHandle" ∧ (parseMethodDescriptor y.desc).map (fun d => d.parameters.length) = some n) (hR : fr + 1 ≤ R.frames ∧ 8 + (L + 11) + lo ≤ R.locals)
    (he : ws[0]? = some (hh, .inr (ci, fs))) (hc : cl2[ci]? = some qc) (hq : qc.1 = Cn) (hn : As.length = n) (hst : st0 = As.reverse ++ .ref hh :: rest) (hrm : (rest.map fun v => v.category).sum ≤ 8) (hf : cells ≤ R.cells ∧ slots ≤ R.slots)
    (kk : ∀ (r : Int32) (u : S) (H1 : Heap) (locs1 : List Loc), post r u → Wd D A H0 (wo u) H1 locs1 → W p l e R s m args below meth c H1 locs1 cells slots Q (F0 m (pc + 3) ls (.int r :: rest))) : W p l e R s m args below meth c H locs cells slots Q (F0 m pc ls st0) := by
  subst hst
  subst hq
  refine va_calli (va_runV (As := As) (rest := rest) (mc := 0) (ms := 0) ⟨C.1, C.2.1, C.2.2.2.2.2.1, C.2.2.2.1, C.2.2.1⟩ (M H.size) (cwV n C.2.2.1 g rfl rfl rfl hd hR) ⟨fun a U g mk q => by obtain ⟨q0, q1, qP, qK, qD⟩ := q; exact ⟨q0, q1, qP, va_K.moved (u := U) (U := U.calling g mk a) (Vm.Alike.refl U.vm) qK, qD⟩, va_recv C.2.2.2.2.1 w.1 hc he, fun U hU hW => ⟨rfl, by rw [hU], by rw [hU]; exact w.1, va_K.moved hW.alike C.2.2.2.2.1, w.2.1.weaken (fun _ _ _ _ => trivial)⟩⟩ rfl hn hl.1 rfl (lv_room hrm) hdg hf) w.2.2.1 (fun q _ h => wd_free w q h) (wd_free w) (fun r u t H1 locs1 ht hvm hp hB hz hk hS => ?_)
  obtain ⟨hP1, hK1, hD1⟩ := hB
  rw [ht] at hP1
  exact kk r u H1 locs1 hp ⟨hP1, hD1.weaken (fun _ q _ h => wd_free w q.1 h), hS, w.2.2.2⟩
theorem cpV {S : Type} {post : S → Prop} {wo : S → va_W} {y : MethodName} {b : ByteArray} {L fr lo n index ci : Nat} {Cn : String} {hh : Nat} {fs : List Value} {qc : vw_C} {As : List Value} {st0 : List Value} (C : Cx p s m meth c cc nL args own D cI cZ) (w : Wd D A H0 ws H locs) (hl : lv_has ls nL lv) (hdg : decode cc pc = .ok (.invokevirtual index, 3))
    (M : MV l y b L fr lo D cI cZ ws (.ref hh :: As) post wo) (g : GoodIn lw_all (wsV own index Cn y (ws_ y b L none))) (hd : y.cls = Cn ∧ y.cls ≠ "java/lang/invoke/MethodHandle" ∧ y.cls ≠ "java/lang/invoke/VarHandle" ∧ (parseMethodDescriptor y.desc).map (fun d => d.parameters.length) = some n) (hR : fr + 1 ≤ R.frames ∧ 8 + (L + 11) + lo ≤ R.locals)
    (he : ws[0]? = some (hh, .inr (ci, fs))) (hc : cl2[ci]? = some qc) (hq : qc.1 = Cn) (hn : As.length = n) (hst : st0 = As.reverse ++ .ref hh :: rest) (hrm : (rest.map fun v => v.category).sum ≤ 8) (hf : cells ≤ R.cells ∧ slots ≤ R.slots)
    (kk : ∀ (u : S) (H1 : Heap) (locs1 : List Loc), post u → Wd D A H0 (wo u) H1 locs1 → W p l e R s m args below meth c H1 locs1 cells slots Q (F0 m (pc + 3) ls rest)) : W p l e R s m args below meth c H locs cells slots Q (F0 m pc ls st0) := by
  subst hst
  subst hq
  refine va_callv (va_runV (As := As) (rest := rest) (mc := 0) (ms := 0) ⟨C.1, C.2.1, C.2.2.2.2.2.1, C.2.2.2.1, C.2.2.1⟩ (M H.size) (cwV n C.2.2.1 g rfl rfl rfl hd hR) ⟨fun a U g mk q => by obtain ⟨q0, q1, qP, qK, qD⟩ := q; exact ⟨q0, q1, qP, va_K.moved (u := U) (U := U.calling g mk a) (Vm.Alike.refl U.vm) qK, qD⟩, va_recv C.2.2.2.2.1 w.1 hc he, fun U hU hW => ⟨rfl, by rw [hU], by rw [hU]; exact w.1, va_K.moved hW.alike C.2.2.2.2.1, w.2.1.weaken (fun _ _ _ _ => trivial)⟩⟩ rfl hn hl.1 rfl (lv_room hrm) hdg hf) w.2.2.1 (fun q _ h => wd_free w q h) (wd_free w) (fun u t H1 locs1 ht hvm hp hB hz hk hS => ?_)
  obtain ⟨hP1, hK1, hD1⟩ := hB
  rw [ht] at hP1
  exact kk u H1 locs1 hp ⟨hP1, hD1.weaken (fun _ q _ h => wd_free w q.1 h), hS, w.2.2.2⟩
end K
end
section
/-! MACHINE 3: filling, contents that agree, shifts, static calls -/
def fz {α : Type} (x g : Nat → α) (i : Nat) : Nat → α := fun v => if v < i then x v else g v
theorem fz_0 {α : Type} (x g : Nat → α) : fz x g 0 = g := by
  funext v
  simp [fz]
theorem fz_s {α : Type} (x g : Nat → α) (i : Nat) {y : α} (h : y = x i) : uu (fz x g i) i y = fz x g (i + 1) := by
  subst h
  funext v
  simp only [uu, fz]
  by_cases h : v = i
  · subst h
    rw [if_pos rfl, if_pos (by omega)]
  · rw [if_neg h]
    by_cases q : v < i
    · rw [if_pos q, if_pos (by omega)]
    · rw [if_neg q, if_neg (by omega)]
theorem fz_at {α : Type} {x g : Nat → α} {i v : Nat} (h : v < i) : fz x g i v = x v := if_pos h
theorem s_l : ∀ n, n < 32 → ((nI n &&& 31).toBitVec.smod 32).toNat = n := by decide +kernel
theorem jI_2 (i : Nat) : jI (2 * (i : Int)) = nI (2 * i) := by
  rw [← jI_nI]
  rfl
theorem pw4 (i : Nat) : 2 ^ (2 * i) = 4 ^ i := by rw [Nat.pow_mul]
theorem jI_shr {x i : Nat} (hx : x < 2147483648) (hi : i < 16) : jI (x : Int) >>> (jI (2 * (i : Int)) &&& 31) = jI ((x / 4 ^ i : Nat) : Int) := by
  rw [jI_2, jI_nI, jI_nI, pk_shrN hx _ (2 * i) (s_l (2 * i) (by omega)), pw4]
theorem jI_shl {i : Nat} (hi : i < 16) : jI 1 <<< (jI (2 * (i : Int)) &&& 31) = jI ((4 ^ i : Nat) : Int) := by
  have h1 : (1 : Nat) * 2 ^ (2 * i) < 2 ^ 32 := by
    rw [Nat.one_mul]
    exact Nat.pow_lt_pow_right (by decide) (by omega)
  rw [jI_2, jI_nI, show jI 1 = nI 1 from rfl, pk_shlN _ (2 * i) (s_l (2 * i) (by omega)) h1, Nat.one_mul, pw4]
theorem jI_and3 {x : Nat} (hx : x < 2147483648) : jI (x : Int) &&& jI 3 = jI ((x % 4 : Nat) : Int) := by
  rw [jI_nI, jI_nI]
  exact pk_andN (m := jI 3) (by omega) 2 rfl
theorem jI_and15 (x : Int32) : ∃ k : Nat, k < 16 ∧ x &&& jI 15 = jI (k : Int) := by
  obtain ⟨j, h1, h2⟩ := pk_andE x (m := jI 15) 4 rfl
  exact ⟨j, h1, by rw [h2, jI_nI]⟩
theorem arrV_ext {cA : ClassId} {n : Nat} {f f' : Nat → Int32} (h : ∀ j, j < n → f j = f' j) : vp_cell cA (n, .inl f) = vp_cell cA (n, .inl f') := by
  rw [vp_cell_i, vp_cell_i]
  simp only [arrV]
  congr 1
  congr 1
  funext j
  rw [h j.val j.2]
section K
variable {p : Program} {l : Launch} {e : Env} {R : Room} {s : State} {m : MethodId} {args : Array Value} {below : List Frame} {meth : Method} {c : Code} {H : Heap} {locs : List Loc} {cells slots : Nat} {Q : State → Prop}
variable {cc : ByteArray} {pc nL : Nat} {ls : Array Slot} {rest : List Value} {D : va_G} {A : Nat → Prop} {a : Nat} {ws ws' : va_W} {H0 : Heap} {own : String} {cI cZ : ClassId} {lv lv' : List (Nat × Value)}
/-- contents count below the length alone -/
theorem wd_ext (w : Wd D A H0 ws H locs) (q0 : Nat) {n : Nat} {f f' : Nat → Int32} {cA : ClassId} (ha : ws[q0]? = some (a, .inl (cA, n, .inl f))) (h : ∀ j, j < n → f j = f' j) (hw : ws.set q0 (a, .inl (cA, n, .inl f')) = ws') : Wd D A H0 ws' H locs := by
  subst hw
  refine ⟨w.1.set w.2.1 ha ?_ (fun _ _ => rfl), w.2.1.set ha, w.2.2.1, w.2.2.2⟩
  show H[a]? = some (vp_cell cA (n, .inl f'))
  rw [← arrV_ext h]
  exact w.1 q0 _ ha
theorem wd_eq (w : Wd D A H0 ws H locs) (h : ws = ws') : Wd D A H0 ws' H locs := h ▸ w
theorem oShr (C : Cx p s m meth c cc nL args own D cI cZ) {x i : Nat} (hdg : decode cc pc = .ok (.ishr, 1)) (hx : x < 2147483648 ∧ i < 16) (k : W p l e R s m args below meth c H locs cells slots Q (F0 m (pc + 1) ls (.int (jI ((x / 4 ^ i : Nat) : Int)) :: rest))) : W p l e R s m args below meth c H locs cells slots Q (F0 m pc ls (.int (jI (2 * (i : Int))) :: .int (jI (x : Int)) :: rest)) := lv_ishr C.1 C.2.1 hdg (tpi (jI_shr hx.1 hx.2) k)
theorem oShl (C : Cx p s m meth c cc nL args own D cI cZ) {i : Nat} (hdg : decode cc pc = .ok (.ishl, 1)) (hx : i < 16) (k : W p l e R s m args below meth c H locs cells slots Q (F0 m (pc + 1) ls (.int (jI ((4 ^ i : Nat) : Int)) :: rest))) : W p l e R s m args below meth c H locs cells slots Q (F0 m pc ls (.int (jI (2 * (i : Int))) :: .int (jI 1) :: rest)) := lv_ishl C.1 C.2.1 hdg (tpi (jI_shl hx) k)
theorem oAnd3 (C : Cx p s m meth c cc nL args own D cI cZ) {x : Nat} (hdg : decode cc pc = .ok (.iand, 1)) (hx : x < 2147483648) (k : W p l e R s m args below meth c H locs cells slots Q (F0 m (pc + 1) ls (.int (jI ((x % 4 : Nat) : Int)) :: rest))) : W p l e R s m args below meth c H locs cells slots Q (F0 m pc ls (.int (jI 3) :: .int (jI (x : Int)) :: rest)) := lv_iand C.1 C.2.1 hdg (tpi (jI_and3 hx) k)
/-- a static method that keeps the world -/
theorem cpS {S : Type} {post : Int32 → S → Prop} {wo : S → va_W} {y : MethodName} {b : ByteArray} {L fr lo n index : Nat} {r : FieldType} {As : List Value} {st0 : List Value} (C : Cx p s m meth c cc nL args own D cI cZ) (w : Wd D A H0 ws H locs) (hl : lv_has ls nL lv) (hdg : decode cc pc = .ok (.invokestatic index, 3))
    (M : MI l y b L (some r) fr lo D cI cZ ws As post wo) (g : GoodIn lw_all (va_wsS own index y (ws_ y b L (some r)))) (hd : y.cls ≠ "java/lang/invoke/MethodHandle" ∧ y.cls ≠ "java/lang/invoke/VarHandle" ∧ (parseMethodDescriptor y.desc).map (fun d => d.parameters.length) = some n) (hR : fr + 1 ≤ R.frames ∧ 8 + (L + 11) + lo ≤ R.locals)
    (hn : As.length = n) (hst : st0 = As.reverse ++ rest) (hrm : (rest.map fun v => v.category).sum ≤ 8) (hf : cells ≤ R.cells ∧ slots ≤ R.slots)
    (kk : ∀ (r : Int32) (u : S) (H1 : Heap) (locs1 : List Loc), post r u → Wd D A H0 (wo u) H1 locs1 → W p l e R s m args below meth c H1 locs1 cells slots Q (F0 m (pc + 3) ls (.int r :: rest))) : W p l e R s m args below meth c H locs cells slots Q (F0 m pc ls st0) := by
  subst hst
  refine va_calli (va_runS (As := As) (rest := rest) (mc := 0) (ms := 0) ⟨C.1, C.2.1, C.2.2.2.2.2.1, C.2.2.2.1, C.2.2.1⟩ (M H.size) (va_cwS n C.2.2.1 g rfl rfl rfl hd hR) ⟨fun a U g mk q => by obtain ⟨q0, q1, qP, qK, qD⟩ := q; exact ⟨q0, q1, qP, va_K.moved (u := U) (U := U.calling g mk a) (Vm.Alike.refl U.vm) qK, qD⟩, fun U hU hW => ⟨rfl, by rw [hU], by rw [hU]; exact w.1, va_K.moved hW.alike C.2.2.2.2.1, w.2.1.weaken (fun _ _ _ _ => trivial)⟩⟩ rfl hn hl.1 rfl (lv_room hrm) hdg hf) w.2.2.1 (fun q _ h => wd_free w q h) (wd_free w) (fun r u t H1 locs1 ht hvm hp hB hz hk hS => ?_)
  obtain ⟨hP1, hK1, hD1⟩ := hB
  rw [ht] at hP1
  exact kk r u H1 locs1 hp ⟨hP1, hD1.weaken (fun _ q _ h => wd_free w q.1 h), hS, w.2.2.2⟩
end K
end
section
/-! PURE 12: what the walks need -/
theorem kt_add {P : Pj} {T : Nat} (d : Nat) (hT : T % (4 * jn P) = 0) : kt P (T + d) = d % (4 * jn P) := by
  simp only [kt]
  rw [Nat.add_mod, hT, Nat.zero_add, Nat.mod_mod]
theorem quiet {P : Pj} {f : Nat → Int} {T : Nat} (hn : 0 < jn P) (hT : T % (4 * jn P) = 0) (h : ∀ t, T ≤ t → t < T + 4 * jn P → ¬ ups P f t) : ∀ d, brun P f (T + d) = brun P f T := by
  have h1 : ∀ d, d ≤ 4 * jn P → brun P f (T + d) = brun P f T := by
    intro d
    induction d with
    | zero => intro _; rfl
    | succ d ih =>
      intro hd
      rw [← ih (by omega)]
      exact br_no (h (T + d) (by omega) (by omega))
  intro d
  induction d with
  | zero => rfl
  | succ d ih =>
    rw [← ih]
    refine br_no (fun hu => ?_)
    have hm := Nat.mod_lt d (show 0 < 4 * jn P by omega)
    refine h (T + d % (4 * jn P)) (by omega) (by omega) ?_
    have e1 : kt P (T + d % (4 * jn P)) = kt P (T + d) := by rw [kt_add _ hT, kt_add _ hT, Nat.mod_mod]
    have e2 : brun P f (T + d % (4 * jn P)) = brun P f (T + d) := by rw [h1 _ (by omega), ih]
    show bcond P f (brun P f (T + d % (4 * jn P))) (kt P (T + d % (4 * jn P)))
    rw [e1, e2]
    exact hu
theorem br_s {P : Pj} {f : Nat → Int} {T k : Nat} (hT : T % (4 * jn P) = 0) (hk : k < 4 * jn P) : brun P f (T + k + 1) = bstep P f (brun P f (T + k)) k := by
  show bstep P f (brun P f (T + k)) (kt P (T + k)) = _
  rw [kt_add _ hT, Nat.mod_eq_of_lt hk]
theorem up_s {P : Pj} {f : Nat → Int} {T k : Nat} (hT : T % (4 * jn P) = 0) (hk : k < 4 * jn P) : ups P f (T + k) ↔ bcond P f (brun P f (T + k)) k := by
  show bcond P f (brun P f (T + k)) (kt P (T + k)) ↔ _
  rw [kt_add _ hT, Nat.mod_eq_of_lt hk]
theorem el_b9 {P : Pj} (hp : pok P) {k : Nat} (hk : k < 4 * jn P) : -9 ≤ el P k ∧ el P k ≤ 9 := by
  have h := ln_b hp (show k / 2 < 2 * jn P by omega)
  simp only [el]
  split <;> omega
theorem lO_b {P : Pj} {f : Nat → Int} (hp : pok P) (hn : 0 < jn P) : ∀ t v : Nat, -(9 * (t : Int)) ≤ lO P f t v ∧ lO P f t v ≤ 9 * (t : Int)
  | 0, v => by simp [lO, brun, b0]
  | t + 1, v => by
    have ih := lO_b (f := f) hp hn t
    by_cases hu : ups P f t
    · by_cases hv : v = eb P (kt P t)
      · subst hv
        rw [up_lo hu]
        have h1 := ih (ea P (kt P t))
        have h2 := el_b9 hp (kt_lt hn t)
        omega
      · rw [up_loN hu hv]
        have h1 := ih v
        omega
    · rw [no_lo hu]
      have h1 := ih v
      omega
/-- the ways as they are kept: K of them -/
def wok (P : Pj) (K : Nat) (g12 g13 : Nat → Int) : Prop := ((K = 0 ∧ ¬ Bn P 5) ∨ ∃ N, K = N + 1 ∧ N ≤ 147 ∧ Bn P 5 ∧ 0 < jn P ∧ am P N = 1000000 ∧ (∀ i, i < N → 0 < am P i ∧ am P i < 1000000) ∧ (∀ i, i ≤ N → Ok P i) ∧ Ls P N = late P (ja P) 5) ∧ ∀ k, k < K → g12 k = Ls P k ∧ g13 k = am P k
theorem Ls_b {P : Pj} (hp : pok P) (hn : 0 < jn P) (i : Nat) : -2000 ≤ Ls P i ∧ Ls P i ≤ 2000 := by
  have h := lO_b (f := fl P i) hp hn (24 * jn P) 5
  have h7 := hp.1
  simp only [Ls, fO]
  omega
theorem wok_b {P : Pj} {K : Nat} {g12 g13 : Nat → Int} (hp : pok P) (h : wok P K g12 g13) : K ≤ 148 ∧ ∀ k, k < K → (-2000 ≤ g12 k ∧ g12 k ≤ 2000) ∧ 0 ≤ g13 k ∧ g13 k ≤ 1000000 := by
  obtain ⟨h1, h2⟩ := h
  rcases h1 with ⟨e, -⟩ | ⟨N, e, hN, h5, hn, hA, hfin, -, -⟩
  · subst e
    exact ⟨by omega, fun k hk => absurd hk (by omega)⟩
  · subst e
    refine ⟨by omega, fun k hk => ?_⟩
    rw [(h2 k hk).1, (h2 k hk).2]
    refine ⟨Ls_b hp hn k, ?_⟩
    by_cases q : k < N
    · have := hfin k q
      omega
    · have : k = N := by omega
      subst this
      omega
theorem cfr_congr {wl wa wl' wa' : Nat → Int} {T : Int} : ∀ (m k : Nat) (s : Int), (∀ i, k ≤ i → i < k + m → wl i = wl' i ∧ wa i = wa' i) → cfr wl wa T m k s = cfr wl' wa' T m k s
  | 0, _, _, _ => rfl
  | m + 1, k, s, h => by
    have h0 := h k (Nat.le_refl _) (by omega)
    simp only [cfr]
    rw [h0.1, h0.2, cfr_congr m (k + 1) _ (fun i h1 h2 => h i (by omega) (by omega)), cfr_congr m (k + 1) s (fun i h1 h2 => h i (by omega) (by omega))]
theorem wok_C {P : Pj} {K : Nat} {g12 g13 : Nat → Int} (hp : pok P) (h : wok P K g12 g13) {T : Int} (hT : 0 ≤ T) : cfr g12 g13 T K 0 0 = mC P T := by
  obtain ⟨h1, h2⟩ := h
  rcases h1 with ⟨e, h5⟩ | ⟨N, e, hN, h5, hn, hA, hfin, hok, hL⟩
  · subst e
    exact cost_one hp (cost_none hp h5 hT) (mC_cost hp T)
  · subst e
    rw [cfr_congr (wl' := Ls P) (wa' := am P) (N + 1) 0 0 (fun i _ hi => h2 i (by omega))]
    exact cost_one hp (cost_ways hp hn h5 hA hfin hok hL T) (mC_cost hp T)
theorem js_nn {P : Pj} (hp : pok P) : ∀ j, j < jn P → 0 ≤ js P j ∧ js P j ≤ 9 := fun j hj => by
  have h := hp.2 j hj
  simp only [jok] at h
  omega
theorem ja_nn {P : Pj} (hp : pok P) : ∀ j, j < jn P → 0 ≤ ja P j ∧ ja P j ≤ 9 := fun j hj => by
  have h := hp.2 j hj
  simp only [jok] at h
  omega
theorem wok_s {P : Pj} {K : Nat} {g12 g13 : Nat → Int} (hp : pok P) (h : wok P K g12 g13) : (K = 0 → plen P (js P) = 0) ∧ (K ≠ 0 → g12 0 = plen P (js P)) := by
  obtain ⟨h1, h2⟩ := h
  have hb := plen_b hp (fun j hj => (js_nn hp j hj).1)
  rcases h1 with ⟨e, h5⟩ | ⟨N, e, hN, h5, hn, hA, hfin, hok, hL⟩
  · exact ⟨fun _ => hb.2 h5, fun q => absurd e q⟩
  · refine ⟨fun q => absurd q (by omega), fun _ => ?_⟩
    rw [(h2 0 (by omega)).1, slowest_eq hp hn h5, hb.1 h5]
theorem wok_f {P : Pj} {K : Nat} {g12 g13 : Nat → Int} (hp : pok P) (h : wok P K g12 g13) : (K = 0 → plen P (ja P) = 0) ∧ (K ≠ 0 → g12 (K - 1) = plen P (ja P)) := by
  obtain ⟨h1, h2⟩ := h
  have hb := plen_b hp (fun j hj => (ja_nn hp j hj).1)
  rcases h1 with ⟨e, h5⟩ | ⟨N, e, hN, h5, hn, hA, hfin, hok, hL⟩
  · exact ⟨fun _ => hb.2 h5, fun q => absurd e q⟩
  · refine ⟨fun q => absurd q (by omega), fun _ => ?_⟩
    rw [(h2 (K - 1) (by omega)).1, hb.1 h5, ← hL]
    congr 1
    omega
theorem fl_b {P : Pj} {i : Nat} (h : Ok P i) (hF : FF P i ≤ 593920) : ∀ x, x < 2 * jn P → -1000000000 ≤ fl P i x ∧ fl P i x ≤ 1000000000 := by
  intro x hx
  obtain ⟨g, hc, -⟩ := h
  have h1 := (g.2.2.1 x hx).1
  have h2 := le_F g.1 (fun l hl => (g.2.2.1 l hl).1) hc hx
  omega
/-- whether event 5 is reached at the end -/
theorem end_5 {P : Pj} {f y : Nat → Int} (g : good P f y) : (brun P f (24 * jn P)).1 5 = true ↔ Bn P 5 := fR_Bn g 5
theorem end_0 {P : Pj} {f : Nat → Int} (h : jn P = 0) : (brun P f (24 * jn P)).1 5 = false := by
  rw [h]
  rfl
/-- a step of a way, as it is kept -/
theorem eok_k {P : Pj} {f : Nat → Int} {k : Nat} (h : eok P f k) : k < 4 * jn P ∧ eb P k ≠ 0 ∧ (brun P f (24 * jn P)).2.2 (eb P k) = ecode k := by
  obtain ⟨h1, -, -, -, h5, -, t, hA, ht⟩ := h
  refine ⟨h1, h5, ?_⟩
  have := hA.2.2.2.2.1
  rw [ht] at this
  exact this
/-- the reference's lengths on the way -/
theorem lat_b {P : Pj} {t : Nat → Int} {e i : Nat} {d : Nat → Int} (hp : pok P) (ht : ∀ j, j < jn P → 0 ≤ t j ∧ t j ≤ 9) (h : linv P t e i d) : ∀ v, v ≤ 5 → -1 ≤ d v ∧ d v ≤ 45 := by
  intro v hv
  obtain ⟨h1, h2, h3, -⟩ := h
  refine ⟨h3 v, ?_⟩
  by_cases q : 0 ≤ d v
  · have := (h2 v q).2 (fun v => 9 * (v : Int)) ⟨rfl, fun j hj _ => by
      have := (ht j hj).2
      have := (hp.2 j hj).1
      show 9 * (jf P j : Int) + t j ≤ 9 * (jt P j : Int)
      omega⟩
    have h9 : d v ≤ 9 * (v : Int) := this
    omega
  · omega
theorem chp_b {P : Pj} (hp : pok P) (m t : Nat) : -1 ≤ chp P m t ∧ chp P m t ≤ 420 := by
  rcases cinv_all hp m t with ⟨a, -⟩ | ⟨a, ⟨m', -, hv, -, e⟩, -⟩
  · omega
  · have := pc_le hp (pv_plan hv)
    omega
theorem bst_b {ch : Nat → Int} (h : ∀ t, -1 ≤ ch t ∧ ch t ≤ 420) : ∀ m, -1 ≤ bst ch m ∧ bst ch m ≤ 420
  | 0 => by simp [bst]
  | m + 1 => by
    have h1 := bst_b h m
    have h2 := h m
    simp only [bst]
    split <;> omega
theorem pc_dg {P : Pj} (m : Nat) : pc P (pt P m) = sm (fun j => jp P j * (dg m j : Int)) (jn P) := by
  refine sm_congr (fun j _ => ?_)
  simp only [pt]
  congr 1
  omega
theorem cnt_le (T : Int) : cnt T ≤ 64 := by
  simp only [cnt]
  split
  · omega
  · split <;> omega
theorem cnt_end {T : Int} {t : Nat} (h : t ≤ cnt T) (hx : 64 ≤ t ∨ T < t) : t = cnt T := by
  simp only [cnt] at h ⊢
  by_cases a : T < 0
  · rw [if_pos a] at h ⊢
    omega
  · rw [if_neg a] at h ⊢
    by_cases b : 63 ≤ T
    · rw [if_pos b] at h ⊢
      omega
    · rw [if_neg b] at h ⊢
      omega
theorem cnt_go {T : Int} {t : Nat} (h1 : t < 64) (h2 : (t : Int) ≤ T) : t + 1 ≤ cnt T := by
  simp only [cnt]
  split
  · omega
  · split <;> omega
theorem pow7 {n : Nat} (h : n ≤ 7) : 4 ^ n ≤ 16384 := Nat.pow_le_pow_right (n := 4) (by decide) h
end
section
/-! PLANNER 1: lengthOf, roomOf -/
set_option maxHeartbeats 4000000 in
set_option maxRecDepth 100000 in
/-- the length of line i -/
theorem m_lengthOf (l : Launch) (D : va_G) (cI cZ : ClassId) (h : Nat) (a : Nat → Nat) (n : Int) (g1 g2 g3 g4 g5 g6 g7 : Nat → Int) (g8 : Nat → Bool) (g9 : Nat → Int) (kn : Bool) (w : Int) (g12 g13 : Nat → Int) (i : Nat) (hi : i < 14) : MI l yX0_lengthOf cX0_lengthOf 2 (some .int) 0 0 D cI cZ (wX h a cI cZ n g1 g2 g3 g4 g5 g6 g7 g8 g9 kn w g12 g13) [.ref h, .int (jI (i : Int))] (fun r (_ : Unit) => r = jI (if i % 2 = 0 then g3 (i / 2) else g4 (i / 2))) (fun _ => (wX h a cI cZ n g1 g2 g3 g4 g5 g6 g7 g8 g9 kn w g12 g13)) := by
  refine mi_of (by decide) (Nat.le_of_ble_eq_true rfl) ?_
  intro p e s m below meth c A ls C hr w hl
  have hl : lv_has ls 2 [(0, .ref h), (1, .int (jI (i : Int)))] := hl
  refine iLn C hl 1 dX0_lengthOf_0 rfl rfl ?_
  refine kC C dX0_lengthOf_1 ?_
  refine oAnd1 C dX0_lengthOf_2 (by omega) ?_
  refine zNe C 17 dX0_lengthOf_3 (by decide) ⟨by omega, by omega⟩ (fun c3 => ?_) (fun c3 => ?_)
  · refine aLn C hl 0 dX0_lengthOf_17 rfl rfl ?_
    refine gX C w 0 4 dX0_lengthOf_18 q27 rfl (by decide) rfl rfl ?_
    refine iLn C hl 1 dX0_lengthOf_21 rfl rfl ?_
    refine kC C dX0_lengthOf_22 ?_
    refine oDiv2 C dX0_lengthOf_23 (by omega) ?_
    refine rdA C w 4 dX0_lengthOf_24 rfl (by omega) (by decide) ?_
    exact retI () C hr w dX0_lengthOf_25 (by rw [if_neg (by omega)])
  · refine aLn C hl 0 dX0_lengthOf_6 rfl rfl ?_
    refine gX C w 0 3 dX0_lengthOf_7 q26 rfl (by decide) rfl rfl ?_
    refine iLn C hl 1 dX0_lengthOf_10 rfl rfl ?_
    refine kC C dX0_lengthOf_11 ?_
    refine oDiv2 C dX0_lengthOf_12 (by omega) ?_
    refine rdA C w 3 dX0_lengthOf_13 rfl (by omega) (by decide) ?_
    refine gTo C 25 dX0_lengthOf_14 (by decide) ?_
    exact retI () C hr w dX0_lengthOf_25 (by rw [if_pos (by omega)])
set_option maxHeartbeats 4000000 in
set_option maxRecDepth 100000 in
/-- the room on line i -/
theorem m_roomOf (l : Launch) (D : va_G) (cI cZ : ClassId) (h : Nat) (a : Nat → Nat) (n : Int) (g1 g2 g3 g4 g5 g6 g7 : Nat → Int) (g8 : Nat → Bool) (g9 : Nat → Int) (kn : Bool) (w : Int) (g12 g13 : Nat → Int) (i : Nat) (b : Bool) (hi : i < 14) : MI l yX0_roomOf cX0_roomOf 3 (some .int) 0 0 D cI cZ (wX h a cI cZ n g1 g2 g3 g4 g5 g6 g7 g8 g9 kn w g12 g13) [.ref h, .int (jI (i : Int)), .int (bI b)] (fun r (_ : Unit) => r = jI (if b = true then g6 i else if i % 2 = 0 then g5 (i / 2) - g6 i else 1000000)) (fun _ => (wX h a cI cZ n g1 g2 g3 g4 g5 g6 g7 g8 g9 kn w g12 g13)) := by
  refine mi_of (by decide) (Nat.le_of_ble_eq_true rfl) ?_
  intro p e s m below meth c A ls C hr w hl
  have hl : lv_has ls 3 [(0, .ref h), (1, .int (jI (i : Int))), (2, .int (bI b))] := hl
  refine iLn C hl 2 dX0_roomOf_0 rfl rfl ?_
  refine bEq C 11 dX0_roomOf_1 (by decide) (fun c1 => ?_) (fun c1 => ?_)
  · refine iLn C hl 1 dX0_roomOf_11 rfl rfl ?_
    refine kC C dX0_roomOf_12 ?_
    refine oAnd1 C dX0_roomOf_13 (by omega) ?_
    refine zNe C 35 dX0_roomOf_14 (by decide) ⟨by omega, by omega⟩ (fun c14 => ?_) (fun c14 => ?_)
    · refine kL (n := 1000000) C dX0_roomOf_35 q104 rfl ?_
      exact retI () C hr w dX0_roomOf_37 (by rw [if_neg (by rw [c1]; decide), if_neg (by omega)])
    · refine aLn C hl 0 dX0_roomOf_17 rfl rfl ?_
      refine gX C w 0 5 dX0_roomOf_18 q28 rfl (by decide) rfl rfl ?_
      refine iLn C hl 1 dX0_roomOf_21 rfl rfl ?_
      refine kC C dX0_roomOf_22 ?_
      refine oDiv2 C dX0_roomOf_23 (by omega) ?_
      refine rdA C w 5 dX0_roomOf_24 rfl (by omega) (by decide) ?_
      refine aLn C hl 0 dX0_roomOf_25 rfl rfl ?_
      refine gX C w 0 6 dX0_roomOf_26 q29 rfl (by decide) rfl rfl ?_
      refine iLn C hl 1 dX0_roomOf_29 rfl rfl ?_
      refine rdA C w 6 dX0_roomOf_30 rfl (by omega) (by decide) ?_
      refine oSub C dX0_roomOf_31 ?_
      refine gTo C 37 dX0_roomOf_32 (by decide) ?_
      exact retI () C hr w dX0_roomOf_37 (by rw [if_neg (by rw [c1]; decide), if_pos (by omega)])
  · refine aLn C hl 0 dX0_roomOf_4 rfl rfl ?_
    refine gX C w 0 6 dX0_roomOf_5 q29 rfl (by decide) rfl rfl ?_
    refine iLn C hl 1 dX0_roomOf_8 rfl rfl ?_
    refine rdA C w 6 dX0_roomOf_9 rfl (by omega) (by decide) ?_
    exact retI () C hr w dX0_roomOf_10 (by rw [if_pos c1])
end
section
/-! PLANNER 2: stretch -/
abbrev wP (h : Nat) (a : Nat → Nat) (cI cZ : ClassId) (P : Pj) (f : Nat → Int) (st : BS) (kn : Bool) (w : Int) (g12 g13 : Nat → Int) : va_W := wX h a cI cZ (jn P) (fun j => (jf P j : Int)) (fun j => (jt P j : Int)) (js P) (ja P) (jp P) f st.2.1 st.1 st.2.2 kn w g12 g13
theorem ea_b (P : Pj) (i : Nat) : ea P (2 * i + 1) = jt P (i / 2) := by rw [ea, if_pos (by omega), show (2 * i + 1) / 4 = i / 2 by omega]
theorem eb_b (P : Pj) (i : Nat) : eb P (2 * i + 1) = jf P (i / 2) := by rw [eb, if_pos (by omega), show (2 * i + 1) / 4 = i / 2 by omega]
theorem el_b (P : Pj) (i : Nat) : el P (2 * i + 1) = -ln P i := by rw [el, if_pos (by omega), show (2 * i + 1) / 2 = i by omega]
theorem er_b (P : Pj) (f : Nat → Int) (i : Nat) : er P f (2 * i + 1) = f i := by rw [er, if_pos (by omega), show (2 * i + 1) / 2 = i by omega]
theorem ec_b (i : Nat) : ecode (2 * i + 1) = (i : Int) + 28 := by rw [ecode, if_pos (by omega), show (2 * i + 1) / 2 = i by omega]
theorem ea_f (P : Pj) (i : Nat) : ea P (2 * i) = jf P (i / 2) := by rw [ea, if_neg (by omega), show 2 * i / 4 = i / 2 by omega]
theorem eb_f (P : Pj) (i : Nat) : eb P (2 * i) = jt P (i / 2) := by rw [eb, if_neg (by omega), show 2 * i / 4 = i / 2 by omega]
theorem el_f (P : Pj) (i : Nat) : el P (2 * i) = ln P i := by rw [el, if_neg (by omega), show 2 * i / 2 = i by omega]
theorem er_f (P : Pj) (f : Nat → Int) (i : Nat) : er P f (2 * i) = if i % 2 = 0 then jp P (i / 2) - f i else 1000000 := by rw [er, if_neg (by omega), show 2 * i / 2 = i by omega, show 2 * i / 4 = i / 2 by omega]
theorem ec_f (i : Nat) : ecode (2 * i) = (i : Int) := by rw [ecode, if_neg (by omega), show 2 * i / 2 = i by omega]
theorem bc_b (P : Pj) (f : Nat → Int) (st : BS) (i : Nat) : bcond P f st (2 * i + 1) ↔ (st.1 (jt P (i / 2)) = true ∧ f i ≠ 0 ∧ jf P (i / 2) ≠ 0 ∧ ¬ (st.1 (jf P (i / 2)) = true ∧ st.2.1 (jt P (i / 2)) + -ln P i ≤ st.2.1 (jf P (i / 2)))) := by
  simp only [bcond, ea_b, eb_b, el_b, er_b]
theorem bc_f (P : Pj) (f : Nat → Int) (st : BS) (i : Nat) : bcond P f st (2 * i) ↔ (st.1 (jf P (i / 2)) = true ∧ (if i % 2 = 0 then jp P (i / 2) - f i else 1000000) ≠ 0 ∧ jt P (i / 2) ≠ 0 ∧ ¬ (st.1 (jt P (i / 2)) = true ∧ st.2.1 (jf P (i / 2)) + ln P i ≤ st.2.1 (jt P (i / 2)))) := by
  simp only [bcond, ea_f, eb_f, el_f, er_f]
theorem bs_no {P : Pj} {f : Nat → Int} {st : BS} {k : Nat} (h : ¬ bcond P f st k) : bstep P f st k = st := by
  rw [bstep, if_neg h]
theorem bs_b {P : Pj} {f : Nat → Int} {st : BS} {i : Nat} (h : bcond P f st (2 * i + 1)) : bstep P f st (2 * i + 1) = (uu st.1 (jf P (i / 2)) true, uu st.2.1 (jf P (i / 2)) (st.2.1 (jt P (i / 2)) + -ln P i), uu st.2.2 (jf P (i / 2)) ((i : Int) + 28)) := by
  rw [bstep, if_pos h, ea_b, eb_b, el_b, ec_b]
theorem bs_f {P : Pj} {f : Nat → Int} {st : BS} {i : Nat} (h : bcond P f st (2 * i)) : bstep P f st (2 * i) = (uu st.1 (jt P (i / 2)) true, uu st.2.1 (jt P (i / 2)) (st.2.1 (jf P (i / 2)) + ln P i), uu st.2.2 (jt P (i / 2)) (i : Int)) := by
  rw [bstep, if_pos h, ea_f, eb_f, el_f, ec_f]
set_option maxHeartbeats 4000000 in
set_option maxRecDepth 100000 in
/-- stretch: one step -/
theorem m_stretch (l : Launch) (D : va_G) (cI cZ : ClassId) (h : Nat) (a : Nat → Nat) (P : Pj) (f : Nat → Int) (st : BS) (kn : Bool) (w : Int) (g12 g13 : Nat → Int) (i : Nat) (b : Bool) (hp : pok P) (hi : i < 2 * jn P) (hlo : ∀ v, v ≤ 5 → -100000 ≤ st.2.1 v ∧ st.2.1 v ≤ 100000) (hf : ∀ x, x < 2 * jn P → -1000000000 ≤ f x ∧ f x ≤ 1000000000) : MI l yX0_stretch cX0_stretch 6 (some .boolean) 1 22 D cI cZ (wP h a cI cZ P f st kn w g12 g13) [.ref h, .int (jI (i : Int)), .int (bI b)] (fun r (_ : Unit) => r = bI (decide (bcond P f st (2 * i + b.toNat)))) (fun _ => wP h a cI cZ P f (bstep P f st (2 * i + b.toNat)) kn w g12 g13) := by
  refine mi_of (by decide) (Nat.le_of_ble_eq_true rfl) ?_
  intro p e s m below meth c A ls C hr w hl
  have hn7 := hp.1
  have hj := hp.2 (i / 2) (by omega)
  obtain ⟨j1, j2, j3, j4, j5, j6, j7, j8⟩ := hj
  have hfi := hf i hi
  have hl9 := ln_b hp hi
  have hla := hlo (jf P (i / 2)) (by omega)
  have hlb := hlo (jt P (i / 2)) (by omega)
  cases b
  · have hl : lv_has ls 6 [(0, .ref h), (1, .int (jI (i : Int))), (2, .int (bI false))] := hl
    refine iLn C hl 2 dX0_stretch_0 rfl rfl ?_
    refine bEq C 15 dX0_stretch_1 (by decide) (fun c1 => ?_) (fun c1 => ?_)
    · refine aLn C hl 0 dX0_stretch_15 rfl rfl ?_
      refine gX C w 0 1 dX0_stretch_16 q24 rfl (by decide) rfl rfl ?_
      refine iLn C hl 1 dX0_stretch_19 rfl rfl ?_
      refine kC C dX0_stretch_20 ?_
      refine oDiv2 C dX0_stretch_21 (by omega) ?_
      refine rdA C w 1 dX0_stretch_22 rfl (by omega) (by decide) ?_
      refine iSn (lv' := [(0, .ref h), (1, .int (jI (i : Int))), (2, .int (bI false)), (3, .int (jI ((jf P (i / 2) : Nat) : Int)))]) C hl dX0_stretch_23 [1, 2, 3, 0] rfl (by decide) rfl (fun ls hl => ?_)
      refine iLn C hl 2 dX0_stretch_24 rfl rfl ?_
      refine bEq C 39 dX0_stretch_25 (by decide) (fun c25 => ?_) (fun c25 => ?_)
      · refine aLn C hl 0 dX0_stretch_39 rfl rfl ?_
        refine gX C w 0 2 dX0_stretch_40 q25 rfl (by decide) rfl rfl ?_
        refine iLn C hl 1 dX0_stretch_43 rfl rfl ?_
        refine kC C dX0_stretch_44 ?_
        refine oDiv2 C dX0_stretch_45 (by omega) ?_
        refine rdA C w 2 dX0_stretch_46 rfl (by omega) (by decide) ?_
        refine iS (lv' := [(0, .ref h), (1, .int (jI (i : Int))), (2, .int (bI false)), (3, .int (jI ((jf P (i / 2) : Nat) : Int))), (4, .int (jI ((jt P (i / 2) : Nat) : Int)))]) C hl dX0_stretch_47 [1, 2, 3, 4, 0] (by decide) rfl (fun ls hl => ?_)
        refine aLn C hl 0 dX0_stretch_49 rfl rfl ?_
        refine gX C w 0 7 dX0_stretch_50 q30 rfl (by decide) rfl rfl ?_
        refine iLn C hl 3 dX0_stretch_53 rfl rfl ?_
        refine rdA C w 7 dX0_stretch_54 rfl (by omega) (by decide) ?_
        refine iLn C hl 2 dX0_stretch_55 rfl rfl ?_
        refine bEq C 68 dX0_stretch_56 (by decide) (fun c56 => ?_) (fun c56 => ?_)
        · refine aLn C hl 0 dX0_stretch_68 rfl rfl ?_
          refine iLn C hl 1 dX0_stretch_69 rfl rfl ?_
          refine cpI (n := 1) C w hl dX0_stretch_70 (m_lengthOf l D cI cZ h a _ _ _ _ _ _ _ _ _ _ _ _ _ _ i (by omega)) (lw_V q96 q98 qs3 q13 q99) (by decide +kernel) ⟨Nat.le_of_ble_eq_true rfl, Nat.le_of_ble_eq_true rfl⟩ rfl rfl rfl rfl rfl (Nat.le_of_ble_eq_true rfl) ⟨Nat.le_refl 0, Nat.le_refl 0⟩ (fun r u H locs hp w => ?_)
          subst hp
          refine oAdd C dX0_stretch_73 ?_
          refine iS (lv' := [(0, .ref h), (1, .int (jI (i : Int))), (2, .int (bI false)), (3, .int (jI ((jf P (i / 2) : Nat) : Int))), (4, .int (jI ((jt P (i / 2) : Nat) : Int))), (5, .int (jI (st.2.1 (jf P (i / 2)) + ln P i)))]) C hl dX0_stretch_74 [1, 2, 3, 4, 5, 0] (by decide) rfl (fun ls hl => ?_)
          refine aLn C hl 0 dX0_stretch_76 rfl rfl ?_
          refine gX C w 0 8 dX0_stretch_77 q31 rfl (by decide) rfl rfl ?_
          refine iLn C hl 3 dX0_stretch_80 rfl rfl ?_
          refine rdZ C w 8 dX0_stretch_81 rfl (by omega) (by decide) ?_
          refine bEq C 121 dX0_stretch_82 (by decide) (fun c82 => ?_) (fun c82 => ?_)
          · have hnb : ¬ bcond P f st (2 * i) := fun q => by have q := (bc_f P f st i).mp q; rw [c82] at q; exact absurd q.1 (by decide)
            refine kC C dX0_stretch_121 ?_
            refine tpi bI_f ?_
            exact retZ () C hr (show Wd D A s.heap (wP h a cI cZ P f (bstep P f st (2 * i)) _ _ _ _) _ _ from by rw [bs_no hnb]; exact w) dX0_stretch_122 (show bI false = bI (decide (bcond P f st (2 * i))) from by rw [decide_eq_false hnb])
          · refine aLn C hl 0 dX0_stretch_85 rfl rfl ?_
            refine iLn C hl 1 dX0_stretch_86 rfl rfl ?_
            refine iLn C hl 2 dX0_stretch_87 rfl rfl ?_
            refine cpI (n := 2) C w hl dX0_stretch_88 (m_roomOf l D cI cZ h a _ _ _ _ _ _ _ _ _ _ _ _ _ _ i false (by omega)) (lw_V q100 q102 qs4 q13 q103) (by decide +kernel) ⟨Nat.le_of_ble_eq_true rfl, Nat.le_of_ble_eq_true rfl⟩ rfl rfl rfl rfl rfl (Nat.le_of_ble_eq_true rfl) ⟨Nat.le_refl 0, Nat.le_refl 0⟩ (fun r u H locs hp w => ?_)
            subst hp
            have hrm : -2000000000 ≤ (if i % 2 = 0 then jp P (i / 2) - f i else 1000000) ∧ (if i % 2 = 0 then jp P (i / 2) - f i else 1000000) ≤ 2000000000 := by split <;> omega
            refine tpi (show _ = jI ((if i % 2 = 0 then jp P (i / 2) - f i else 1000000)) from rfl) ?_
            refine zEq C 121 dX0_stretch_91 (by decide) ⟨by omega, by omega⟩ (fun c91 => ?_) (fun c91 => ?_)
            · have hnb : ¬ bcond P f st (2 * i) := fun q => by have q := (bc_f P f st i).mp q; exact q.2.1 c91
              refine kC C dX0_stretch_121 ?_
              refine tpi bI_f ?_
              exact retZ () C hr (show Wd D A s.heap (wP h a cI cZ P f (bstep P f st (2 * i)) _ _ _ _) _ _ from by rw [bs_no hnb]; exact w) dX0_stretch_122 (show bI false = bI (decide (bcond P f st (2 * i))) from by rw [decide_eq_false hnb])
            · refine iL C hl 4 dX0_stretch_94 rfl ?_
              refine zEq C 121 dX0_stretch_96 (by decide) ⟨by omega, by omega⟩ (fun c96 => ?_) (fun c96 => ?_)
              · have hnb : ¬ bcond P f st (2 * i) := fun q => by have q := (bc_f P f st i).mp q; omega
                refine kC C dX0_stretch_121 ?_
                refine tpi bI_f ?_
                exact retZ () C hr (show Wd D A s.heap (wP h a cI cZ P f (bstep P f st (2 * i)) _ _ _ _) _ _ from by rw [bs_no hnb]; exact w) dX0_stretch_122 (show bI false = bI (decide (bcond P f st (2 * i))) from by rw [decide_eq_false hnb])
              · refine aLn C hl 0 dX0_stretch_99 rfl rfl ?_
                refine gX C w 0 8 dX0_stretch_100 q31 rfl (by decide) rfl rfl ?_
                refine iL C hl 4 dX0_stretch_103 rfl ?_
                refine rdZ C w 8 dX0_stretch_105 rfl (by omega) (by decide) ?_
                refine bEq C 123 dX0_stretch_106 (by decide) (fun c106 => ?_) (fun c106 => ?_)
                · have hyb : bcond P f st (2 * i) := (bc_f P f st i).mpr ⟨c82, c91, by omega, fun z => by rw [c106] at z; exact absurd z.1 (by decide)⟩
                  refine aLn C hl 0 dX0_stretch_123 rfl rfl ?_
                  refine gX C w 0 8 dX0_stretch_124 q31 rfl (by decide) rfl rfl ?_
                  refine iL C hl 4 dX0_stretch_127 rfl ?_
                  refine kC C dX0_stretch_129 ?_
                  refine tpi bI_t ?_
                  refine wrZ (ws' := wX h a cI cZ (jn P) (fun j => (jf P j : Int)) (fun j => (jt P j : Int)) (js P) (ja P) (jp P) f st.2.1 (uu st.1 (jt P (i / 2)) true) st.2.2 _ _ _ _) C w 8 dX0_stretch_130 rfl (by omega) (by decide) rfl (fun H locs w => ?_)
                  refine aLn C hl 0 dX0_stretch_131 rfl rfl ?_
                  refine gX C w 0 7 dX0_stretch_132 q30 rfl (by decide) rfl rfl ?_
                  refine iL C hl 4 dX0_stretch_135 rfl ?_
                  refine iL C hl 5 dX0_stretch_137 rfl ?_
                  refine wrA (ws' := wX h a cI cZ (jn P) (fun j => (jf P j : Int)) (fun j => (jt P j : Int)) (js P) (ja P) (jp P) f (uu st.2.1 (jt P (i / 2)) (st.2.1 (jf P (i / 2)) + ln P i)) (uu st.1 (jt P (i / 2)) true) st.2.2 _ _ _ _) C w 7 dX0_stretch_139 rfl (by omega) (by decide) rfl (fun H locs w => ?_)
                  refine aLn C hl 0 dX0_stretch_140 rfl rfl ?_
                  refine gX C w 0 9 dX0_stretch_141 q32 rfl (by decide) rfl rfl ?_
                  refine iL C hl 4 dX0_stretch_144 rfl ?_
                  refine iLn C hl 2 dX0_stretch_146 rfl rfl ?_
                  refine bEq C 157 dX0_stretch_147 (by decide) (fun c147 => ?_) (fun c147 => ?_)
                  · refine iLn C hl 1 dX0_stretch_157 rfl rfl ?_
                    refine wrA (ws' := wX h a cI cZ (jn P) (fun j => (jf P j : Int)) (fun j => (jt P j : Int)) (js P) (ja P) (jp P) f (uu st.2.1 (jt P (i / 2)) (st.2.1 (jf P (i / 2)) + ln P i)) (uu st.1 (jt P (i / 2)) true) (uu st.2.2 (jt P (i / 2)) (i : Int)) _ _ _ _) C w 9 dX0_stretch_158 rfl (by omega) (by decide) rfl (fun H locs w => ?_)
                    refine kC C dX0_stretch_159 ?_
                    refine tpi bI_t ?_
                    exact retZ () C hr (show Wd D A s.heap (wP h a cI cZ P f (bstep P f st (2 * i)) _ _ _ _) _ _ from by rw [bs_f hyb]; exact w) dX0_stretch_160 (show bI true = bI (decide (bcond P f st (2 * i))) from by rw [decide_eq_true hyb])
                  · exact absurd c147 (by decide)
                · refine aLn C hl 0 dX0_stretch_109 rfl rfl ?_
                  refine gX C w 0 7 dX0_stretch_110 q30 rfl (by decide) rfl rfl ?_
                  refine iL C hl 4 dX0_stretch_113 rfl ?_
                  refine rdA C w 7 dX0_stretch_115 rfl (by omega) (by decide) ?_
                  refine iL C hl 5 dX0_stretch_116 rfl ?_
                  refine cLt C 123 dX0_stretch_118 (by decide) ⟨⟨by omega, by omega⟩, ⟨by omega, by omega⟩⟩ (fun c118 => ?_) (fun c118 => ?_)
                  · have hyb : bcond P f st (2 * i) := (bc_f P f st i).mpr ⟨c82, c91, by omega, fun z => by omega⟩
                    refine aLn C hl 0 dX0_stretch_123 rfl rfl ?_
                    refine gX C w 0 8 dX0_stretch_124 q31 rfl (by decide) rfl rfl ?_
                    refine iL C hl 4 dX0_stretch_127 rfl ?_
                    refine kC C dX0_stretch_129 ?_
                    refine tpi bI_t ?_
                    refine wrZ (ws' := wX h a cI cZ (jn P) (fun j => (jf P j : Int)) (fun j => (jt P j : Int)) (js P) (ja P) (jp P) f st.2.1 (uu st.1 (jt P (i / 2)) true) st.2.2 _ _ _ _) C w 8 dX0_stretch_130 rfl (by omega) (by decide) rfl (fun H locs w => ?_)
                    refine aLn C hl 0 dX0_stretch_131 rfl rfl ?_
                    refine gX C w 0 7 dX0_stretch_132 q30 rfl (by decide) rfl rfl ?_
                    refine iL C hl 4 dX0_stretch_135 rfl ?_
                    refine iL C hl 5 dX0_stretch_137 rfl ?_
                    refine wrA (ws' := wX h a cI cZ (jn P) (fun j => (jf P j : Int)) (fun j => (jt P j : Int)) (js P) (ja P) (jp P) f (uu st.2.1 (jt P (i / 2)) (st.2.1 (jf P (i / 2)) + ln P i)) (uu st.1 (jt P (i / 2)) true) st.2.2 _ _ _ _) C w 7 dX0_stretch_139 rfl (by omega) (by decide) rfl (fun H locs w => ?_)
                    refine aLn C hl 0 dX0_stretch_140 rfl rfl ?_
                    refine gX C w 0 9 dX0_stretch_141 q32 rfl (by decide) rfl rfl ?_
                    refine iL C hl 4 dX0_stretch_144 rfl ?_
                    refine iLn C hl 2 dX0_stretch_146 rfl rfl ?_
                    refine bEq C 157 dX0_stretch_147 (by decide) (fun c147 => ?_) (fun c147 => ?_)
                    · refine iLn C hl 1 dX0_stretch_157 rfl rfl ?_
                      refine wrA (ws' := wX h a cI cZ (jn P) (fun j => (jf P j : Int)) (fun j => (jt P j : Int)) (js P) (ja P) (jp P) f (uu st.2.1 (jt P (i / 2)) (st.2.1 (jf P (i / 2)) + ln P i)) (uu st.1 (jt P (i / 2)) true) (uu st.2.2 (jt P (i / 2)) (i : Int)) _ _ _ _) C w 9 dX0_stretch_158 rfl (by omega) (by decide) rfl (fun H locs w => ?_)
                      refine kC C dX0_stretch_159 ?_
                      refine tpi bI_t ?_
                      exact retZ () C hr (show Wd D A s.heap (wP h a cI cZ P f (bstep P f st (2 * i)) _ _ _ _) _ _ from by rw [bs_f hyb]; exact w) dX0_stretch_160 (show bI true = bI (decide (bcond P f st (2 * i))) from by rw [decide_eq_true hyb])
                    · exact absurd c147 (by decide)
                  · have hnb : ¬ bcond P f st (2 * i) := fun q => by have q := (bc_f P f st i).mp q; exact q.2.2.2 ⟨c106, by omega⟩
                    refine kC C dX0_stretch_121 ?_
                    refine tpi bI_f ?_
                    exact retZ () C hr (show Wd D A s.heap (wP h a cI cZ P f (bstep P f st (2 * i)) _ _ _ _) _ _ from by rw [bs_no hnb]; exact w) dX0_stretch_122 (show bI false = bI (decide (bcond P f st (2 * i))) from by rw [decide_eq_false hnb])
        · exact absurd c56 (by decide)
      · exact absurd c25 (by decide)
    · exact absurd c1 (by decide)
  · have hl : lv_has ls 6 [(0, .ref h), (1, .int (jI (i : Int))), (2, .int (bI true))] := hl
    refine iLn C hl 2 dX0_stretch_0 rfl rfl ?_
    refine bEq C 15 dX0_stretch_1 (by decide) (fun c1 => ?_) (fun c1 => ?_)
    · exact absurd c1 (by decide)
    · refine aLn C hl 0 dX0_stretch_4 rfl rfl ?_
      refine gX C w 0 2 dX0_stretch_5 q25 rfl (by decide) rfl rfl ?_
      refine iLn C hl 1 dX0_stretch_8 rfl rfl ?_
      refine kC C dX0_stretch_9 ?_
      refine oDiv2 C dX0_stretch_10 (by omega) ?_
      refine rdA C w 2 dX0_stretch_11 rfl (by omega) (by decide) ?_
      refine gTo C 23 dX0_stretch_12 (by decide) ?_
      refine iSn (lv' := [(0, .ref h), (1, .int (jI (i : Int))), (2, .int (bI true)), (3, .int (jI ((jt P (i / 2) : Nat) : Int)))]) C hl dX0_stretch_23 [1, 2, 3, 0] rfl (by decide) rfl (fun ls hl => ?_)
      refine iLn C hl 2 dX0_stretch_24 rfl rfl ?_
      refine bEq C 39 dX0_stretch_25 (by decide) (fun c25 => ?_) (fun c25 => ?_)
      · exact absurd c25 (by decide)
      · refine aLn C hl 0 dX0_stretch_28 rfl rfl ?_
        refine gX C w 0 1 dX0_stretch_29 q24 rfl (by decide) rfl rfl ?_
        refine iLn C hl 1 dX0_stretch_32 rfl rfl ?_
        refine kC C dX0_stretch_33 ?_
        refine oDiv2 C dX0_stretch_34 (by omega) ?_
        refine rdA C w 1 dX0_stretch_35 rfl (by omega) (by decide) ?_
        refine gTo C 47 dX0_stretch_36 (by decide) ?_
        refine iS (lv' := [(0, .ref h), (1, .int (jI (i : Int))), (2, .int (bI true)), (3, .int (jI ((jt P (i / 2) : Nat) : Int))), (4, .int (jI ((jf P (i / 2) : Nat) : Int)))]) C hl dX0_stretch_47 [1, 2, 3, 4, 0] (by decide) rfl (fun ls hl => ?_)
        refine aLn C hl 0 dX0_stretch_49 rfl rfl ?_
        refine gX C w 0 7 dX0_stretch_50 q30 rfl (by decide) rfl rfl ?_
        refine iLn C hl 3 dX0_stretch_53 rfl rfl ?_
        refine rdA C w 7 dX0_stretch_54 rfl (by omega) (by decide) ?_
        refine iLn C hl 2 dX0_stretch_55 rfl rfl ?_
        refine bEq C 68 dX0_stretch_56 (by decide) (fun c56 => ?_) (fun c56 => ?_)
        · exact absurd c56 (by decide)
        · refine aLn C hl 0 dX0_stretch_59 rfl rfl ?_
          refine iLn C hl 1 dX0_stretch_60 rfl rfl ?_
          refine cpI (n := 1) C w hl dX0_stretch_61 (m_lengthOf l D cI cZ h a _ _ _ _ _ _ _ _ _ _ _ _ _ _ i (by omega)) (lw_V q96 q98 qs3 q13 q99) (by decide +kernel) ⟨Nat.le_of_ble_eq_true rfl, Nat.le_of_ble_eq_true rfl⟩ rfl rfl rfl rfl rfl (Nat.le_of_ble_eq_true rfl) ⟨Nat.le_refl 0, Nat.le_refl 0⟩ (fun r u H locs hp w => ?_)
          subst hp
          refine oNeg C dX0_stretch_64 ?_
          refine gTo C 73 dX0_stretch_65 (by decide) ?_
          refine oAdd C dX0_stretch_73 ?_
          refine iS (lv' := [(0, .ref h), (1, .int (jI (i : Int))), (2, .int (bI true)), (3, .int (jI ((jt P (i / 2) : Nat) : Int))), (4, .int (jI ((jf P (i / 2) : Nat) : Int))), (5, .int (jI (st.2.1 (jt P (i / 2)) + -ln P i)))]) C hl dX0_stretch_74 [1, 2, 3, 4, 5, 0] (by decide) rfl (fun ls hl => ?_)
          refine aLn C hl 0 dX0_stretch_76 rfl rfl ?_
          refine gX C w 0 8 dX0_stretch_77 q31 rfl (by decide) rfl rfl ?_
          refine iLn C hl 3 dX0_stretch_80 rfl rfl ?_
          refine rdZ C w 8 dX0_stretch_81 rfl (by omega) (by decide) ?_
          refine bEq C 121 dX0_stretch_82 (by decide) (fun c82 => ?_) (fun c82 => ?_)
          · have hnb : ¬ bcond P f st (2 * i + 1) := fun q => by have q := (bc_b P f st i).mp q; rw [c82] at q; exact absurd q.1 (by decide)
            refine kC C dX0_stretch_121 ?_
            refine tpi bI_f ?_
            exact retZ () C hr (show Wd D A s.heap (wP h a cI cZ P f (bstep P f st (2 * i + 1)) _ _ _ _) _ _ from by rw [bs_no hnb]; exact w) dX0_stretch_122 (show bI false = bI (decide (bcond P f st (2 * i + 1))) from by rw [decide_eq_false hnb])
          · refine aLn C hl 0 dX0_stretch_85 rfl rfl ?_
            refine iLn C hl 1 dX0_stretch_86 rfl rfl ?_
            refine iLn C hl 2 dX0_stretch_87 rfl rfl ?_
            refine cpI (n := 2) C w hl dX0_stretch_88 (m_roomOf l D cI cZ h a _ _ _ _ _ _ _ _ _ _ _ _ _ _ i true (by omega)) (lw_V q100 q102 qs4 q13 q103) (by decide +kernel) ⟨Nat.le_of_ble_eq_true rfl, Nat.le_of_ble_eq_true rfl⟩ rfl rfl rfl rfl rfl (Nat.le_of_ble_eq_true rfl) ⟨Nat.le_refl 0, Nat.le_refl 0⟩ (fun r u H locs hp w => ?_)
            subst hp
            have hrm : -2000000000 ≤ f i ∧ f i ≤ 2000000000 := by omega
            refine tpi (show _ = jI (f i) from rfl) ?_
            refine zEq C 121 dX0_stretch_91 (by decide) ⟨by omega, by omega⟩ (fun c91 => ?_) (fun c91 => ?_)
            · have hnb : ¬ bcond P f st (2 * i + 1) := fun q => by have q := (bc_b P f st i).mp q; exact q.2.1 c91
              refine kC C dX0_stretch_121 ?_
              refine tpi bI_f ?_
              exact retZ () C hr (show Wd D A s.heap (wP h a cI cZ P f (bstep P f st (2 * i + 1)) _ _ _ _) _ _ from by rw [bs_no hnb]; exact w) dX0_stretch_122 (show bI false = bI (decide (bcond P f st (2 * i + 1))) from by rw [decide_eq_false hnb])
            · refine iL C hl 4 dX0_stretch_94 rfl ?_
              refine zEq C 121 dX0_stretch_96 (by decide) ⟨by omega, by omega⟩ (fun c96 => ?_) (fun c96 => ?_)
              · have hnb : ¬ bcond P f st (2 * i + 1) := fun q => by have q := (bc_b P f st i).mp q; omega
                refine kC C dX0_stretch_121 ?_
                refine tpi bI_f ?_
                exact retZ () C hr (show Wd D A s.heap (wP h a cI cZ P f (bstep P f st (2 * i + 1)) _ _ _ _) _ _ from by rw [bs_no hnb]; exact w) dX0_stretch_122 (show bI false = bI (decide (bcond P f st (2 * i + 1))) from by rw [decide_eq_false hnb])
              · refine aLn C hl 0 dX0_stretch_99 rfl rfl ?_
                refine gX C w 0 8 dX0_stretch_100 q31 rfl (by decide) rfl rfl ?_
                refine iL C hl 4 dX0_stretch_103 rfl ?_
                refine rdZ C w 8 dX0_stretch_105 rfl (by omega) (by decide) ?_
                refine bEq C 123 dX0_stretch_106 (by decide) (fun c106 => ?_) (fun c106 => ?_)
                · have hyb : bcond P f st (2 * i + 1) := (bc_b P f st i).mpr ⟨c82, c91, by omega, fun z => by rw [c106] at z; exact absurd z.1 (by decide)⟩
                  refine aLn C hl 0 dX0_stretch_123 rfl rfl ?_
                  refine gX C w 0 8 dX0_stretch_124 q31 rfl (by decide) rfl rfl ?_
                  refine iL C hl 4 dX0_stretch_127 rfl ?_
                  refine kC C dX0_stretch_129 ?_
                  refine tpi bI_t ?_
                  refine wrZ (ws' := wX h a cI cZ (jn P) (fun j => (jf P j : Int)) (fun j => (jt P j : Int)) (js P) (ja P) (jp P) f st.2.1 (uu st.1 (jf P (i / 2)) true) st.2.2 _ _ _ _) C w 8 dX0_stretch_130 rfl (by omega) (by decide) rfl (fun H locs w => ?_)
                  refine aLn C hl 0 dX0_stretch_131 rfl rfl ?_
                  refine gX C w 0 7 dX0_stretch_132 q30 rfl (by decide) rfl rfl ?_
                  refine iL C hl 4 dX0_stretch_135 rfl ?_
                  refine iL C hl 5 dX0_stretch_137 rfl ?_
                  refine wrA (ws' := wX h a cI cZ (jn P) (fun j => (jf P j : Int)) (fun j => (jt P j : Int)) (js P) (ja P) (jp P) f (uu st.2.1 (jf P (i / 2)) (st.2.1 (jt P (i / 2)) + -ln P i)) (uu st.1 (jf P (i / 2)) true) st.2.2 _ _ _ _) C w 7 dX0_stretch_139 rfl (by omega) (by decide) rfl (fun H locs w => ?_)
                  refine aLn C hl 0 dX0_stretch_140 rfl rfl ?_
                  refine gX C w 0 9 dX0_stretch_141 q32 rfl (by decide) rfl rfl ?_
                  refine iL C hl 4 dX0_stretch_144 rfl ?_
                  refine iLn C hl 2 dX0_stretch_146 rfl rfl ?_
                  refine bEq C 157 dX0_stretch_147 (by decide) (fun c147 => ?_) (fun c147 => ?_)
                  · exact absurd c147 (by decide)
                  · refine iLn C hl 1 dX0_stretch_150 rfl rfl ?_
                    refine kB C dX0_stretch_151 (by decide) ?_
                    refine oAdd C dX0_stretch_153 ?_
                    refine gTo C 158 dX0_stretch_154 (by decide) ?_
                    refine wrA (ws' := wX h a cI cZ (jn P) (fun j => (jf P j : Int)) (fun j => (jt P j : Int)) (js P) (ja P) (jp P) f (uu st.2.1 (jf P (i / 2)) (st.2.1 (jt P (i / 2)) + -ln P i)) (uu st.1 (jf P (i / 2)) true) (uu st.2.2 (jf P (i / 2)) ((i : Int) + 28)) _ _ _ _) C w 9 dX0_stretch_158 rfl (by omega) (by decide) rfl (fun H locs w => ?_)
                    refine kC C dX0_stretch_159 ?_
                    refine tpi bI_t ?_
                    exact retZ () C hr (show Wd D A s.heap (wP h a cI cZ P f (bstep P f st (2 * i + 1)) _ _ _ _) _ _ from by rw [bs_b hyb]; exact w) dX0_stretch_160 (show bI true = bI (decide (bcond P f st (2 * i + 1))) from by rw [decide_eq_true hyb])
                · refine aLn C hl 0 dX0_stretch_109 rfl rfl ?_
                  refine gX C w 0 7 dX0_stretch_110 q30 rfl (by decide) rfl rfl ?_
                  refine iL C hl 4 dX0_stretch_113 rfl ?_
                  refine rdA C w 7 dX0_stretch_115 rfl (by omega) (by decide) ?_
                  refine iL C hl 5 dX0_stretch_116 rfl ?_
                  refine cLt C 123 dX0_stretch_118 (by decide) ⟨⟨by omega, by omega⟩, ⟨by omega, by omega⟩⟩ (fun c118 => ?_) (fun c118 => ?_)
                  · have hyb : bcond P f st (2 * i + 1) := (bc_b P f st i).mpr ⟨c82, c91, by omega, fun z => by omega⟩
                    refine aLn C hl 0 dX0_stretch_123 rfl rfl ?_
                    refine gX C w 0 8 dX0_stretch_124 q31 rfl (by decide) rfl rfl ?_
                    refine iL C hl 4 dX0_stretch_127 rfl ?_
                    refine kC C dX0_stretch_129 ?_
                    refine tpi bI_t ?_
                    refine wrZ (ws' := wX h a cI cZ (jn P) (fun j => (jf P j : Int)) (fun j => (jt P j : Int)) (js P) (ja P) (jp P) f st.2.1 (uu st.1 (jf P (i / 2)) true) st.2.2 _ _ _ _) C w 8 dX0_stretch_130 rfl (by omega) (by decide) rfl (fun H locs w => ?_)
                    refine aLn C hl 0 dX0_stretch_131 rfl rfl ?_
                    refine gX C w 0 7 dX0_stretch_132 q30 rfl (by decide) rfl rfl ?_
                    refine iL C hl 4 dX0_stretch_135 rfl ?_
                    refine iL C hl 5 dX0_stretch_137 rfl ?_
                    refine wrA (ws' := wX h a cI cZ (jn P) (fun j => (jf P j : Int)) (fun j => (jt P j : Int)) (js P) (ja P) (jp P) f (uu st.2.1 (jf P (i / 2)) (st.2.1 (jt P (i / 2)) + -ln P i)) (uu st.1 (jf P (i / 2)) true) st.2.2 _ _ _ _) C w 7 dX0_stretch_139 rfl (by omega) (by decide) rfl (fun H locs w => ?_)
                    refine aLn C hl 0 dX0_stretch_140 rfl rfl ?_
                    refine gX C w 0 9 dX0_stretch_141 q32 rfl (by decide) rfl rfl ?_
                    refine iL C hl 4 dX0_stretch_144 rfl ?_
                    refine iLn C hl 2 dX0_stretch_146 rfl rfl ?_
                    refine bEq C 157 dX0_stretch_147 (by decide) (fun c147 => ?_) (fun c147 => ?_)
                    · exact absurd c147 (by decide)
                    · refine iLn C hl 1 dX0_stretch_150 rfl rfl ?_
                      refine kB C dX0_stretch_151 (by decide) ?_
                      refine oAdd C dX0_stretch_153 ?_
                      refine gTo C 158 dX0_stretch_154 (by decide) ?_
                      refine wrA (ws' := wX h a cI cZ (jn P) (fun j => (jf P j : Int)) (fun j => (jt P j : Int)) (js P) (ja P) (jp P) f (uu st.2.1 (jf P (i / 2)) (st.2.1 (jt P (i / 2)) + -ln P i)) (uu st.1 (jf P (i / 2)) true) (uu st.2.2 (jf P (i / 2)) ((i : Int) + 28)) _ _ _ _) C w 9 dX0_stretch_158 rfl (by omega) (by decide) rfl (fun H locs w => ?_)
                      refine kC C dX0_stretch_159 ?_
                      refine tpi bI_t ?_
                      exact retZ () C hr (show Wd D A s.heap (wP h a cI cZ P f (bstep P f st (2 * i + 1)) _ _ _ _) _ _ from by rw [bs_b hyb]; exact w) dX0_stretch_160 (show bI true = bI (decide (bcond P f st (2 * i + 1))) from by rw [decide_eq_true hyb])
                  · have hnb : ¬ bcond P f st (2 * i + 1) := fun q => by have q := (bc_b P f st i).mp q; exact q.2.2.2 ⟨c106, by omega⟩
                    refine kC C dX0_stretch_121 ?_
                    refine tpi bI_f ?_
                    exact retZ () C hr (show Wd D A s.heap (wP h a cI cZ P f (bstep P f st (2 * i + 1)) _ _ _ _) _ _ from by rw [bs_no hnb]; exact w) dX0_stretch_122 (show bI false = bI (decide (bcond P f st (2 * i + 1))) from by rw [decide_eq_false hnb])
end
section
/-! PLANNER 3: findLongest -/
set_option maxHeartbeats 4000000 in
set_option maxRecDepth 100000 in
theorem lpA {p : Program} {l : Launch} {e : Env} {s : State} {m : MethodId} {args : Array Value} {below : List Frame} {meth : Method} {c : Code} {Q : State → Prop} {D : va_G} {A : Nat → Prop} {H0 : Heap} {cI cZ : ClassId} (C : Cx p s m meth c cX0_findLongest 4 args RX0 D cI cZ) (h : Nat) (a : Nat → Nat) (n : Int) (g1 g2 g3 g4 g5 g6 g7 : Nat → Int) (g8 : Nat → Bool) (g9 : Nat → Int) (kn : Bool) (wy : Int) (g12 g13 : Nat → Int)
    (k : ∀ (H : Heap) (locs : List Loc) (ls : Array Slot), Wd D A H0 (wX h a cI cZ n g1 g2 g3 g4 g5 g6 (fun _ => (0 : Int)) (fun v => decide (v = 0)) (fun _ => (-1 : Int)) kn wy g12 g13) H locs → lv_has ls 4 [(0, .ref h)] → W p l e (rmo 2 47) s m args below meth c H locs 0 0 Q (F0 m 43 ls [])) :
    ∀ (x i : Nat), i ≤ 6 → 6 < i + x → ∀ (H : Heap) (locs : List Loc) (ls : Array Slot), Wd D A H0 (wX h a cI cZ n g1 g2 g3 g4 g5 g6 (fz (fun _ => (0 : Int)) g7 i) (fz (fun v => decide (v = 0)) g8 i) (fz (fun _ => (-1 : Int)) g9 i) kn wy g12 g13) H locs → lv_has ls 4 [(0, .ref h), (1, .int (jI (i : Int)))] → W p l e (rmo 2 47) s m args below meth c H locs 0 0 Q (F0 m 2 ls []) := by
  intro x
  induction x with
  | zero => intro i h1 h2; omega
  | succ x ih =>
    intro i h1 h2 H locs ls w hl
    refine iLn C hl 1 dX0_findLongest_2 rfl rfl ?_
    refine kB C dX0_findLongest_3 (by decide) ?_
    refine cGe C 43 dX0_findLongest_5 (by decide) ⟨⟨by omega, by omega⟩, ⟨by omega, by omega⟩⟩ (fun c5 => ?_) (fun c5 => ?_)
    · have hi6 : i = 6 := by omega
      subst hi6
      exact k H locs ls (wd_ext (f' := fun _ => jI (-1)) (wd_ext (f' := fun v => bI (decide (v = 0))) (wd_ext (f' := fun _ => jI 0) w 7 rfl (fun j hj => by rw [fz_at hj]) rfl) 8 rfl (fun j hj => by rw [fz_at hj]) rfl) 9 rfl (fun j hj => by rw [fz_at hj]) rfl) (lv_sub hl [0] rfl)
    · refine aLn C hl 0 dX0_findLongest_8 rfl rfl ?_
      refine gX C w 0 8 dX0_findLongest_9 q31 rfl (by decide) rfl rfl ?_
      refine iLn C hl 1 dX0_findLongest_12 rfl rfl ?_
      refine iLn C hl 1 dX0_findLongest_13 rfl rfl ?_
      refine Wcut (g2 := F0 m 22 ls [.int (bI (decide (i = 0))), .int (jI (i : Int)), .ref (a 8)]) ?_ (fun k22 => ?_)
      · refine wrZ (ws' := (wX h a cI cZ n g1 g2 g3 g4 g5 g6 (fz (fun _ => (0 : Int)) g7 i) (uu (fz (fun v => decide (v = 0)) g8 i) i (decide (i = 0))) (fz (fun _ => (-1 : Int)) g9 i) kn wy g12 g13)) C w 8 dX0_findLongest_22 rfl (by omega) (by decide) rfl (fun H locs w => ?_)
        refine aLn C hl 0 dX0_findLongest_23 rfl rfl ?_
        refine gX C w 0 7 dX0_findLongest_24 q30 rfl (by decide) rfl rfl ?_
        refine iLn C hl 1 dX0_findLongest_27 rfl rfl ?_
        refine kC C dX0_findLongest_28 ?_
        refine wrA (ws' := (wX h a cI cZ n g1 g2 g3 g4 g5 g6 (uu (fz (fun _ => (0 : Int)) g7 i) i 0) (uu (fz (fun v => decide (v = 0)) g8 i) i (decide (i = 0))) (fz (fun _ => (-1 : Int)) g9 i) kn wy g12 g13)) C w 7 dX0_findLongest_29 rfl (by omega) (by decide) rfl (fun H locs w => ?_)
        refine aLn C hl 0 dX0_findLongest_30 rfl rfl ?_
        refine gX C w 0 9 dX0_findLongest_31 q32 rfl (by decide) rfl rfl ?_
        refine iLn C hl 1 dX0_findLongest_34 rfl rfl ?_
        refine kC C dX0_findLongest_35 ?_
        refine wrA (ws' := (wX h a cI cZ n g1 g2 g3 g4 g5 g6 (uu (fz (fun _ => (0 : Int)) g7 i) i 0) (uu (fz (fun v => decide (v = 0)) g8 i) i (decide (i = 0))) (uu (fz (fun _ => (-1 : Int)) g9 i) i (-1)) kn wy g12 g13)) C w 9 dX0_findLongest_36 rfl (by omega) (by decide) rfl (fun H locs w => ?_)
        refine iInc (lv' := [(0, .ref h), (1, .int (jI ((i + 1 : Nat) : Int)))]) C hl 1 dX0_findLongest_37 [1, 0] rfl (by decide) rfl (fun ls hl => ?_)
        refine gTo C 2 dX0_findLongest_40 (by decide) ?_
        have e7 : (uu (fz (fun _ => (0 : Int)) g7 i) i 0) = (fz (fun _ => (0 : Int)) g7 (i + 1)) := fz_s _ _ _ rfl
        have e8 : (uu (fz (fun v => decide (v = 0)) g8 i) i (decide (i = 0))) = (fz (fun v => decide (v = 0)) g8 (i + 1)) := fz_s _ _ _ rfl
        have e9 : (uu (fz (fun _ => (-1 : Int)) g9 i) i (-1)) = (fz (fun _ => (-1 : Int)) g9 (i + 1)) := fz_s _ _ _ rfl
        exact ih (i + 1) (by omega) (by omega) H locs ls (wd_eq w (by rw [e7, e8, e9])) hl
      · refine zNe C 21 dX0_findLongest_14 (by decide) ⟨by omega, by omega⟩ (fun c14 => ?_) (fun c14 => ?_)
        · refine kC C dX0_findLongest_21 ?_
          refine tpi (show _ = bI (decide (i = 0)) from by rw [decide_eq_false (by omega)]; rfl) ?_
          exact k22
        · refine kC C dX0_findLongest_17 ?_
          refine gTo C 22 dX0_findLongest_18 (by decide) ?_
          refine tpi (show _ = bI (decide (i = 0)) from by rw [decide_eq_true (by omega)]; rfl) ?_
          exact k22
set_option maxHeartbeats 4000000 in
set_option maxRecDepth 100000 in
theorem lpC {p : Program} {l : Launch} {e : Env} {s : State} {m : MethodId} {args : Array Value} {below : List Frame} {meth : Method} {c : Code} {Q : State → Prop} {D : va_G} {A : Nat → Prop} {H0 : Heap} {cI cZ : ClassId} (C : Cx p s m meth c cX0_findLongest 4 args RX0 D cI cZ) (h : Nat) (a : Nat → Nat) (P : Pj) (f : Nat → Int) (kn : Bool) (wy : Int) (g12 g13 : Nat → Int) (hp : pok P) (hf : ∀ x, x < 2 * jn P → -1000000000 ≤ f x ∧ f x ≤ 1000000000) {T r : Nat} (hT : T % (4 * jn P) = 0) (hTb : T + 4 * jn P ≤ 24 * jn P)
    (k : ∀ (ch : Bool) (H : Heap) (locs : List Loc) (ls : Array Slot), (ch = false → ∀ t, T ≤ t → t < T + 4 * jn P → ¬ ups P f t) → Wd D A H0 (wP h a cI cZ P f (brun P f (T + 4 * jn P)) kn wy g12 g13) H locs → lv_has ls 4 [(0, .ref h), (1, .int (bI ch)), (2, .int (jI (r : Int)))] → W p l e (rmo 2 47) s m args below meth c H locs 0 0 Q (F0 m 115 ls [])) :
    ∀ (x i : Nat), i ≤ 2 * jn P → 2 * jn P < i + x → ∀ (ch : Bool) (H : Heap) (locs : List Loc) (ls : Array Slot), (ch = false → ∀ t, T ≤ t → t < T + 2 * i → ¬ ups P f t) → Wd D A H0 (wP h a cI cZ P f (brun P f (T + 2 * i)) kn wy g12 g13) H locs → lv_has ls 4 [(0, .ref h), (1, .int (bI ch)), (2, .int (jI (r : Int))), (3, .int (jI (i : Int)))] → W p l e (rmo 2 47) s m args below meth c H locs 0 0 Q (F0 m 61 ls []) := by
  intro x
  induction x with
  | zero => intro i h1 h2; omega
  | succ x ih =>
    intro i h1 h2 ch H locs ls hq w hl
    have h7 := hp.1
    refine iLn C hl 3 dX0_findLongest_61 rfl rfl ?_
    refine kC C dX0_findLongest_62 ?_
    refine aLn C hl 0 dX0_findLongest_63 rfl rfl ?_
    refine gX C w 0 0 dX0_findLongest_64 q23 rfl (by decide) rfl rfl ?_
    refine oMul C dX0_findLongest_67 ?_
    refine cGe C 115 dX0_findLongest_68 (by decide) ⟨⟨by omega, by omega⟩, ⟨by omega, by omega⟩⟩ (fun c68 => ?_) (fun c68 => ?_)
    · refine k ch H locs ls (fun q t t1 t2 => hq q t t1 (by omega)) ?_ (lv_sub hl [0, 1, 2] rfl)
      rw [show T + 4 * jn P = T + 2 * i by omega]
      exact w
    · have hn : 0 < jn P := by omega
      have hk1 : 2 * i < 4 * jn P := by omega
      have hk2 : 2 * i + 1 < 4 * jn P := by omega
      have hlo : ∀ d v, d ≤ 4 * jn P → v ≤ 5 → -100000 ≤ (brun P f (T + d)).2.1 v ∧ (brun P f (T + d)).2.1 v ≤ 100000 := fun d v hd _ => by
        have := lO_b (f := f) hp hn (T + d) v
        simp only [lO] at this
        omega
      refine aLn C hl 0 dX0_findLongest_71 rfl rfl ?_
      refine iLn C hl 3 dX0_findLongest_72 rfl rfl ?_
      refine kC C dX0_findLongest_73 ?_
      refine tpi bI_f ?_
      refine cpI (n := 2) C w hl dX0_findLongest_74 (m_stretch l D cI cZ h a P f (brun P f (T + 2 * i)) kn wy g12 g13 i false hp (by omega) (fun v hv => hlo (2 * i) v (by omega) hv) hf) (lw_V q92 q94 qs2 q13 q95) (by decide +kernel) ⟨Nat.le_of_ble_eq_true rfl, Nat.le_of_ble_eq_true rfl⟩ rfl rfl rfl rfl rfl (Nat.le_of_ble_eq_true rfl) ⟨Nat.le_refl 0, Nat.le_refl 0⟩ (fun rr u H locs hz w => ?_)
      subst hz
      have w : Wd D A H0 (wP h a cI cZ P f (brun P f (T + (2 * i + 1))) kn wy g12 g13) H locs := by
        rw [show T + (2 * i + 1) = T + 2 * i + 1 by omega, br_s hT hk1]
        exact w
      obtain ⟨u1, hu1⟩ : ∃ u, u = decide (bcond P f (brun P f (T + 2 * i)) (2 * i)) := ⟨_, rfl⟩
      have hU1 : u1 = true ↔ ups P f (T + 2 * i) := by rw [hu1, decide_eq_true_iff, up_s hT hk1]
      refine tpi (show _ = bI u1 from by rw [hu1]; rfl) ?_
      refine Wcut (g2 := F0 m 89 ls [.int (bI (u1 || ch))]) ?_ (fun k89 => ?_)
      · refine iSn (lv' := [(0, .ref h), (1, .int (bI (u1 || ch))), (2, .int (jI (r : Int))), (3, .int (jI (i : Int)))]) C hl dX0_findLongest_89 [1, 0, 2, 3] rfl (by decide) rfl (fun ls hl => ?_)
        refine aLn C hl 0 dX0_findLongest_90 rfl rfl ?_
        refine iLn C hl 3 dX0_findLongest_91 rfl rfl ?_
        refine kC C dX0_findLongest_92 ?_
        refine tpi bI_t ?_
        refine cpI (n := 2) C w hl dX0_findLongest_93 (m_stretch l D cI cZ h a P f (brun P f (T + (2 * i + 1))) kn wy g12 g13 i true hp (by omega) (fun v hv => hlo (2 * i + 1) v (by omega) hv) hf) (lw_V q92 q94 qs2 q13 q95) (by decide +kernel) ⟨Nat.le_of_ble_eq_true rfl, Nat.le_of_ble_eq_true rfl⟩ rfl rfl rfl rfl rfl (Nat.le_of_ble_eq_true rfl) ⟨Nat.le_refl 0, Nat.le_refl 0⟩ (fun rr u H locs hz w => ?_)
        subst hz
        have w : Wd D A H0 (wP h a cI cZ P f (brun P f (T + 2 * (i + 1))) kn wy g12 g13) H locs := by
          rw [show T + 2 * (i + 1) = T + (2 * i + 1) + 1 by omega, br_s hT hk2]
          exact w
        obtain ⟨u2, hu2⟩ : ∃ u, u = decide (bcond P f (brun P f (T + (2 * i + 1))) (2 * i + 1)) := ⟨_, rfl⟩
        have hU2 : u2 = true ↔ ups P f (T + (2 * i + 1)) := by rw [hu2, decide_eq_true_iff, up_s hT hk2]
        refine tpi (show _ = bI u2 from by rw [hu2]; rfl) ?_
        refine Wcut (g2 := F0 m 108 ls [.int (bI (u2 || (u1 || ch)))]) ?_ (fun k108 => ?_)
        · refine iSn (lv' := [(0, .ref h), (1, .int (bI (u2 || (u1 || ch)))), (2, .int (jI (r : Int))), (3, .int (jI (i : Int)))]) C hl dX0_findLongest_108 [1, 0, 2, 3] rfl (by decide) rfl (fun ls hl => ?_)
          refine iInc (lv' := [(0, .ref h), (1, .int (bI (u2 || (u1 || ch)))), (2, .int (jI (r : Int))), (3, .int (jI ((i + 1 : Nat) : Int)))]) C hl 3 dX0_findLongest_109 [1, 2, 3, 0] rfl (by decide) rfl (fun ls hl => ?_)
          refine gTo C 61 dX0_findLongest_112 (by decide) ?_
          refine ih (i + 1) (by omega) (by omega) (u2 || (u1 || ch)) H locs ls (fun q t t1 t2 => ?_) w hl
          rw [Bool.or_eq_false_iff, Bool.or_eq_false_iff] at q
          obtain ⟨q2, q1, q0⟩ := q
          by_cases z : t < T + 2 * i
          · exact hq q0 t t1 z
          · by_cases z2 : t = T + 2 * i
            · subst z2
              rw [← hU1, q1]
              decide
            · have z3 : t = T + (2 * i + 1) := by omega
              subst z3
              rw [← hU2, q2]
              decide
        · refine bNe C 103 dX0_findLongest_96 (by decide) (fun c96 => ?_) (fun c96 => ?_)
          · refine kC C dX0_findLongest_103 ?_
            refine gTo C 108 dX0_findLongest_104 (by decide) ?_
            refine tpi (show _ = bI (u2 || (u1 || ch)) from by rw [c96]; rfl) ?_
            exact k108
          · refine iLn C hl 1 dX0_findLongest_99 rfl rfl ?_
            refine bEq C 107 dX0_findLongest_100 (by decide) (fun c100 => ?_) (fun c100 => ?_)
            · refine kC C dX0_findLongest_107 ?_
              refine tpi (show _ = bI (u2 || (u1 || ch)) from by rw [c96, c100]; rfl) ?_
              exact k108
            · refine kC C dX0_findLongest_103 ?_
              refine gTo C 108 dX0_findLongest_104 (by decide) ?_
              refine tpi (show _ = bI (u2 || (u1 || ch)) from by rw [c96, c100]; rfl) ?_
              exact k108
      · refine bNe C 84 dX0_findLongest_77 (by decide) (fun c77 => ?_) (fun c77 => ?_)
        · refine kC C dX0_findLongest_84 ?_
          refine gTo C 89 dX0_findLongest_85 (by decide) ?_
          refine tpi (show _ = bI (u1 || ch) from by rw [c77]; rfl) ?_
          exact k89
        · refine iLn C hl 1 dX0_findLongest_80 rfl rfl ?_
          refine bEq C 88 dX0_findLongest_81 (by decide) (fun c81 => ?_) (fun c81 => ?_)
          · refine kC C dX0_findLongest_88 ?_
            refine tpi (show _ = bI (u1 || ch) from by rw [c77, c81]; rfl) ?_
            exact k89
          · refine kC C dX0_findLongest_84 ?_
            refine gTo C 89 dX0_findLongest_85 (by decide) ?_
            refine tpi (show _ = bI (u1 || ch) from by rw [c77, c81]; rfl) ?_
            exact k89
set_option maxHeartbeats 4000000 in
set_option maxRecDepth 100000 in
theorem lpB {p : Program} {l : Launch} {e : Env} {s : State} {m : MethodId} {args : Array Value} {below : List Frame} {meth : Method} {c : Code} {Q : State → Prop} {D : va_G} {A : Nat → Prop} {H0 : Heap} {cI cZ : ClassId} (C : Cx p s m meth c cX0_findLongest 4 args RX0 D cI cZ) (h : Nat) (a : Nat → Nat) (P : Pj) (f : Nat → Int) (kn : Bool) (wy : Int) (g12 g13 : Nat → Int) (hp : pok P) (hf : ∀ x, x < 2 * jn P → -1000000000 ≤ f x ∧ f x ≤ 1000000000)
    (k : ∀ (H : Heap) (locs : List Loc) (ls : Array Slot), Wd D A H0 (wP h a cI cZ P f (brun P f (24 * jn P)) kn wy g12 g13) H locs → lv_has ls 4 [(0, .ref h)] → W p l e (rmo 2 47) s m args below meth c H locs 0 0 Q (F0 m 121 ls [])) :
    ∀ (x r : Nat), r ≤ 6 → 6 < r + x → ∀ (ch : Bool) (H : Heap) (locs : List Loc) (ls : Array Slot), (ch = false → brun P f (4 * jn P * r) = brun P f (24 * jn P)) → Wd D A H0 (wP h a cI cZ P f (brun P f (4 * jn P * r)) kn wy g12 g13) H locs → lv_has ls 4 [(0, .ref h), (1, .int (bI ch)), (2, .int (jI (r : Int)))] → W p l e (rmo 2 47) s m args below meth c H locs 0 0 Q (F0 m 47 ls []) := by
  intro x
  induction x with
  | zero => intro r h1 h2; omega
  | succ x ih =>
    intro r h1 h2 ch H locs ls hq w hl
    have h7 := hp.1
    refine iLn C hl 2 dX0_findLongest_47 rfl rfl ?_
    refine kB C dX0_findLongest_48 (by decide) ?_
    refine cGe C 121 dX0_findLongest_50 (by decide) ⟨⟨by omega, by omega⟩, ⟨by omega, by omega⟩⟩ (fun c50 => ?_) (fun c50 => ?_)
    · refine k H locs ls ?_ (lv_sub hl [0] rfl)
      have hr6 : r = 6 := by omega
      subst hr6
      rw [show 24 * jn P = 4 * jn P * 6 by omega]
      exact w
    · refine iLn C hl 1 dX0_findLongest_53 rfl rfl ?_
      refine bEq C 121 dX0_findLongest_54 (by decide) (fun c54 => ?_) (fun c54 => ?_)
      · refine k H locs ls ?_ (lv_sub hl [0] rfl)
        rw [← hq c54]
        exact w
      · refine kC C dX0_findLongest_57 ?_
        refine tpi bI_f ?_
        refine iSn (lv' := [(0, .ref h), (1, .int (bI false)), (2, .int (jI (r : Int)))]) C hl dX0_findLongest_58 [1, 0, 2] rfl (by decide) rfl (fun ls hl => ?_)
        refine kC C dX0_findLongest_59 ?_
        refine iSn (lv' := [(0, .ref h), (1, .int (bI false)), (2, .int (jI (r : Int))), (3, .int (jI ((0 : Nat) : Int)))]) C hl dX0_findLongest_60 [1, 2, 3, 0] rfl (by decide) rfl (fun ls hl => ?_)
        have hT : 4 * jn P * r % (4 * jn P) = 0 := Nat.mul_mod_right _ _
        have hr5 : r ≤ 5 := by omega
        have hTb0 : 4 * jn P * r ≤ 4 * jn P * 5 := Nat.mul_le_mul_left _ hr5
        have hsr : 4 * jn P * (r + 1) = 4 * jn P * r + 4 * jn P := Nat.mul_succ _ _
        refine lpC C h a P f kn wy g12 g13 hp hf (T := 4 * jn P * r) (r := r) hT (by omega) (fun ch H locs ls hq2 w hl => ?_) (2 * jn P + 1) 0 (by omega) (by omega) false H locs ls (fun _ t t1 t2 => by omega) w hl
        refine iInc (lv' := [(0, .ref h), (1, .int (bI ch)), (2, .int (jI ((r + 1 : Nat) : Int)))]) C hl 2 dX0_findLongest_115 [1, 2, 0] rfl (by decide) rfl (fun ls hl => ?_)
        refine gTo C 47 dX0_findLongest_118 (by decide) ?_
        refine ih (r + 1) (by omega) (by omega) ch H locs ls (fun q => ?_) (by rw [hsr]; exact w) hl
        by_cases hn : jn P = 0
        · rw [hn]
          simp
        · have hqq := quiet (f := f) (show 0 < jn P by omega) hT (hq2 q)
          rw [hsr, hqq, ← hqq (24 * jn P - 4 * jn P * r)]
          congr 1
          omega
set_option maxHeartbeats 4000000 in
set_option maxRecDepth 100000 in
/-- findLongest: all rounds -/
theorem m_findLongest (l : Launch) (D : va_G) (cI cZ : ClassId) (h : Nat) (a : Nat → Nat) (P : Pj) (f : Nat → Int) (kn : Bool) (wy : Int) (g12 g13 : Nat → Int) (st : BS) (hp : pok P) (hf : ∀ x, x < 2 * jn P → -1000000000 ≤ f x ∧ f x ≤ 1000000000) : MV l yX0_findLongest cX0_findLongest 4 2 47 D cI cZ (wP h a cI cZ P f st kn wy g12 g13) [.ref h] (fun _ : Unit => True) (fun _ => (wP h a cI cZ P f (brun P f (24 * jn P)) kn wy g12 g13)) := by
  refine mv_of (by decide) (Nat.le_of_ble_eq_true rfl) ?_
  intro p e s m below meth c A ls C hr w hl
  have hl : lv_has ls 4 [(0, .ref h)] := hl
  refine kC C dX0_findLongest_0 ?_
  refine iSn (lv' := [(0, .ref h), (1, .int (jI ((0 : Nat) : Int)))]) C hl dX0_findLongest_1 [1, 0] rfl (by decide) rfl (fun ls hl => ?_)
  refine lpA C h a _ _ _ _ _ _ _ st.2.1 st.1 st.2.2 kn wy g12 g13 (fun H locs ls w hl => ?_) 7 0 (by omega) (by omega) _ _ _ (wd_eq w (by rw [fz_0, fz_0, fz_0])) hl
  refine kC C dX0_findLongest_43 ?_
  refine tpi bI_t ?_
  refine iSn (lv' := [(0, .ref h), (1, .int (bI true))]) C hl dX0_findLongest_44 [1, 0] rfl (by decide) rfl (fun ls hl => ?_)
  refine kC C dX0_findLongest_45 ?_
  refine iSn (lv' := [(0, .ref h), (1, .int (bI true)), (2, .int (jI ((0 : Nat) : Int)))]) C hl dX0_findLongest_46 [1, 2, 0] rfl (by decide) rfl (fun ls hl => ?_)
  refine lpB C h a P f kn wy g12 g13 hp hf (fun H locs ls w hl => ?_) 7 0 (by omega) (by omega) true H locs ls (fun q => absurd q (by decide)) w hl
  exact retV () C hr w dX0_findLongest_121 trivial
end
section
/-! PLANNER 4: widthOfWay, send -/
theorem aw_f (g : Nat → Int) (amt : Int) (i : Nat) : addw g amt (2 * i) = uu g i (g i + amt) := by
  rw [addw, if_neg (by omega), show 2 * i / 2 = i by omega]
theorem aw_b (g : Nat → Int) (amt : Int) (i : Nat) : addw g amt (2 * i + 1) = uu g i (g i + -amt) := by
  rw [addw, if_pos (by omega), show (2 * i + 1) / 2 = i by omega]
theorem er_bd {P : Pj} {f : Nat → Int} (hp : pok P) (hf : ∀ x, x < 2 * jn P → -1000000000 ≤ f x ∧ f x ≤ 1000000000) {k : Nat} (hk : k < 4 * jn P) : -2000000000 ≤ er P f k ∧ er P f k ≤ 2000000000 := by
  have h1 := hf (k / 2) (by omega)
  have h2 := hp.2 (k / 4) (by omega)
  simp only [jok] at h2
  simp only [er]
  split
  · omega
  · split <;> omega
set_option maxHeartbeats 4000000 in
set_option maxRecDepth 100000 in
theorem lpW {p : Program} {l : Launch} {e : Env} {s : State} {m : MethodId} {args : Array Value} {below : List Frame} {meth : Method} {c : Code} {Q : State → Prop} {D : va_G} {A : Nat → Prop} {H0 : Heap} {cI cZ : ClassId} (C : Cx p s m meth c cX0_widthOfWay 7 args RX0 D cI cZ) (h : Nat) (a : Nat → Nat) (P : Pj) (f : Nat → Int) (kn : Bool) (wy : Int) (g12 g13 : Nat → Int) (hp : pok P) (hf : ∀ x, x < 2 * jn P → -1000000000 ≤ f x ∧ f x ≤ 1000000000) :
    ∀ (L : List Nat) (v : Nat) (z : Int) (j : Nat), isW P v L → (∀ k ∈ L, eok P f k) → j + L.length ≤ 5 → -2000000000 ≤ z ∧ z ≤ 2000000000 → ∀ (H : Heap) (locs : List Loc) (ls : Array Slot), Wd D A H0 (wP h a cI cZ P f (brun P f (24 * jn P)) kn wy g12 g13) H locs → lv_has ls 7 [(0, .ref h), (1, .int (jI z)), (2, .int (jI (v : Int))), (3, .int (jI (j : Int)))] → (∀ (H : Heap) (locs : List Loc) (ls : Array Slot), Wd D A H0 (wP h a cI cZ P f (brun P f (24 * jn P)) kn wy g12 g13) H locs → lv_has ls 7 [(0, .ref h), (1, .int (jI (wid P f z L)))] → W p l e (rmo 1 22) s m args below meth c H locs 0 0 Q (F0 m 116 ls [])) → W p l e (rmo 1 22) s m args below meth c H locs 0 0 Q (F0 m 7 ls []) := by
  have h7 := hp.1
  intro L
  induction L with
  | nil =>
    intro v z j hW hL hj hz H locs ls w hl k
    have hv : v = 0 := hW
    subst hv
    have hj5 : j ≤ 5 := by simpa using hj
    refine iLn C hl 3 dX0_widthOfWay_7 rfl rfl ?_
    refine kB C dX0_widthOfWay_8 (by decide) ?_
    refine cGe C 116 dX0_widthOfWay_10 (by decide) ⟨⟨by omega, by omega⟩, ⟨by omega, by omega⟩⟩ (fun c10 => ?_) (fun c10 => ?_)
    · omega
    · refine iLn C hl 2 dX0_widthOfWay_13 rfl rfl ?_
      refine zEq C 116 dX0_widthOfWay_14 (by decide) ⟨by omega, by omega⟩ (fun c14 => ?_) (fun c14 => ?_)
      · exact k H locs ls w (lv_sub hl [0, 1] rfl)
      · exact absurd rfl c14
  | cons k L ih =>
    intro v z j hW hL hj hz H locs ls w hl kx
    obtain ⟨hv, hW2⟩ := hW
    subst hv
    obtain ⟨k1, k2, k3⟩ := eok_k (hL k List.mem_cons_self)
    have hb5 := (e_le5 hp k1).2
    have hjl : j + 1 + L.length ≤ 5 := by simp only [List.length_cons] at hj; omega
    have her := er_bd hp hf k1
    have hL2 : ∀ k ∈ L, eok P f k := fun k' h' => hL k' (List.mem_cons_of_mem _ h')
    have hzn : -2000000000 ≤ (if er P f k < z then er P f k else z) ∧ (if er P f k < z then er P f k else z) ≤ 2000000000 := by split <;> omega
    obtain ⟨i, hi | hi⟩ : ∃ i, k = 2 * i ∨ k = 2 * i + 1 := ⟨k / 2, by omega⟩
    · subst hi
      rw [ec_f] at k3
      refine iLn C hl 3 dX0_widthOfWay_7 rfl rfl ?_
      refine kB C dX0_widthOfWay_8 (by decide) ?_
      refine cGe C 116 dX0_widthOfWay_10 (by decide) ⟨⟨by omega, by omega⟩, ⟨by omega, by omega⟩⟩ (fun c10 => ?_) (fun c10 => ?_)
      · omega
      · refine iLn C hl 2 dX0_widthOfWay_13 rfl rfl ?_
        refine zEq C 116 dX0_widthOfWay_14 (by decide) ⟨by omega, by omega⟩ (fun c14 => ?_) (fun c14 => ?_)
        · omega
        · refine aLn C hl 0 dX0_widthOfWay_17 rfl rfl ?_
          refine gX C w 0 9 dX0_widthOfWay_18 q32 rfl (by decide) rfl rfl ?_
          refine iLn C hl 2 dX0_widthOfWay_21 rfl rfl ?_
          refine rdA C w 9 dX0_widthOfWay_22 rfl (by omega) (by decide) ?_
          refine tpi (show _ = jI ((i : Int)) from by rw [← k3]) ?_
          refine kB C dX0_widthOfWay_23 (by decide) ?_
          refine cLt C 32 dX0_widthOfWay_25 (by decide) ⟨⟨by omega, by omega⟩, ⟨by omega, by omega⟩⟩ (fun c25 => ?_) (fun c25 => ?_)
          · refine kC C dX0_widthOfWay_32 ?_
            refine tpi bI_f ?_
            refine iS (lv' := [(0, .ref h), (1, .int (jI z)), (2, .int (jI ((eb P (2 * i) : Nat) : Int))), (3, .int (jI (j : Int))), (4, .int (bI false))]) C hl dX0_widthOfWay_33 [1, 2, 3, 4, 0] (by decide) rfl (fun ls hl => ?_)
            refine iL C hl 4 dX0_widthOfWay_35 rfl ?_
            refine bEq C 52 dX0_widthOfWay_37 (by decide) (fun c37 => ?_) (fun c37 => ?_)
            · refine aLn C hl 0 dX0_widthOfWay_52 rfl rfl ?_
              refine gX C w 0 9 dX0_widthOfWay_53 q32 rfl (by decide) rfl rfl ?_
              refine iLn C hl 2 dX0_widthOfWay_56 rfl rfl ?_
              refine rdA C w 9 dX0_widthOfWay_57 rfl (by omega) (by decide) ?_
              refine tpi (show _ = jI ((i : Int)) from by rw [← k3]) ?_
              refine iS (lv' := [(0, .ref h), (1, .int (jI z)), (2, .int (jI ((eb P (2 * i) : Nat) : Int))), (3, .int (jI (j : Int))), (4, .int (bI false)), (5, .int (jI (i : Int)))]) C hl dX0_widthOfWay_58 [1, 2, 3, 4, 5, 0] (by decide) rfl (fun ls hl => ?_)
              refine aLn C hl 0 dX0_widthOfWay_60 rfl rfl ?_
              refine iL C hl 5 dX0_widthOfWay_61 rfl ?_
              refine iL C hl 4 dX0_widthOfWay_63 rfl ?_
              refine cpI (n := 2) C w hl dX0_widthOfWay_65 (m_roomOf l D cI cZ h a _ _ _ _ _ _ _ _ _ _ _ _ _ _ i false (by omega)) (lw_V q100 q102 qs4 q13 q103) (by decide +kernel) ⟨Nat.le_of_ble_eq_true rfl, Nat.le_of_ble_eq_true rfl⟩ rfl rfl rfl rfl rfl (Nat.le_of_ble_eq_true rfl) ⟨Nat.le_refl 0, Nat.le_refl 0⟩ (fun rr u H locs hq w => ?_)
              subst hq
              refine tpi (show _ = jI (er P f (2 * i)) from by rw [er_f]; rfl) ?_
              refine iS (lv' := [(0, .ref h), (1, .int (jI z)), (2, .int (jI ((eb P (2 * i) : Nat) : Int))), (3, .int (jI (j : Int))), (4, .int (bI false)), (5, .int (jI (i : Int))), (6, .int (jI (er P f (2 * i))))]) C hl dX0_widthOfWay_68 [1, 2, 3, 4, 5, 6, 0] (by decide) rfl (fun ls hl => ?_)
              refine iL C hl 6 dX0_widthOfWay_70 rfl ?_
              refine iLn C hl 1 dX0_widthOfWay_72 rfl rfl ?_
              refine Wcut (g2 := F0 m 82 ls [.int (jI (if er P f (2 * i) < z then er P f (2 * i) else z))]) ?_ (fun k82 => ?_)
              · refine iSn (lv' := [(0, .ref h), (1, .int (jI (if er P f (2 * i) < z then er P f (2 * i) else z))), (2, .int (jI ((eb P (2 * i) : Nat) : Int))), (3, .int (jI (j : Int))), (4, .int (bI false)), (5, .int (jI (i : Int))), (6, .int (jI (er P f (2 * i))))]) C hl dX0_widthOfWay_82 [1, 0, 2, 3, 4, 5, 6] rfl (by decide) rfl (fun ls hl => ?_)
                refine iL C hl 4 dX0_widthOfWay_83 rfl ?_
                refine bEq C 100 dX0_widthOfWay_85 (by decide) (fun c85 => ?_) (fun c85 => ?_)
                · refine aLn C hl 0 dX0_widthOfWay_100 rfl rfl ?_
                  refine gX C w 0 1 dX0_widthOfWay_101 q24 rfl (by decide) rfl rfl ?_
                  refine iL C hl 5 dX0_widthOfWay_104 rfl ?_
                  refine kC C dX0_widthOfWay_106 ?_
                  refine oDiv2 C dX0_widthOfWay_107 (by omega) ?_
                  refine rdA C w 1 dX0_widthOfWay_108 rfl (by omega) (by decide) ?_
                  refine iSn (lv' := [(0, .ref h), (1, .int (jI (if er P f (2 * i) < z then er P f (2 * i) else z))), (2, .int (jI ((jf P (i / 2) : Nat) : Int))), (3, .int (jI (j : Int))), (4, .int (bI false)), (5, .int (jI (i : Int))), (6, .int (jI (er P f (2 * i))))]) C hl dX0_widthOfWay_109 [1, 2, 0, 3, 4, 5, 6] rfl (by decide) rfl (fun ls hl => ?_)
                  refine iInc (lv' := [(0, .ref h), (1, .int (jI (if er P f (2 * i) < z then er P f (2 * i) else z))), (2, .int (jI ((jf P (i / 2) : Nat) : Int))), (3, .int (jI ((j + 1 : Nat) : Int))), (4, .int (bI false)), (5, .int (jI (i : Int))), (6, .int (jI (er P f (2 * i))))]) C hl 3 dX0_widthOfWay_110 [1, 2, 3, 0, 4, 5, 6] rfl (by decide) rfl (fun ls hl => ?_)
                  refine gTo C 7 dX0_widthOfWay_113 (by decide) ?_
                  rw [ea_f] at hW2
                  exact ih _ _ (j + 1) hW2 hL2 hjl hzn H locs ls w (lv_sub hl [0, 1, 2, 3] rfl) kx
                · exact absurd c85 (by decide)
              · refine cGe C 81 dX0_widthOfWay_73 (by decide) ⟨⟨by omega, by omega⟩, ⟨by omega, by omega⟩⟩ (fun c73 => ?_) (fun c73 => ?_)
                · refine iLn C hl 1 dX0_widthOfWay_81 rfl rfl ?_
                  refine tpi (show _ = jI (if er P f (2 * i) < z then er P f (2 * i) else z) from by rw [if_neg (by omega)]) ?_
                  exact k82
                · refine iL C hl 6 dX0_widthOfWay_76 rfl ?_
                  refine gTo C 82 dX0_widthOfWay_78 (by decide) ?_
                  refine tpi (show _ = jI (if er P f (2 * i) < z then er P f (2 * i) else z) from by rw [if_pos (by omega)]) ?_
                  exact k82
            · exact absurd c37 (by decide)
          · omega
    · subst hi
      rw [ec_b] at k3
      refine iLn C hl 3 dX0_widthOfWay_7 rfl rfl ?_
      refine kB C dX0_widthOfWay_8 (by decide) ?_
      refine cGe C 116 dX0_widthOfWay_10 (by decide) ⟨⟨by omega, by omega⟩, ⟨by omega, by omega⟩⟩ (fun c10 => ?_) (fun c10 => ?_)
      · omega
      · refine iLn C hl 2 dX0_widthOfWay_13 rfl rfl ?_
        refine zEq C 116 dX0_widthOfWay_14 (by decide) ⟨by omega, by omega⟩ (fun c14 => ?_) (fun c14 => ?_)
        · omega
        · refine aLn C hl 0 dX0_widthOfWay_17 rfl rfl ?_
          refine gX C w 0 9 dX0_widthOfWay_18 q32 rfl (by decide) rfl rfl ?_
          refine iLn C hl 2 dX0_widthOfWay_21 rfl rfl ?_
          refine rdA C w 9 dX0_widthOfWay_22 rfl (by omega) (by decide) ?_
          refine tpi (show _ = jI ((i : Int) + 28) from by rw [← k3]) ?_
          refine kB C dX0_widthOfWay_23 (by decide) ?_
          refine cLt C 32 dX0_widthOfWay_25 (by decide) ⟨⟨by omega, by omega⟩, ⟨by omega, by omega⟩⟩ (fun c25 => ?_) (fun c25 => ?_)
          · omega
          · refine kC C dX0_widthOfWay_28 ?_
            refine tpi bI_t ?_
            refine gTo C 33 dX0_widthOfWay_29 (by decide) ?_
            refine iS (lv' := [(0, .ref h), (1, .int (jI z)), (2, .int (jI ((eb P (2 * i + 1) : Nat) : Int))), (3, .int (jI (j : Int))), (4, .int (bI true))]) C hl dX0_widthOfWay_33 [1, 2, 3, 4, 0] (by decide) rfl (fun ls hl => ?_)
            refine iL C hl 4 dX0_widthOfWay_35 rfl ?_
            refine bEq C 52 dX0_widthOfWay_37 (by decide) (fun c37 => ?_) (fun c37 => ?_)
            · exact absurd c37 (by decide)
            · refine aLn C hl 0 dX0_widthOfWay_40 rfl rfl ?_
              refine gX C w 0 9 dX0_widthOfWay_41 q32 rfl (by decide) rfl rfl ?_
              refine iLn C hl 2 dX0_widthOfWay_44 rfl rfl ?_
              refine rdA C w 9 dX0_widthOfWay_45 rfl (by omega) (by decide) ?_
              refine tpi (show _ = jI ((i : Int) + 28) from by rw [← k3]) ?_
              refine kB C dX0_widthOfWay_46 (by decide) ?_
              refine oSub C dX0_widthOfWay_48 ?_
              refine tpi (show _ = jI (i : Int) from by congr 1; omega) ?_
              refine gTo C 58 dX0_widthOfWay_49 (by decide) ?_
              refine iS (lv' := [(0, .ref h), (1, .int (jI z)), (2, .int (jI ((eb P (2 * i + 1) : Nat) : Int))), (3, .int (jI (j : Int))), (4, .int (bI true)), (5, .int (jI (i : Int)))]) C hl dX0_widthOfWay_58 [1, 2, 3, 4, 5, 0] (by decide) rfl (fun ls hl => ?_)
              refine aLn C hl 0 dX0_widthOfWay_60 rfl rfl ?_
              refine iL C hl 5 dX0_widthOfWay_61 rfl ?_
              refine iL C hl 4 dX0_widthOfWay_63 rfl ?_
              refine cpI (n := 2) C w hl dX0_widthOfWay_65 (m_roomOf l D cI cZ h a _ _ _ _ _ _ _ _ _ _ _ _ _ _ i true (by omega)) (lw_V q100 q102 qs4 q13 q103) (by decide +kernel) ⟨Nat.le_of_ble_eq_true rfl, Nat.le_of_ble_eq_true rfl⟩ rfl rfl rfl rfl rfl (Nat.le_of_ble_eq_true rfl) ⟨Nat.le_refl 0, Nat.le_refl 0⟩ (fun rr u H locs hq w => ?_)
              subst hq
              refine tpi (show _ = jI (er P f (2 * i + 1)) from by rw [er_b]; rfl) ?_
              refine iS (lv' := [(0, .ref h), (1, .int (jI z)), (2, .int (jI ((eb P (2 * i + 1) : Nat) : Int))), (3, .int (jI (j : Int))), (4, .int (bI true)), (5, .int (jI (i : Int))), (6, .int (jI (er P f (2 * i + 1))))]) C hl dX0_widthOfWay_68 [1, 2, 3, 4, 5, 6, 0] (by decide) rfl (fun ls hl => ?_)
              refine iL C hl 6 dX0_widthOfWay_70 rfl ?_
              refine iLn C hl 1 dX0_widthOfWay_72 rfl rfl ?_
              refine Wcut (g2 := F0 m 82 ls [.int (jI (if er P f (2 * i + 1) < z then er P f (2 * i + 1) else z))]) ?_ (fun k82 => ?_)
              · refine iSn (lv' := [(0, .ref h), (1, .int (jI (if er P f (2 * i + 1) < z then er P f (2 * i + 1) else z))), (2, .int (jI ((eb P (2 * i + 1) : Nat) : Int))), (3, .int (jI (j : Int))), (4, .int (bI true)), (5, .int (jI (i : Int))), (6, .int (jI (er P f (2 * i + 1))))]) C hl dX0_widthOfWay_82 [1, 0, 2, 3, 4, 5, 6] rfl (by decide) rfl (fun ls hl => ?_)
                refine iL C hl 4 dX0_widthOfWay_83 rfl ?_
                refine bEq C 100 dX0_widthOfWay_85 (by decide) (fun c85 => ?_) (fun c85 => ?_)
                · exact absurd c85 (by decide)
                · refine aLn C hl 0 dX0_widthOfWay_88 rfl rfl ?_
                  refine gX C w 0 2 dX0_widthOfWay_89 q25 rfl (by decide) rfl rfl ?_
                  refine iL C hl 5 dX0_widthOfWay_92 rfl ?_
                  refine kC C dX0_widthOfWay_94 ?_
                  refine oDiv2 C dX0_widthOfWay_95 (by omega) ?_
                  refine rdA C w 2 dX0_widthOfWay_96 rfl (by omega) (by decide) ?_
                  refine gTo C 109 dX0_widthOfWay_97 (by decide) ?_
                  refine iSn (lv' := [(0, .ref h), (1, .int (jI (if er P f (2 * i + 1) < z then er P f (2 * i + 1) else z))), (2, .int (jI ((jt P (i / 2) : Nat) : Int))), (3, .int (jI (j : Int))), (4, .int (bI true)), (5, .int (jI (i : Int))), (6, .int (jI (er P f (2 * i + 1))))]) C hl dX0_widthOfWay_109 [1, 2, 0, 3, 4, 5, 6] rfl (by decide) rfl (fun ls hl => ?_)
                  refine iInc (lv' := [(0, .ref h), (1, .int (jI (if er P f (2 * i + 1) < z then er P f (2 * i + 1) else z))), (2, .int (jI ((jt P (i / 2) : Nat) : Int))), (3, .int (jI ((j + 1 : Nat) : Int))), (4, .int (bI true)), (5, .int (jI (i : Int))), (6, .int (jI (er P f (2 * i + 1))))]) C hl 3 dX0_widthOfWay_110 [1, 2, 3, 0, 4, 5, 6] rfl (by decide) rfl (fun ls hl => ?_)
                  refine gTo C 7 dX0_widthOfWay_113 (by decide) ?_
                  rw [ea_b] at hW2
                  exact ih _ _ (j + 1) hW2 hL2 hjl hzn H locs ls w (lv_sub hl [0, 1, 2, 3] rfl) kx
              · refine cGe C 81 dX0_widthOfWay_73 (by decide) ⟨⟨by omega, by omega⟩, ⟨by omega, by omega⟩⟩ (fun c73 => ?_) (fun c73 => ?_)
                · refine iLn C hl 1 dX0_widthOfWay_81 rfl rfl ?_
                  refine tpi (show _ = jI (if er P f (2 * i + 1) < z then er P f (2 * i + 1) else z) from by rw [if_neg (by omega)]) ?_
                  exact k82
                · refine iL C hl 6 dX0_widthOfWay_76 rfl ?_
                  refine gTo C 82 dX0_widthOfWay_78 (by decide) ?_
                  refine tpi (show _ = jI (if er P f (2 * i + 1) < z then er P f (2 * i + 1) else z) from by rw [if_pos (by omega)]) ?_
                  exact k82
set_option maxHeartbeats 4000000 in
set_option maxRecDepth 100000 in
/-- the width of the way -/
theorem m_widthOfWay (l : Launch) (D : va_G) (cI cZ : ClassId) (h : Nat) (a : Nat → Nat) (P : Pj) (f : Nat → Int) (kn : Bool) (wy : Int) (g12 g13 : Nat → Int) (hp : pok P) (hf : ∀ x, x < 2 * jn P → -1000000000 ≤ f x ∧ f x ≤ 1000000000) (L : List Nat) (hW : isW P 5 L) (hL : ∀ k ∈ L, eok P f k) (hlen : L.length ≤ 5) : MI l yX0_widthOfWay cX0_widthOfWay 7 (some .int) 1 22 D cI cZ (wP h a cI cZ P f (brun P f (24 * jn P)) kn wy g12 g13) [.ref h] (fun r (_ : Unit) => r = jI (wid P f 1000000 L)) (fun _ => (wP h a cI cZ P f (brun P f (24 * jn P)) kn wy g12 g13)) := by
  refine mi_of (by decide) (Nat.le_of_ble_eq_true rfl) ?_
  intro p e s m below meth c A ls C hr w hl
  have hl : lv_has ls 7 [(0, .ref h)] := hl
  refine kL (n := 1000000) C dX0_widthOfWay_0 q104 rfl ?_
  refine iSn (lv' := [(0, .ref h), (1, .int (jI 1000000))]) C hl dX0_widthOfWay_2 [1, 0] rfl (by decide) rfl (fun ls hl => ?_)
  refine kC C dX0_widthOfWay_3 ?_
  refine iSn (lv' := [(0, .ref h), (1, .int (jI 1000000)), (2, .int (jI ((5 : Nat) : Int)))]) C hl dX0_widthOfWay_4 [1, 2, 0] rfl (by decide) rfl (fun ls hl => ?_)
  refine kC C dX0_widthOfWay_5 ?_
  refine iSn (lv' := [(0, .ref h), (1, .int (jI 1000000)), (2, .int (jI ((5 : Nat) : Int))), (3, .int (jI ((0 : Nat) : Int)))]) C hl dX0_widthOfWay_6 [1, 2, 3, 0] rfl (by decide) rfl (fun ls hl => ?_)
  refine lpW C h a P f kn wy g12 g13 hp hf L 5 1000000 0 hW hL (by omega) (by omega) _ _ _ w hl (fun H locs ls w hl => ?_)
  refine iLn C hl 1 dX0_widthOfWay_116 rfl rfl ?_
  exact retI () C hr w dX0_widthOfWay_117 rfl
set_option maxHeartbeats 4000000 in
set_option maxRecDepth 100000 in
theorem lpS {p : Program} {l : Launch} {e : Env} {s : State} {m : MethodId} {args : Array Value} {below : List Frame} {meth : Method} {c : Code} {Q : State → Prop} {D : va_G} {A : Nat → Prop} {H0 : Heap} {cI cZ : ClassId} (C : Cx p s m meth c cX0_send 6 args RX0 D cI cZ) (h : Nat) (a : Nat → Nat) (P : Pj) (f : Nat → Int) (kn : Bool) (wy : Int) (g12 g13 : Nat → Int) (amt : Int) (hp : pok P) :
    ∀ (L : List Nat) (v : Nat) (g : Nat → Int) (j : Nat), isW P v L → (∀ k ∈ L, eok P f k) → j + L.length ≤ 5 → ∀ (H : Heap) (locs : List Loc) (ls : Array Slot), Wd D A H0 (wP h a cI cZ P g (brun P f (24 * jn P)) kn wy g12 g13) H locs → lv_has ls 6 [(0, .ref h), (1, .int (jI amt)), (2, .int (jI (v : Int))), (3, .int (jI (j : Int)))] → (∀ (H : Heap) (locs : List Loc) (ls : Array Slot), Wd D A H0 (wP h a cI cZ P (send g amt L) (brun P f (24 * jn P)) kn wy g12 g13) H locs → lv_has ls 6 [(0, .ref h)] → W p l e (rmo 0 0) s m args below meth c H locs 0 0 Q (F0 m 111 ls [])) → W p l e (rmo 0 0) s m args below meth c H locs 0 0 Q (F0 m 4 ls []) := by
  have h7 := hp.1
  intro L
  induction L with
  | nil =>
    intro v g j hW hL hj H locs ls w hl k
    have hv : v = 0 := hW
    subst hv
    have hj5 : j ≤ 5 := by simpa using hj
    refine iLn C hl 3 dX0_send_4 rfl rfl ?_
    refine kB C dX0_send_5 (by decide) ?_
    refine cGe C 111 dX0_send_7 (by decide) ⟨⟨by omega, by omega⟩, ⟨by omega, by omega⟩⟩ (fun c7 => ?_) (fun c7 => ?_)
    · omega
    · refine iLn C hl 2 dX0_send_10 rfl rfl ?_
      refine zEq C 111 dX0_send_11 (by decide) ⟨by omega, by omega⟩ (fun c11 => ?_) (fun c11 => ?_)
      · exact k H locs ls w (lv_sub hl [0] rfl)
      · exact absurd rfl c11
  | cons k L ih =>
    intro v g j hW hL hj H locs ls w hl kx
    obtain ⟨hv, hW2⟩ := hW
    subst hv
    obtain ⟨k1, k2, k3⟩ := eok_k (hL k List.mem_cons_self)
    have hb5 := (e_le5 hp k1).2
    have hjl : j + 1 + L.length ≤ 5 := by simp only [List.length_cons] at hj; omega
    have hL2 : ∀ k ∈ L, eok P f k := fun k' h' => hL k' (List.mem_cons_of_mem _ h')
    obtain ⟨i, hi | hi⟩ : ∃ i, k = 2 * i ∨ k = 2 * i + 1 := ⟨k / 2, by omega⟩
    · subst hi
      rw [ec_f] at k3
      refine iLn C hl 3 dX0_send_4 rfl rfl ?_
      refine kB C dX0_send_5 (by decide) ?_
      refine cGe C 111 dX0_send_7 (by decide) ⟨⟨by omega, by omega⟩, ⟨by omega, by omega⟩⟩ (fun c7 => ?_) (fun c7 => ?_)
      · omega
      · refine iLn C hl 2 dX0_send_10 rfl rfl ?_
        refine zEq C 111 dX0_send_11 (by decide) ⟨by omega, by omega⟩ (fun c11 => ?_) (fun c11 => ?_)
        · omega
        · refine aLn C hl 0 dX0_send_14 rfl rfl ?_
          refine gX C w 0 9 dX0_send_15 q32 rfl (by decide) rfl rfl ?_
          refine iLn C hl 2 dX0_send_18 rfl rfl ?_
          refine rdA C w 9 dX0_send_19 rfl (by omega) (by decide) ?_
          refine tpi (show _ = jI ((i : Int)) from by rw [← k3]) ?_
          refine kB C dX0_send_20 (by decide) ?_
          refine cLt C 29 dX0_send_22 (by decide) ⟨⟨by omega, by omega⟩, ⟨by omega, by omega⟩⟩ (fun c22 => ?_) (fun c22 => ?_)
          · refine kC C dX0_send_29 ?_
            refine tpi bI_f ?_
            refine iS (lv' := [(0, .ref h), (1, .int (jI amt)), (2, .int (jI ((eb P (2 * i) : Nat) : Int))), (3, .int (jI (j : Int))), (4, .int (bI false))]) C hl dX0_send_30 [1, 2, 3, 4, 0] (by decide) rfl (fun ls hl => ?_)
            refine iL C hl 4 dX0_send_32 rfl ?_
            refine bEq C 49 dX0_send_34 (by decide) (fun c34 => ?_) (fun c34 => ?_)
            · refine aLn C hl 0 dX0_send_49 rfl rfl ?_
              refine gX C w 0 9 dX0_send_50 q32 rfl (by decide) rfl rfl ?_
              refine iLn C hl 2 dX0_send_53 rfl rfl ?_
              refine rdA C w 9 dX0_send_54 rfl (by omega) (by decide) ?_
              refine tpi (show _ = jI ((i : Int)) from by rw [← k3]) ?_
              refine iS (lv' := [(0, .ref h), (1, .int (jI amt)), (2, .int (jI ((eb P (2 * i) : Nat) : Int))), (3, .int (jI (j : Int))), (4, .int (bI false)), (5, .int (jI (i : Int)))]) C hl dX0_send_55 [1, 2, 3, 4, 5, 0] (by decide) rfl (fun ls hl => ?_)
              refine aLn C hl 0 dX0_send_57 rfl rfl ?_
              refine gX C w 0 6 dX0_send_58 q29 rfl (by decide) rfl rfl ?_
              refine iL C hl 5 dX0_send_61 rfl ?_
              refine lv_dup2_11 C.1 C.2.1 dX0_send_63 rfl rfl ?_
              refine rdA C w 6 dX0_send_64 rfl (by omega) (by decide) ?_
              refine iL C hl 4 dX0_send_65 rfl ?_
              refine bEq C 75 dX0_send_67 (by decide) (fun c67 => ?_) (fun c67 => ?_)
              · refine iLn C hl 1 dX0_send_75 rfl rfl ?_
                refine oAdd C dX0_send_76 ?_
                refine wrA (ws' := (wP h a cI cZ P (uu g i (g i + amt)) (brun P f (24 * jn P)) kn wy g12 g13)) C w 6 dX0_send_77 rfl (by omega) (by decide) rfl (fun H locs w => ?_)
                refine iL C hl 4 dX0_send_78 rfl ?_
                refine bEq C 95 dX0_send_80 (by decide) (fun c80 => ?_) (fun c80 => ?_)
                · refine aLn C hl 0 dX0_send_95 rfl rfl ?_
                  refine gX C w 0 1 dX0_send_96 q24 rfl (by decide) rfl rfl ?_
                  refine iL C hl 5 dX0_send_99 rfl ?_
                  refine kC C dX0_send_101 ?_
                  refine oDiv2 C dX0_send_102 (by omega) ?_
                  refine rdA C w 1 dX0_send_103 rfl (by omega) (by decide) ?_
                  refine iSn (lv' := [(0, .ref h), (1, .int (jI amt)), (2, .int (jI ((jf P (i / 2) : Nat) : Int))), (3, .int (jI (j : Int))), (4, .int (bI false)), (5, .int (jI (i : Int)))]) C hl dX0_send_104 [1, 2, 0, 3, 4, 5] rfl (by decide) rfl (fun ls hl => ?_)
                  refine iInc (lv' := [(0, .ref h), (1, .int (jI amt)), (2, .int (jI ((jf P (i / 2) : Nat) : Int))), (3, .int (jI ((j + 1 : Nat) : Int))), (4, .int (bI false)), (5, .int (jI (i : Int)))]) C hl 3 dX0_send_105 [1, 2, 3, 0, 4, 5] rfl (by decide) rfl (fun ls hl => ?_)
                  refine gTo C 4 dX0_send_108 (by decide) ?_
                  rw [ea_f] at hW2
                  refine ih _ _ (j + 1) hW2 hL2 hjl H locs ls w (lv_sub hl [0, 1, 2, 3] rfl) (fun H locs ls w hl => kx H locs ls ?_ hl)
                  rw [send, aw_f]
                  exact w
                · exact absurd c80 (by decide)
              · exact absurd c67 (by decide)
            · exact absurd c34 (by decide)
          · omega
    · subst hi
      rw [ec_b] at k3
      refine iLn C hl 3 dX0_send_4 rfl rfl ?_
      refine kB C dX0_send_5 (by decide) ?_
      refine cGe C 111 dX0_send_7 (by decide) ⟨⟨by omega, by omega⟩, ⟨by omega, by omega⟩⟩ (fun c7 => ?_) (fun c7 => ?_)
      · omega
      · refine iLn C hl 2 dX0_send_10 rfl rfl ?_
        refine zEq C 111 dX0_send_11 (by decide) ⟨by omega, by omega⟩ (fun c11 => ?_) (fun c11 => ?_)
        · omega
        · refine aLn C hl 0 dX0_send_14 rfl rfl ?_
          refine gX C w 0 9 dX0_send_15 q32 rfl (by decide) rfl rfl ?_
          refine iLn C hl 2 dX0_send_18 rfl rfl ?_
          refine rdA C w 9 dX0_send_19 rfl (by omega) (by decide) ?_
          refine tpi (show _ = jI ((i : Int) + 28) from by rw [← k3]) ?_
          refine kB C dX0_send_20 (by decide) ?_
          refine cLt C 29 dX0_send_22 (by decide) ⟨⟨by omega, by omega⟩, ⟨by omega, by omega⟩⟩ (fun c22 => ?_) (fun c22 => ?_)
          · omega
          · refine kC C dX0_send_25 ?_
            refine tpi bI_t ?_
            refine gTo C 30 dX0_send_26 (by decide) ?_
            refine iS (lv' := [(0, .ref h), (1, .int (jI amt)), (2, .int (jI ((eb P (2 * i + 1) : Nat) : Int))), (3, .int (jI (j : Int))), (4, .int (bI true))]) C hl dX0_send_30 [1, 2, 3, 4, 0] (by decide) rfl (fun ls hl => ?_)
            refine iL C hl 4 dX0_send_32 rfl ?_
            refine bEq C 49 dX0_send_34 (by decide) (fun c34 => ?_) (fun c34 => ?_)
            · exact absurd c34 (by decide)
            · refine aLn C hl 0 dX0_send_37 rfl rfl ?_
              refine gX C w 0 9 dX0_send_38 q32 rfl (by decide) rfl rfl ?_
              refine iLn C hl 2 dX0_send_41 rfl rfl ?_
              refine rdA C w 9 dX0_send_42 rfl (by omega) (by decide) ?_
              refine tpi (show _ = jI ((i : Int) + 28) from by rw [← k3]) ?_
              refine kB C dX0_send_43 (by decide) ?_
              refine oSub C dX0_send_45 ?_
              refine tpi (show _ = jI (i : Int) from by congr 1; omega) ?_
              refine gTo C 55 dX0_send_46 (by decide) ?_
              refine iS (lv' := [(0, .ref h), (1, .int (jI amt)), (2, .int (jI ((eb P (2 * i + 1) : Nat) : Int))), (3, .int (jI (j : Int))), (4, .int (bI true)), (5, .int (jI (i : Int)))]) C hl dX0_send_55 [1, 2, 3, 4, 5, 0] (by decide) rfl (fun ls hl => ?_)
              refine aLn C hl 0 dX0_send_57 rfl rfl ?_
              refine gX C w 0 6 dX0_send_58 q29 rfl (by decide) rfl rfl ?_
              refine iL C hl 5 dX0_send_61 rfl ?_
              refine lv_dup2_11 C.1 C.2.1 dX0_send_63 rfl rfl ?_
              refine rdA C w 6 dX0_send_64 rfl (by omega) (by decide) ?_
              refine iL C hl 4 dX0_send_65 rfl ?_
              refine bEq C 75 dX0_send_67 (by decide) (fun c67 => ?_) (fun c67 => ?_)
              · exact absurd c67 (by decide)
              · refine iLn C hl 1 dX0_send_70 rfl rfl ?_
                refine oNeg C dX0_send_71 ?_
                refine gTo C 76 dX0_send_72 (by decide) ?_
                refine oAdd C dX0_send_76 ?_
                refine wrA (ws' := (wP h a cI cZ P (uu g i (g i + -amt)) (brun P f (24 * jn P)) kn wy g12 g13)) C w 6 dX0_send_77 rfl (by omega) (by decide) rfl (fun H locs w => ?_)
                refine iL C hl 4 dX0_send_78 rfl ?_
                refine bEq C 95 dX0_send_80 (by decide) (fun c80 => ?_) (fun c80 => ?_)
                · exact absurd c80 (by decide)
                · refine aLn C hl 0 dX0_send_83 rfl rfl ?_
                  refine gX C w 0 2 dX0_send_84 q25 rfl (by decide) rfl rfl ?_
                  refine iL C hl 5 dX0_send_87 rfl ?_
                  refine kC C dX0_send_89 ?_
                  refine oDiv2 C dX0_send_90 (by omega) ?_
                  refine rdA C w 2 dX0_send_91 rfl (by omega) (by decide) ?_
                  refine gTo C 104 dX0_send_92 (by decide) ?_
                  refine iSn (lv' := [(0, .ref h), (1, .int (jI amt)), (2, .int (jI ((jt P (i / 2) : Nat) : Int))), (3, .int (jI (j : Int))), (4, .int (bI true)), (5, .int (jI (i : Int)))]) C hl dX0_send_104 [1, 2, 0, 3, 4, 5] rfl (by decide) rfl (fun ls hl => ?_)
                  refine iInc (lv' := [(0, .ref h), (1, .int (jI amt)), (2, .int (jI ((jt P (i / 2) : Nat) : Int))), (3, .int (jI ((j + 1 : Nat) : Int))), (4, .int (bI true)), (5, .int (jI (i : Int)))]) C hl 3 dX0_send_105 [1, 2, 3, 0, 4, 5] rfl (by decide) rfl (fun ls hl => ?_)
                  refine gTo C 4 dX0_send_108 (by decide) ?_
                  rw [ea_b] at hW2
                  refine ih _ _ (j + 1) hW2 hL2 hjl H locs ls w (lv_sub hl [0, 1, 2, 3] rfl) (fun H locs ls w hl => kx H locs ls ?_ hl)
                  rw [send, aw_b]
                  exact w
set_option maxHeartbeats 4000000 in
set_option maxRecDepth 100000 in
/-- sending along the way -/
theorem m_send (l : Launch) (D : va_G) (cI cZ : ClassId) (h : Nat) (a : Nat → Nat) (P : Pj) (f : Nat → Int) (kn : Bool) (wy : Int) (g12 g13 : Nat → Int) (amt : Int) (hp : pok P) (L : List Nat) (hW : isW P 5 L) (hL : ∀ k ∈ L, eok P f k) (hlen : L.length ≤ 5) : MV l yX0_send cX0_send 6 0 0 D cI cZ (wP h a cI cZ P f (brun P f (24 * jn P)) kn wy g12 g13) [.ref h, .int (jI amt)] (fun _ : Unit => True) (fun _ => (wP h a cI cZ P (send f amt L) (brun P f (24 * jn P)) kn wy g12 g13)) := by
  refine mv_of (by decide) (Nat.le_of_ble_eq_true rfl) ?_
  intro p e s m below meth c A ls C hr w hl
  have hl : lv_has ls 6 [(0, .ref h), (1, .int (jI amt))] := hl
  refine kC C dX0_send_0 ?_
  refine iSn (lv' := [(0, .ref h), (1, .int (jI amt)), (2, .int (jI ((5 : Nat) : Int)))]) C hl dX0_send_1 [1, 2, 0] rfl (by decide) rfl (fun ls hl => ?_)
  refine kC C dX0_send_2 ?_
  refine iSn (lv' := [(0, .ref h), (1, .int (jI amt)), (2, .int (jI ((5 : Nat) : Int))), (3, .int (jI ((0 : Nat) : Int)))]) C hl dX0_send_3 [1, 2, 3, 0] rfl (by decide) rfl (fun ls hl => ?_)
  refine lpS C h a P f kn wy g12 g13 amt hp L 5 f 0 hW hL (by omega) _ _ _ w hl (fun H locs ls w hl => ?_)
  exact retV () C hr w dX0_send_111 trivial
end
section
/-! PLANNER 5: sendAll -/
set_option maxHeartbeats 4000000 in
set_option maxRecDepth 100000 in
theorem lpF {p : Program} {l : Launch} {e : Env} {s : State} {m : MethodId} {args : Array Value} {below : List Frame} {meth : Method} {c : Code} {Q : State → Prop} {D : va_G} {A : Nat → Prop} {H0 : Heap} {cI cZ : ClassId} (C : Cx p s m meth c cX0_sendAll 4 args RX0 D cI cZ) (h : Nat) (a : Nat → Nat) (P : Pj) (f : Nat → Int) (st : BS) (wy : Int) (g12 g13 : Nat → Int)
    (k : ∀ (H : Heap) (locs : List Loc) (ls : Array Slot), Wd D A H0 (wP h a cI cZ P (fl P 0) st true wy g12 g13) H locs → lv_has ls 4 [(0, .ref h)] → W p l e (rmo 3 70) s m args below meth c H locs 0 0 Q (F0 m 39 ls [])) :
    ∀ (x i : Nat), i ≤ 14 → 14 < i + x → ∀ (H : Heap) (locs : List Loc) (ls : Array Slot), Wd D A H0 (wP h a cI cZ P (fz (fun _ => (0 : Int)) f i) st true wy g12 g13) H locs → lv_has ls 4 [(0, .ref h), (1, .int (jI (i : Int)))] → W p l e (rmo 3 70) s m args below meth c H locs 0 0 Q (F0 m 20 ls []) := by
  intro x
  induction x with
  | zero => intro i h1 h2; omega
  | succ x ih =>
    intro i h1 h2 H locs ls w hl
    refine iLn C hl 1 dX0_sendAll_20 rfl rfl ?_
    refine kB C dX0_sendAll_21 (by decide) ?_
    refine cGe C 39 dX0_sendAll_23 (by decide) ⟨⟨by omega, by omega⟩, ⟨by omega, by omega⟩⟩ (fun c23 => ?_) (fun c23 => ?_)
    · have hi6 : i = 14 := by omega
      subst hi6
      exact k H locs ls (wd_ext (f' := fun _ => jI 0) w 6 rfl (fun j hj => by rw [fz_at hj]) rfl) (lv_sub hl [0] rfl)
    · refine aLn C hl 0 dX0_sendAll_26 rfl rfl ?_
      refine gX C w 0 6 dX0_sendAll_27 q29 rfl (by decide) rfl rfl ?_
      refine iLn C hl 1 dX0_sendAll_30 rfl rfl ?_
      refine kC C dX0_sendAll_31 ?_
      refine wrA (ws' := (wP h a cI cZ P (uu (fz (fun _ => (0 : Int)) f i) i 0) st true wy g12 g13)) C w 6 dX0_sendAll_32 rfl (by omega) (by decide) rfl (fun H locs w => ?_)
      refine iInc (lv' := [(0, .ref h), (1, .int (jI ((i + 1 : Nat) : Int)))]) C hl 1 dX0_sendAll_33 [1, 0] rfl (by decide) rfl (fun ls hl => ?_)
      refine gTo C 20 dX0_sendAll_36 (by decide) ?_
      have e6 : uu (fz (fun _ => (0 : Int)) f i) i 0 = fz (fun _ => (0 : Int)) f (i + 1) := fz_s _ _ _ rfl
      exact ih (i + 1) (by omega) (by omega) H locs ls (wd_eq w (by rw [e6])) hl
set_option maxHeartbeats 4000000 in
set_option maxRecDepth 100000 in
theorem lpX {p : Program} {l : Launch} {e : Env} {s : State} {m : MethodId} {args : Array Value} {below : List Frame} {meth : Method} {c : Code} {Q : State → Prop} {D : va_G} {cI cZ : ClassId} (C : Cx p s m meth c cX0_sendAll 4 args RX0 D cI cZ) {h n : Nat} (hn : n ≤ 149) {H : Heap} {locs : List Loc} {ls : Array Slot} (hl : lv_has ls 4 [(0, .ref h), (1, .int (bI false)), (2, .int (jI (n : Int)))]) (k : W p l e (rmo 3 70) s m args below meth c H locs 0 0 Q (F0 m 132 ls [])) : W p l e (rmo 3 70) s m args below meth c H locs 0 0 Q (F0 m 43 ls []) := by
  refine iLn C hl 2 dX0_sendAll_43 rfl rfl ?_
  refine kS C dX0_sendAll_44 (by decide) ?_
  refine cGe C 132 dX0_sendAll_47 (by decide) ⟨⟨by omega, by omega⟩, ⟨by omega, by omega⟩⟩ (fun c47 => ?_) (fun c47 => ?_)
  · exact k
  · refine iLn C hl 1 dX0_sendAll_50 rfl rfl ?_
    refine bEq C 132 dX0_sendAll_51 (by decide) (fun c51 => ?_) (fun c51 => ?_)
    · exact k
    · exact absurd c51 (by decide)
set_option maxHeartbeats 4000000 in
set_option maxRecDepth 100000 in
theorem lpN {p : Program} {l : Launch} {e : Env} {s : State} {m : MethodId} {args : Array Value} {below : List Frame} {meth : Method} {c : Code} {Q : State → Prop} {D : va_G} {A : Nat → Prop} {H0 : Heap} {cI cZ : ClassId} (C : Cx p s m meth c cX0_sendAll 4 args RX0 D cI cZ) (h : Nat) (a : Nat → Nat) (P : Pj) (hp : pok P) (h5 : ¬ Bn P 5) (kx : ∀ (f : Nat → Int) (st : BS) (K : Nat) (g12 g13 : Nat → Int) (H : Heap) (locs : List Loc) (ls : Array Slot), wok P K g12 g13 → Wd D A H0 (wP h a cI cZ P f st true (K : Int) g12 g13) H locs → W p l e (rmo 3 70) s m args below meth c H locs 0 0 Q (F0 m 132 ls []))
    (st : BS) (g12 g13 : Nat → Int) (H : Heap) (locs : List Loc) (ls : Array Slot) (w : Wd D A H0 (wP h a cI cZ P (fl P 0) st true ((0 : Nat) : Int) g12 g13) H locs) (hl : lv_has ls 4 [(0, .ref h), (1, .int (bI true)), (2, .int (jI ((0 : Nat) : Int)))]) : W p l e (rmo 3 70) s m args below meth c H locs 0 0 Q (F0 m 43 ls []) := by
  have hre : (brun P (fl P 0) (24 * jn P)).1 5 = false := by
    by_cases hn : jn P = 0
    · exact end_0 hn
    · have g := (ok_0 hp (show 0 < jn P by omega)).1
      exact Bool.eq_false_iff.mpr (fun q => h5 ((end_5 g).mp q))
  refine iLn C hl 2 dX0_sendAll_43 rfl rfl ?_
  refine kS C dX0_sendAll_44 (by decide) ?_
  refine cGe C 132 dX0_sendAll_47 (by decide) ⟨⟨by omega, by omega⟩, ⟨by omega, by omega⟩⟩ (fun c47 => ?_) (fun c47 => ?_)
  · exact absurd c47 (by decide)
  · refine iLn C hl 1 dX0_sendAll_50 rfl rfl ?_
    refine bEq C 132 dX0_sendAll_51 (by decide) (fun c51 => ?_) (fun c51 => ?_)
    · exact absurd c51 (by decide)
    · refine aLn C hl 0 dX0_sendAll_54 rfl rfl ?_
      refine cpV (n := 0) C w hl dX0_sendAll_55 (m_findLongest l D cI cZ h a P (fl P 0) true ((0 : Nat) : Int) g12 g13 st hp (fun x _ => ⟨show (-1000000000 : Int) ≤ 0 by decide, show (0 : Int) ≤ 1000000000 by decide⟩)) (lw_V q88 q90 qs1 q13 q91) (by decide +kernel) ⟨Nat.le_of_ble_eq_true rfl, Nat.le_of_ble_eq_true rfl⟩ rfl rfl rfl rfl rfl (Nat.le_of_ble_eq_true rfl) ⟨Nat.le_refl 0, Nat.le_refl 0⟩ (fun u H locs hz w => ?_)
      refine aLn C hl 0 dX0_sendAll_58 rfl rfl ?_
      refine gX C w 0 8 dX0_sendAll_59 q31 rfl (by decide) rfl rfl ?_
      refine kC C dX0_sendAll_62 ?_
      refine tpi (show _ = jI ((5 : Nat) : Int) from rfl) ?_
      refine rdZ C w 8 dX0_sendAll_63 rfl (by decide) (by decide) ?_
      refine tpi (show _ = bI false from congrArg bI hre) ?_
      refine iSn (lv' := [(0, .ref h), (1, .int (bI false)), (2, .int (jI ((0 : Nat) : Int)))]) C hl dX0_sendAll_64 [1, 0, 2] rfl (by decide) rfl (fun ls hl => ?_)
      refine iLn C hl 1 dX0_sendAll_65 rfl rfl ?_
      refine bEq C 126 dX0_sendAll_66 (by decide) (fun c66 => ?_) (fun c66 => ?_)
      · refine iInc (lv' := [(0, .ref h), (1, .int (bI false)), (2, .int (jI ((1 : Nat) : Int)))]) C hl 2 dX0_sendAll_126 [1, 2, 0] rfl (by decide) rfl (fun ls hl => ?_)
        refine gTo C 43 dX0_sendAll_129 (by decide) ?_
        exact lpX C (n := 1) (by decide) hl (kx _ _ 0 g12 g13 H locs ls ⟨Or.inl ⟨rfl, h5⟩, fun k hk => absurd hk (by omega)⟩ w)
      · exact absurd c66 (by decide)
set_option maxHeartbeats 4000000 in
set_option maxRecDepth 100000 in
theorem lpG {p : Program} {l : Launch} {e : Env} {s : State} {m : MethodId} {args : Array Value} {below : List Frame} {meth : Method} {c : Code} {Q : State → Prop} {D : va_G} {A : Nat → Prop} {H0 : Heap} {cI cZ : ClassId} (C : Cx p s m meth c cX0_sendAll 4 args RX0 D cI cZ) (h : Nat) (a : Nat → Nat) (P : Pj) (hp : pok P) (h5 : Bn P 5) (hn : 0 < jn P) {N : Nat} (n1 : N ≤ 147) (n2 : am P N = 1000000) (n3 : ∀ i, i < N → 0 < am P i ∧ am P i < 1000000) (n4 : ∀ i, i ≤ N → Ok P i ∧ FF P i ≤ 593920) (n5 : Ls P N = late P (ja P) 5) (kx : ∀ (f : Nat → Int) (st : BS) (K : Nat) (g12 g13 : Nat → Int) (H : Heap) (locs : List Loc) (ls : Array Slot), wok P K g12 g13 → Wd D A H0 (wP h a cI cZ P f st true (K : Int) g12 g13) H locs → W p l e (rmo 3 70) s m args below meth c H locs 0 0 Q (F0 m 132 ls [])) :
    ∀ (x i : Nat), i ≤ N → N < i + x → ∀ (st : BS) (g12 g13 : Nat → Int) (H : Heap) (locs : List Loc) (ls : Array Slot), (∀ k, k < i → g12 k = Ls P k ∧ g13 k = am P k) → Wd D A H0 (wP h a cI cZ P (fl P i) st true (i : Int) g12 g13) H locs → lv_has ls 4 [(0, .ref h), (1, .int (bI true)), (2, .int (jI (i : Int)))] → W p l e (rmo 3 70) s m args below meth c H locs 0 0 Q (F0 m 43 ls []) := by
  intro x
  induction x with
  | zero => intro i h1 h2; omega
  | succ x ih =>
    intro i h1 h2 st g12 g13 H locs ls hq w hl
    have hO := n4 i h1
    have hbf := fl_b hO.1 hO.2
    have hre : (brun P (fl P i) (24 * jn P)).1 5 = true := (end_5 hO.1.1).mpr h5
    obtain ⟨w1, w2, -, w4, -⟩ := w5 hO.1.1 hre
    have ham := am_pos hO.1 h5
    have hq2 : ∀ k, k < i + 1 → uu g12 i (Ls P i) k = Ls P k ∧ uu g13 i (am P i) k = am P k := fun k hk => by
      by_cases q : k = i
      · subst q
        rw [uu_s, uu_s]
        exact ⟨rfl, rfl⟩
      · rw [uu_n q, uu_n q]
        exact hq k (by omega)
    refine iLn C hl 2 dX0_sendAll_43 rfl rfl ?_
    refine kS C dX0_sendAll_44 (by decide) ?_
    refine cGe C 132 dX0_sendAll_47 (by decide) ⟨⟨by omega, by omega⟩, ⟨by omega, by omega⟩⟩ (fun c47 => ?_) (fun c47 => ?_)
    · omega
    · refine iLn C hl 1 dX0_sendAll_50 rfl rfl ?_
      refine bEq C 132 dX0_sendAll_51 (by decide) (fun c51 => ?_) (fun c51 => ?_)
      · exact absurd c51 (by decide)
      · refine aLn C hl 0 dX0_sendAll_54 rfl rfl ?_
        refine cpV (n := 0) C w hl dX0_sendAll_55 (m_findLongest l D cI cZ h a P (fl P i) true (i : Int) g12 g13 st hp hbf) (lw_V q88 q90 qs1 q13 q91) (by decide +kernel) ⟨Nat.le_of_ble_eq_true rfl, Nat.le_of_ble_eq_true rfl⟩ rfl rfl rfl rfl rfl (Nat.le_of_ble_eq_true rfl) ⟨Nat.le_refl 0, Nat.le_refl 0⟩ (fun u H locs hz w => ?_)
        refine aLn C hl 0 dX0_sendAll_58 rfl rfl ?_
        refine gX C w 0 8 dX0_sendAll_59 q31 rfl (by decide) rfl rfl ?_
        refine kC C dX0_sendAll_62 ?_
        refine tpi (show _ = jI ((5 : Nat) : Int) from rfl) ?_
        refine rdZ C w 8 dX0_sendAll_63 rfl (by decide) (by decide) ?_
        refine tpi (show _ = bI true from congrArg bI hre) ?_
        refine iSn (lv' := [(0, .ref h), (1, .int (bI true)), (2, .int (jI (i : Int)))]) C hl dX0_sendAll_64 [1, 0, 2] rfl (by decide) rfl (fun ls hl => ?_)
        refine iLn C hl 1 dX0_sendAll_65 rfl rfl ?_
        refine bEq C 126 dX0_sendAll_66 (by decide) (fun c66 => ?_) (fun c66 => ?_)
        · exact absurd c66 (by decide)
        · refine aLn C hl 0 dX0_sendAll_69 rfl rfl ?_
          refine cpI (n := 0) C w hl dX0_sendAll_70 (m_widthOfWay l D cI cZ h a P (fl P i) true (i : Int) g12 g13 hp hbf (W5 P (fl P i)) w1 w2 w4) (lw_V q105 q107 qs5 q13 q108) (by decide +kernel) ⟨Nat.le_of_ble_eq_true rfl, Nat.le_of_ble_eq_true rfl⟩ rfl rfl rfl rfl rfl (Nat.le_of_ble_eq_true rfl) ⟨Nat.le_refl 0, Nat.le_refl 0⟩ (fun rr u H locs hz w => ?_)
          subst hz
          refine iSn (lv' := [(0, .ref h), (1, .int (bI true)), (2, .int (jI (i : Int))), (3, .int (jI (am P i)))]) C hl dX0_sendAll_73 [1, 2, 3, 0] rfl (by decide) rfl (fun ls hl => ?_)
          refine aLn C hl 0 dX0_sendAll_74 rfl rfl ?_
          refine gX C w 0 12 dX0_sendAll_75 q35 rfl (by decide) rfl rfl ?_
          refine aLn C hl 0 dX0_sendAll_78 rfl rfl ?_
          refine gX C w 0 11 dX0_sendAll_79 q34 rfl (by decide) rfl rfl ?_
          refine aLn C hl 0 dX0_sendAll_82 rfl rfl ?_
          refine gX C w 0 7 dX0_sendAll_83 q30 rfl (by decide) rfl rfl ?_
          refine kC C dX0_sendAll_86 ?_
          refine tpi (show _ = jI ((5 : Nat) : Int) from rfl) ?_
          refine rdA C w 7 dX0_sendAll_87 rfl (by decide) (by decide) ?_
          refine tpi (show _ = jI (Ls P i) from rfl) ?_
          refine wrA (ws' := (wP h a cI cZ P (fl P i) (brun P (fl P i) (24 * jn P)) true (i : Int) (uu g12 i (Ls P i)) g13)) C w 10 dX0_sendAll_88 rfl (by omega) (by decide) rfl (fun H locs w => ?_)
          refine aLn C hl 0 dX0_sendAll_89 rfl rfl ?_
          refine gX C w 0 13 dX0_sendAll_90 q36 rfl (by decide) rfl rfl ?_
          refine aLn C hl 0 dX0_sendAll_93 rfl rfl ?_
          refine gX C w 0 11 dX0_sendAll_94 q34 rfl (by decide) rfl rfl ?_
          refine iLn C hl 3 dX0_sendAll_97 rfl rfl ?_
          refine wrA (ws' := (wP h a cI cZ P (fl P i) (brun P (fl P i) (24 * jn P)) true (i : Int) (uu g12 i (Ls P i)) (uu g13 i (am P i)))) C w 11 dX0_sendAll_98 rfl (by omega) (by decide) rfl (fun H locs w => ?_)
          refine aLn C hl 0 dX0_sendAll_99 rfl rfl ?_
          refine lv_dup C.1 C.2.1 dX0_sendAll_100 rfl ?_
          refine gX C w 0 11 dX0_sendAll_101 q34 rfl (by decide) rfl rfl ?_
          refine kC C dX0_sendAll_104 ?_
          refine oAdd C dX0_sendAll_105 ?_
          refine pX (ty := .int) (ws' := (wP h a cI cZ P (fl P i) (brun P (fl P i) (24 * jn P)) true ((i + 1 : Nat) : Int) (uu g12 i (Ls P i)) (uu g13 i (am P i)))) C w 0 11 dX0_sendAll_106 q34 rfl (by decide) rfl rfl (by decide +kernel) rfl rfl (Nat.le_of_ble_eq_true rfl) rfl (fun H locs w => ?_)
          refine iLn C hl 3 dX0_sendAll_109 rfl rfl ?_
          refine kL (n := 1000000) C dX0_sendAll_110 q104 rfl ?_
          refine cGe C 119 dX0_sendAll_112 (by decide) ⟨⟨by omega, by omega⟩, ⟨by omega, by omega⟩⟩ (fun c112 => ?_) (fun c112 => ?_)
          · have hiN : i = N := Classical.byContradiction (fun q => by
              have := n3 i (by omega)
              omega)
            refine kC C dX0_sendAll_119 ?_
            refine tpi bI_f ?_
            refine iSn (lv' := [(0, .ref h), (1, .int (bI false)), (2, .int (jI (i : Int))), (3, .int (jI (am P i)))]) C hl dX0_sendAll_120 [1, 0, 2, 3] rfl (by decide) rfl (fun ls hl => ?_)
            refine aLn C hl 0 dX0_sendAll_121 rfl rfl ?_
            refine iLn C hl 3 dX0_sendAll_122 rfl rfl ?_
            refine cpV (n := 1) C w hl dX0_sendAll_123 (m_send l D cI cZ h a P (fl P i) true ((i + 1 : Nat) : Int) (uu g12 i (Ls P i)) (uu g13 i (am P i)) (am P i) hp (W5 P (fl P i)) w1 w2 w4) (lw_V q109 q111 qs6 q13 q112) (by decide +kernel) ⟨Nat.le_of_ble_eq_true rfl, Nat.le_of_ble_eq_true rfl⟩ rfl rfl rfl rfl rfl (Nat.le_of_ble_eq_true rfl) ⟨Nat.le_refl 0, Nat.le_refl 0⟩ (fun u H locs hz w => ?_)
            refine iInc (lv' := [(0, .ref h), (1, .int (bI false)), (2, .int (jI ((i + 1 : Nat) : Int))), (3, .int (jI (am P i)))]) C hl 2 dX0_sendAll_126 [1, 2, 0, 3] rfl (by decide) rfl (fun ls hl => ?_)
            refine gTo C 43 dX0_sendAll_129 (by decide) ?_
            exact lpX C (n := i + 1) (by omega) (lv_sub hl [0, 1, 2] rfl) (kx _ _ (i + 1) _ _ H locs ls ⟨Or.inr ⟨N, by omega, n1, h5, hn, n2, n3, fun i hi => (n4 i hi).1, n5⟩, hq2⟩ w)
          · have hiN : i < N := Classical.byContradiction (fun q => by
              have e : i = N := by omega
              rw [e] at c112
              omega)
            refine kC C dX0_sendAll_115 ?_
            refine tpi bI_t ?_
            refine gTo C 120 dX0_sendAll_116 (by decide) ?_
            refine iSn (lv' := [(0, .ref h), (1, .int (bI true)), (2, .int (jI (i : Int))), (3, .int (jI (am P i)))]) C hl dX0_sendAll_120 [1, 0, 2, 3] rfl (by decide) rfl (fun ls hl => ?_)
            refine aLn C hl 0 dX0_sendAll_121 rfl rfl ?_
            refine iLn C hl 3 dX0_sendAll_122 rfl rfl ?_
            refine cpV (n := 1) C w hl dX0_sendAll_123 (m_send l D cI cZ h a P (fl P i) true ((i + 1 : Nat) : Int) (uu g12 i (Ls P i)) (uu g13 i (am P i)) (am P i) hp (W5 P (fl P i)) w1 w2 w4) (lw_V q109 q111 qs6 q13 q112) (by decide +kernel) ⟨Nat.le_of_ble_eq_true rfl, Nat.le_of_ble_eq_true rfl⟩ rfl rfl rfl rfl rfl (Nat.le_of_ble_eq_true rfl) ⟨Nat.le_refl 0, Nat.le_refl 0⟩ (fun u H locs hz w => ?_)
            refine iInc (lv' := [(0, .ref h), (1, .int (bI true)), (2, .int (jI ((i + 1 : Nat) : Int))), (3, .int (jI (am P i)))]) C hl 2 dX0_sendAll_126 [1, 2, 0, 3] rfl (by decide) rfl (fun ls hl => ?_)
            refine gTo C 43 dX0_sendAll_129 (by decide) ?_
            exact ih (i + 1) (by omega) (by omega) _ _ _ H locs ls hq2 w (lv_sub hl [0, 1, 2] rfl)
abbrev SS : Type := (Nat → Int) × BS × Nat × (Nat → Int) × (Nat → Int)
abbrev wU (h : Nat) (a : Nat → Nat) (cI cZ : ClassId) (P : Pj) (u : SS) : va_W := wP h a cI cZ P u.1 u.2.1 true (u.2.2.1 : Int) u.2.2.2.1 u.2.2.2.2
set_option maxHeartbeats 4000000 in
set_option maxRecDepth 100000 in
/-- sendAll: afterwards the ways are kept -/
theorem m_sendAll (l : Launch) (D : va_G) (cI cZ : ClassId) (h : Nat) (a : Nat → Nat) (P : Pj) (f : Nat → Int) (st : BS) (kn : Bool) (K : Nat) (g12 g13 : Nat → Int) (hp : pok P) (hk : kn = true → wok P K g12 g13) : MV l yX0_sendAll cX0_sendAll 4 3 70 D cI cZ (wP h a cI cZ P f st kn (K : Int) g12 g13) [.ref h] (fun u : SS => wok P u.2.2.1 u.2.2.2.1 u.2.2.2.2) (fun u => wU h a cI cZ P u) := by
  refine mv_of (by decide) (Nat.le_of_ble_eq_true rfl) ?_
  intro p e s m below meth c A ls C hr w hl
  have hl : lv_has ls 4 [(0, .ref h)] := hl
  refine aLn C hl 0 dX0_sendAll_0 rfl rfl ?_
  refine gX C w 0 10 dX0_sendAll_1 q33 rfl (by decide) rfl rfl ?_
  refine bEq C 8 dX0_sendAll_4 (by decide) (fun c4 => ?_) (fun c4 => ?_)
  · refine aLn C hl 0 dX0_sendAll_8 rfl rfl ?_
    refine kC C dX0_sendAll_9 ?_
    refine tpi bI_t ?_
    refine pX (ty := .boolean) (ws' := (wP h a cI cZ P f st true (K : Int) g12 g13)) C w 0 10 dX0_sendAll_10 q33 rfl (by decide) rfl rfl (by decide +kernel) rfl rfl (Nat.le_of_ble_eq_true rfl) rfl (fun H locs w => ?_)
    refine aLn C hl 0 dX0_sendAll_13 rfl rfl ?_
    refine kC C dX0_sendAll_14 ?_
    refine pX (ty := .int) (ws' := (wP h a cI cZ P f st true ((0 : Nat) : Int) g12 g13)) C w 0 11 dX0_sendAll_15 q34 rfl (by decide) rfl rfl (by decide +kernel) rfl rfl (Nat.le_of_ble_eq_true rfl) rfl (fun H locs w => ?_)
    refine kC C dX0_sendAll_18 ?_
    refine iSn (lv' := [(0, .ref h), (1, .int (jI ((0 : Nat) : Int)))]) C hl dX0_sendAll_19 [1, 0] rfl (by decide) rfl (fun ls hl => ?_)
    refine lpF C h a P f st ((0 : Nat) : Int) g12 g13 (fun H locs ls w hl => ?_) 15 0 (by omega) (by omega) H locs ls (wd_eq w (by rw [fz_0])) hl
    refine kC C dX0_sendAll_39 ?_
    refine tpi bI_t ?_
    refine iSn (lv' := [(0, .ref h), (1, .int (bI true))]) C hl dX0_sendAll_40 [1, 0] rfl (by decide) rfl (fun ls hl => ?_)
    refine kC C dX0_sendAll_41 ?_
    refine iSn (lv' := [(0, .ref h), (1, .int (bI true)), (2, .int (jI ((0 : Nat) : Int)))]) C hl dX0_sendAll_42 [1, 2, 0] rfl (by decide) rfl (fun ls hl => ?_)
    have kx : ∀ (f : Nat → Int) (st : BS) (K : Nat) (g12 g13 : Nat → Int) (H : Heap) (locs : List Loc) (ls : Array Slot), wok P K g12 g13 → Wd D A s.heap (wP h a cI cZ P f st true (K : Int) g12 g13) H locs → W p l e (rmo 3 70) s m [Value.ref h].toArray below meth c H locs 0 0 (MQ below (QcV D cI cZ (fun u : SS => wok P u.2.2.1 u.2.2.2.1 u.2.2.2.2) (fun u => wU h a cI cZ P u) A) [Value.ref h].toArray s 0 0 A) (F0 m 132 ls []) := fun f st K g12 g13 H locs ls hw w => retV (f, st, K, g12, g13) C hr w dX0_sendAll_132 hw
    by_cases h5 : Bn P 5
    · have hn : 0 < jn P := Nat.pos_of_ne_zero (fun q => no_jobs q h5)
      obtain ⟨N, n1, n2, n3, n4, n5⟩ := ends hp hn (late_ok hp (fun j hj => (ja_nn hp j hj).1)).1 h5
      exact lpG C h a P hp h5 hn n1 n2 n3 n4 n5 kx (N + 1) 0 (by omega) (by omega) st g12 g13 H locs ls (fun k hk => absurd hk (by omega)) w hl
    · exact lpN C h a P hp h5 kx st g12 g13 H locs ls w hl
  · subst c4
    exact retV (f, st, K, g12, g13) C hr w dX0_sendAll_7 (hk rfl)
end
section
/-! PLANNER 6: costFor and what is asked -/
theorem tl_u {C : Int → Int} {d : Int} (hC : ∀ T, C T ≤ 420) (hd : 0 ≤ d ∧ d ≤ 200) : ∀ m : Nat, m ≤ 64 → tl C d m ≤ 13020
  | 0, _ => by simp [tl]
  | m + 1, hm => by
    have h1 := tl_u hC hd m (by omega)
    have h2 := hC (m : Int)
    have h3 : d * (m : Int) ≤ 200 * (m : Int) := Int.mul_le_mul_of_nonneg_right hd.2 (Int.natCast_nonneg _)
    simp only [tl]
    split <;> omega
theorem tl_s (C : Int → Int) (d : Int) (t : Nat) : tl C d (t + 1) = if 0 ≤ C t ∧ (tl C d t < 0 ∨ C t + d * t < tl C d t) then C t + d * t else tl C d t := rfl
theorem mul_b {x : Int} {t : Nat} (hx : 0 ≤ x ∧ x ≤ 200) (ht : t ≤ 64) : 0 ≤ x * (t : Int) ∧ x * (t : Int) ≤ 12800 := by
  have h1 : 0 ≤ x * (t : Int) := Int.mul_nonneg hx.1 (Int.natCast_nonneg _)
  have h2 : x * (t : Int) ≤ 200 * (t : Int) := Int.mul_le_mul_of_nonneg_right hx.2 (Int.natCast_nonneg _)
  omega
/-- what step answers -/
def stv (P : Pj) (x : Int) : Int := if mC P x < 0 then -1 else if 1000 < x then 0 else mC P x - mC P (x + 1)
def tov (P : Pj) (x : Int) : Int := if x < 0 ∨ 200 < x then -1 else tl (mC P) x 64
abbrev SP : Type := Bool × SS
abbrev wV (h : Nat) (a : Nat → Nat) (cI cZ : ClassId) (P : Pj) (u : SP) : va_W := wP h a cI cZ P u.2.1 u.2.2.1 u.1 (u.2.2.2.1 : Int) u.2.2.2.2.1 u.2.2.2.2.2
abbrev okV (P : Pj) (u : SP) : Prop := u.1 = true → wok P u.2.2.2.1 u.2.2.2.2.1 u.2.2.2.2.2
set_option maxHeartbeats 4000000 in
set_option maxRecDepth 100000 in
theorem lpK {p : Program} {l : Launch} {e : Env} {s : State} {m : MethodId} {args : Array Value} {below : List Frame} {meth : Method} {c : Code} {Q : State → Prop} {D : va_G} {A : Nat → Prop} {H0 : Heap} {cI cZ : ClassId} (C : Cx p s m meth c cX0_costFor 4 args RX0 D cI cZ) (h : Nat) (a : Nat → Nat) (P : Pj) (f : Nat → Int) (st : BS) (kn : Bool) (K : Nat) (g12 g13 : Nat → Int) {x v : Int} (hb : K ≤ 148 ∧ ∀ k, k < K → (-2000 ≤ g12 k ∧ g12 k ≤ 2000) ∧ 0 ≤ g13 k ∧ g13 k ≤ 1000000) (hx : 0 ≤ x ∧ x ≤ 2147483647)
    (k59 : ∀ (H : Heap) (locs : List Loc) (ls : Array Slot), Wd D A H0 (wP h a cI cZ P f st kn (K : Int) g12 g13) H locs → lv_has ls 4 [(2, .int (jI v))] → W p l e (rmo 0 0) s m args below meth c H locs 0 0 Q (F0 m 59 ls [])) (k33 : v = -1 → ∀ (H : Heap) (locs : List Loc) (ls : Array Slot), Wd D A H0 (wP h a cI cZ P f st kn (K : Int) g12 g13) H locs → W p l e (rmo 0 0) s m args below meth c H locs 0 0 Q (F0 m 33 ls [])) :
    ∀ (n k : Nat) (t : Int), k + n = K → cfr g12 g13 x n k t = v → ∀ (H : Heap) (locs : List Loc) (ls : Array Slot), Wd D A H0 (wP h a cI cZ P f st kn (K : Int) g12 g13) H locs → lv_has ls 4 [(0, .ref h), (1, .int (jI x)), (2, .int (jI t)), (3, .int (jI (k : Int)))] → W p l e (rmo 0 0) s m args below meth c H locs 0 0 Q (F0 m 4 ls []) := by
  intro n
  induction n with
  | zero =>
    intro k t hk hv H locs ls w hl
    have hv : t = v := hv
    subst hv
    refine iLn C hl 3 dX0_costFor_4 rfl rfl ?_
    refine aLn C hl 0 dX0_costFor_5 rfl rfl ?_
    refine gX C w 0 11 dX0_costFor_6 q34 rfl (by decide) rfl rfl ?_
    refine cGe C 59 dX0_costFor_9 (by decide) ⟨⟨by omega, by omega⟩, ⟨by omega, by omega⟩⟩ (fun c9 => ?_) (fun c9 => ?_)
    · exact k59 H locs ls w (lv_sub hl [2] rfl)
    · omega
  | succ n ih =>
    intro k t hk hv H locs ls w hl
    have hbk := hb.2 k (by omega)
    simp only [cfr] at hv
    refine iLn C hl 3 dX0_costFor_4 rfl rfl ?_
    refine aLn C hl 0 dX0_costFor_5 rfl rfl ?_
    refine gX C w 0 11 dX0_costFor_6 q34 rfl (by decide) rfl rfl ?_
    refine cGe C 59 dX0_costFor_9 (by decide) ⟨⟨by omega, by omega⟩, ⟨by omega, by omega⟩⟩ (fun c9 => ?_) (fun c9 => ?_)
    · omega
    · refine aLn C hl 0 dX0_costFor_12 rfl rfl ?_
      refine gX C w 0 12 dX0_costFor_13 q35 rfl (by decide) rfl rfl ?_
      refine iLn C hl 3 dX0_costFor_16 rfl rfl ?_
      refine rdA C w 10 dX0_costFor_17 rfl (by omega) (by decide) ?_
      refine iLn C hl 1 dX0_costFor_18 rfl rfl ?_
      refine cLe C 53 dX0_costFor_19 (by decide) ⟨⟨by omega, by omega⟩, ⟨by omega, by omega⟩⟩ (fun c19 => ?_) (fun c19 => ?_)
      · rw [if_neg (by omega)] at hv
        refine iInc (lv' := [(0, .ref h), (1, .int (jI x)), (2, .int (jI t)), (3, .int (jI ((k + 1 : Nat) : Int)))]) C hl 3 dX0_costFor_53 [1, 2, 3, 0] rfl (by decide) rfl (fun ls hl => ?_)
        refine gTo C 4 dX0_costFor_56 (by decide) ?_
        exact ih (k + 1) _ (by omega) hv H locs ls w hl
      · rw [if_pos (by omega)] at hv
        refine aLn C hl 0 dX0_costFor_22 rfl rfl ?_
        refine gX C w 0 13 dX0_costFor_23 q36 rfl (by decide) rfl rfl ?_
        refine iLn C hl 3 dX0_costFor_26 rfl rfl ?_
        refine rdA C w 11 dX0_costFor_27 rfl (by omega) (by decide) ?_
        refine kL (n := 1000000) C dX0_costFor_28 q104 rfl ?_
        refine cLt C 35 dX0_costFor_30 (by decide) ⟨⟨by omega, by omega⟩, ⟨by omega, by omega⟩⟩ (fun c30 => ?_) (fun c30 => ?_)
        · rw [if_neg (by omega)] at hv
          refine iLn C hl 2 dX0_costFor_35 rfl rfl ?_
          refine aLn C hl 0 dX0_costFor_36 rfl rfl ?_
          refine gX C w 0 13 dX0_costFor_37 q36 rfl (by decide) rfl rfl ?_
          refine iLn C hl 3 dX0_costFor_40 rfl rfl ?_
          refine rdA C w 11 dX0_costFor_41 rfl (by omega) (by decide) ?_
          refine aLn C hl 0 dX0_costFor_42 rfl rfl ?_
          refine gX C w 0 12 dX0_costFor_43 q35 rfl (by decide) rfl rfl ?_
          refine iLn C hl 3 dX0_costFor_46 rfl rfl ?_
          refine rdA C w 10 dX0_costFor_47 rfl (by omega) (by decide) ?_
          refine iLn C hl 1 dX0_costFor_48 rfl rfl ?_
          refine oSub C dX0_costFor_49 ?_
          refine oMul C dX0_costFor_50 ?_
          refine oAdd C dX0_costFor_51 ?_
          refine iSn (lv' := [(0, .ref h), (1, .int (jI x)), (2, .int (jI (t + g13 k * (g12 k - x)))), (3, .int (jI (k : Int)))]) C hl dX0_costFor_52 [1, 2, 0, 3] rfl (by decide) rfl (fun ls hl => ?_)
          refine iInc (lv' := [(0, .ref h), (1, .int (jI x)), (2, .int (jI (t + g13 k * (g12 k - x)))), (3, .int (jI ((k + 1 : Nat) : Int)))]) C hl 3 dX0_costFor_53 [1, 2, 3, 0] rfl (by decide) rfl (fun ls hl => ?_)
          refine gTo C 4 dX0_costFor_56 (by decide) ?_
          exact ih (k + 1) _ (by omega) hv H locs ls w hl
        · rw [if_pos (by omega)] at hv
          exact k33 hv.symm H locs ls w
set_option maxHeartbeats 4000000 in
set_option maxRecDepth 100000 in
/-- costFor: the cost at a deadline -/
theorem m_costFor (l : Launch) (D : va_G) (cI cZ : ClassId) (h : Nat) (a : Nat → Nat) (P : Pj) (f : Nat → Int) (st : BS) (kn : Bool) (K : Nat) (g12 g13 : Nat → Int) (hp : pok P) (hw : wok P K g12 g13) (x : Int) (hx : 0 ≤ x ∧ x ≤ 2147483647) : MI l yX0_costFor cX0_costFor 4 (some .int) 0 0 D cI cZ (wP h a cI cZ P f st kn (K : Int) g12 g13) [.ref h, .int (jI x)] (fun r (_ : Unit) => r = jI (mC P x)) (fun _ => (wP h a cI cZ P f st kn (K : Int) g12 g13)) := by
  refine mi_of (by decide) (Nat.le_of_ble_eq_true rfl) ?_
  intro p e s m below meth c A ls C hr w hl
  have hl : lv_has ls 4 [(0, .ref h), (1, .int (jI x))] := hl
  refine kC C dX0_costFor_0 ?_
  refine iSn (lv' := [(0, .ref h), (1, .int (jI x)), (2, .int (jI 0))]) C hl dX0_costFor_1 [1, 2, 0] rfl (by decide) rfl (fun ls hl => ?_)
  refine kC C dX0_costFor_2 ?_
  refine iSn (lv' := [(0, .ref h), (1, .int (jI x)), (2, .int (jI 0)), (3, .int (jI ((0 : Nat) : Int)))]) C hl dX0_costFor_3 [1, 2, 3, 0] rfl (by decide) rfl (fun ls hl => ?_)
  refine lpK C h a P f st kn K g12 g13 (wok_b hp hw) hx (v := mC P x) (fun H locs ls w hl => ?_) (fun hv H locs ls w => ?_) K 0 0 (by omega) (wok_C hp hw hx.1) _ _ _ w hl
  · refine iLn C hl 0 dX0_costFor_59 rfl rfl ?_
    exact retI () C hr w dX0_costFor_60 rfl
  · refine kC C dX0_costFor_33 ?_
    exact retI () C hr w dX0_costFor_34 (by rw [hv])
set_option maxHeartbeats 4000000 in
set_option maxRecDepth 100000 in
theorem m_slowest (l : Launch) (D : va_G) (cI cZ : ClassId) (h : Nat) (a : Nat → Nat) (P : Pj) (f : Nat → Int) (st : BS) (kn : Bool) (K : Nat) (g12 g13 : Nat → Int) (hp : pok P) (hk : kn = true → wok P K g12 g13) : MI l yX0_slowest cX0_slowest 1 (some .int) 4 93 D cI cZ (wP h a cI cZ P f st kn (K : Int) g12 g13) [.ref h] (fun r (u : SP) => r = jI (plen P (js P)) ∧ okV P u) (fun u => wV h a cI cZ P u) := by
  refine mi_of (by decide) (Nat.le_of_ble_eq_true rfl) ?_
  intro p e s m below meth c A ls C hr w hl
  have hl : lv_has ls 1 [(0, .ref h)] := hl
  refine aLn C hl 0 dX0_slowest_0 rfl rfl ?_
  refine cpV (n := 0) C w hl dX0_slowest_1 (m_sendAll l D cI cZ h a P f st kn K g12 g13 hp hk) (lw_V q84 q86 qs0 q13 q87) (by decide +kernel) ⟨Nat.le_of_ble_eq_true rfl, Nat.le_of_ble_eq_true rfl⟩ rfl rfl rfl rfl rfl (Nat.le_of_ble_eq_true rfl) ⟨Nat.le_refl 0, Nat.le_refl 0⟩ (fun u H locs hz w => ?_)
  obtain ⟨f, st, K, g12, g13⟩ := u
  have hw : wok P K g12 g13 := hz
  have hwb := wok_b hp hw
  have w : Wd D A s.heap (wP h a cI cZ P f st true (K : Int) g12 g13) H locs := w
  have hs := wok_s hp hw
  refine aLn C hl 0 dX0_slowest_4 rfl rfl ?_
  refine gX C w 0 11 dX0_slowest_5 q34 rfl (by decide) rfl rfl ?_
  refine zNe C 15 dX0_slowest_8 (by decide) ⟨by omega, by omega⟩ (fun c8 => ?_) (fun c8 => ?_)
  · refine aLn C hl 0 dX0_slowest_15 rfl rfl ?_
    refine gX C w 0 12 dX0_slowest_16 q35 rfl (by decide) rfl rfl ?_
    refine kC C dX0_slowest_19 ?_
    refine tpi (show _ = jI ((0 : Nat) : Int) from rfl) ?_
    refine rdA C w 10 dX0_slowest_20 rfl (by decide) (by decide) ?_
    exact retI (true, f, st, K, g12, g13) C hr w dX0_slowest_21 ⟨by rw [← hs.2 (by omega)], fun _ => hw⟩
  · refine kC C dX0_slowest_11 ?_
    refine gTo C 21 dX0_slowest_12 (by decide) ?_
    exact retI (true, f, st, K, g12, g13) C hr w dX0_slowest_21 ⟨by rw [hs.1 (by omega)], fun _ => hw⟩
set_option maxHeartbeats 4000000 in
set_option maxRecDepth 100000 in
theorem m_fastest (l : Launch) (D : va_G) (cI cZ : ClassId) (h : Nat) (a : Nat → Nat) (P : Pj) (f : Nat → Int) (st : BS) (kn : Bool) (K : Nat) (g12 g13 : Nat → Int) (hp : pok P) (hk : kn = true → wok P K g12 g13) : MI l yX0_fastest cX0_fastest 1 (some .int) 4 93 D cI cZ (wP h a cI cZ P f st kn (K : Int) g12 g13) [.ref h] (fun r (u : SP) => r = jI (plen P (ja P)) ∧ okV P u) (fun u => wV h a cI cZ P u) := by
  refine mi_of (by decide) (Nat.le_of_ble_eq_true rfl) ?_
  intro p e s m below meth c A ls C hr w hl
  have hl : lv_has ls 1 [(0, .ref h)] := hl
  refine aLn C hl 0 dX0_fastest_0 rfl rfl ?_
  refine cpV (n := 0) C w hl dX0_fastest_1 (m_sendAll l D cI cZ h a P f st kn K g12 g13 hp hk) (lw_V q84 q86 qs0 q13 q87) (by decide +kernel) ⟨Nat.le_of_ble_eq_true rfl, Nat.le_of_ble_eq_true rfl⟩ rfl rfl rfl rfl rfl (Nat.le_of_ble_eq_true rfl) ⟨Nat.le_refl 0, Nat.le_refl 0⟩ (fun u H locs hz w => ?_)
  obtain ⟨f, st, K, g12, g13⟩ := u
  have hw : wok P K g12 g13 := hz
  have hwb := wok_b hp hw
  have w : Wd D A s.heap (wP h a cI cZ P f st true (K : Int) g12 g13) H locs := w
  have hs := wok_f hp hw
  refine aLn C hl 0 dX0_fastest_4 rfl rfl ?_
  refine gX C w 0 11 dX0_fastest_5 q34 rfl (by decide) rfl rfl ?_
  refine zNe C 15 dX0_fastest_8 (by decide) ⟨by omega, by omega⟩ (fun c8 => ?_) (fun c8 => ?_)
  · refine aLn C hl 0 dX0_fastest_15 rfl rfl ?_
    refine gX C w 0 12 dX0_fastest_16 q35 rfl (by decide) rfl rfl ?_
    refine aLn C hl 0 dX0_fastest_19 rfl rfl ?_
    refine gX C w 0 11 dX0_fastest_20 q34 rfl (by decide) rfl rfl ?_
    refine kC C dX0_fastest_23 ?_
    refine oSub C dX0_fastest_24 ?_
    refine tpi (show _ = jI ((K - 1 : Nat) : Int) from by congr 1; omega) ?_
    refine rdA C w 10 dX0_fastest_25 rfl (by omega) (by decide) ?_
    exact retI (true, f, st, K, g12, g13) C hr w dX0_fastest_26 ⟨by rw [← hs.2 (by omega)], fun _ => hw⟩
  · refine kC C dX0_fastest_11 ?_
    refine gTo C 26 dX0_fastest_12 (by decide) ?_
    exact retI (true, f, st, K, g12, g13) C hr w dX0_fastest_26 ⟨by rw [hs.1 (by omega)], fun _ => hw⟩
set_option maxHeartbeats 4000000 in
set_option maxRecDepth 100000 in
theorem m_cost (l : Launch) (D : va_G) (cI cZ : ClassId) (h : Nat) (a : Nat → Nat) (P : Pj) (f : Nat → Int) (st : BS) (kn : Bool) (K : Nat) (g12 g13 : Nat → Int) (hp : pok P) (hk : kn = true → wok P K g12 g13) (x : Int) (hx : jb x) : MI l yX0_cost cX0_cost 2 (some .int) 4 93 D cI cZ (wP h a cI cZ P f st kn (K : Int) g12 g13) [.ref h, .int (jI x)] (fun r (u : SP) => r = jI (mC P x) ∧ okV P u) (fun u => wV h a cI cZ P u) := by
  refine mi_of (by decide) (Nat.le_of_ble_eq_true rfl) ?_
  intro p e s m below meth c A ls C hr w hl
  have hl : lv_has ls 2 [(0, .ref h), (1, .int (jI x))] := hl
  have hx1 := hx.1
  have hx2 := hx.2
  refine iLn C hl 1 dX0_cost_0 rfl rfl ?_
  refine zGe C 6 dX0_cost_1 (by decide) ⟨by omega, by omega⟩ (fun c1 => ?_) (fun c1 => ?_)
  · refine aLn C hl 0 dX0_cost_6 rfl rfl ?_
    refine cpV (n := 0) C w hl dX0_cost_7 (m_sendAll l D cI cZ h a P f st kn K g12 g13 hp hk) (lw_V q84 q86 qs0 q13 q87) (by decide +kernel) ⟨Nat.le_of_ble_eq_true rfl, Nat.le_of_ble_eq_true rfl⟩ rfl rfl rfl rfl rfl (Nat.le_of_ble_eq_true rfl) ⟨Nat.le_refl 0, Nat.le_refl 0⟩ (fun u H locs hz w => ?_)
    obtain ⟨f, st, K, g12, g13⟩ := u
    have hw : wok P K g12 g13 := hz
    have hwb := wok_b hp hw
    have w : Wd D A s.heap (wP h a cI cZ P f st true (K : Int) g12 g13) H locs := w
    refine aLn C hl 0 dX0_cost_10 rfl rfl ?_
    refine iLn C hl 1 dX0_cost_11 rfl rfl ?_
    refine cpI (n := 1) C w hl dX0_cost_12 (m_costFor l D cI cZ h a P f st true K g12 g13 hp hw (x) ⟨by omega, by omega⟩) (lw_V q121 q123 qs7 q13 q124) (by decide +kernel) ⟨Nat.le_of_ble_eq_true rfl, Nat.le_of_ble_eq_true rfl⟩ rfl rfl rfl rfl rfl (Nat.le_of_ble_eq_true rfl) ⟨Nat.le_refl 0, Nat.le_refl 0⟩ (fun rr u H locs hz w => ?_)
    subst hz
    exact retI (true, f, st, K, g12, g13) C hr w dX0_cost_15 ⟨rfl, fun _ => hw⟩
  · refine kC C dX0_cost_4 ?_
    exact retI (kn, f, st, K, g12, g13) C hr w dX0_cost_5 ⟨by rw [mC_neg (by omega)], hk⟩
set_option maxHeartbeats 4000000 in
set_option maxRecDepth 100000 in
theorem m_step (l : Launch) (D : va_G) (cI cZ : ClassId) (h : Nat) (a : Nat → Nat) (P : Pj) (f : Nat → Int) (st : BS) (kn : Bool) (K : Nat) (g12 g13 : Nat → Int) (hp : pok P) (hk : kn = true → wok P K g12 g13) (x : Int) (hx : jb x) : MI l yX0_step cX0_step 3 (some .int) 4 93 D cI cZ (wP h a cI cZ P f st kn (K : Int) g12 g13) [.ref h, .int (jI x)] (fun r (u : SP) => r = jI (stv P x) ∧ okV P u) (fun u => wV h a cI cZ P u) := by
  refine mi_of (by decide) (Nat.le_of_ble_eq_true rfl) ?_
  intro p e s m below meth c A ls C hr w hl
  have hl : lv_has ls 3 [(0, .ref h), (1, .int (jI x))] := hl
  have hx1 := hx.1
  have hx2 := hx.2
  have hc1 := mC_ge hp x
  have hc2 := mC_le hp x
  refine iLn C hl 1 dX0_step_0 rfl rfl ?_
  refine zGe C 6 dX0_step_1 (by decide) ⟨by omega, by omega⟩ (fun c1 => ?_) (fun c1 => ?_)
  · refine aLn C hl 0 dX0_step_6 rfl rfl ?_
    refine cpV (n := 0) C w hl dX0_step_7 (m_sendAll l D cI cZ h a P f st kn K g12 g13 hp hk) (lw_V q84 q86 qs0 q13 q87) (by decide +kernel) ⟨Nat.le_of_ble_eq_true rfl, Nat.le_of_ble_eq_true rfl⟩ rfl rfl rfl rfl rfl (Nat.le_of_ble_eq_true rfl) ⟨Nat.le_refl 0, Nat.le_refl 0⟩ (fun u H locs hz w => ?_)
    obtain ⟨f, st, K, g12, g13⟩ := u
    have hw : wok P K g12 g13 := hz
    have hwb := wok_b hp hw
    have w : Wd D A s.heap (wP h a cI cZ P f st true (K : Int) g12 g13) H locs := w
    refine aLn C hl 0 dX0_step_10 rfl rfl ?_
    refine iLn C hl 1 dX0_step_11 rfl rfl ?_
    refine cpI (n := 1) C w hl dX0_step_12 (m_costFor l D cI cZ h a P f st true K g12 g13 hp hw (x) ⟨by omega, by omega⟩) (lw_V q121 q123 qs7 q13 q124) (by decide +kernel) ⟨Nat.le_of_ble_eq_true rfl, Nat.le_of_ble_eq_true rfl⟩ rfl rfl rfl rfl rfl (Nat.le_of_ble_eq_true rfl) ⟨Nat.le_refl 0, Nat.le_refl 0⟩ (fun rr u H locs hz w => ?_)
    subst hz
    refine iSn (lv' := [(0, .ref h), (1, .int (jI x)), (2, .int (jI (mC P x)))]) C hl dX0_step_15 [1, 2, 0] rfl (by decide) rfl (fun ls hl => ?_)
    refine iLn C hl 2 dX0_step_16 rfl rfl ?_
    refine zGe C 24 dX0_step_17 (by decide) ⟨by omega, by omega⟩ (fun c17 => ?_) (fun c17 => ?_)
    · refine iLn C hl 1 dX0_step_24 rfl rfl ?_
      refine kS C dX0_step_25 (by decide) ?_
      refine cLe C 35 dX0_step_28 (by decide) ⟨⟨by omega, by omega⟩, ⟨by omega, by omega⟩⟩ (fun c28 => ?_) (fun c28 => ?_)
      · refine iLn C hl 2 dX0_step_35 rfl rfl ?_
        refine aLn C hl 0 dX0_step_36 rfl rfl ?_
        refine iLn C hl 1 dX0_step_37 rfl rfl ?_
        refine kC C dX0_step_38 ?_
        refine oAdd C dX0_step_39 ?_
        refine cpI (n := 1) C w hl dX0_step_40 (m_costFor l D cI cZ h a P f st true K g12 g13 hp hw (x + 1) ⟨by omega, by omega⟩) (lw_V q121 q123 qs7 q13 q124) (by decide +kernel) ⟨Nat.le_of_ble_eq_true rfl, Nat.le_of_ble_eq_true rfl⟩ rfl rfl rfl rfl rfl (Nat.le_of_ble_eq_true rfl) ⟨Nat.le_refl 0, Nat.le_refl 0⟩ (fun rr u H locs hz w => ?_)
        subst hz
        refine oSub C dX0_step_43 ?_
        exact retI (true, f, st, K, g12, g13) C hr w dX0_step_44 ⟨by rw [stv, if_neg (by omega), if_neg (by omega)], fun _ => hw⟩
      · refine kC C dX0_step_31 ?_
        refine gTo C 44 dX0_step_32 (by decide) ?_
        exact retI (true, f, st, K, g12, g13) C hr w dX0_step_44 ⟨by rw [stv, if_neg (by omega), if_pos (by omega)], fun _ => hw⟩
    · refine kC C dX0_step_20 ?_
      refine gTo C 44 dX0_step_21 (by decide) ?_
      exact retI (true, f, st, K, g12, g13) C hr w dX0_step_44 ⟨by rw [stv, if_pos (by omega)], fun _ => hw⟩
  · refine kC C dX0_step_4 ?_
    exact retI (kn, f, st, K, g12, g13) C hr w dX0_step_5 ⟨by rw [stv, if_pos (by rw [mC_neg (by omega)]; decide)], hk⟩
set_option maxHeartbeats 4000000 in
set_option maxRecDepth 100000 in
theorem lpI {p : Program} {l : Launch} {e : Env} {s : State} {m : MethodId} {args : Array Value} {below : List Frame} {meth : Method} {c : Code} {Q : State → Prop} {D : va_G} {A : Nat → Prop} {H0 : Heap} {cI cZ : ClassId} (C : Cx p s m meth c cX0_within 4 args RX0 D cI cZ) (h : Nat) (a : Nat → Nat) (P : Pj) (f : Nat → Int) (st : BS) (K : Nat) (g12 g13 : Nat → Int) (hp : pok P) (hw : wok P K g12 g13) {x v : Int} (hx : jb x)
    (k33 : ∀ (t : Nat) (H : Heap) (locs : List Loc) (ls : Array Slot), v = (t : Int) → Wd D A H0 (wP h a cI cZ P f st true (K : Int) g12 g13) H locs → lv_has ls 4 [(2, .int (jI (t : Int)))] → W p l e (rmo 4 93) s m args below meth c H locs 0 0 Q (F0 m 33 ls [])) (k41 : v = -1 → ∀ (H : Heap) (locs : List Loc) (ls : Array Slot), Wd D A H0 (wP h a cI cZ P f st true (K : Int) g12 g13) H locs → W p l e (rmo 4 93) s m args below meth c H locs 0 0 Q (F0 m 41 ls [])) :
    ∀ (n t : Nat), t + n = 46 → wi (mC P) x n t = v → ∀ (H : Heap) (locs : List Loc) (ls : Array Slot), Wd D A H0 (wP h a cI cZ P f st true (K : Int) g12 g13) H locs → lv_has ls 4 [(0, .ref h), (1, .int (jI x)), (2, .int (jI (t : Int)))] → W p l e (rmo 4 93) s m args below meth c H locs 0 0 Q (F0 m 12 ls []) := by
  have hx1 := hx.1
  have hx2 := hx.2
  intro n
  induction n with
  | zero =>
    intro t hk hv H locs ls w hl
    have hv : -1 = v := hv
    refine iLn C hl 2 dX0_within_12 rfl rfl ?_
    refine kB C dX0_within_13 (by decide) ?_
    refine cGt C 41 dX0_within_15 (by decide) ⟨⟨by omega, by omega⟩, ⟨by omega, by omega⟩⟩ (fun c15 => ?_) (fun c15 => ?_)
    · exact k41 hv.symm H locs ls w
    · omega
  | succ n ih =>
    intro t hk hv H locs ls w hl
    have hc1 := mC_ge hp (t : Int)
    have hc2 := mC_le hp (t : Int)
    simp only [wi] at hv
    refine iLn C hl 2 dX0_within_12 rfl rfl ?_
    refine kB C dX0_within_13 (by decide) ?_
    refine cGt C 41 dX0_within_15 (by decide) ⟨⟨by omega, by omega⟩, ⟨by omega, by omega⟩⟩ (fun c15 => ?_) (fun c15 => ?_)
    · omega
    · refine aLn C hl 0 dX0_within_18 rfl rfl ?_
      refine iLn C hl 2 dX0_within_19 rfl rfl ?_
      refine cpI (n := 1) C w hl dX0_within_20 (m_costFor l D cI cZ h a P f st true K g12 g13 hp hw ((t : Int)) ⟨by omega, by omega⟩) (lw_V q121 q123 qs7 q13 q124) (by decide +kernel) ⟨Nat.le_of_ble_eq_true rfl, Nat.le_of_ble_eq_true rfl⟩ rfl rfl rfl rfl rfl (Nat.le_of_ble_eq_true rfl) ⟨Nat.le_refl 0, Nat.le_refl 0⟩ (fun rr u H locs hz w => ?_)
      subst hz
      refine iSn (lv' := [(0, .ref h), (1, .int (jI x)), (2, .int (jI (t : Int))), (3, .int (jI (mC P (t : Int))))]) C hl dX0_within_23 [1, 2, 3, 0] rfl (by decide) rfl (fun ls hl => ?_)
      refine iLn C hl 3 dX0_within_24 rfl rfl ?_
      refine zLt C 35 dX0_within_25 (by decide) ⟨by omega, by omega⟩ (fun c25 => ?_) (fun c25 => ?_)
      · rw [if_neg (by omega)] at hv
        refine iInc (lv' := [(0, .ref h), (1, .int (jI x)), (2, .int (jI ((t + 1 : Nat) : Int))), (3, .int (jI (mC P (t : Int))))]) C hl 2 dX0_within_35 [1, 2, 0, 3] rfl (by decide) rfl (fun ls hl => ?_)
        refine gTo C 12 dX0_within_38 (by decide) ?_
        exact ih (t + 1) (by omega) hv H locs ls w (lv_sub hl [0, 1, 2] rfl)
      · refine iLn C hl 3 dX0_within_28 rfl rfl ?_
        refine iLn C hl 1 dX0_within_29 rfl rfl ?_
        refine cGt C 35 dX0_within_30 (by decide) ⟨⟨by omega, by omega⟩, ⟨by omega, by omega⟩⟩ (fun c30 => ?_) (fun c30 => ?_)
        · rw [if_neg (by omega)] at hv
          refine iInc (lv' := [(0, .ref h), (1, .int (jI x)), (2, .int (jI ((t + 1 : Nat) : Int))), (3, .int (jI (mC P (t : Int))))]) C hl 2 dX0_within_35 [1, 2, 0, 3] rfl (by decide) rfl (fun ls hl => ?_)
          refine gTo C 12 dX0_within_38 (by decide) ?_
          exact ih (t + 1) (by omega) hv H locs ls w (lv_sub hl [0, 1, 2] rfl)
        · rw [if_pos (by omega)] at hv
          exact k33 t H locs ls hv.symm w (lv_sub hl [2] rfl)
set_option maxHeartbeats 4000000 in
set_option maxRecDepth 100000 in
theorem m_within (l : Launch) (D : va_G) (cI cZ : ClassId) (h : Nat) (a : Nat → Nat) (P : Pj) (f : Nat → Int) (st : BS) (kn : Bool) (K : Nat) (g12 g13 : Nat → Int) (hp : pok P) (hk : kn = true → wok P K g12 g13) (x : Int) (hx : jb x) : MI l yX0_within cX0_within 4 (some .int) 4 93 D cI cZ (wP h a cI cZ P f st kn (K : Int) g12 g13) [.ref h, .int (jI x)] (fun r (u : SP) => r = jI (wi (mC P) x 64 0) ∧ okV P u) (fun u => wV h a cI cZ P u) := by
  refine mi_of (by decide) (Nat.le_of_ble_eq_true rfl) ?_
  intro p e s m below meth c A ls C hr w hl
  have hl : lv_has ls 4 [(0, .ref h), (1, .int (jI x))] := hl
  have hx1 := hx.1
  have hx2 := hx.2
  refine iLn C hl 1 dX0_within_0 rfl rfl ?_
  refine zGe C 6 dX0_within_1 (by decide) ⟨by omega, by omega⟩ (fun c1 => ?_) (fun c1 => ?_)
  · refine aLn C hl 0 dX0_within_6 rfl rfl ?_
    refine cpV (n := 0) C w hl dX0_within_7 (m_sendAll l D cI cZ h a P f st kn K g12 g13 hp hk) (lw_V q84 q86 qs0 q13 q87) (by decide +kernel) ⟨Nat.le_of_ble_eq_true rfl, Nat.le_of_ble_eq_true rfl⟩ rfl rfl rfl rfl rfl (Nat.le_of_ble_eq_true rfl) ⟨Nat.le_refl 0, Nat.le_refl 0⟩ (fun u H locs hz w => ?_)
    obtain ⟨f, st, K, g12, g13⟩ := u
    have hw : wok P K g12 g13 := hz
    have hwb := wok_b hp hw
    have w : Wd D A s.heap (wP h a cI cZ P f st true (K : Int) g12 g13) H locs := w
    refine kC C dX0_within_10 ?_
    refine iSn (lv' := [(0, .ref h), (1, .int (jI x)), (2, .int (jI ((0 : Nat) : Int)))]) C hl dX0_within_11 [1, 2, 0] rfl (by decide) rfl (fun ls hl => ?_)
    refine lpI C h a P f st K g12 g13 hp hw hx (v := wi (mC P) x 64 0) (fun t H locs ls hv w hl => ?_) (fun hv H locs ls w => ?_) 46 0 rfl (wi_eq (C := mC P) (mC_45 hp (by decide)) (by omega) 46 0 18 rfl (by decide)).symm H locs ls w hl
    · refine iLn C hl 0 dX0_within_33 rfl rfl ?_
      exact retI (true, f, st, K, g12, g13) C hr w dX0_within_34 ⟨by rw [hv], fun _ => hw⟩
    · refine kC C dX0_within_41 ?_
      exact retI (true, f, st, K, g12, g13) C hr w dX0_within_42 ⟨by rw [hv], fun _ => hw⟩
  · refine kC C dX0_within_4 ?_
    exact retI (kn, f, st, K, g12, g13) C hr w dX0_within_5 ⟨by rw [wi_neg (by omega)], hk⟩
set_option maxHeartbeats 4000000 in
set_option maxRecDepth 100000 in
theorem lpT {p : Program} {l : Launch} {e : Env} {s : State} {m : MethodId} {args : Array Value} {below : List Frame} {meth : Method} {c : Code} {Q : State → Prop} {D : va_G} {A : Nat → Prop} {H0 : Heap} {cI cZ : ClassId} (C : Cx p s m meth c cX0_total 5 args RX0 D cI cZ) (h : Nat) (a : Nat → Nat) (P : Pj) (f : Nat → Int) (st : BS) (K : Nat) (g12 g13 : Nat → Int) (hp : pok P) (hw : wok P K g12 g13) {x : Int} (hx : 0 ≤ x ∧ x ≤ 200)
    (k66 : ∀ (H : Heap) (locs : List Loc) (ls : Array Slot), Wd D A H0 (wP h a cI cZ P f st true (K : Int) g12 g13) H locs → lv_has ls 5 [(2, .int (jI (tl (mC P) x 46)))] → W p l e (rmo 4 93) s m args below meth c H locs 0 0 Q (F0 m 66 ls [])) :
    ∀ (n t : Nat), t ≤ 46 → 46 < t + n → ∀ (H : Heap) (locs : List Loc) (ls : Array Slot), Wd D A H0 (wP h a cI cZ P f st true (K : Int) g12 g13) H locs → lv_has ls 5 [(0, .ref h), (1, .int (jI x)), (2, .int (jI (tl (mC P) x t))), (3, .int (jI (t : Int)))] → W p l e (rmo 4 93) s m args below meth c H locs 0 0 Q (F0 m 21 ls []) := by
  intro n
  induction n with
  | zero => intro t h1 h2; omega
  | succ n ih =>
    intro t h1 h2 H locs ls w hl
    have hc1 := mC_ge hp (t : Int)
    have hc2 := mC_le hp (t : Int)
    have hm := mul_b hx (show t ≤ 64 by omega)
    have ht1 := tl_b (C := mC P) hx.1 t
    have ht2 := tl_u (C := mC P) (mC_le hp) hx t (by omega)
    have hst := tl_s (mC P) x t
    refine iLn C hl 3 dX0_total_21 rfl rfl ?_
    refine kB C dX0_total_22 (by decide) ?_
    refine cGt C 66 dX0_total_24 (by decide) ⟨⟨by omega, by omega⟩, ⟨by omega, by omega⟩⟩ (fun c24 => ?_) (fun c24 => ?_)
    · have ht : t = 46 := by omega
      subst ht
      exact k66 H locs ls w (lv_sub hl [2] rfl)
    · refine aLn C hl 0 dX0_total_27 rfl rfl ?_
      refine iLn C hl 3 dX0_total_28 rfl rfl ?_
      refine cpI (n := 1) C w hl dX0_total_29 (m_costFor l D cI cZ h a P f st true K g12 g13 hp hw ((t : Int)) ⟨by omega, by omega⟩) (lw_V q121 q123 qs7 q13 q124) (by decide +kernel) ⟨Nat.le_of_ble_eq_true rfl, Nat.le_of_ble_eq_true rfl⟩ rfl rfl rfl rfl rfl (Nat.le_of_ble_eq_true rfl) ⟨Nat.le_refl 0, Nat.le_refl 0⟩ (fun rr u H locs hz w => ?_)
      subst hz
      refine iS (lv' := [(0, .ref h), (1, .int (jI x)), (2, .int (jI (tl (mC P) x t))), (3, .int (jI (t : Int))), (4, .int (jI (mC P (t : Int))))]) C hl dX0_total_32 [1, 2, 3, 4, 0] (by decide) rfl (fun ls hl => ?_)
      refine iL C hl 4 dX0_total_34 rfl ?_
      refine zLt C 60 dX0_total_36 (by decide) ⟨by omega, by omega⟩ (fun c36 => ?_) (fun c36 => ?_)
      · rw [if_neg (by omega)] at hst
        refine iInc (lv' := [(0, .ref h), (1, .int (jI x)), (2, .int (jI (tl (mC P) x t))), (3, .int (jI ((t + 1 : Nat) : Int))), (4, .int (jI (mC P (t : Int))))]) C hl 3 dX0_total_60 [1, 2, 3, 0, 4] rfl (by decide) rfl (fun ls hl => ?_)
        refine gTo C 21 dX0_total_63 (by decide) ?_
        exact ih (t + 1) (by omega) (by omega) H locs ls w (by rw [hst]; exact lv_sub hl [0, 1, 2, 3] rfl)
      · refine iLn C hl 2 dX0_total_39 rfl rfl ?_
        refine zLt C 53 dX0_total_40 (by decide) ⟨by omega, by omega⟩ (fun c40 => ?_) (fun c40 => ?_)
        · rw [if_pos (by omega)] at hst
          refine iL C hl 4 dX0_total_53 rfl ?_
          refine iLn C hl 1 dX0_total_55 rfl rfl ?_
          refine iLn C hl 3 dX0_total_56 rfl rfl ?_
          refine oMul C dX0_total_57 ?_
          refine oAdd C dX0_total_58 ?_
          refine iSn (lv' := [(0, .ref h), (1, .int (jI x)), (2, .int (jI (mC P (t : Int) + x * (t : Int)))), (3, .int (jI (t : Int))), (4, .int (jI (mC P (t : Int))))]) C hl dX0_total_59 [1, 2, 0, 3, 4] rfl (by decide) rfl (fun ls hl => ?_)
          refine iInc (lv' := [(0, .ref h), (1, .int (jI x)), (2, .int (jI (mC P (t : Int) + x * (t : Int)))), (3, .int (jI ((t + 1 : Nat) : Int))), (4, .int (jI (mC P (t : Int))))]) C hl 3 dX0_total_60 [1, 2, 3, 0, 4] rfl (by decide) rfl (fun ls hl => ?_)
          refine gTo C 21 dX0_total_63 (by decide) ?_
          exact ih (t + 1) (by omega) (by omega) H locs ls w (by rw [hst]; exact lv_sub hl [0, 1, 2, 3] rfl)
        · refine iL C hl 4 dX0_total_43 rfl ?_
          refine iLn C hl 1 dX0_total_45 rfl rfl ?_
          refine iLn C hl 3 dX0_total_46 rfl rfl ?_
          refine oMul C dX0_total_47 ?_
          refine oAdd C dX0_total_48 ?_
          refine iLn C hl 2 dX0_total_49 rfl rfl ?_
          refine cGe C 60 dX0_total_50 (by decide) ⟨⟨by omega, by omega⟩, ⟨by omega, by omega⟩⟩ (fun c50 => ?_) (fun c50 => ?_)
          · rw [if_neg (by omega)] at hst
            refine iInc (lv' := [(0, .ref h), (1, .int (jI x)), (2, .int (jI (tl (mC P) x t))), (3, .int (jI ((t + 1 : Nat) : Int))), (4, .int (jI (mC P (t : Int))))]) C hl 3 dX0_total_60 [1, 2, 3, 0, 4] rfl (by decide) rfl (fun ls hl => ?_)
            refine gTo C 21 dX0_total_63 (by decide) ?_
            exact ih (t + 1) (by omega) (by omega) H locs ls w (by rw [hst]; exact lv_sub hl [0, 1, 2, 3] rfl)
          · rw [if_pos (by omega)] at hst
            refine iL C hl 4 dX0_total_53 rfl ?_
            refine iLn C hl 1 dX0_total_55 rfl rfl ?_
            refine iLn C hl 3 dX0_total_56 rfl rfl ?_
            refine oMul C dX0_total_57 ?_
            refine oAdd C dX0_total_58 ?_
            refine iSn (lv' := [(0, .ref h), (1, .int (jI x)), (2, .int (jI (mC P (t : Int) + x * (t : Int)))), (3, .int (jI (t : Int))), (4, .int (jI (mC P (t : Int))))]) C hl dX0_total_59 [1, 2, 0, 3, 4] rfl (by decide) rfl (fun ls hl => ?_)
            refine iInc (lv' := [(0, .ref h), (1, .int (jI x)), (2, .int (jI (mC P (t : Int) + x * (t : Int)))), (3, .int (jI ((t + 1 : Nat) : Int))), (4, .int (jI (mC P (t : Int))))]) C hl 3 dX0_total_60 [1, 2, 3, 0, 4] rfl (by decide) rfl (fun ls hl => ?_)
            refine gTo C 21 dX0_total_63 (by decide) ?_
            exact ih (t + 1) (by omega) (by omega) H locs ls w (by rw [hst]; exact lv_sub hl [0, 1, 2, 3] rfl)
set_option maxHeartbeats 4000000 in
set_option maxRecDepth 100000 in
theorem m_total (l : Launch) (D : va_G) (cI cZ : ClassId) (h : Nat) (a : Nat → Nat) (P : Pj) (f : Nat → Int) (st : BS) (kn : Bool) (K : Nat) (g12 g13 : Nat → Int) (hp : pok P) (hk : kn = true → wok P K g12 g13) (x : Int) (hx : jb x) : MI l yX0_total cX0_total 5 (some .int) 4 93 D cI cZ (wP h a cI cZ P f st kn (K : Int) g12 g13) [.ref h, .int (jI x)] (fun r (u : SP) => r = jI (tov P x) ∧ okV P u) (fun u => wV h a cI cZ P u) := by
  refine mi_of (by decide) (Nat.le_of_ble_eq_true rfl) ?_
  intro p e s m below meth c A ls C hr w hl
  have hl : lv_has ls 5 [(0, .ref h), (1, .int (jI x))] := hl
  have hx1 := hx.1
  have hx2 := hx.2
  refine iLn C hl 1 dX0_total_0 rfl rfl ?_
  refine zLt C 11 dX0_total_1 (by decide) ⟨by omega, by omega⟩ (fun c1 => ?_) (fun c1 => ?_)
  · refine kC C dX0_total_11 ?_
    exact retI (kn, f, st, K, g12, g13) C hr w dX0_total_12 ⟨by rw [tov, if_pos (by omega)], hk⟩
  · refine iLn C hl 1 dX0_total_4 rfl rfl ?_
    refine kS C dX0_total_5 (by decide) ?_
    refine cLe C 13 dX0_total_8 (by decide) ⟨⟨by omega, by omega⟩, ⟨by omega, by omega⟩⟩ (fun c8 => ?_) (fun c8 => ?_)
    · refine aLn C hl 0 dX0_total_13 rfl rfl ?_
      refine cpV (n := 0) C w hl dX0_total_14 (m_sendAll l D cI cZ h a P f st kn K g12 g13 hp hk) (lw_V q84 q86 qs0 q13 q87) (by decide +kernel) ⟨Nat.le_of_ble_eq_true rfl, Nat.le_of_ble_eq_true rfl⟩ rfl rfl rfl rfl rfl (Nat.le_of_ble_eq_true rfl) ⟨Nat.le_refl 0, Nat.le_refl 0⟩ (fun u H locs hz w => ?_)
      obtain ⟨f, st, K, g12, g13⟩ := u
      have hw : wok P K g12 g13 := hz
      have hwb := wok_b hp hw
      have w : Wd D A s.heap (wP h a cI cZ P f st true (K : Int) g12 g13) H locs := w
      refine kC C dX0_total_17 ?_
      refine iSn (lv' := [(0, .ref h), (1, .int (jI x)), (2, .int (jI (-1)))]) C hl dX0_total_18 [1, 2, 0] rfl (by decide) rfl (fun ls hl => ?_)
      refine kC C dX0_total_19 ?_
      refine iSn (lv' := [(0, .ref h), (1, .int (jI x)), (2, .int (jI (-1))), (3, .int (jI ((0 : Nat) : Int)))]) C hl dX0_total_20 [1, 2, 3, 0] rfl (by decide) rfl (fun ls hl => ?_)
      refine lpT C h a P f st K g12 g13 hp hw (x := x) ⟨by omega, by omega⟩ (fun H locs ls w hl => ?_) 47 0 (by omega) (by omega) H locs ls w hl
      refine iLn C hl 0 dX0_total_66 rfl rfl ?_
      exact retI (true, f, st, K, g12, g13) C hr w dX0_total_67 ⟨by rw [tov, if_neg (by omega)]; exact congrArg jI (tl_46 (C := mC P) (d := x) (by omega) (fun T hT => mC_45 hp hT) 18).1.symm, fun _ => hw⟩
    · refine kC C dX0_total_11 ?_
      exact retI (kn, f, st, K, g12, g13) C hr w dX0_total_12 ⟨by rw [tov, if_pos (by omega)], hk⟩
end
section
/-! BOTH 1: what add, drop and price make of a project -/
def okA (P : Pj) (x1 x2 x3 x4 x5 : Int) : Prop := jn P < 7 ∧ 0 ≤ x1 ∧ x1 < x2 ∧ x2 ≤ 5 ∧ 0 ≤ x4 ∧ x4 ≤ x3 ∧ x3 ≤ 9 ∧ x3 - x4 ≤ 3 ∧ 1 ≤ x5 ∧ x5 ≤ 20
def addP (P : Pj) (x1 x2 x3 x4 x5 : Int) : Pj := (jn P + 1, uu (jf P) (jn P) x1.toNat, uu (jt P) (jn P) x2.toNat, uu (js P) (jn P) x3, uu (ja P) (jn P) x4, uu (jp P) (jn P) x5)
/-- one place less from k on, as far as n -/
def sh {α : Type} (g : Nat → α) (k n : Nat) : Nat → α := fun j => if k ≤ j ∧ j < n then g (j + 1) else g j
def dP (P : Pj) (k n : Nat) : Pj := (jn P - 1, sh (jf P) k n, sh (jt P) k n, sh (js P) k n, sh (ja P) k n, sh (jp P) k n)
def priP (P : Pj) (k : Nat) (x : Int) : Pj := (jn P, jf P, jt P, js P, ja P, uu (jp P) k x)
theorem uu_c (g : Nat → Nat) (k y : Nat) : uu (fun j => (g j : Int)) k (y : Int) = fun j => ((uu g k y j : Nat) : Int) := by
  funext j
  simp only [uu]
  split <;> rfl
theorem uu_c1 {g : Nat → Nat} {k : Nat} {x : Int} (hx : 0 ≤ x) : uu (fun j => (g j : Int)) k x = fun j => ((uu g k x.toNat j : Nat) : Int) := by
  rw [← uu_c, Int.toNat_of_nonneg hx]
theorem sh_s {α : Type} (g : Nat → α) {k n : Nat} (h : k ≤ n) : uu (sh g k n) n (sh g k n (n + 1)) = sh g k (n + 1) := by
  funext j
  simp only [uu, sh]
  by_cases q : j = n
  · subst q
    rw [if_pos rfl, if_neg (by omega), if_pos (by omega)]
  · rw [if_neg q]
    by_cases z : k ≤ j ∧ j < n
    · rw [if_pos z, if_pos (by omega)]
    · rw [if_neg z, if_neg (by omega)]
theorem sh_0 {α : Type} (g : Nat → α) (k : Nat) : sh g k k = g := by
  funext j
  simp only [sh]
  rw [if_neg (by omega)]
theorem sh_c (g : Nat → Nat) {k n : Nat} (h : k ≤ n) : uu (fun j => ((sh g k n j : Nat) : Int)) n ((sh g k n (n + 1) : Nat) : Int) = fun j => ((sh g k (n + 1) j : Nat) : Int) := by
  rw [uu_c, sh_s g h]
theorem addP_ok {P : Pj} {x1 x2 x3 x4 x5 : Int} (hp : pok P) (h : okA P x1 x2 x3 x4 x5) : pok (addP P x1 x2 x3 x4 x5) := by
  obtain ⟨h0, h1, h2, h3, h4, h5, h6, h7, h8, h9⟩ := h
  refine ⟨show jn P + 1 ≤ 7 by omega, fun j hj => ?_⟩
  have hj : j < jn P + 1 := hj
  by_cases q : j = jn P
  · subst q
    simp only [jok, addP, jf, jt, js, ja, jp, jn, uu_s]
    omega
  · have h := hp.2 j (by omega)
    simp only [jok] at h ⊢
    have e1 : jf (addP P x1 x2 x3 x4 x5) j = jf P j := uu_n q
    have e2 : jt (addP P x1 x2 x3 x4 x5) j = jt P j := uu_n q
    have e3 : js (addP P x1 x2 x3 x4 x5) j = js P j := uu_n q
    have e4 : ja (addP P x1 x2 x3 x4 x5) j = ja P j := uu_n q
    have e5 : jp (addP P x1 x2 x3 x4 x5) j = jp P j := uu_n q
    rw [e1, e2, e3, e4, e5]
    exact h
theorem dP_ok {P : Pj} {k : Nat} (hp : pok P) (h : k < jn P) : pok (dP P k (jn P - 1)) := by
  refine ⟨show jn P - 1 ≤ 7 by have := hp.1; omega, fun j hj => ?_⟩
  have hj : j < jn P - 1 := hj
  by_cases q : k ≤ j
  · have h := hp.2 (j + 1) (by omega)
    have e1 : jf (dP P k (jn P - 1)) j = jf P (j + 1) := if_pos ⟨q, hj⟩
    have e2 : jt (dP P k (jn P - 1)) j = jt P (j + 1) := if_pos ⟨q, hj⟩
    have e3 : js (dP P k (jn P - 1)) j = js P (j + 1) := if_pos ⟨q, hj⟩
    have e4 : ja (dP P k (jn P - 1)) j = ja P (j + 1) := if_pos ⟨q, hj⟩
    have e5 : jp (dP P k (jn P - 1)) j = jp P (j + 1) := if_pos ⟨q, hj⟩
    simp only [jok] at h ⊢
    rw [e1, e2, e3, e4, e5]
    exact h
  · have h := hp.2 j (by omega)
    have z : ¬ (k ≤ j ∧ j < jn P - 1) := fun w => q w.1
    have e1 : jf (dP P k (jn P - 1)) j = jf P j := if_neg z
    have e2 : jt (dP P k (jn P - 1)) j = jt P j := if_neg z
    have e3 : js (dP P k (jn P - 1)) j = js P j := if_neg z
    have e4 : ja (dP P k (jn P - 1)) j = ja P j := if_neg z
    have e5 : jp (dP P k (jn P - 1)) j = jp P j := if_neg z
    simp only [jok] at h ⊢
    rw [e1, e2, e3, e4, e5]
    exact h
theorem priP_ok {P : Pj} {k : Nat} {x : Int} (hp : pok P) (h : k < jn P) (hx : 1 ≤ x ∧ x ≤ 20) : pok (priP P k x) := by
  refine ⟨hp.1, fun j hj => ?_⟩
  have h := hp.2 j hj
  simp only [jok] at h ⊢
  have e5 : jp (priP P k x) j = uu (jp P) k x j := rfl
  refine ⟨h.1, h.2.1, h.2.2.1, h.2.2.2.1, h.2.2.2.2.1, h.2.2.2.2.2.1, ?_, ?_⟩
  · rw [e5, uu_at]
    split
    · exact hx.1
    · exact h.2.2.2.2.2.2.1
  · rw [e5, uu_at]
    split
    · exact hx.2
    · exact h.2.2.2.2.2.2.2
/-- what add, drop and price answer and leave: r, P' -/
def qA (P : Pj) (x1 x2 x3 x4 x5 : Int) (r : Int32) (P' : Pj) : Prop := (okA P x1 x2 x3 x4 x5 ∧ r = jI ((jn P + 1 : Nat) : Int) ∧ P' = addP P x1 x2 x3 x4 x5) ∨ (¬ okA P x1 x2 x3 x4 x5 ∧ r = jI (-1) ∧ P' = P)
def qD (P : Pj) (x : Int) (r : Int32) (P' : Pj) : Prop := (0 ≤ x ∧ x < jn P ∧ r = jI ((jn P - 1 : Nat) : Int) ∧ P' = dP P x.toNat (jn P - 1)) ∨ (¬ (0 ≤ x ∧ x < jn P) ∧ r = jI (-1) ∧ P' = P)
def qP (P : Pj) (x1 x2 : Int) (r : Int32) (P' : Pj) : Prop := ((0 ≤ x1 ∧ x1 < jn P ∧ 1 ≤ x2 ∧ x2 ≤ 20) ∧ r = jI (jp P x1.toNat) ∧ P' = priP P x1.toNat x2) ∨ (¬ (0 ≤ x1 ∧ x1 < jn P ∧ 1 ≤ x2 ∧ x2 ≤ 20) ∧ r = jI (-1) ∧ P' = P)
theorem qA_one {P P1 P2 : Pj} {x1 x2 x3 x4 x5 : Int} {r1 r2 : Int32} (hp : pok P) (h1 : qA P x1 x2 x3 x4 x5 r1 P1) (h2 : qA P x1 x2 x3 x4 x5 r2 P2) : r1 = r2 ∧ P1 = P2 ∧ pok P1 := by
  rcases h1 with ⟨a, b, c⟩ | ⟨a, b, c⟩ <;> rcases h2 with ⟨d, e, f⟩ | ⟨d, e, f⟩
  · exact ⟨b.trans e.symm, c.trans f.symm, by rw [c]; exact addP_ok hp a⟩
  · exact absurd a d
  · exact absurd d a
  · exact ⟨b.trans e.symm, c.trans f.symm, by rw [c]; exact hp⟩
theorem qD_one {P P1 P2 : Pj} {x : Int} {r1 r2 : Int32} (hp : pok P) (h1 : qD P x r1 P1) (h2 : qD P x r2 P2) : r1 = r2 ∧ P1 = P2 ∧ pok P1 := by
  rcases h1 with ⟨a, a', b, c⟩ | ⟨a, b, c⟩ <;> rcases h2 with ⟨d, d', e, f⟩ | ⟨d, e, f⟩
  · exact ⟨b.trans e.symm, c.trans f.symm, by rw [c]; exact dP_ok hp (by omega)⟩
  · exact absurd ⟨a, a'⟩ d
  · exact absurd ⟨d, d'⟩ a
  · exact ⟨b.trans e.symm, c.trans f.symm, by rw [c]; exact hp⟩
theorem qP_one {P P1 P2 : Pj} {x1 x2 : Int} {r1 r2 : Int32} (hp : pok P) (h1 : qP P x1 x2 r1 P1) (h2 : qP P x1 x2 r2 P2) : r1 = r2 ∧ P1 = P2 ∧ pok P1 := by
  rcases h1 with ⟨a, b, c⟩ | ⟨a, b, c⟩ <;> rcases h2 with ⟨d, e, f⟩ | ⟨d, e, f⟩
  · exact ⟨b.trans e.symm, c.trans f.symm, by rw [c]; exact priP_ok hp (by omega) a.2.2⟩
  · exact absurd a d
  · exact absurd d a
  · exact ⟨b.trans e.symm, c.trans f.symm, by rw [c]; exact hp⟩
set_option maxHeartbeats 4000000 in
set_option maxRecDepth 100000 in
theorem mX0_add (l : Launch) (D : va_G) (cI cZ : ClassId) (h : Nat) (a : Nat → Nat) (P : Pj) (f : Nat → Int) (st : BS) (kn : Bool) (K : Nat) (g12 g13 : Nat → Int) (hp : pok P) (hk : kn = true → wok P K g12 g13) (x1 x2 x3 x4 x5 : Int) (hx1 : jb x1) (hx2 : jb x2) (hx3 : jb x3) (hx4 : jb x4) (hx5 : jb x5) : MI l yX0_add cX0_add 8 (some .int) 0 0 D cI cZ (wP h a cI cZ P f st kn (K : Int) g12 g13) [.ref h, .int (jI x1), .int (jI x2), .int (jI x3), .int (jI x4), .int (jI x5)] (fun r (u : Pj × SP) => qA P x1 x2 x3 x4 x5 r u.1 ∧ okV u.1 u.2) (fun u => wV h a cI cZ u.1 u.2) := by
  refine mi_of (by decide) (Nat.le_of_ble_eq_true rfl) ?_
  intro p e s m below meth c A ls C hr w hl
  have h7 := hp.1
  have a1 := hx1.1
  have a2 := hx1.2
  have b1 := hx2.1
  have b2 := hx2.2
  have f1 := hx3.1
  have f2 := hx3.2
  have d1 := hx4.1
  have d2 := hx4.2
  have e1 := hx5.1
  have e2 := hx5.2
  have hl : lv_has ls 8 [(0, .ref h), (1, .int (jI x1)), (2, .int (jI x2)), (3, .int (jI x3)), (4, .int (jI x4)), (5, .int (jI x5))] := hl
  obtain ⟨ev, hev⟩ : ∃ b, b = decide (0 ≤ x1 ∧ x1 < x2 ∧ x2 ≤ 5) := ⟨_, rfl⟩
  obtain ⟨tt, htt⟩ : ∃ b, b = decide (0 ≤ x4 ∧ x4 ≤ x3 ∧ x3 ≤ 9 ∧ x3 - x4 ≤ 3) := ⟨_, rfl⟩
  refine Wcut (g2 := F0 m 19 ls [.int (bI ev)]) ?_ (fun k19 => ?_)
  · refine iS (lv' := [(0, .ref h), (1, .int (jI x1)), (2, .int (jI x2)), (3, .int (jI x3)), (4, .int (jI x4)), (5, .int (jI x5)), (6, .int (bI ev))]) C hl dX0_add_19 [1, 2, 3, 4, 5, 6, 0] (by decide) rfl (fun ls hl => ?_)
    refine Wcut (g2 := F0 m 51 ls [.int (bI tt)]) ?_ (fun k51 => ?_)
    · refine iS (lv' := [(0, .ref h), (1, .int (jI x1)), (2, .int (jI x2)), (3, .int (jI x3)), (4, .int (jI x4)), (5, .int (jI x5)), (6, .int (bI ev)), (7, .int (bI tt))]) C hl dX0_add_51 [1, 2, 3, 4, 5, 6, 7, 0] (by decide) rfl (fun ls hl => ?_)
      refine aLn C hl 0 dX0_add_53 rfl rfl ?_
      refine gX C w 0 0 dX0_add_54 q23 rfl (by decide) rfl rfl ?_
      refine kB C dX0_add_57 (by decide) ?_
      refine cGe C 85 dX0_add_59 (by decide) ⟨⟨by omega, by omega⟩, ⟨by omega, by omega⟩⟩ (fun c59 => ?_) (fun c59 => ?_)
      · refine kC C dX0_add_85 ?_
        exact retI (P, (kn, f, st, K, g12, g13)) C hr w dX0_add_86 ⟨Or.inr ⟨fun q => by have z := q.1; omega, rfl, rfl⟩, hk⟩
      · refine iL C hl 6 dX0_add_62 rfl ?_
        refine bEq C 85 dX0_add_64 (by decide) (fun c64 => ?_) (fun c64 => ?_)
        · refine kC C dX0_add_85 ?_
          exact retI (P, (kn, f, st, K, g12, g13)) C hr w dX0_add_86 ⟨Or.inr ⟨fun q => by rw [hev] at c64; exact of_decide_eq_false c64 ⟨q.2.1, q.2.2.1, q.2.2.2.1⟩, rfl, rfl⟩, hk⟩
        · refine iL C hl 7 dX0_add_67 rfl ?_
          refine bEq C 85 dX0_add_69 (by decide) (fun c69 => ?_) (fun c69 => ?_)
          · refine kC C dX0_add_85 ?_
            exact retI (P, (kn, f, st, K, g12, g13)) C hr w dX0_add_86 ⟨Or.inr ⟨fun q => by rw [htt] at c69; exact of_decide_eq_false c69 ⟨q.2.2.2.2.1, q.2.2.2.2.2.1, q.2.2.2.2.2.2.1, q.2.2.2.2.2.2.2.1⟩, rfl, rfl⟩, hk⟩
          · refine iL C hl 5 dX0_add_72 rfl ?_
            refine kC C dX0_add_74 ?_
            refine cLt C 85 dX0_add_75 (by decide) ⟨⟨by omega, by omega⟩, ⟨by omega, by omega⟩⟩ (fun c75 => ?_) (fun c75 => ?_)
            · refine kC C dX0_add_85 ?_
              exact retI (P, (kn, f, st, K, g12, g13)) C hr w dX0_add_86 ⟨Or.inr ⟨fun q => by have z := q.2.2.2.2.2.2.2.2.1; omega, rfl, rfl⟩, hk⟩
            · refine iL C hl 5 dX0_add_78 rfl ?_
              refine kB C dX0_add_80 (by decide) ?_
              refine cLe C 87 dX0_add_82 (by decide) ⟨⟨by omega, by omega⟩, ⟨by omega, by omega⟩⟩ (fun c82 => ?_) (fun c82 => ?_)
              · rw [htt] at c69
                rw [hev] at c64
                have c69 := of_decide_eq_true c69
                have c64 := of_decide_eq_true c64
                have hok : okA P x1 x2 x3 x4 x5 := ⟨by omega, by omega, by omega, by omega, by omega, by omega, by omega, by omega, by omega, by omega⟩
                refine aLn C hl 0 dX0_add_87 rfl rfl ?_
                refine gX C w 0 1 dX0_add_88 q24 rfl (by decide) rfl rfl ?_
                refine aLn C hl 0 dX0_add_91 rfl rfl ?_
                refine gX C w 0 0 dX0_add_92 q23 rfl (by decide) rfl rfl ?_
                refine iLn C hl 1 dX0_add_95 rfl rfl ?_
                refine wrA (ws' := (wX h a cI cZ ((jn P : Nat) : Int) (uu (fun j => ((jf P j : Nat) : Int)) (jn P) x1) (fun j => ((jt P j : Nat) : Int)) (js P) (ja P) (jp P) f st.2.1 st.1 st.2.2 kn (K : Int) g12 g13)) C w 1 dX0_add_96 rfl (by omega) (by decide) rfl (fun H locs w => ?_)
                refine aLn C hl 0 dX0_add_97 rfl rfl ?_
                refine gX C w 0 2 dX0_add_98 q25 rfl (by decide) rfl rfl ?_
                refine aLn C hl 0 dX0_add_101 rfl rfl ?_
                refine gX C w 0 0 dX0_add_102 q23 rfl (by decide) rfl rfl ?_
                refine iLn C hl 2 dX0_add_105 rfl rfl ?_
                refine wrA (ws' := (wX h a cI cZ ((jn P : Nat) : Int) (uu (fun j => ((jf P j : Nat) : Int)) (jn P) x1) (uu (fun j => ((jt P j : Nat) : Int)) (jn P) x2) (js P) (ja P) (jp P) f st.2.1 st.1 st.2.2 kn (K : Int) g12 g13)) C w 2 dX0_add_106 rfl (by omega) (by decide) rfl (fun H locs w => ?_)
                refine aLn C hl 0 dX0_add_107 rfl rfl ?_
                refine gX C w 0 3 dX0_add_108 q26 rfl (by decide) rfl rfl ?_
                refine aLn C hl 0 dX0_add_111 rfl rfl ?_
                refine gX C w 0 0 dX0_add_112 q23 rfl (by decide) rfl rfl ?_
                refine iLn C hl 3 dX0_add_115 rfl rfl ?_
                refine wrA (ws' := (wX h a cI cZ ((jn P : Nat) : Int) (uu (fun j => ((jf P j : Nat) : Int)) (jn P) x1) (uu (fun j => ((jt P j : Nat) : Int)) (jn P) x2) (uu (js P) (jn P) x3) (ja P) (jp P) f st.2.1 st.1 st.2.2 kn (K : Int) g12 g13)) C w 3 dX0_add_116 rfl (by omega) (by decide) rfl (fun H locs w => ?_)
                refine aLn C hl 0 dX0_add_117 rfl rfl ?_
                refine gX C w 0 4 dX0_add_118 q27 rfl (by decide) rfl rfl ?_
                refine aLn C hl 0 dX0_add_121 rfl rfl ?_
                refine gX C w 0 0 dX0_add_122 q23 rfl (by decide) rfl rfl ?_
                refine iL C hl 4 dX0_add_125 rfl ?_
                refine wrA (ws' := (wX h a cI cZ ((jn P : Nat) : Int) (uu (fun j => ((jf P j : Nat) : Int)) (jn P) x1) (uu (fun j => ((jt P j : Nat) : Int)) (jn P) x2) (uu (js P) (jn P) x3) (uu (ja P) (jn P) x4) (jp P) f st.2.1 st.1 st.2.2 kn (K : Int) g12 g13)) C w 4 dX0_add_127 rfl (by omega) (by decide) rfl (fun H locs w => ?_)
                refine aLn C hl 0 dX0_add_128 rfl rfl ?_
                refine gX C w 0 5 dX0_add_129 q28 rfl (by decide) rfl rfl ?_
                refine aLn C hl 0 dX0_add_132 rfl rfl ?_
                refine gX C w 0 0 dX0_add_133 q23 rfl (by decide) rfl rfl ?_
                refine iL C hl 5 dX0_add_136 rfl ?_
                refine wrA (ws' := (wX h a cI cZ ((jn P : Nat) : Int) (uu (fun j => ((jf P j : Nat) : Int)) (jn P) x1) (uu (fun j => ((jt P j : Nat) : Int)) (jn P) x2) (uu (js P) (jn P) x3) (uu (ja P) (jn P) x4) (uu (jp P) (jn P) x5) f st.2.1 st.1 st.2.2 kn (K : Int) g12 g13)) C w 5 dX0_add_138 rfl (by omega) (by decide) rfl (fun H locs w => ?_)
                refine aLn C hl 0 dX0_add_139 rfl rfl ?_
                refine lv_dup C.1 C.2.1 dX0_add_140 rfl ?_
                refine gX C w 0 0 dX0_add_141 q23 rfl (by decide) rfl rfl ?_
                refine kC C dX0_add_144 ?_
                refine oAdd C dX0_add_145 ?_
                refine pX (ty := .int) (ws' := (wX h a cI cZ ((jn P + 1 : Nat) : Int) (uu (fun j => ((jf P j : Nat) : Int)) (jn P) x1) (uu (fun j => ((jt P j : Nat) : Int)) (jn P) x2) (uu (js P) (jn P) x3) (uu (ja P) (jn P) x4) (uu (jp P) (jn P) x5) f st.2.1 st.1 st.2.2 kn (K : Int) g12 g13)) C w 0 0 dX0_add_146 q23 rfl (by decide) rfl rfl (by decide +kernel) rfl rfl (Nat.le_of_ble_eq_true rfl) rfl (fun H locs w => ?_)
                refine aLn C hl 0 dX0_add_149 rfl rfl ?_
                refine kC C dX0_add_150 ?_
                refine tpi bI_f ?_
                refine pX (ty := .boolean) (ws' := (wX h a cI cZ ((jn P + 1 : Nat) : Int) (uu (fun j => ((jf P j : Nat) : Int)) (jn P) x1) (uu (fun j => ((jt P j : Nat) : Int)) (jn P) x2) (uu (js P) (jn P) x3) (uu (ja P) (jn P) x4) (uu (jp P) (jn P) x5) f st.2.1 st.1 st.2.2 false (K : Int) g12 g13)) C w 0 10 dX0_add_151 q33 rfl (by decide) rfl rfl (by decide +kernel) rfl rfl (Nat.le_of_ble_eq_true rfl) rfl (fun H locs w => ?_)
                refine aLn C hl 0 dX0_add_154 rfl rfl ?_
                refine gX C w 0 0 dX0_add_155 q23 rfl (by decide) rfl rfl ?_
                have u1 := uu_c1 (g := jf P) (k := jn P) hok.2.1
                have u2 := uu_c1 (g := jt P) (k := jn P) (show 0 ≤ x2 by omega)
                exact retI (addP P x1 x2 x3 x4 x5, (false, f, st, K, g12, g13)) C hr (wd_eq w (by rw [u1, u2] <;> rfl)) dX0_add_158 ⟨Or.inl ⟨hok, rfl, rfl⟩, fun q => absurd (show false = true from q) (by decide)⟩
              · refine kC C dX0_add_85 ?_
                exact retI (P, (kn, f, st, K, g12, g13)) C hr w dX0_add_86 ⟨Or.inr ⟨fun q => by have z := q.2.2.2.2.2.2.2.2.2; omega, rfl, rfl⟩, hk⟩
    · refine iL C hl 4 dX0_add_21 rfl ?_
      refine zLt C 50 dX0_add_23 (by decide) ⟨by omega, by omega⟩ (fun c23 => ?_) (fun c23 => ?_)
      · refine kC C dX0_add_50 ?_
        refine tpi (show _ = bI tt from by rw [htt, decide_eq_false (by omega)]; rfl) ?_
        exact k51
      · refine iL C hl 4 dX0_add_26 rfl ?_
        refine iLn C hl 3 dX0_add_28 rfl rfl ?_
        refine cGt C 50 dX0_add_29 (by decide) ⟨⟨by omega, by omega⟩, ⟨by omega, by omega⟩⟩ (fun c29 => ?_) (fun c29 => ?_)
        · refine kC C dX0_add_50 ?_
          refine tpi (show _ = bI tt from by rw [htt, decide_eq_false (by omega)]; rfl) ?_
          exact k51
        · refine iLn C hl 3 dX0_add_32 rfl rfl ?_
          refine kB C dX0_add_33 (by decide) ?_
          refine cGt C 50 dX0_add_35 (by decide) ⟨⟨by omega, by omega⟩, ⟨by omega, by omega⟩⟩ (fun c35 => ?_) (fun c35 => ?_)
          · refine kC C dX0_add_50 ?_
            refine tpi (show _ = bI tt from by rw [htt, decide_eq_false (by omega)]; rfl) ?_
            exact k51
          · refine iLn C hl 3 dX0_add_38 rfl rfl ?_
            refine iL C hl 4 dX0_add_39 rfl ?_
            refine oSub C dX0_add_41 ?_
            refine kC C dX0_add_42 ?_
            refine cGt C 50 dX0_add_43 (by decide) ⟨⟨by omega, by omega⟩, ⟨by omega, by omega⟩⟩ (fun c43 => ?_) (fun c43 => ?_)
            · refine kC C dX0_add_50 ?_
              refine tpi (show _ = bI tt from by rw [htt, decide_eq_false (by omega)]; rfl) ?_
              exact k51
            · refine kC C dX0_add_46 ?_
              refine gTo C 51 dX0_add_47 (by decide) ?_
              refine tpi (show _ = bI tt from by rw [htt, decide_eq_true (by omega)]; rfl) ?_
              exact k51
  · refine iLn C hl 1 dX0_add_0 rfl rfl ?_
    refine zLt C 18 dX0_add_1 (by decide) ⟨by omega, by omega⟩ (fun c1 => ?_) (fun c1 => ?_)
    · refine kC C dX0_add_18 ?_
      refine tpi (show _ = bI ev from by rw [hev, decide_eq_false (by omega)]; rfl) ?_
      exact k19
    · refine iLn C hl 1 dX0_add_4 rfl rfl ?_
      refine iLn C hl 2 dX0_add_5 rfl rfl ?_
      refine cGe C 18 dX0_add_6 (by decide) ⟨⟨by omega, by omega⟩, ⟨by omega, by omega⟩⟩ (fun c6 => ?_) (fun c6 => ?_)
      · refine kC C dX0_add_18 ?_
        refine tpi (show _ = bI ev from by rw [hev, decide_eq_false (by omega)]; rfl) ?_
        exact k19
      · refine iLn C hl 2 dX0_add_9 rfl rfl ?_
        refine kC C dX0_add_10 ?_
        refine cGt C 18 dX0_add_11 (by decide) ⟨⟨by omega, by omega⟩, ⟨by omega, by omega⟩⟩ (fun c11 => ?_) (fun c11 => ?_)
        · refine kC C dX0_add_18 ?_
          refine tpi (show _ = bI ev from by rw [hev, decide_eq_false (by omega)]; rfl) ?_
          exact k19
        · refine kC C dX0_add_14 ?_
          refine gTo C 19 dX0_add_15 (by decide) ?_
          refine tpi (show _ = bI ev from by rw [hev, decide_eq_true (by omega)]; rfl) ?_
          exact k19
set_option maxHeartbeats 4000000 in
set_option maxRecDepth 100000 in
theorem lpX0_drop {p : Program} {l : Launch} {e : Env} {s : State} {m : MethodId} {args : Array Value} {below : List Frame} {meth : Method} {c : Code} {Q : State → Prop} {D : va_G} {A : Nat → Prop} {H0 : Heap} {cI cZ : ClassId} (C : Cx p s m meth c cX0_drop 3 args RX0 D cI cZ) (h : Nat) (a : Nat → Nat) (P : Pj) (f : Nat → Int) (st : BS) (kn : Bool) (K : Nat) (g12 g13 : Nat → Int) (hp : pok P) {k : Nat} (hk : k < jn P)
    (kx : ∀ (H : Heap) (locs : List Loc) (ls : Array Slot), Wd D A H0 (wP h a cI cZ (dP P k (jn P - 1)) f st kn (K : Int) g12 g13) H locs → lv_has ls 3 [(0, .ref h)] → W p l e (rmo 0 0) s m args below meth c H locs 0 0 Q (F0 m 110 ls [])) :
    ∀ (x j : Nat), k ≤ j → j ≤ jn P - 1 → jn P - 1 < j + x → ∀ (H : Heap) (locs : List Loc) (ls : Array Slot), Wd D A H0 (wP h a cI cZ (dP P k j) f st kn (K : Int) g12 g13) H locs → lv_has ls 3 [(0, .ref h), (2, .int (jI (j : Int)))] → W p l e (rmo 0 0) s m args below meth c H locs 0 0 Q (F0 m 26 ls []) := by
  have h7 := hp.1
  intro x
  induction x with
  | zero => intro j h0 h1 h2; omega
  | succ x ih =>
    intro j h0 h1 h2 H locs ls w hl
    refine iLn C hl 1 dX0_drop_26 rfl rfl ?_
    refine aLn C hl 0 dX0_drop_27 rfl rfl ?_
    refine gX C w 0 0 dX0_drop_28 q23 rfl (by decide) rfl rfl ?_
    refine cGe C 110 dX0_drop_31 (by decide) ⟨⟨by omega, by omega⟩, show jb ((jn P - 1 : Nat) : Int) from ⟨by omega, by omega⟩⟩ (fun c31 => ?_) (fun c31 => ?_)
    · have hj : j = jn P - 1 := by have : ((jn P - 1 : Nat) : Int) ≤ (j : Int) := c31; omega
      subst hj
      exact kx H locs ls w (lv_sub hl [0] rfl)
    · have hjl : j < jn P - 1 := by have : (j : Int) < ((jn P - 1 : Nat) : Int) := c31; omega
      refine aLn C hl 0 dX0_drop_34 rfl rfl ?_
      refine gX C w 0 1 dX0_drop_35 q24 rfl (by decide) rfl rfl ?_
      refine iLn C hl 1 dX0_drop_38 rfl rfl ?_
      refine aLn C hl 0 dX0_drop_39 rfl rfl ?_
      refine gX C w 0 1 dX0_drop_40 q24 rfl (by decide) rfl rfl ?_
      refine iLn C hl 1 dX0_drop_43 rfl rfl ?_
      refine kC C dX0_drop_44 ?_
      refine oAdd C dX0_drop_45 ?_
      refine tpi (show _ = jI ((j + 1 : Nat) : Int) from rfl) ?_
      refine rdA C w 1 dX0_drop_46 rfl (by omega) (by decide) ?_
      refine tpi (show _ = jI ((sh (jf P) k j (j + 1) : Nat) : Int) from rfl) ?_
      refine wrA (ws' := (wX h a cI cZ ((jn P - 1 : Nat) : Int) (uu (fun i => ((sh (jf P) k j i : Nat) : Int)) j ((sh (jf P) k j (j + 1) : Nat) : Int)) (fun i => ((sh (jt P) k j i : Nat) : Int)) (sh (js P) k j) (sh (ja P) k j) (sh (jp P) k j) f st.2.1 st.1 st.2.2 kn (K : Int) g12 g13)) C w 1 dX0_drop_47 rfl (by omega) (by decide) rfl (fun H locs w => ?_)
      refine aLn C hl 0 dX0_drop_48 rfl rfl ?_
      refine gX C w 0 2 dX0_drop_49 q25 rfl (by decide) rfl rfl ?_
      refine iLn C hl 1 dX0_drop_52 rfl rfl ?_
      refine aLn C hl 0 dX0_drop_53 rfl rfl ?_
      refine gX C w 0 2 dX0_drop_54 q25 rfl (by decide) rfl rfl ?_
      refine iLn C hl 1 dX0_drop_57 rfl rfl ?_
      refine kC C dX0_drop_58 ?_
      refine oAdd C dX0_drop_59 ?_
      refine tpi (show _ = jI ((j + 1 : Nat) : Int) from rfl) ?_
      refine rdA C w 2 dX0_drop_60 rfl (by omega) (by decide) ?_
      refine tpi (show _ = jI ((sh (jt P) k j (j + 1) : Nat) : Int) from rfl) ?_
      refine wrA (ws' := (wX h a cI cZ ((jn P - 1 : Nat) : Int) (uu (fun i => ((sh (jf P) k j i : Nat) : Int)) j ((sh (jf P) k j (j + 1) : Nat) : Int)) (uu (fun i => ((sh (jt P) k j i : Nat) : Int)) j ((sh (jt P) k j (j + 1) : Nat) : Int)) (sh (js P) k j) (sh (ja P) k j) (sh (jp P) k j) f st.2.1 st.1 st.2.2 kn (K : Int) g12 g13)) C w 2 dX0_drop_61 rfl (by omega) (by decide) rfl (fun H locs w => ?_)
      refine aLn C hl 0 dX0_drop_62 rfl rfl ?_
      refine gX C w 0 3 dX0_drop_63 q26 rfl (by decide) rfl rfl ?_
      refine iLn C hl 1 dX0_drop_66 rfl rfl ?_
      refine aLn C hl 0 dX0_drop_67 rfl rfl ?_
      refine gX C w 0 3 dX0_drop_68 q26 rfl (by decide) rfl rfl ?_
      refine iLn C hl 1 dX0_drop_71 rfl rfl ?_
      refine kC C dX0_drop_72 ?_
      refine oAdd C dX0_drop_73 ?_
      refine tpi (show _ = jI ((j + 1 : Nat) : Int) from rfl) ?_
      refine rdA C w 3 dX0_drop_74 rfl (by omega) (by decide) ?_
      refine tpi (show _ = jI (sh (js P) k j (j + 1)) from rfl) ?_
      refine wrA (ws' := (wX h a cI cZ ((jn P - 1 : Nat) : Int) (uu (fun i => ((sh (jf P) k j i : Nat) : Int)) j ((sh (jf P) k j (j + 1) : Nat) : Int)) (uu (fun i => ((sh (jt P) k j i : Nat) : Int)) j ((sh (jt P) k j (j + 1) : Nat) : Int)) (uu (sh (js P) k j) j (sh (js P) k j (j + 1))) (sh (ja P) k j) (sh (jp P) k j) f st.2.1 st.1 st.2.2 kn (K : Int) g12 g13)) C w 3 dX0_drop_75 rfl (by omega) (by decide) rfl (fun H locs w => ?_)
      refine aLn C hl 0 dX0_drop_76 rfl rfl ?_
      refine gX C w 0 4 dX0_drop_77 q27 rfl (by decide) rfl rfl ?_
      refine iLn C hl 1 dX0_drop_80 rfl rfl ?_
      refine aLn C hl 0 dX0_drop_81 rfl rfl ?_
      refine gX C w 0 4 dX0_drop_82 q27 rfl (by decide) rfl rfl ?_
      refine iLn C hl 1 dX0_drop_85 rfl rfl ?_
      refine kC C dX0_drop_86 ?_
      refine oAdd C dX0_drop_87 ?_
      refine tpi (show _ = jI ((j + 1 : Nat) : Int) from rfl) ?_
      refine rdA C w 4 dX0_drop_88 rfl (by omega) (by decide) ?_
      refine tpi (show _ = jI (sh (ja P) k j (j + 1)) from rfl) ?_
      refine wrA (ws' := (wX h a cI cZ ((jn P - 1 : Nat) : Int) (uu (fun i => ((sh (jf P) k j i : Nat) : Int)) j ((sh (jf P) k j (j + 1) : Nat) : Int)) (uu (fun i => ((sh (jt P) k j i : Nat) : Int)) j ((sh (jt P) k j (j + 1) : Nat) : Int)) (uu (sh (js P) k j) j (sh (js P) k j (j + 1))) (uu (sh (ja P) k j) j (sh (ja P) k j (j + 1))) (sh (jp P) k j) f st.2.1 st.1 st.2.2 kn (K : Int) g12 g13)) C w 4 dX0_drop_89 rfl (by omega) (by decide) rfl (fun H locs w => ?_)
      refine aLn C hl 0 dX0_drop_90 rfl rfl ?_
      refine gX C w 0 5 dX0_drop_91 q28 rfl (by decide) rfl rfl ?_
      refine iLn C hl 1 dX0_drop_94 rfl rfl ?_
      refine aLn C hl 0 dX0_drop_95 rfl rfl ?_
      refine gX C w 0 5 dX0_drop_96 q28 rfl (by decide) rfl rfl ?_
      refine iLn C hl 1 dX0_drop_99 rfl rfl ?_
      refine kC C dX0_drop_100 ?_
      refine oAdd C dX0_drop_101 ?_
      refine tpi (show _ = jI ((j + 1 : Nat) : Int) from rfl) ?_
      refine rdA C w 5 dX0_drop_102 rfl (by omega) (by decide) ?_
      refine tpi (show _ = jI (sh (jp P) k j (j + 1)) from rfl) ?_
      refine wrA (ws' := (wX h a cI cZ ((jn P - 1 : Nat) : Int) (uu (fun i => ((sh (jf P) k j i : Nat) : Int)) j ((sh (jf P) k j (j + 1) : Nat) : Int)) (uu (fun i => ((sh (jt P) k j i : Nat) : Int)) j ((sh (jt P) k j (j + 1) : Nat) : Int)) (uu (sh (js P) k j) j (sh (js P) k j (j + 1))) (uu (sh (ja P) k j) j (sh (ja P) k j (j + 1))) (uu (sh (jp P) k j) j (sh (jp P) k j (j + 1))) f st.2.1 st.1 st.2.2 kn (K : Int) g12 g13)) C w 5 dX0_drop_103 rfl (by omega) (by decide) rfl (fun H locs w => ?_)
      refine iInc (lv' := [(0, .ref h), (2, .int (jI ((j + 1 : Nat) : Int)))]) C hl 1 dX0_drop_104 [1, 0] rfl (by decide) rfl (fun ls hl => ?_)
      refine gTo C 26 dX0_drop_107 (by decide) ?_
      have u1 := sh_c (jf P) h0
      have u2 := sh_c (jt P) h0
      have u3 := sh_s (js P) h0
      have u4 := sh_s (ja P) h0
      have u5 := sh_s (jp P) h0
      exact ih (j + 1) (by omega) (by omega) (by omega) H locs ls (wd_eq w (by rw [u1, u2, u3, u4, u5] <;> rfl)) hl
set_option maxHeartbeats 4000000 in
set_option maxRecDepth 100000 in
theorem mX0_drop (l : Launch) (D : va_G) (cI cZ : ClassId) (h : Nat) (a : Nat → Nat) (P : Pj) (f : Nat → Int) (st : BS) (kn : Bool) (K : Nat) (g12 g13 : Nat → Int) (hp : pok P) (hk : kn = true → wok P K g12 g13) (x : Int) (hx : jb x) : MI l yX0_drop cX0_drop 3 (some .int) 0 0 D cI cZ (wP h a cI cZ P f st kn (K : Int) g12 g13) [.ref h, .int (jI x)] (fun r (u : Pj × SP) => qD P x r u.1 ∧ okV u.1 u.2) (fun u => wV h a cI cZ u.1 u.2) := by
  refine mi_of (by decide) (Nat.le_of_ble_eq_true rfl) ?_
  intro p e s m below meth c A ls C hr w hl
  have h7 := hp.1
  have a1 := hx.1
  have a2 := hx.2
  have hl : lv_has ls 3 [(0, .ref h), (1, .int (jI x))] := hl
  refine iLn C hl 1 dX0_drop_0 rfl rfl ?_
  refine zLt C 12 dX0_drop_1 (by decide) ⟨by omega, by omega⟩ (fun c1 => ?_) (fun c1 => ?_)
  · refine kC C dX0_drop_12 ?_
    exact retI (P, (kn, f, st, K, g12, g13)) C hr w dX0_drop_13 ⟨Or.inr ⟨fun q => by omega, rfl, rfl⟩, hk⟩
  · refine iLn C hl 1 dX0_drop_4 rfl rfl ?_
    refine aLn C hl 0 dX0_drop_5 rfl rfl ?_
    refine gX C w 0 0 dX0_drop_6 q23 rfl (by decide) rfl rfl ?_
    refine cLt C 14 dX0_drop_9 (by decide) ⟨⟨by omega, by omega⟩, ⟨by omega, by omega⟩⟩ (fun c9 => ?_) (fun c9 => ?_)
    · obtain ⟨k, rfl⟩ : ∃ k : Nat, x = (k : Int) := ⟨x.toNat, by omega⟩
      have hkn : k < jn P := by omega
      refine aLn C hl 0 dX0_drop_14 rfl rfl ?_
      refine lv_dup C.1 C.2.1 dX0_drop_15 rfl ?_
      refine gX C w 0 0 dX0_drop_16 q23 rfl (by decide) rfl rfl ?_
      refine kC C dX0_drop_19 ?_
      refine oSub C dX0_drop_20 ?_
      refine tpi (show _ = jI ((jn P - 1 : Nat) : Int) from by congr 1; omega) ?_
      refine pX (ty := .int) (ws' := (wX h a cI cZ ((jn P - 1 : Nat) : Int) (fun j => ((jf P j : Nat) : Int)) (fun j => ((jt P j : Nat) : Int)) (js P) (ja P) (jp P) f st.2.1 st.1 st.2.2 kn (K : Int) g12 g13)) C w 0 0 dX0_drop_21 q23 rfl (by decide) rfl rfl (by decide +kernel) rfl rfl (Nat.le_of_ble_eq_true rfl) rfl (fun H locs w => ?_)
      refine iLn C hl 1 dX0_drop_24 rfl rfl ?_
      refine iSn (lv' := [(0, .ref h), (1, .int (jI (k : Int))), (2, .int (jI (k : Int)))]) C hl dX0_drop_25 [1, 2, 0] rfl (by decide) rfl (fun ls hl => ?_)
      have z1 := sh_0 (jf P) k
      have z2 := sh_0 (jt P) k
      have z3 := sh_0 (js P) k
      have z4 := sh_0 (ja P) k
      have z5 := sh_0 (jp P) k
      have ez : dP P k k = (jn P - 1, jf P, jt P, js P, ja P, jp P) := by rw [dP, z1, z2, z3, z4, z5]
      refine lpX0_drop C h a P f st kn K g12 g13 hp hkn (fun H locs ls w hl => ?_) (jn P) k (Nat.le_refl _) (by omega) (by omega) H locs ls (wd_eq w (by rw [ez] <;> rfl)) (lv_sub hl [0, 2] rfl)
      refine aLn C hl 0 dX0_drop_110 rfl rfl ?_
      refine kC C dX0_drop_111 ?_
      refine tpi bI_f ?_
      refine pX (ty := .boolean) (ws' := (wP h a cI cZ (dP P k (jn P - 1)) f st false (K : Int) g12 g13)) C w 0 10 dX0_drop_112 q33 rfl (by decide) rfl rfl (by decide +kernel) rfl rfl (Nat.le_of_ble_eq_true rfl) rfl (fun H locs w => ?_)
      refine aLn C hl 0 dX0_drop_115 rfl rfl ?_
      refine gX C w 0 0 dX0_drop_116 q23 rfl (by decide) rfl rfl ?_
      exact retI (dP P k (jn P - 1), (false, f, st, K, g12, g13)) C hr w dX0_drop_119 ⟨Or.inl ⟨by omega, by omega, rfl, rfl⟩, fun q => absurd (show false = true from q) (by decide)⟩
    · refine kC C dX0_drop_12 ?_
      exact retI (P, (kn, f, st, K, g12, g13)) C hr w dX0_drop_13 ⟨Or.inr ⟨fun q => by omega, rfl, rfl⟩, hk⟩
set_option maxHeartbeats 4000000 in
set_option maxRecDepth 100000 in
theorem mX0_price (l : Launch) (D : va_G) (cI cZ : ClassId) (h : Nat) (a : Nat → Nat) (P : Pj) (f : Nat → Int) (st : BS) (kn : Bool) (K : Nat) (g12 g13 : Nat → Int) (hp : pok P) (hk : kn = true → wok P K g12 g13) (x1 x2 : Int) (hx1 : jb x1) (hx2 : jb x2) : MI l yX0_price cX0_price 4 (some .int) 0 0 D cI cZ (wP h a cI cZ P f st kn (K : Int) g12 g13) [.ref h, .int (jI x1), .int (jI x2)] (fun r (u : Pj × SP) => qP P x1 x2 r u.1 ∧ okV u.1 u.2) (fun u => wV h a cI cZ u.1 u.2) := by
  refine mi_of (by decide) (Nat.le_of_ble_eq_true rfl) ?_
  intro p e s m below meth c A ls C hr w hl
  have h7 := hp.1
  have a1 := hx1.1
  have a2 := hx1.2
  have b1 := hx2.1
  have b2 := hx2.2
  have hl : lv_has ls 4 [(0, .ref h), (1, .int (jI x1)), (2, .int (jI x2))] := hl
  refine iLn C hl 1 dX0_price_0 rfl rfl ?_
  refine zLt C 23 dX0_price_1 (by decide) ⟨by omega, by omega⟩ (fun c1 => ?_) (fun c1 => ?_)
  · refine kC C dX0_price_23 ?_
    exact retI (P, (kn, f, st, K, g12, g13)) C hr w dX0_price_24 ⟨Or.inr ⟨fun q => by omega, rfl, rfl⟩, hk⟩
  · refine iLn C hl 1 dX0_price_4 rfl rfl ?_
    refine aLn C hl 0 dX0_price_5 rfl rfl ?_
    refine gX C w 0 0 dX0_price_6 q23 rfl (by decide) rfl rfl ?_
    refine cGe C 23 dX0_price_9 (by decide) ⟨⟨by omega, by omega⟩, ⟨by omega, by omega⟩⟩ (fun c9 => ?_) (fun c9 => ?_)
    · refine kC C dX0_price_23 ?_
      exact retI (P, (kn, f, st, K, g12, g13)) C hr w dX0_price_24 ⟨Or.inr ⟨fun q => by omega, rfl, rfl⟩, hk⟩
    · refine iLn C hl 2 dX0_price_12 rfl rfl ?_
      refine kC C dX0_price_13 ?_
      refine cLt C 23 dX0_price_14 (by decide) ⟨⟨by omega, by omega⟩, ⟨by omega, by omega⟩⟩ (fun c14 => ?_) (fun c14 => ?_)
      · refine kC C dX0_price_23 ?_
        exact retI (P, (kn, f, st, K, g12, g13)) C hr w dX0_price_24 ⟨Or.inr ⟨fun q => by omega, rfl, rfl⟩, hk⟩
      · refine iLn C hl 2 dX0_price_17 rfl rfl ?_
        refine kB C dX0_price_18 (by decide) ?_
        refine cLe C 25 dX0_price_20 (by decide) ⟨⟨by omega, by omega⟩, ⟨by omega, by omega⟩⟩ (fun c20 => ?_) (fun c20 => ?_)
        · obtain ⟨k, rfl⟩ : ∃ k : Nat, x1 = (k : Int) := ⟨x1.toNat, by omega⟩
          have hkn : k < jn P := by omega
          refine aLn C hl 0 dX0_price_25 rfl rfl ?_
          refine gX C w 0 5 dX0_price_26 q28 rfl (by decide) rfl rfl ?_
          refine iLn C hl 1 dX0_price_29 rfl rfl ?_
          refine rdA C w 5 dX0_price_30 rfl (by omega) (by decide) ?_
          refine iSn (lv' := [(0, .ref h), (1, .int (jI (k : Int))), (2, .int (jI x2)), (3, .int (jI (jp P k)))]) C hl dX0_price_31 [1, 2, 3, 0] rfl (by decide) rfl (fun ls hl => ?_)
          refine aLn C hl 0 dX0_price_32 rfl rfl ?_
          refine gX C w 0 5 dX0_price_33 q28 rfl (by decide) rfl rfl ?_
          refine iLn C hl 1 dX0_price_36 rfl rfl ?_
          refine iLn C hl 2 dX0_price_37 rfl rfl ?_
          refine wrA (ws' := (wP h a cI cZ (priP P k x2) f st kn (K : Int) g12 g13)) C w 5 dX0_price_38 rfl (by omega) (by decide) rfl (fun H locs w => ?_)
          refine aLn C hl 0 dX0_price_39 rfl rfl ?_
          refine kC C dX0_price_40 ?_
          refine tpi bI_f ?_
          refine pX (ty := .boolean) (ws' := (wP h a cI cZ (priP P k x2) f st false (K : Int) g12 g13)) C w 0 10 dX0_price_41 q33 rfl (by decide) rfl rfl (by decide +kernel) rfl rfl (Nat.le_of_ble_eq_true rfl) rfl (fun H locs w => ?_)
          refine iLn C hl 3 dX0_price_44 rfl rfl ?_
          exact retI (priP P k x2, (false, f, st, K, g12, g13)) C hr w dX0_price_45 ⟨Or.inl ⟨⟨by omega, by omega, by omega, by omega⟩, rfl, rfl⟩, fun q => absurd (show false = true from q) (by decide)⟩
        · refine kC C dX0_price_23 ?_
          exact retI (P, (kn, f, st, K, g12, g13)) C hr w dX0_price_24 ⟨Or.inr ⟨fun q => by omega, rfl, rfl⟩, hk⟩
end
section
/-! MODEL 1: add, drop, price -/
abbrev SM : Type := (Nat → Int) × (Nat → Int) × (Nat → Int)
abbrev wQ (h : Nat) (a : Nat → Nat) (cI : ClassId) (P : Pj) (t d ch : Nat → Int) : va_W := wM h a cI (jn P) (fun j => ((jf P j : Nat) : Int)) (fun j => ((jt P j : Nat) : Int)) (js P) (ja P) (jp P) t d ch
abbrev wN (h : Nat) (a : Nat → Nat) (cI : ClassId) (P : Pj) (u : SM) : va_W := wQ h a cI P u.1 u.2.1 u.2.2
set_option maxHeartbeats 4000000 in
set_option maxRecDepth 100000 in
theorem m_badPrice (l : Launch) (D : va_G) (cI cZ : ClassId) (ws : va_W) (x : Int) (hx : jb x) : MI l yX1_badPrice cX1_badPrice 1 (some .boolean) 0 0 D cI cZ ws [.int (jI x)] (fun r (_ : Unit) => r = bI (decide (x < 1 ∨ 20 < x))) (fun _ => ws) := by
  refine mi_of (by decide) (Nat.le_of_ble_eq_true rfl) ?_
  intro p e s m below meth c A ls C hr w hl
  have a1 := hx.1
  have a2 := hx.2
  have hl : lv_has ls 1 [(0, .int (jI x))] := hl
  refine iLn C hl 0 dX1_badPrice_0 rfl rfl ?_
  refine kC C dX1_badPrice_1 ?_
  refine cLt C 11 dX1_badPrice_2 (by decide) ⟨⟨by omega, by omega⟩, ⟨by omega, by omega⟩⟩ (fun c2 => ?_) (fun c2 => ?_)
  · refine kC C dX1_badPrice_11 ?_
    refine gTo C 16 dX1_badPrice_12 (by decide) ?_
    refine tpi bI_t ?_
    exact retZ () C hr w dX1_badPrice_16 (by rw [decide_eq_true (by omega)])
  · refine iLn C hl 0 dX1_badPrice_5 rfl rfl ?_
    refine kB C dX1_badPrice_6 (by decide) ?_
    refine cLe C 15 dX1_badPrice_8 (by decide) ⟨⟨by omega, by omega⟩, ⟨by omega, by omega⟩⟩ (fun c8 => ?_) (fun c8 => ?_)
    · refine kC C dX1_badPrice_15 ?_
      refine tpi bI_f ?_
      exact retZ () C hr w dX1_badPrice_16 (by rw [decide_eq_false (by omega)])
    · refine kC C dX1_badPrice_11 ?_
      refine gTo C 16 dX1_badPrice_12 (by decide) ?_
      refine tpi bI_t ?_
      exact retZ () C hr w dX1_badPrice_16 (by rw [decide_eq_true (by omega)])
set_option maxHeartbeats 4000000 in
set_option maxRecDepth 100000 in
theorem mX1_add (l : Launch) (D : va_G) (cI cZ : ClassId) (h : Nat) (a : Nat → Nat) (P : Pj) (t d ch : Nat → Int) (hp : pok P) (x1 x2 x3 x4 x5 : Int) (hx1 : jb x1) (hx2 : jb x2) (hx3 : jb x3) (hx4 : jb x4) (hx5 : jb x5) : MI l yX1_add cX1_add 6 (some .int) 1 20 D cI cZ (wQ h a cI P t d ch) [.ref h, .int (jI x1), .int (jI x2), .int (jI x3), .int (jI x4), .int (jI x5)] (fun r (u : Pj × SM) => qA P x1 x2 x3 x4 x5 r u.1 ∧ True) (fun u => wN h a cI u.1 u.2) := by
  refine mi_of (by decide) (Nat.le_of_ble_eq_true rfl) ?_
  intro p e s m below meth c A ls C hr w hl
  have h7 := hp.1
  have a1 := hx1.1
  have a2 := hx1.2
  have b1 := hx2.1
  have b2 := hx2.2
  have f1 := hx3.1
  have f2 := hx3.2
  have d1 := hx4.1
  have d2 := hx4.2
  have e1 := hx5.1
  have e2 := hx5.2
  have hl : lv_has ls 6 [(0, .ref h), (1, .int (jI x1)), (2, .int (jI x2)), (3, .int (jI x3)), (4, .int (jI x4)), (5, .int (jI x5))] := hl
  refine aLn C hl 0 dX1_add_0 rfl rfl ?_
  refine gM C w 0 0 dX1_add_1 q143 rfl (by decide) rfl rfl ?_
  refine kB C dX1_add_4 (by decide) ?_
  refine cEq C 31 dX1_add_6 (by decide) ⟨⟨by omega, by omega⟩, ⟨by omega, by omega⟩⟩ (fun c6 => ?_) (fun c6 => ?_)
  · refine kC C dX1_add_31 ?_
    exact retI (P, (t, d, ch)) C hr w dX1_add_32 ⟨Or.inr ⟨fun q => by have z := q.1; omega, rfl, rfl⟩, trivial⟩
  · refine iLn C hl 1 dX1_add_9 rfl rfl ?_
    refine zLt C 31 dX1_add_10 (by decide) ⟨by omega, by omega⟩ (fun c10 => ?_) (fun c10 => ?_)
    · refine kC C dX1_add_31 ?_
      exact retI (P, (t, d, ch)) C hr w dX1_add_32 ⟨Or.inr ⟨fun q => by have z := q.2.1; omega, rfl, rfl⟩, trivial⟩
    · refine iLn C hl 2 dX1_add_13 rfl rfl ?_
      refine iLn C hl 1 dX1_add_14 rfl rfl ?_
      refine cLe C 31 dX1_add_15 (by decide) ⟨⟨by omega, by omega⟩, ⟨by omega, by omega⟩⟩ (fun c15 => ?_) (fun c15 => ?_)
      · refine kC C dX1_add_31 ?_
        exact retI (P, (t, d, ch)) C hr w dX1_add_32 ⟨Or.inr ⟨fun q => by have z := q.2.2.1; omega, rfl, rfl⟩, trivial⟩
      · refine iLn C hl 2 dX1_add_18 rfl rfl ?_
        refine kC C dX1_add_19 ?_
        refine cGt C 31 dX1_add_20 (by decide) ⟨⟨by omega, by omega⟩, ⟨by omega, by omega⟩⟩ (fun c20 => ?_) (fun c20 => ?_)
        · refine kC C dX1_add_31 ?_
          exact retI (P, (t, d, ch)) C hr w dX1_add_32 ⟨Or.inr ⟨fun q => by have z := q.2.2.2.1; omega, rfl, rfl⟩, trivial⟩
        · refine iL C hl 5 dX1_add_23 rfl ?_
          refine cpS (n := 1) C w hl dX1_add_25 (m_badPrice l D cI cZ _ x5 hx5) (lw_S q175 q176 q14 q177) (by decide +kernel) ⟨Nat.le_of_ble_eq_true rfl, Nat.le_of_ble_eq_true rfl⟩ rfl rfl (Nat.le_of_ble_eq_true rfl) ⟨Nat.le_refl 0, Nat.le_refl 0⟩ (fun rr u H locs hz w => ?_)
          subst hz
          refine bEq C 33 dX1_add_28 (by decide) (fun c28 => ?_) (fun c28 => ?_)
          · have c28 := of_decide_eq_false c28
            refine iL C hl 4 dX1_add_33 rfl ?_
            refine zLt C 58 dX1_add_35 (by decide) ⟨by omega, by omega⟩ (fun c35 => ?_) (fun c35 => ?_)
            · refine kC C dX1_add_58 ?_
              exact retI (P, (t, d, ch)) C hr w dX1_add_59 ⟨Or.inr ⟨fun q => by have z := q.2.2.2.2.1; omega, rfl, rfl⟩, trivial⟩
            · refine iL C hl 4 dX1_add_38 rfl ?_
              refine iLn C hl 3 dX1_add_40 rfl rfl ?_
              refine cGt C 58 dX1_add_41 (by decide) ⟨⟨by omega, by omega⟩, ⟨by omega, by omega⟩⟩ (fun c41 => ?_) (fun c41 => ?_)
              · refine kC C dX1_add_58 ?_
                exact retI (P, (t, d, ch)) C hr w dX1_add_59 ⟨Or.inr ⟨fun q => by have z := q.2.2.2.2.2.1; omega, rfl, rfl⟩, trivial⟩
              · refine iLn C hl 3 dX1_add_44 rfl rfl ?_
                refine kB C dX1_add_45 (by decide) ?_
                refine cGt C 58 dX1_add_47 (by decide) ⟨⟨by omega, by omega⟩, ⟨by omega, by omega⟩⟩ (fun c47 => ?_) (fun c47 => ?_)
                · refine kC C dX1_add_58 ?_
                  exact retI (P, (t, d, ch)) C hr w dX1_add_59 ⟨Or.inr ⟨fun q => by have z := q.2.2.2.2.2.2.1; omega, rfl, rfl⟩, trivial⟩
                · refine iLn C hl 3 dX1_add_50 rfl rfl ?_
                  refine iL C hl 4 dX1_add_51 rfl ?_
                  refine oSub C dX1_add_53 ?_
                  refine kC C dX1_add_54 ?_
                  refine cLe C 60 dX1_add_55 (by decide) ⟨⟨by omega, by omega⟩, ⟨by omega, by omega⟩⟩ (fun c55 => ?_) (fun c55 => ?_)
                  · have hok : okA P x1 x2 x3 x4 x5 := ⟨by omega, by omega, by omega, by omega, by omega, by omega, by omega, by omega, by omega, by omega⟩
                    refine aLn C hl 0 dX1_add_60 rfl rfl ?_
                    refine gM C w 0 1 dX1_add_61 q144 rfl (by decide) rfl rfl ?_
                    refine aLn C hl 0 dX1_add_64 rfl rfl ?_
                    refine gM C w 0 0 dX1_add_65 q143 rfl (by decide) rfl rfl ?_
                    refine iLn C hl 1 dX1_add_68 rfl rfl ?_
                    refine wrA (ws' := (wM h a cI ((jn P : Nat) : Int) (uu (fun j => ((jf P j : Nat) : Int)) (jn P) x1) (fun j => ((jt P j : Nat) : Int)) (js P) (ja P) (jp P) t d ch)) C w 1 dX1_add_69 rfl (by omega) (by decide) rfl (fun H locs w => ?_)
                    refine aLn C hl 0 dX1_add_70 rfl rfl ?_
                    refine gM C w 0 2 dX1_add_71 q145 rfl (by decide) rfl rfl ?_
                    refine aLn C hl 0 dX1_add_74 rfl rfl ?_
                    refine gM C w 0 0 dX1_add_75 q143 rfl (by decide) rfl rfl ?_
                    refine iLn C hl 2 dX1_add_78 rfl rfl ?_
                    refine wrA (ws' := (wM h a cI ((jn P : Nat) : Int) (uu (fun j => ((jf P j : Nat) : Int)) (jn P) x1) (uu (fun j => ((jt P j : Nat) : Int)) (jn P) x2) (js P) (ja P) (jp P) t d ch)) C w 2 dX1_add_79 rfl (by omega) (by decide) rfl (fun H locs w => ?_)
                    refine aLn C hl 0 dX1_add_80 rfl rfl ?_
                    refine gM C w 0 3 dX1_add_81 q146 rfl (by decide) rfl rfl ?_
                    refine aLn C hl 0 dX1_add_84 rfl rfl ?_
                    refine gM C w 0 0 dX1_add_85 q143 rfl (by decide) rfl rfl ?_
                    refine iLn C hl 3 dX1_add_88 rfl rfl ?_
                    refine wrA (ws' := (wM h a cI ((jn P : Nat) : Int) (uu (fun j => ((jf P j : Nat) : Int)) (jn P) x1) (uu (fun j => ((jt P j : Nat) : Int)) (jn P) x2) (uu (js P) (jn P) x3) (ja P) (jp P) t d ch)) C w 3 dX1_add_89 rfl (by omega) (by decide) rfl (fun H locs w => ?_)
                    refine aLn C hl 0 dX1_add_90 rfl rfl ?_
                    refine gM C w 0 4 dX1_add_91 q147 rfl (by decide) rfl rfl ?_
                    refine aLn C hl 0 dX1_add_94 rfl rfl ?_
                    refine gM C w 0 0 dX1_add_95 q143 rfl (by decide) rfl rfl ?_
                    refine iL C hl 4 dX1_add_98 rfl ?_
                    refine wrA (ws' := (wM h a cI ((jn P : Nat) : Int) (uu (fun j => ((jf P j : Nat) : Int)) (jn P) x1) (uu (fun j => ((jt P j : Nat) : Int)) (jn P) x2) (uu (js P) (jn P) x3) (uu (ja P) (jn P) x4) (jp P) t d ch)) C w 4 dX1_add_100 rfl (by omega) (by decide) rfl (fun H locs w => ?_)
                    refine aLn C hl 0 dX1_add_101 rfl rfl ?_
                    refine gM C w 0 5 dX1_add_102 q148 rfl (by decide) rfl rfl ?_
                    refine aLn C hl 0 dX1_add_105 rfl rfl ?_
                    refine gM C w 0 0 dX1_add_106 q143 rfl (by decide) rfl rfl ?_
                    refine iL C hl 5 dX1_add_109 rfl ?_
                    refine wrA (ws' := (wM h a cI ((jn P : Nat) : Int) (uu (fun j => ((jf P j : Nat) : Int)) (jn P) x1) (uu (fun j => ((jt P j : Nat) : Int)) (jn P) x2) (uu (js P) (jn P) x3) (uu (ja P) (jn P) x4) (uu (jp P) (jn P) x5) t d ch)) C w 5 dX1_add_111 rfl (by omega) (by decide) rfl (fun H locs w => ?_)
                    refine aLn C hl 0 dX1_add_112 rfl rfl ?_
                    refine lv_dup C.1 C.2.1 dX1_add_113 rfl ?_
                    refine gM C w 0 0 dX1_add_114 q143 rfl (by decide) rfl rfl ?_
                    refine kC C dX1_add_117 ?_
                    refine oAdd C dX1_add_118 ?_
                    refine pM (ty := .int) (ws' := (wM h a cI ((jn P + 1 : Nat) : Int) (uu (fun j => ((jf P j : Nat) : Int)) (jn P) x1) (uu (fun j => ((jt P j : Nat) : Int)) (jn P) x2) (uu (js P) (jn P) x3) (uu (ja P) (jn P) x4) (uu (jp P) (jn P) x5) t d ch)) C w 0 0 dX1_add_119 q143 rfl (by decide) rfl rfl (by decide +kernel) rfl rfl (Nat.le_of_ble_eq_true rfl) rfl (fun H locs w => ?_)
                    refine aLn C hl 0 dX1_add_122 rfl rfl ?_
                    refine gM C w 0 0 dX1_add_123 q143 rfl (by decide) rfl rfl ?_
                    have u1 := uu_c1 (g := jf P) (k := jn P) hok.2.1
                    have u2 := uu_c1 (g := jt P) (k := jn P) (show 0 ≤ x2 by omega)
                    exact retI (addP P x1 x2 x3 x4 x5, (t, d, ch)) C hr (wd_eq w (by rw [u1, u2] <;> rfl)) dX1_add_126 ⟨Or.inl ⟨hok, rfl, rfl⟩, trivial⟩
                  · refine kC C dX1_add_58 ?_
                    exact retI (P, (t, d, ch)) C hr w dX1_add_59 ⟨Or.inr ⟨fun q => by have z := q.2.2.2.2.2.2.2.1; omega, rfl, rfl⟩, trivial⟩
          · refine kC C dX1_add_31 ?_
            exact retI (P, (t, d, ch)) C hr w dX1_add_32 ⟨Or.inr ⟨fun q => by have c28 := of_decide_eq_true c28; have z := q.2.2.2.2.2.2.2.2; omega, rfl, rfl⟩, trivial⟩
set_option maxHeartbeats 4000000 in
set_option maxRecDepth 100000 in
theorem lpX1_drop {p : Program} {l : Launch} {e : Env} {s : State} {m : MethodId} {args : Array Value} {below : List Frame} {meth : Method} {c : Code} {Q : State → Prop} {D : va_G} {A : Nat → Prop} {H0 : Heap} {cI cZ : ClassId} (C : Cx p s m meth c cX1_drop 3 args RX1 D cI cZ) (h : Nat) (a : Nat → Nat) (P : Pj) (t d ch : Nat → Int) (hp : pok P) {k : Nat} (hk : k < jn P)
    (kx : ∀ (H : Heap) (locs : List Loc) (ls : Array Slot), Wd D A H0 (wQ h a cI (dP P k (jn P - 1)) t d ch) H locs → lv_has ls 3 [(0, .ref h)] → W p l e (rmo 0 0) s m args below meth c H locs 0 0 Q (F0 m 110 ls [])) :
    ∀ (x j : Nat), k ≤ j → j ≤ jn P - 1 → jn P - 1 < j + x → ∀ (H : Heap) (locs : List Loc) (ls : Array Slot), Wd D A H0 (wQ h a cI (dP P k j) t d ch) H locs → lv_has ls 3 [(0, .ref h), (2, .int (jI (j : Int)))] → W p l e (rmo 0 0) s m args below meth c H locs 0 0 Q (F0 m 26 ls []) := by
  have h7 := hp.1
  intro x
  induction x with
  | zero => intro j h0 h1 h2; omega
  | succ x ih =>
    intro j h0 h1 h2 H locs ls w hl
    refine iLn C hl 1 dX1_drop_26 rfl rfl ?_
    refine aLn C hl 0 dX1_drop_27 rfl rfl ?_
    refine gM C w 0 0 dX1_drop_28 q143 rfl (by decide) rfl rfl ?_
    refine cGe C 110 dX1_drop_31 (by decide) ⟨⟨by omega, by omega⟩, show jb ((jn P - 1 : Nat) : Int) from ⟨by omega, by omega⟩⟩ (fun c31 => ?_) (fun c31 => ?_)
    · have hj : j = jn P - 1 := by have : ((jn P - 1 : Nat) : Int) ≤ (j : Int) := c31; omega
      subst hj
      exact kx H locs ls w (lv_sub hl [0] rfl)
    · have hjl : j < jn P - 1 := by have : (j : Int) < ((jn P - 1 : Nat) : Int) := c31; omega
      refine aLn C hl 0 dX1_drop_34 rfl rfl ?_
      refine gM C w 0 1 dX1_drop_35 q144 rfl (by decide) rfl rfl ?_
      refine iLn C hl 1 dX1_drop_38 rfl rfl ?_
      refine aLn C hl 0 dX1_drop_39 rfl rfl ?_
      refine gM C w 0 1 dX1_drop_40 q144 rfl (by decide) rfl rfl ?_
      refine iLn C hl 1 dX1_drop_43 rfl rfl ?_
      refine kC C dX1_drop_44 ?_
      refine oAdd C dX1_drop_45 ?_
      refine tpi (show _ = jI ((j + 1 : Nat) : Int) from rfl) ?_
      refine rdA C w 1 dX1_drop_46 rfl (by omega) (by decide) ?_
      refine tpi (show _ = jI ((sh (jf P) k j (j + 1) : Nat) : Int) from rfl) ?_
      refine wrA (ws' := (wM h a cI ((jn P - 1 : Nat) : Int) (uu (fun i => ((sh (jf P) k j i : Nat) : Int)) j ((sh (jf P) k j (j + 1) : Nat) : Int)) (fun i => ((sh (jt P) k j i : Nat) : Int)) (sh (js P) k j) (sh (ja P) k j) (sh (jp P) k j) t d ch)) C w 1 dX1_drop_47 rfl (by omega) (by decide) rfl (fun H locs w => ?_)
      refine aLn C hl 0 dX1_drop_48 rfl rfl ?_
      refine gM C w 0 2 dX1_drop_49 q145 rfl (by decide) rfl rfl ?_
      refine iLn C hl 1 dX1_drop_52 rfl rfl ?_
      refine aLn C hl 0 dX1_drop_53 rfl rfl ?_
      refine gM C w 0 2 dX1_drop_54 q145 rfl (by decide) rfl rfl ?_
      refine iLn C hl 1 dX1_drop_57 rfl rfl ?_
      refine kC C dX1_drop_58 ?_
      refine oAdd C dX1_drop_59 ?_
      refine tpi (show _ = jI ((j + 1 : Nat) : Int) from rfl) ?_
      refine rdA C w 2 dX1_drop_60 rfl (by omega) (by decide) ?_
      refine tpi (show _ = jI ((sh (jt P) k j (j + 1) : Nat) : Int) from rfl) ?_
      refine wrA (ws' := (wM h a cI ((jn P - 1 : Nat) : Int) (uu (fun i => ((sh (jf P) k j i : Nat) : Int)) j ((sh (jf P) k j (j + 1) : Nat) : Int)) (uu (fun i => ((sh (jt P) k j i : Nat) : Int)) j ((sh (jt P) k j (j + 1) : Nat) : Int)) (sh (js P) k j) (sh (ja P) k j) (sh (jp P) k j) t d ch)) C w 2 dX1_drop_61 rfl (by omega) (by decide) rfl (fun H locs w => ?_)
      refine aLn C hl 0 dX1_drop_62 rfl rfl ?_
      refine gM C w 0 3 dX1_drop_63 q146 rfl (by decide) rfl rfl ?_
      refine iLn C hl 1 dX1_drop_66 rfl rfl ?_
      refine aLn C hl 0 dX1_drop_67 rfl rfl ?_
      refine gM C w 0 3 dX1_drop_68 q146 rfl (by decide) rfl rfl ?_
      refine iLn C hl 1 dX1_drop_71 rfl rfl ?_
      refine kC C dX1_drop_72 ?_
      refine oAdd C dX1_drop_73 ?_
      refine tpi (show _ = jI ((j + 1 : Nat) : Int) from rfl) ?_
      refine rdA C w 3 dX1_drop_74 rfl (by omega) (by decide) ?_
      refine tpi (show _ = jI (sh (js P) k j (j + 1)) from rfl) ?_
      refine wrA (ws' := (wM h a cI ((jn P - 1 : Nat) : Int) (uu (fun i => ((sh (jf P) k j i : Nat) : Int)) j ((sh (jf P) k j (j + 1) : Nat) : Int)) (uu (fun i => ((sh (jt P) k j i : Nat) : Int)) j ((sh (jt P) k j (j + 1) : Nat) : Int)) (uu (sh (js P) k j) j (sh (js P) k j (j + 1))) (sh (ja P) k j) (sh (jp P) k j) t d ch)) C w 3 dX1_drop_75 rfl (by omega) (by decide) rfl (fun H locs w => ?_)
      refine aLn C hl 0 dX1_drop_76 rfl rfl ?_
      refine gM C w 0 4 dX1_drop_77 q147 rfl (by decide) rfl rfl ?_
      refine iLn C hl 1 dX1_drop_80 rfl rfl ?_
      refine aLn C hl 0 dX1_drop_81 rfl rfl ?_
      refine gM C w 0 4 dX1_drop_82 q147 rfl (by decide) rfl rfl ?_
      refine iLn C hl 1 dX1_drop_85 rfl rfl ?_
      refine kC C dX1_drop_86 ?_
      refine oAdd C dX1_drop_87 ?_
      refine tpi (show _ = jI ((j + 1 : Nat) : Int) from rfl) ?_
      refine rdA C w 4 dX1_drop_88 rfl (by omega) (by decide) ?_
      refine tpi (show _ = jI (sh (ja P) k j (j + 1)) from rfl) ?_
      refine wrA (ws' := (wM h a cI ((jn P - 1 : Nat) : Int) (uu (fun i => ((sh (jf P) k j i : Nat) : Int)) j ((sh (jf P) k j (j + 1) : Nat) : Int)) (uu (fun i => ((sh (jt P) k j i : Nat) : Int)) j ((sh (jt P) k j (j + 1) : Nat) : Int)) (uu (sh (js P) k j) j (sh (js P) k j (j + 1))) (uu (sh (ja P) k j) j (sh (ja P) k j (j + 1))) (sh (jp P) k j) t d ch)) C w 4 dX1_drop_89 rfl (by omega) (by decide) rfl (fun H locs w => ?_)
      refine aLn C hl 0 dX1_drop_90 rfl rfl ?_
      refine gM C w 0 5 dX1_drop_91 q148 rfl (by decide) rfl rfl ?_
      refine iLn C hl 1 dX1_drop_94 rfl rfl ?_
      refine aLn C hl 0 dX1_drop_95 rfl rfl ?_
      refine gM C w 0 5 dX1_drop_96 q148 rfl (by decide) rfl rfl ?_
      refine iLn C hl 1 dX1_drop_99 rfl rfl ?_
      refine kC C dX1_drop_100 ?_
      refine oAdd C dX1_drop_101 ?_
      refine tpi (show _ = jI ((j + 1 : Nat) : Int) from rfl) ?_
      refine rdA C w 5 dX1_drop_102 rfl (by omega) (by decide) ?_
      refine tpi (show _ = jI (sh (jp P) k j (j + 1)) from rfl) ?_
      refine wrA (ws' := (wM h a cI ((jn P - 1 : Nat) : Int) (uu (fun i => ((sh (jf P) k j i : Nat) : Int)) j ((sh (jf P) k j (j + 1) : Nat) : Int)) (uu (fun i => ((sh (jt P) k j i : Nat) : Int)) j ((sh (jt P) k j (j + 1) : Nat) : Int)) (uu (sh (js P) k j) j (sh (js P) k j (j + 1))) (uu (sh (ja P) k j) j (sh (ja P) k j (j + 1))) (uu (sh (jp P) k j) j (sh (jp P) k j (j + 1))) t d ch)) C w 5 dX1_drop_103 rfl (by omega) (by decide) rfl (fun H locs w => ?_)
      refine iInc (lv' := [(0, .ref h), (2, .int (jI ((j + 1 : Nat) : Int)))]) C hl 1 dX1_drop_104 [1, 0] rfl (by decide) rfl (fun ls hl => ?_)
      refine gTo C 26 dX1_drop_107 (by decide) ?_
      have u1 := sh_c (jf P) h0
      have u2 := sh_c (jt P) h0
      have u3 := sh_s (js P) h0
      have u4 := sh_s (ja P) h0
      have u5 := sh_s (jp P) h0
      exact ih (j + 1) (by omega) (by omega) (by omega) H locs ls (wd_eq w (by rw [u1, u2, u3, u4, u5] <;> rfl)) hl
set_option maxHeartbeats 4000000 in
set_option maxRecDepth 100000 in
theorem mX1_drop (l : Launch) (D : va_G) (cI cZ : ClassId) (h : Nat) (a : Nat → Nat) (P : Pj) (t d ch : Nat → Int) (hp : pok P) (x : Int) (hx : jb x) : MI l yX1_drop cX1_drop 3 (some .int) 0 0 D cI cZ (wQ h a cI P t d ch) [.ref h, .int (jI x)] (fun r (u : Pj × SM) => qD P x r u.1 ∧ True) (fun u => wN h a cI u.1 u.2) := by
  refine mi_of (by decide) (Nat.le_of_ble_eq_true rfl) ?_
  intro p e s m below meth c A ls C hr w hl
  have h7 := hp.1
  have a1 := hx.1
  have a2 := hx.2
  have hl : lv_has ls 3 [(0, .ref h), (1, .int (jI x))] := hl
  refine iLn C hl 1 dX1_drop_0 rfl rfl ?_
  refine zLt C 12 dX1_drop_1 (by decide) ⟨by omega, by omega⟩ (fun c1 => ?_) (fun c1 => ?_)
  · refine kC C dX1_drop_12 ?_
    exact retI (P, (t, d, ch)) C hr w dX1_drop_13 ⟨Or.inr ⟨fun q => by omega, rfl, rfl⟩, trivial⟩
  · refine iLn C hl 1 dX1_drop_4 rfl rfl ?_
    refine aLn C hl 0 dX1_drop_5 rfl rfl ?_
    refine gM C w 0 0 dX1_drop_6 q143 rfl (by decide) rfl rfl ?_
    refine cLt C 14 dX1_drop_9 (by decide) ⟨⟨by omega, by omega⟩, ⟨by omega, by omega⟩⟩ (fun c9 => ?_) (fun c9 => ?_)
    · obtain ⟨k, rfl⟩ : ∃ k : Nat, x = (k : Int) := ⟨x.toNat, by omega⟩
      have hkn : k < jn P := by omega
      refine aLn C hl 0 dX1_drop_14 rfl rfl ?_
      refine lv_dup C.1 C.2.1 dX1_drop_15 rfl ?_
      refine gM C w 0 0 dX1_drop_16 q143 rfl (by decide) rfl rfl ?_
      refine kC C dX1_drop_19 ?_
      refine oSub C dX1_drop_20 ?_
      refine tpi (show _ = jI ((jn P - 1 : Nat) : Int) from by congr 1; omega) ?_
      refine pM (ty := .int) (ws' := (wM h a cI ((jn P - 1 : Nat) : Int) (fun j => ((jf P j : Nat) : Int)) (fun j => ((jt P j : Nat) : Int)) (js P) (ja P) (jp P) t d ch)) C w 0 0 dX1_drop_21 q143 rfl (by decide) rfl rfl (by decide +kernel) rfl rfl (Nat.le_of_ble_eq_true rfl) rfl (fun H locs w => ?_)
      refine iLn C hl 1 dX1_drop_24 rfl rfl ?_
      refine iSn (lv' := [(0, .ref h), (1, .int (jI (k : Int))), (2, .int (jI (k : Int)))]) C hl dX1_drop_25 [1, 2, 0] rfl (by decide) rfl (fun ls hl => ?_)
      have z1 := sh_0 (jf P) k
      have z2 := sh_0 (jt P) k
      have z3 := sh_0 (js P) k
      have z4 := sh_0 (ja P) k
      have z5 := sh_0 (jp P) k
      have ez : dP P k k = (jn P - 1, jf P, jt P, js P, ja P, jp P) := by rw [dP, z1, z2, z3, z4, z5]
      refine lpX1_drop C h a P t d ch hp hkn (fun H locs ls w hl => ?_) (jn P) k (Nat.le_refl _) (by omega) (by omega) H locs ls (wd_eq w (by rw [ez] <;> rfl)) (lv_sub hl [0, 2] rfl)
      refine aLn C hl 0 dX1_drop_110 rfl rfl ?_
      refine gM C w 0 0 dX1_drop_111 q143 rfl (by decide) rfl rfl ?_
      exact retI (dP P k (jn P - 1), (t, d, ch)) C hr w dX1_drop_114 ⟨Or.inl ⟨by omega, by omega, rfl, rfl⟩, trivial⟩
    · refine kC C dX1_drop_12 ?_
      exact retI (P, (t, d, ch)) C hr w dX1_drop_13 ⟨Or.inr ⟨fun q => by omega, rfl, rfl⟩, trivial⟩
set_option maxHeartbeats 4000000 in
set_option maxRecDepth 100000 in
theorem mX1_price (l : Launch) (D : va_G) (cI cZ : ClassId) (h : Nat) (a : Nat → Nat) (P : Pj) (t d ch : Nat → Int) (hp : pok P) (x1 x2 : Int) (hx1 : jb x1) (hx2 : jb x2) : MI l yX1_price cX1_price 4 (some .int) 1 20 D cI cZ (wQ h a cI P t d ch) [.ref h, .int (jI x1), .int (jI x2)] (fun r (u : Pj × SM) => qP P x1 x2 r u.1 ∧ True) (fun u => wN h a cI u.1 u.2) := by
  refine mi_of (by decide) (Nat.le_of_ble_eq_true rfl) ?_
  intro p e s m below meth c A ls C hr w hl
  have h7 := hp.1
  have a1 := hx1.1
  have a2 := hx1.2
  have b1 := hx2.1
  have b2 := hx2.2
  have hl : lv_has ls 4 [(0, .ref h), (1, .int (jI x1)), (2, .int (jI x2))] := hl
  refine iLn C hl 1 dX1_price_0 rfl rfl ?_
  refine zLt C 19 dX1_price_1 (by decide) ⟨by omega, by omega⟩ (fun c1 => ?_) (fun c1 => ?_)
  · refine kC C dX1_price_19 ?_
    exact retI (P, (t, d, ch)) C hr w dX1_price_20 ⟨Or.inr ⟨fun q => by omega, rfl, rfl⟩, trivial⟩
  · refine iLn C hl 1 dX1_price_4 rfl rfl ?_
    refine aLn C hl 0 dX1_price_5 rfl rfl ?_
    refine gM C w 0 0 dX1_price_6 q143 rfl (by decide) rfl rfl ?_
    refine cGe C 19 dX1_price_9 (by decide) ⟨⟨by omega, by omega⟩, ⟨by omega, by omega⟩⟩ (fun c9 => ?_) (fun c9 => ?_)
    · refine kC C dX1_price_19 ?_
      exact retI (P, (t, d, ch)) C hr w dX1_price_20 ⟨Or.inr ⟨fun q => by omega, rfl, rfl⟩, trivial⟩
    · refine iLn C hl 2 dX1_price_12 rfl rfl ?_
      refine cpS (n := 1) C w hl dX1_price_13 (m_badPrice l D cI cZ _ x2 hx2) (lw_S q175 q176 q14 q177) (by decide +kernel) ⟨Nat.le_of_ble_eq_true rfl, Nat.le_of_ble_eq_true rfl⟩ rfl rfl (Nat.le_of_ble_eq_true rfl) ⟨Nat.le_refl 0, Nat.le_refl 0⟩ (fun rr u H locs hz w => ?_)
      subst hz
      refine bEq C 21 dX1_price_16 (by decide) (fun c16 => ?_) (fun c16 => ?_)
      · have c16 := of_decide_eq_false c16
        obtain ⟨k, rfl⟩ : ∃ k : Nat, x1 = (k : Int) := ⟨x1.toNat, by omega⟩
        have hkn : k < jn P := by omega
        refine aLn C hl 0 dX1_price_21 rfl rfl ?_
        refine gM C w 0 5 dX1_price_22 q148 rfl (by decide) rfl rfl ?_
        refine iLn C hl 1 dX1_price_25 rfl rfl ?_
        refine rdA C w 5 dX1_price_26 rfl (by omega) (by decide) ?_
        refine iSn (lv' := [(0, .ref h), (1, .int (jI (k : Int))), (2, .int (jI x2)), (3, .int (jI (jp P k)))]) C hl dX1_price_27 [1, 2, 3, 0] rfl (by decide) rfl (fun ls hl => ?_)
        refine aLn C hl 0 dX1_price_28 rfl rfl ?_
        refine gM C w 0 5 dX1_price_29 q148 rfl (by decide) rfl rfl ?_
        refine iLn C hl 1 dX1_price_32 rfl rfl ?_
        refine iLn C hl 2 dX1_price_33 rfl rfl ?_
        refine wrA (ws' := (wQ h a cI (priP P k x2) t d ch)) C w 5 dX1_price_34 rfl (by omega) (by decide) rfl (fun H locs w => ?_)
        refine iLn C hl 3 dX1_price_35 rfl rfl ?_
        exact retI (priP P k x2, (t, d, ch)) C hr w dX1_price_36 ⟨Or.inl ⟨⟨by omega, by omega, by omega, by omega⟩, rfl, rfl⟩, trivial⟩
      · refine kC C dX1_price_19 ?_
        exact retI (P, (t, d, ch)) C hr w dX1_price_20 ⟨Or.inr ⟨fun q => by have c16 := of_decide_eq_true c16; omega, rfl, rfl⟩, trivial⟩
end
section
/-! MODEL 2: length, slowest, fastest -/
set_option maxHeartbeats 4000000 in
set_option maxRecDepth 100000 in
theorem lpL1 {p : Program} {l : Launch} {e : Env} {s : State} {m : MethodId} {args : Array Value} {below : List Frame} {meth : Method} {c : Code} {Q : State → Prop} {D : va_G} {A : Nat → Prop} {H0 : Heap} {cI cZ : ClassId} (C : Cx p s m meth c cX1_length 3 args RX1 D cI cZ) (h : Nat) (a : Nat → Nat) (P : Pj) (t d ch : Nat → Int)
    (k : ∀ (H : Heap) (locs : List Loc) (ls : Array Slot), Wd D A H0 (wQ h a cI P t l0 ch) H locs → lv_has ls 3 [(0, .ref h)] → W p l e (rmo 0 0) s m args below meth c H locs 0 0 Q (F0 m 29 ls [])) :
    ∀ (x i : Nat), i ≤ 6 → 6 < i + x → ∀ (H : Heap) (locs : List Loc) (ls : Array Slot), Wd D A H0 (wQ h a cI P t (fz l0 d i) ch) H locs → lv_has ls 3 [(0, .ref h), (1, .int (jI (i : Int)))] → W p l e (rmo 0 0) s m args below meth c H locs 0 0 Q (F0 m 2 ls []) := by
  intro x
  induction x with
  | zero => intro i h1 h2; omega
  | succ x ih =>
    intro i h1 h2 H locs ls w hl
    refine iLn C hl 1 dX1_length_2 rfl rfl ?_
    refine kB C dX1_length_3 (by decide) ?_
    refine cGe C 29 dX1_length_5 (by decide) ⟨⟨by omega, by omega⟩, ⟨by omega, by omega⟩⟩ (fun c5 => ?_) (fun c5 => ?_)
    · have hi6 : i = 6 := by omega
      subst hi6
      exact k H locs ls (wd_ext (f' := fun j => jI (l0 j)) w 7 rfl (fun j hj => by rw [fz_at hj]) rfl) (lv_sub hl [0] rfl)
    · refine aLn C hl 0 dX1_length_8 rfl rfl ?_
      refine gM C w 0 7 dX1_length_9 q150 rfl (by decide) rfl rfl ?_
      refine iLn C hl 1 dX1_length_12 rfl rfl ?_
      refine iLn C hl 1 dX1_length_13 rfl rfl ?_
      refine Wcut (g2 := F0 m 22 ls [.int (jI (l0 i)), .int (jI (i : Int)), .ref (a 7)]) ?_ (fun k22 => ?_)
      · refine wrA (ws' := (wQ h a cI P t (uu (fz l0 d i) i (l0 i)) ch)) C w 7 dX1_length_22 rfl (by omega) (by decide) rfl (fun H locs w => ?_)
        refine iInc (lv' := [(0, .ref h), (1, .int (jI ((i + 1 : Nat) : Int)))]) C hl 1 dX1_length_23 [1, 0] rfl (by decide) rfl (fun ls hl => ?_)
        refine gTo C 2 dX1_length_26 (by decide) ?_
        have e7 : (uu (fz l0 d i) i (l0 i)) = fz l0 d (i + 1) := fz_s _ _ _ rfl
        exact ih (i + 1) (by omega) (by omega) H locs ls (wd_eq w (by rw [e7])) hl
      · refine zNe C 21 dX1_length_14 (by decide) ⟨by omega, by omega⟩ (fun c14 => ?_) (fun c14 => ?_)
        · refine kC C dX1_length_21 ?_
          refine tpi (show _ = jI (l0 i) from by rw [l0, if_neg (by omega)]) ?_
          exact k22
        · refine kC C dX1_length_17 ?_
          refine gTo C 22 dX1_length_18 (by decide) ?_
          refine tpi (show _ = jI (l0 i) from by rw [l0, if_pos (by omega)]) ?_
          exact k22
set_option maxHeartbeats 4000000 in
set_option maxRecDepth 100000 in
theorem lpL3 {p : Program} {l : Launch} {e : Env} {s : State} {m : MethodId} {args : Array Value} {below : List Frame} {meth : Method} {c : Code} {Q : State → Prop} {D : va_G} {A : Nat → Prop} {H0 : Heap} {cI cZ : ClassId} (C : Cx p s m meth c cX1_length 3 args RX1 D cI cZ) (h : Nat) (a : Nat → Nat) (P : Pj) (t d ch : Nat → Int) (hp : pok P) (ht : ∀ j, j < jn P → 0 ≤ t j ∧ t j ≤ 9) {q : Nat} (hq : q < 5) (hd : linv P t q 0 d)
    (k : ∀ (H : Heap) (locs : List Loc) (ls : Array Slot), Wd D A H0 (wQ h a cI P t (lin P t q d (jn P)) ch) H locs → lv_has ls 3 [(0, .ref h), (1, .int (jI (q : Int)))] → W p l e (rmo 0 0) s m args below meth c H locs 0 0 Q (F0 m 122 ls [])) :
    ∀ (x i : Nat), i ≤ jn P → jn P < i + x → ∀ (H : Heap) (locs : List Loc) (ls : Array Slot), Wd D A H0 (wQ h a cI P t (lin P t q d i) ch) H locs → lv_has ls 3 [(0, .ref h), (1, .int (jI (q : Int))), (2, .int (jI (i : Int)))] → W p l e (rmo 0 0) s m args below meth c H locs 0 0 Q (F0 m 38 ls []) := by
  have h7 := hp.1
  intro x
  induction x with
  | zero => intro i h1 h2; omega
  | succ x ih =>
    intro i h1 h2 H locs ls w hl
    have hli := linv_in hp (fun j hj => (ht j hj).1) hd i h1
    have hbd := lat_b hp ht hli
    have hbq := hbd q (by omega)
    have hs : lin P t q d (i + 1) = lstep P t q i (lin P t q d i) := rfl
    refine iLn C hl 2 dX1_length_38 rfl rfl ?_
    refine aLn C hl 0 dX1_length_39 rfl rfl ?_
    refine gM C w 0 0 dX1_length_40 q143 rfl (by decide) rfl rfl ?_
    refine cGe C 122 dX1_length_43 (by decide) ⟨⟨by omega, by omega⟩, ⟨by omega, by omega⟩⟩ (fun c43 => ?_) (fun c43 => ?_)
    · have hi6 : i = jn P := by omega
      subst hi6
      exact k H locs ls w (lv_sub hl [0, 1] rfl)
    · have hj := hp.2 i (by omega)
      obtain ⟨j1, j2, -⟩ := hj
      have hti := ht i (by omega)
      have hbt := hbd (jt P i) (by omega)
      refine aLn C hl 0 dX1_length_46 rfl rfl ?_
      refine gM C w 0 1 dX1_length_47 q144 rfl (by decide) rfl rfl ?_
      refine iLn C hl 2 dX1_length_50 rfl rfl ?_
      refine rdA C w 1 dX1_length_51 rfl (by omega) (by decide) ?_
      refine tpi (show _ = jI ((jf P i : Nat) : Int) from rfl) ?_
      refine iLn C hl 1 dX1_length_52 rfl rfl ?_
      refine cNe C 116 dX1_length_53 (by decide) ⟨⟨by omega, by omega⟩, ⟨by omega, by omega⟩⟩ (fun c53 => ?_) (fun c53 => ?_)
      · rw [lstep, if_neg (fun z => by have := z.1; omega)] at hs
        refine iInc (lv' := [(0, .ref h), (1, .int (jI (q : Int))), (2, .int (jI ((i + 1 : Nat) : Int)))]) C hl 2 dX1_length_116 [1, 2, 0] rfl (by decide) rfl (fun ls hl => ?_)
        refine gTo C 38 dX1_length_119 (by decide) ?_
        exact ih (i + 1) (by omega) (by omega) H locs ls (wd_eq w (by rw [hs])) hl
      · refine aLn C hl 0 dX1_length_56 rfl rfl ?_
        refine gM C w 0 7 dX1_length_57 q150 rfl (by decide) rfl rfl ?_
        refine iLn C hl 1 dX1_length_60 rfl rfl ?_
        refine rdA C w 7 dX1_length_61 rfl (by omega) (by decide) ?_
        refine zLt C 116 dX1_length_62 (by decide) ⟨by omega, by omega⟩ (fun c62 => ?_) (fun c62 => ?_)
        · rw [lstep, if_neg (fun z => by have := z.2.1; omega)] at hs
          refine iInc (lv' := [(0, .ref h), (1, .int (jI (q : Int))), (2, .int (jI ((i + 1 : Nat) : Int)))]) C hl 2 dX1_length_116 [1, 2, 0] rfl (by decide) rfl (fun ls hl => ?_)
          refine gTo C 38 dX1_length_119 (by decide) ?_
          exact ih (i + 1) (by omega) (by omega) H locs ls (wd_eq w (by rw [hs])) hl
        · refine aLn C hl 0 dX1_length_65 rfl rfl ?_
          refine gM C w 0 7 dX1_length_66 q150 rfl (by decide) rfl rfl ?_
          refine iLn C hl 1 dX1_length_69 rfl rfl ?_
          refine rdA C w 7 dX1_length_70 rfl (by omega) (by decide) ?_
          refine aLn C hl 0 dX1_length_71 rfl rfl ?_
          refine gM C w 0 6 dX1_length_72 q149 rfl (by decide) rfl rfl ?_
          refine iLn C hl 2 dX1_length_75 rfl rfl ?_
          refine rdA C w 6 dX1_length_76 rfl (by omega) (by decide) ?_
          refine oAdd C dX1_length_77 ?_
          refine aLn C hl 0 dX1_length_78 rfl rfl ?_
          refine gM C w 0 7 dX1_length_79 q150 rfl (by decide) rfl rfl ?_
          refine aLn C hl 0 dX1_length_82 rfl rfl ?_
          refine gM C w 0 2 dX1_length_83 q145 rfl (by decide) rfl rfl ?_
          refine iLn C hl 2 dX1_length_86 rfl rfl ?_
          refine rdA C w 2 dX1_length_87 rfl (by omega) (by decide) ?_
          refine rdA C w 7 dX1_length_88 rfl (by omega) (by decide) ?_
          refine cLe C 116 dX1_length_89 (by decide) ⟨⟨by omega, by omega⟩, ⟨by omega, by omega⟩⟩ (fun c89 => ?_) (fun c89 => ?_)
          · rw [lstep, if_neg (fun z => by have := z.2.2; omega)] at hs
            refine iInc (lv' := [(0, .ref h), (1, .int (jI (q : Int))), (2, .int (jI ((i + 1 : Nat) : Int)))]) C hl 2 dX1_length_116 [1, 2, 0] rfl (by decide) rfl (fun ls hl => ?_)
            refine gTo C 38 dX1_length_119 (by decide) ?_
            exact ih (i + 1) (by omega) (by omega) H locs ls (wd_eq w (by rw [hs])) hl
          · rw [lstep, if_pos ⟨by omega, by omega, by omega⟩] at hs
            refine aLn C hl 0 dX1_length_92 rfl rfl ?_
            refine gM C w 0 7 dX1_length_93 q150 rfl (by decide) rfl rfl ?_
            refine aLn C hl 0 dX1_length_96 rfl rfl ?_
            refine gM C w 0 2 dX1_length_97 q145 rfl (by decide) rfl rfl ?_
            refine iLn C hl 2 dX1_length_100 rfl rfl ?_
            refine rdA C w 2 dX1_length_101 rfl (by omega) (by decide) ?_
            refine aLn C hl 0 dX1_length_102 rfl rfl ?_
            refine gM C w 0 7 dX1_length_103 q150 rfl (by decide) rfl rfl ?_
            refine iLn C hl 1 dX1_length_106 rfl rfl ?_
            refine rdA C w 7 dX1_length_107 rfl (by omega) (by decide) ?_
            refine aLn C hl 0 dX1_length_108 rfl rfl ?_
            refine gM C w 0 6 dX1_length_109 q149 rfl (by decide) rfl rfl ?_
            refine iLn C hl 2 dX1_length_112 rfl rfl ?_
            refine rdA C w 6 dX1_length_113 rfl (by omega) (by decide) ?_
            refine oAdd C dX1_length_114 ?_
            refine wrA (ws' := (wQ h a cI P t (uu (lin P t q d i) (jt P i) ((lin P t q d i) q + t i)) ch)) C w 7 dX1_length_115 rfl (by omega) (by decide) rfl (fun H locs w => ?_)
            refine iInc (lv' := [(0, .ref h), (1, .int (jI (q : Int))), (2, .int (jI ((i + 1 : Nat) : Int)))]) C hl 2 dX1_length_116 [1, 2, 0] rfl (by decide) rfl (fun ls hl => ?_)
            refine gTo C 38 dX1_length_119 (by decide) ?_
            exact ih (i + 1) (by omega) (by omega) H locs ls (wd_eq w (by rw [hs])) hl
set_option maxHeartbeats 4000000 in
set_option maxRecDepth 100000 in
theorem lpL2 {p : Program} {l : Launch} {e : Env} {s : State} {m : MethodId} {args : Array Value} {below : List Frame} {meth : Method} {c : Code} {Q : State → Prop} {D : va_G} {A : Nat → Prop} {H0 : Heap} {cI cZ : ClassId} (C : Cx p s m meth c cX1_length 3 args RX1 D cI cZ) (h : Nat) (a : Nat → Nat) (P : Pj) (t d ch : Nat → Int) (hp : pok P) (ht : ∀ j, j < jn P → 0 ≤ t j ∧ t j ≤ 9)
    (k : ∀ (H : Heap) (locs : List Loc) (ls : Array Slot), Wd D A H0 (wQ h a cI P t (late P t) ch) H locs → lv_has ls 3 [(0, .ref h)] → W p l e (rmo 0 0) s m args below meth c H locs 0 0 Q (F0 m 128 ls [])) :
    ∀ (x i : Nat), i ≤ 5 → 5 < i + x → ∀ (H : Heap) (locs : List Loc) (ls : Array Slot), Wd D A H0 (wQ h a cI P t (lout P t i) ch) H locs → lv_has ls 3 [(0, .ref h), (1, .int (jI (i : Int)))] → W p l e (rmo 0 0) s m args below meth c H locs 0 0 Q (F0 m 31 ls []) := by
  have h7 := hp.1
  intro x
  induction x with
  | zero => intro i h1 h2; omega
  | succ x ih =>
    intro i h1 h2 H locs ls w hl
    refine iLn C hl 1 dX1_length_31 rfl rfl ?_
    refine kC C dX1_length_32 ?_
    refine cGe C 128 dX1_length_33 (by decide) ⟨⟨by omega, by omega⟩, ⟨by omega, by omega⟩⟩ (fun c33 => ?_) (fun c33 => ?_)
    · have hi6 : i = 5 := by omega
      subst hi6
      exact k H locs ls w (lv_sub hl [0] rfl)
    · refine kC C dX1_length_36 ?_
      refine iSn (lv' := [(0, .ref h), (1, .int (jI (i : Int))), (2, .int (jI ((0 : Nat) : Int)))]) C hl dX1_length_37 [1, 2, 0] rfl (by decide) rfl (fun ls hl => ?_)
      refine lpL3 C h a P t (lout P t i) ch hp ht (q := i) (by omega) (linv_out hp (fun j hj => (ht j hj).1) i) (fun H locs ls w hl => ?_) (jn P + 1) 0 (by omega) (by omega) H locs ls w hl
      refine iInc (lv' := [(0, .ref h), (1, .int (jI ((i + 1 : Nat) : Int)))]) C hl 1 dX1_length_122 [1, 0] rfl (by decide) rfl (fun ls hl => ?_)
      refine gTo C 31 dX1_length_125 (by decide) ?_
      exact ih (i + 1) (by omega) (by omega) H locs ls w hl
set_option maxHeartbeats 4000000 in
set_option maxRecDepth 100000 in
theorem mX1_length (l : Launch) (D : va_G) (cI cZ : ClassId) (h : Nat) (a : Nat → Nat) (P : Pj) (t d ch : Nat → Int) (hp : pok P) (ht : ∀ j, j < jn P → 0 ≤ t j ∧ t j ≤ 9) : MI l yX1_length cX1_length 3 (some .int) 0 0 D cI cZ (wQ h a cI P t d ch) [.ref h] (fun r (u : Unit) => r = jI (plen P t)) (fun u => (wQ h a cI P t (late P t) ch)) := by
  refine mi_of (by decide) (Nat.le_of_ble_eq_true rfl) ?_
  intro p e s m below meth c A ls C hr w hl
  have h7 := hp.1
  have hl : lv_has ls 3 [(0, .ref h)] := hl
  refine kC C dX1_length_0 ?_
  refine iSn (lv' := [(0, .ref h), (1, .int (jI ((0 : Nat) : Int)))]) C hl dX1_length_1 [1, 0] rfl (by decide) rfl (fun ls hl => ?_)
  refine lpL1 C h a P t d ch (fun H locs ls w hl => ?_) 7 0 (by omega) (by omega) _ _ _ (wd_eq w (by rw [fz_0])) hl
  refine kC C dX1_length_29 ?_
  refine iSn (lv' := [(0, .ref h), (1, .int (jI ((0 : Nat) : Int)))]) C hl dX1_length_30 [1, 0] rfl (by decide) rfl (fun ls hl => ?_)
  refine lpL2 C h a P t d ch hp ht (fun H locs ls w hl => ?_) 6 0 (by omega) (by omega) H locs ls w hl
  have hb5 := lat_b hp ht (linv_out hp (fun j hj => (ht j hj).1) 5) 5 (Nat.le_refl _)
  have hb5 : -1 ≤ late P t 5 ∧ late P t 5 ≤ 45 := hb5
  refine aLn C hl 0 dX1_length_128 rfl rfl ?_
  refine gM C w 0 7 dX1_length_129 q150 rfl (by decide) rfl rfl ?_
  refine kC C dX1_length_132 ?_
  refine tpi (show _ = jI ((5 : Nat) : Int) from rfl) ?_
  refine rdA C w 7 dX1_length_133 rfl (by decide) (by decide) ?_
  refine tpi (show _ = jI (late P t 5) from rfl) ?_
  refine zGe C 141 dX1_length_134 (by decide) ⟨by omega, by omega⟩ (fun c134 => ?_) (fun c134 => ?_)
  · refine aLn C hl 0 dX1_length_141 rfl rfl ?_
    refine gM C w 0 7 dX1_length_142 q150 rfl (by decide) rfl rfl ?_
    refine kC C dX1_length_145 ?_
    refine tpi (show _ = jI ((5 : Nat) : Int) from rfl) ?_
    refine rdA C w 7 dX1_length_146 rfl (by decide) (by decide) ?_
    exact retI () C hr w dX1_length_147 (by rw [plen, if_neg (by omega)])
  · refine kC C dX1_length_137 ?_
    refine gTo C 147 dX1_length_138 (by decide) ?_
    exact retI () C hr w dX1_length_147 (by rw [plen, if_pos (by omega)])
set_option maxHeartbeats 4000000 in
set_option maxRecDepth 100000 in
theorem lp_slowest {p : Program} {l : Launch} {e : Env} {s : State} {m : MethodId} {args : Array Value} {below : List Frame} {meth : Method} {c : Code} {Q : State → Prop} {D : va_G} {A : Nat → Prop} {H0 : Heap} {cI cZ : ClassId} (C : Cx p s m meth c cX1_slowest 2 args RX1 D cI cZ) (h : Nat) (a : Nat → Nat) (P : Pj) (t d ch : Nat → Int) (hp : pok P)
    (k : ∀ (H : Heap) (locs : List Loc) (ls : Array Slot), Wd D A H0 (wQ h a cI P (fz (js P) t (jn P)) d ch) H locs → lv_has ls 2 [(0, .ref h)] → W p l e (rmo 1 22) s m args below meth c H locs 0 0 Q (F0 m 28 ls [])) :
    ∀ (x i : Nat), i ≤ jn P → jn P < i + x → ∀ (H : Heap) (locs : List Loc) (ls : Array Slot), Wd D A H0 (wQ h a cI P (fz (js P) t i) d ch) H locs → lv_has ls 2 [(0, .ref h), (1, .int (jI (i : Int)))] → W p l e (rmo 1 22) s m args below meth c H locs 0 0 Q (F0 m 2 ls []) := by
  have h7 := hp.1
  intro x
  induction x with
  | zero => intro i h1 h2; omega
  | succ x ih =>
    intro i h1 h2 H locs ls w hl
    refine iLn C hl 1 dX1_slowest_2 rfl rfl ?_
    refine aLn C hl 0 dX1_slowest_3 rfl rfl ?_
    refine gM C w 0 0 dX1_slowest_4 q143 rfl (by decide) rfl rfl ?_
    refine cGe C 28 dX1_slowest_7 (by decide) ⟨⟨by omega, by omega⟩, ⟨by omega, by omega⟩⟩ (fun c7 => ?_) (fun c7 => ?_)
    · have hi6 : i = jn P := by omega
      subst hi6
      exact k H locs ls w (lv_sub hl [0] rfl)
    · refine aLn C hl 0 dX1_slowest_10 rfl rfl ?_
      refine gM C w 0 6 dX1_slowest_11 q149 rfl (by decide) rfl rfl ?_
      refine iLn C hl 1 dX1_slowest_14 rfl rfl ?_
      refine aLn C hl 0 dX1_slowest_15 rfl rfl ?_
      refine gM C w 0 3 dX1_slowest_16 q146 rfl (by decide) rfl rfl ?_
      refine iLn C hl 1 dX1_slowest_19 rfl rfl ?_
      refine rdA C w 3 dX1_slowest_20 rfl (by omega) (by decide) ?_
      refine wrA (ws' := (wQ h a cI P (uu (fz (js P) t i) i (js P i)) d ch)) C w 6 dX1_slowest_21 rfl (by omega) (by decide) rfl (fun H locs w => ?_)
      refine iInc (lv' := [(0, .ref h), (1, .int (jI ((i + 1 : Nat) : Int)))]) C hl 1 dX1_slowest_22 [1, 0] rfl (by decide) rfl (fun ls hl => ?_)
      refine gTo C 2 dX1_slowest_25 (by decide) ?_
      have e6 : uu (fz (js P) t i) i (js P i) = fz (js P) t (i + 1) := fz_s _ _ _ rfl
      exact ih (i + 1) (by omega) (by omega) H locs ls (wd_eq w (by rw [e6])) hl
set_option maxHeartbeats 4000000 in
set_option maxRecDepth 100000 in
theorem mX1_slowest (l : Launch) (D : va_G) (cI cZ : ClassId) (h : Nat) (a : Nat → Nat) (P : Pj) (t d ch : Nat → Int) (hp : pok P) : MI l yX1_slowest cX1_slowest 2 (some .int) 1 22 D cI cZ (wQ h a cI P t d ch) [.ref h] (fun r (u : SM) => r = jI (plen P (js P))) (fun u => wN h a cI P u) := by
  refine mi_of (by decide) (Nat.le_of_ble_eq_true rfl) ?_
  intro p e s m below meth c A ls C hr w hl
  have h7 := hp.1
  have hl : lv_has ls 2 [(0, .ref h)] := hl
  refine kC C dX1_slowest_0 ?_
  refine iSn (lv' := [(0, .ref h), (1, .int (jI ((0 : Nat) : Int)))]) C hl dX1_slowest_1 [1, 0] rfl (by decide) rfl (fun ls hl => ?_)
  refine lp_slowest C h a P t d ch hp (fun H locs ls w hl => ?_) (jn P + 1) 0 (by omega) (by omega) _ _ _ (wd_eq w (by rw [fz_0])) hl
  have hY : ∀ j, j < jn P → (fz (js P) t (jn P)) j = js P j := fun j hj => fz_at hj
  have hY2 : ∀ j, j < jn P → 0 ≤ (fz (js P) t (jn P)) j ∧ (fz (js P) t (jn P)) j ≤ 9 := fun j hj => by rw [hY j hj]; exact js_nn hp j hj
  refine aLn C hl 0 dX1_slowest_28 rfl rfl ?_
  refine cpI (n := 0) C w hl dX1_slowest_29 (mX1_length l D cI cZ h a P (fz (js P) t (jn P)) d ch hp hY2) (lw_V q190 q192 qs8 q14 q193) (by decide +kernel) ⟨Nat.le_of_ble_eq_true rfl, Nat.le_of_ble_eq_true rfl⟩ rfl rfl rfl rfl rfl (Nat.le_of_ble_eq_true rfl) ⟨Nat.le_refl 0, Nat.le_refl 0⟩ (fun rr u H locs hz w => ?_)
  subst hz
  exact retI ((fz (js P) t (jn P)), late P (fz (js P) t (jn P)), ch) C hr w dX1_slowest_32 (by rw [plen_congr hY])
set_option maxHeartbeats 4000000 in
set_option maxRecDepth 100000 in
theorem lp_fastest {p : Program} {l : Launch} {e : Env} {s : State} {m : MethodId} {args : Array Value} {below : List Frame} {meth : Method} {c : Code} {Q : State → Prop} {D : va_G} {A : Nat → Prop} {H0 : Heap} {cI cZ : ClassId} (C : Cx p s m meth c cX1_fastest 2 args RX1 D cI cZ) (h : Nat) (a : Nat → Nat) (P : Pj) (t d ch : Nat → Int) (hp : pok P)
    (k : ∀ (H : Heap) (locs : List Loc) (ls : Array Slot), Wd D A H0 (wQ h a cI P (fz (ja P) t (jn P)) d ch) H locs → lv_has ls 2 [(0, .ref h)] → W p l e (rmo 1 22) s m args below meth c H locs 0 0 Q (F0 m 28 ls [])) :
    ∀ (x i : Nat), i ≤ jn P → jn P < i + x → ∀ (H : Heap) (locs : List Loc) (ls : Array Slot), Wd D A H0 (wQ h a cI P (fz (ja P) t i) d ch) H locs → lv_has ls 2 [(0, .ref h), (1, .int (jI (i : Int)))] → W p l e (rmo 1 22) s m args below meth c H locs 0 0 Q (F0 m 2 ls []) := by
  have h7 := hp.1
  intro x
  induction x with
  | zero => intro i h1 h2; omega
  | succ x ih =>
    intro i h1 h2 H locs ls w hl
    refine iLn C hl 1 dX1_fastest_2 rfl rfl ?_
    refine aLn C hl 0 dX1_fastest_3 rfl rfl ?_
    refine gM C w 0 0 dX1_fastest_4 q143 rfl (by decide) rfl rfl ?_
    refine cGe C 28 dX1_fastest_7 (by decide) ⟨⟨by omega, by omega⟩, ⟨by omega, by omega⟩⟩ (fun c7 => ?_) (fun c7 => ?_)
    · have hi6 : i = jn P := by omega
      subst hi6
      exact k H locs ls w (lv_sub hl [0] rfl)
    · refine aLn C hl 0 dX1_fastest_10 rfl rfl ?_
      refine gM C w 0 6 dX1_fastest_11 q149 rfl (by decide) rfl rfl ?_
      refine iLn C hl 1 dX1_fastest_14 rfl rfl ?_
      refine aLn C hl 0 dX1_fastest_15 rfl rfl ?_
      refine gM C w 0 4 dX1_fastest_16 q147 rfl (by decide) rfl rfl ?_
      refine iLn C hl 1 dX1_fastest_19 rfl rfl ?_
      refine rdA C w 4 dX1_fastest_20 rfl (by omega) (by decide) ?_
      refine wrA (ws' := (wQ h a cI P (uu (fz (ja P) t i) i (ja P i)) d ch)) C w 6 dX1_fastest_21 rfl (by omega) (by decide) rfl (fun H locs w => ?_)
      refine iInc (lv' := [(0, .ref h), (1, .int (jI ((i + 1 : Nat) : Int)))]) C hl 1 dX1_fastest_22 [1, 0] rfl (by decide) rfl (fun ls hl => ?_)
      refine gTo C 2 dX1_fastest_25 (by decide) ?_
      have e6 : uu (fz (ja P) t i) i (ja P i) = fz (ja P) t (i + 1) := fz_s _ _ _ rfl
      exact ih (i + 1) (by omega) (by omega) H locs ls (wd_eq w (by rw [e6])) hl
set_option maxHeartbeats 4000000 in
set_option maxRecDepth 100000 in
theorem mX1_fastest (l : Launch) (D : va_G) (cI cZ : ClassId) (h : Nat) (a : Nat → Nat) (P : Pj) (t d ch : Nat → Int) (hp : pok P) : MI l yX1_fastest cX1_fastest 2 (some .int) 1 22 D cI cZ (wQ h a cI P t d ch) [.ref h] (fun r (u : SM) => r = jI (plen P (ja P))) (fun u => wN h a cI P u) := by
  refine mi_of (by decide) (Nat.le_of_ble_eq_true rfl) ?_
  intro p e s m below meth c A ls C hr w hl
  have h7 := hp.1
  have hl : lv_has ls 2 [(0, .ref h)] := hl
  refine kC C dX1_fastest_0 ?_
  refine iSn (lv' := [(0, .ref h), (1, .int (jI ((0 : Nat) : Int)))]) C hl dX1_fastest_1 [1, 0] rfl (by decide) rfl (fun ls hl => ?_)
  refine lp_fastest C h a P t d ch hp (fun H locs ls w hl => ?_) (jn P + 1) 0 (by omega) (by omega) _ _ _ (wd_eq w (by rw [fz_0])) hl
  have hY : ∀ j, j < jn P → (fz (ja P) t (jn P)) j = ja P j := fun j hj => fz_at hj
  have hY2 : ∀ j, j < jn P → 0 ≤ (fz (ja P) t (jn P)) j ∧ (fz (ja P) t (jn P)) j ≤ 9 := fun j hj => by rw [hY j hj]; exact ja_nn hp j hj
  refine aLn C hl 0 dX1_fastest_28 rfl rfl ?_
  refine cpI (n := 0) C w hl dX1_fastest_29 (mX1_length l D cI cZ h a P (fz (ja P) t (jn P)) d ch hp hY2) (lw_V q190 q192 qs8 q14 q193) (by decide +kernel) ⟨Nat.le_of_ble_eq_true rfl, Nat.le_of_ble_eq_true rfl⟩ rfl rfl rfl rfl rfl (Nat.le_of_ble_eq_true rfl) ⟨Nat.le_refl 0, Nat.le_refl 0⟩ (fun rr u H locs hz w => ?_)
  subst hz
  exact retI ((fz (ja P) t (jn P)), late P (fz (ja P) t (jn P)), ch) C hr w dX1_fastest_32 (by rw [plen_congr hY])
end
section
/-! MODEL 3: plan, curve -/
theorem dg_lt (n i : Nat) : dg n i < 4 := Nat.mod_lt _ (by decide)
theorem pn_b {P : Pj} (hp : pok P) (n : Nat) : -1 ≤ pn P n ∧ pn P n ≤ 420 ∧ (0 ≤ pn P n → pv P n) := by
  by_cases h : pv P n
  · rw [pn_y h]
    have h1 := pc_nn hp (pv_plan h)
    have h2 := pc_le hp (pv_plan h)
    exact ⟨by omega, h2, fun _ => h⟩
  · rw [pn_n h]
    exact ⟨by omega, by omega, fun q => absurd q (by decide)⟩
set_option maxHeartbeats 4000000 in
set_option maxRecDepth 100000 in
theorem lpPl {p : Program} {l : Launch} {e : Env} {s : State} {m : MethodId} {args : Array Value} {below : List Frame} {meth : Method} {c : Code} {Q : State → Prop} {D : va_G} {A : Nat → Prop} {H0 : Heap} {cI cZ : ClassId} (C : Cx p s m meth c cX1_plan 5 args RX1 D cI cZ) (h : Nat) (a : Nat → Nat) (P : Pj) (t d ch : Nat → Int) (hp : pok P) {n : Nat} (hn : n < 16384)
    (k71 : pv P n → ∀ (H : Heap) (locs : List Loc) (ls : Array Slot), Wd D A H0 (wQ h a cI P (fz (pt P n) t (jn P)) d ch) H locs → lv_has ls 5 [(2, .int (jI (pc P (pt P n))))] → W p l e (rmo 0 0) s m args below meth c H locs 0 0 Q (F0 m 71 ls [])) (k51 : ¬ pv P n → ∀ (t' : Nat → Int) (H : Heap) (locs : List Loc) (ls : Array Slot), Wd D A H0 (wQ h a cI P t' d ch) H locs → W p l e (rmo 0 0) s m args below meth c H locs 0 0 Q (F0 m 51 ls [])) :
    ∀ (x i : Nat), i ≤ jn P → jn P < i + x → (∀ j, j < i → ja P j ≤ pt P n j) → ∀ (H : Heap) (locs : List Loc) (ls : Array Slot), Wd D A H0 (wQ h a cI P (fz (pt P n) t i) d ch) H locs → lv_has ls 5 [(0, .ref h), (1, .int (jI (n : Int))), (2, .int (jI (sm (fun j => jp P j * (dg n j : Int)) i))), (3, .int (jI (i : Int)))] → W p l e (rmo 0 0) s m args below meth c H locs 0 0 Q (F0 m 4 ls []) := by
  have h7 := hp.1
  intro x
  induction x with
  | zero => intro i h1 h2; omega
  | succ x ih =>
    intro i h1 h2 hv H locs ls w hl
    refine iLn C hl 3 dX1_plan_4 rfl rfl ?_
    refine aLn C hl 0 dX1_plan_5 rfl rfl ?_
    refine gM C w 0 0 dX1_plan_6 q143 rfl (by decide) rfl rfl ?_
    refine cGe C 71 dX1_plan_9 (by decide) ⟨⟨by omega, by omega⟩, ⟨by omega, by omega⟩⟩ (fun c9 => ?_) (fun c9 => ?_)
    · have hi6 : i = jn P := by omega
      subst hi6
      exact k71 hv H locs ls w (lv_sub hl [2] (by rw [pc_dg]; rfl))
    · have hj := hp.2 i (by omega)
      obtain ⟨-, -, j3, j4, j5, j6, j7, j8⟩ := hj
      have hdl := dg_lt n i
      have hpt : pt P n i = js P i - (dg n i : Int) := rfl
      have hnd : n / 4 ^ i ≤ n := Nat.div_le_self _ _
      refine iLn C hl 1 dX1_plan_12 rfl rfl ?_
      refine kC C dX1_plan_13 ?_
      refine iLn C hl 3 dX1_plan_14 rfl rfl ?_
      refine oMul C dX1_plan_15 ?_
      refine oShr C dX1_plan_16 ⟨by omega, by omega⟩ ?_
      refine kC C dX1_plan_17 ?_
      refine oAnd3 C dX1_plan_18 (by omega) ?_
      refine iS (lv' := [(0, .ref h), (1, .int (jI (n : Int))), (2, .int (jI (sm (fun j => jp P j * (dg n j : Int)) i))), (3, .int (jI (i : Int))), (4, .int (jI ((dg n i : Nat) : Int)))]) C hl dX1_plan_19 [1, 2, 3, 4, 0] (by decide) rfl (fun ls hl => ?_)
      refine aLn C hl 0 dX1_plan_21 rfl rfl ?_
      refine gM C w 0 6 dX1_plan_22 q149 rfl (by decide) rfl rfl ?_
      refine iLn C hl 3 dX1_plan_25 rfl rfl ?_
      refine aLn C hl 0 dX1_plan_26 rfl rfl ?_
      refine gM C w 0 3 dX1_plan_27 q146 rfl (by decide) rfl rfl ?_
      refine iLn C hl 3 dX1_plan_30 rfl rfl ?_
      refine rdA C w 3 dX1_plan_31 rfl (by omega) (by decide) ?_
      refine iL C hl 4 dX1_plan_32 rfl ?_
      refine oSub C dX1_plan_34 ?_
      refine wrA (ws' := (wQ h a cI P (uu (fz (pt P n) t i) i (js P i - (dg n i : Int))) d ch)) C w 6 dX1_plan_35 rfl (by omega) (by decide) rfl (fun H locs w => ?_)
      have e6 : (uu (fz (pt P n) t i) i (js P i - (dg n i : Int))) = fz (pt P n) t (i + 1) := fz_s _ _ _ rfl
      have w := wd_eq (ws' := (wQ h a cI P (fz (pt P n) t (i + 1)) d ch)) w (by rw [e6])
      refine aLn C hl 0 dX1_plan_36 rfl rfl ?_
      refine gM C w 0 6 dX1_plan_37 q149 rfl (by decide) rfl rfl ?_
      refine iLn C hl 3 dX1_plan_40 rfl rfl ?_
      refine rdA C w 6 dX1_plan_41 rfl (by omega) (by decide) ?_
      refine tpi (show _ = jI (pt P n i) from congrArg jI (fz_at (by omega))) ?_
      refine aLn C hl 0 dX1_plan_42 rfl rfl ?_
      refine gM C w 0 4 dX1_plan_43 q147 rfl (by decide) rfl rfl ?_
      refine iLn C hl 3 dX1_plan_46 rfl rfl ?_
      refine rdA C w 4 dX1_plan_47 rfl (by omega) (by decide) ?_
      refine cGe C 53 dX1_plan_48 (by decide) ⟨⟨by omega, by omega⟩, ⟨by omega, by omega⟩⟩ (fun c48 => ?_) (fun c48 => ?_)
      · have hv2 : ∀ j, j < i + 1 → ja P j ≤ pt P n j := fun j hj => by
          by_cases q : j = i
          · rw [q]
            omega
          · exact hv j (by omega)
        refine iLn C hl 2 dX1_plan_53 rfl rfl ?_
        refine aLn C hl 0 dX1_plan_54 rfl rfl ?_
        refine gM C w 0 5 dX1_plan_55 q148 rfl (by decide) rfl rfl ?_
        refine iLn C hl 3 dX1_plan_58 rfl rfl ?_
        refine rdA C w 5 dX1_plan_59 rfl (by omega) (by decide) ?_
        refine iL C hl 4 dX1_plan_60 rfl ?_
        refine oMul C dX1_plan_62 ?_
        refine oAdd C dX1_plan_63 ?_
        refine iSn (lv' := [(0, .ref h), (1, .int (jI (n : Int))), (2, .int (jI (sm (fun j => jp P j * (dg n j : Int)) (i + 1)))), (3, .int (jI (i : Int))), (4, .int (jI ((dg n i : Nat) : Int)))]) C hl dX1_plan_64 [1, 2, 0, 3, 4] rfl (by decide) rfl (fun ls hl => ?_)
        refine iInc (lv' := [(0, .ref h), (1, .int (jI (n : Int))), (2, .int (jI (sm (fun j => jp P j * (dg n j : Int)) (i + 1)))), (3, .int (jI ((i + 1 : Nat) : Int))), (4, .int (jI ((dg n i : Nat) : Int)))]) C hl 3 dX1_plan_65 [1, 2, 3, 0, 4] rfl (by decide) rfl (fun ls hl => ?_)
        refine gTo C 4 dX1_plan_68 (by decide) ?_
        exact ih (i + 1) (by omega) (by omega) hv2 H locs ls w (lv_sub hl [0, 1, 2, 3] rfl)
      · exact k51 (fun q => by have := q i (by omega); omega) _ H locs ls w
set_option maxHeartbeats 4000000 in
set_option maxRecDepth 100000 in
theorem mX1_plan (l : Launch) (D : va_G) (cI cZ : ClassId) (h : Nat) (a : Nat → Nat) (P : Pj) (t d ch : Nat → Int) (hp : pok P) (n : Nat) (hn : n < 16384) : MI l yX1_plan cX1_plan 5 (some .int) 0 0 D cI cZ (wQ h a cI P t d ch) [.ref h, .int (jI (n : Int))] (fun r (u : Nat → Int) => r = jI (pn P n) ∧ (pv P n → ∀ j, j < jn P → u j = pt P n j)) (fun u => (wQ h a cI P u d ch)) := by
  refine mi_of (by decide) (Nat.le_of_ble_eq_true rfl) ?_
  intro p e s m below meth c A ls C hr w hl
  have h7 := hp.1
  have hl : lv_has ls 5 [(0, .ref h), (1, .int (jI (n : Int)))] := hl
  refine kC C dX1_plan_0 ?_
  refine iSn (lv' := [(0, .ref h), (1, .int (jI (n : Int))), (2, .int (jI 0))]) C hl dX1_plan_1 [1, 2, 0] rfl (by decide) rfl (fun ls hl => ?_)
  refine kC C dX1_plan_2 ?_
  refine iSn (lv' := [(0, .ref h), (1, .int (jI (n : Int))), (2, .int (jI 0)), (3, .int (jI ((0 : Nat) : Int)))]) C hl dX1_plan_3 [1, 2, 3, 0] rfl (by decide) rfl (fun ls hl => ?_)
  refine lpPl C h a P t d ch hp hn (fun hv H locs ls w hl => ?_) (fun hv t' H locs ls w => ?_) (jn P + 1) 0 (by omega) (by omega) (fun j hj => absurd hj (by omega)) _ _ _ (wd_eq w (by rw [fz_0])) hl
  · refine iLn C hl 0 dX1_plan_71 rfl rfl ?_
    exact retI (fz (pt P n) t (jn P)) C hr w dX1_plan_72 ⟨by rw [pn_y hv], fun _ j hj => fz_at hj⟩
  · refine kC C dX1_plan_51 ?_
    exact retI t' C hr w dX1_plan_52 ⟨by rw [pn_n hv], fun q => absurd q hv⟩
set_option maxHeartbeats 4000000 in
set_option maxRecDepth 100000 in
theorem lpC1 {p : Program} {l : Launch} {e : Env} {s : State} {m : MethodId} {args : Array Value} {below : List Frame} {meth : Method} {c : Code} {Q : State → Prop} {D : va_G} {A : Nat → Prop} {H0 : Heap} {cI cZ : ClassId} (C : Cx p s m meth c cX1_curve 5 args RX1 D cI cZ) (h : Nat) (a : Nat → Nat) (P : Pj) (t d ch : Nat → Int)
    (k : ∀ (H : Heap) (locs : List Loc) (ls : Array Slot), Wd D A H0 (wQ h a cI P t d (chp P 0)) H locs → lv_has ls 5 [(0, .ref h)] → W p l e (rmo 1 24) s m args below meth c H locs 0 0 Q (F0 m 21 ls [])) :
    ∀ (x i : Nat), i ≤ 64 → 64 < i + x → ∀ (H : Heap) (locs : List Loc) (ls : Array Slot), Wd D A H0 (wQ h a cI P t d (fz (fun _ => (-1 : Int)) ch i)) H locs → lv_has ls 5 [(0, .ref h), (1, .int (jI (i : Int)))] → W p l e (rmo 1 24) s m args below meth c H locs 0 0 Q (F0 m 2 ls []) := by
  intro x
  induction x with
  | zero => intro i h1 h2; omega
  | succ x ih =>
    intro i h1 h2 H locs ls w hl
    refine iLn C hl 1 dX1_curve_2 rfl rfl ?_
    refine kB C dX1_curve_3 (by decide) ?_
    refine cGe C 21 dX1_curve_5 (by decide) ⟨⟨by omega, by omega⟩, ⟨by omega, by omega⟩⟩ (fun c5 => ?_) (fun c5 => ?_)
    · have hi6 : i = 64 := by omega
      subst hi6
      exact k H locs ls (wd_ext (f' := fun _ => jI (-1)) w 8 rfl (fun j hj => by rw [fz_at hj]) rfl) (lv_sub hl [0] rfl)
    · refine aLn C hl 0 dX1_curve_8 rfl rfl ?_
      refine gM C w 0 8 dX1_curve_9 q151 rfl (by decide) rfl rfl ?_
      refine iLn C hl 1 dX1_curve_12 rfl rfl ?_
      refine kC C dX1_curve_13 ?_
      refine wrA (ws' := (wQ h a cI P t d (uu (fz (fun _ => (-1 : Int)) ch i) i (-1)))) C w 8 dX1_curve_14 rfl (by omega) (by decide) rfl (fun H locs w => ?_)
      refine iInc (lv' := [(0, .ref h), (1, .int (jI ((i + 1 : Nat) : Int)))]) C hl 1 dX1_curve_15 [1, 0] rfl (by decide) rfl (fun ls hl => ?_)
      refine gTo C 2 dX1_curve_18 (by decide) ?_
      have e7 : (uu (fz (fun _ => (-1 : Int)) ch i) i (-1)) = fz (fun _ => (-1 : Int)) ch (i + 1) := fz_s _ _ _ rfl
      exact ih (i + 1) (by omega) (by omega) H locs ls (wd_eq w (by rw [e7])) hl
set_option maxHeartbeats 4000000 in
set_option maxRecDepth 100000 in
theorem lpC2 {p : Program} {l : Launch} {e : Env} {s : State} {m : MethodId} {args : Array Value} {below : List Frame} {meth : Method} {c : Code} {Q : State → Prop} {D : va_G} {A : Nat → Prop} {H0 : Heap} {cI cZ : ClassId} (C : Cx p s m meth c cX1_curve 5 args RX1 D cI cZ) (h : Nat) (a : Nat → Nat) (P : Pj) (hp : pok P)
    (k : ∀ (t d : Nat → Int) (H : Heap) (locs : List Loc) (ls : Array Slot), Wd D A H0 (wQ h a cI P t d (chp P (4 ^ jn P))) H locs → W p l e (rmo 1 24) s m args below meth c H locs 0 0 Q (F0 m 96 ls [])) :
    ∀ (x n : Nat), n ≤ 4 ^ jn P → 4 ^ jn P < n + x → ∀ (t d : Nat → Int) (H : Heap) (locs : List Loc) (ls : Array Slot), Wd D A H0 (wQ h a cI P t d (chp P n)) H locs → lv_has ls 5 [(0, .ref h), (1, .int (jI ((4 ^ jn P : Nat) : Int))), (2, .int (jI (n : Int)))] → W p l e (rmo 1 24) s m args below meth c H locs 0 0 Q (F0 m 32 ls []) := by
  have h7 := hp.1
  have hpw := pow7 h7
  intro x
  induction x with
  | zero => intro n h1 h2; omega
  | succ x ih =>
    intro n h1 h2 t d H locs ls w hl
    have hpb := pn_b hp n
    have hcb := chp_b hp n (pl P n)
    have hs : chp P (n + 1) = cstep P n (chp P n) := rfl
    refine iLn C hl 2 dX1_curve_32 rfl rfl ?_
    refine iLn C hl 1 dX1_curve_33 rfl rfl ?_
    refine cGe C 96 dX1_curve_34 (by decide) ⟨⟨by omega, by omega⟩, ⟨by omega, by omega⟩⟩ (fun c34 => ?_) (fun c34 => ?_)
    · have hi6 : n = 4 ^ jn P := by omega
      rw [hi6] at w
      exact k t d H locs ls w
    · refine aLn C hl 0 dX1_curve_37 rfl rfl ?_
      refine iLn C hl 2 dX1_curve_38 rfl rfl ?_
      refine cpI (n := 1) C w hl dX1_curve_39 (mX1_plan l D cI cZ h a P t d (chp P n) hp n (by omega)) (lw_V q206 q208 qs10 q14 q209) (by decide +kernel) ⟨Nat.le_of_ble_eq_true rfl, Nat.le_of_ble_eq_true rfl⟩ rfl rfl rfl rfl rfl (Nat.le_of_ble_eq_true rfl) ⟨Nat.le_refl 0, Nat.le_refl 0⟩ (fun rr t H locs hz w => ?_)
      obtain ⟨hz, hz2⟩ := hz
      subst hz
      refine iSn (lv' := [(0, .ref h), (1, .int (jI ((4 ^ jn P : Nat) : Int))), (2, .int (jI (n : Int))), (3, .int (jI (pn P n)))]) C hl dX1_curve_42 [1, 2, 3, 0] rfl (by decide) rfl (fun ls hl => ?_)
      refine iLn C hl 3 dX1_curve_43 rfl rfl ?_
      refine zGe C 51 dX1_curve_44 (by decide) ⟨by omega, by omega⟩ (fun c44 => ?_) (fun c44 => ?_)
      · have hv := hpb.2.2 c44
        have hpl := pl_of hp hv
        have ht9 : ∀ j, j < jn P → 0 ≤ t j ∧ t j ≤ 9 := fun j hj => by
          rw [hz2 hv j hj]
          have q1 := pv_plan hv j hj
          have q2 := js_nn hp j hj
          have q3 := ja_nn hp j hj
          omega
        refine aLn C hl 0 dX1_curve_51 rfl rfl ?_
        refine cpI (n := 0) C w hl dX1_curve_52 (mX1_length l D cI cZ h a P t d (chp P n) hp ht9) (lw_V q190 q192 qs8 q14 q193) (by decide +kernel) ⟨Nat.le_of_ble_eq_true rfl, Nat.le_of_ble_eq_true rfl⟩ rfl rfl rfl rfl rfl (Nat.le_of_ble_eq_true rfl) ⟨Nat.le_refl 0, Nat.le_refl 0⟩ (fun rr u H locs hz w => ?_)
        subst hz
        refine tpi (show _ = jI ((pl P n : Nat) : Int) from by rw [plen_congr (hz2 hv), hpl.1]) ?_
        refine iS (lv' := [(0, .ref h), (1, .int (jI ((4 ^ jn P : Nat) : Int))), (2, .int (jI (n : Int))), (3, .int (jI (pn P n))), (4, .int (jI ((pl P n : Nat) : Int)))]) C hl dX1_curve_55 [1, 2, 3, 4, 0] (by decide) rfl (fun ls hl => ?_)
        refine iLn C hl 3 dX1_curve_57 rfl rfl ?_
        refine zLt C 90 dX1_curve_58 (by decide) ⟨by omega, by omega⟩ (fun c58 => ?_) (fun c58 => ?_)
        · omega
        · refine aLn C hl 0 dX1_curve_61 rfl rfl ?_
          refine gM C w 0 8 dX1_curve_62 q151 rfl (by decide) rfl rfl ?_
          refine iL C hl 4 dX1_curve_65 rfl ?_
          refine rdA C w 8 dX1_curve_67 rfl (by omega) (by decide) ?_
          refine zLt C 82 dX1_curve_68 (by decide) ⟨by omega, by omega⟩ (fun c68 => ?_) (fun c68 => ?_)
          · rw [cstep, if_pos (by omega)] at hs
            refine aLn C hl 0 dX1_curve_82 rfl rfl ?_
            refine gM C w 0 8 dX1_curve_83 q151 rfl (by decide) rfl rfl ?_
            refine iL C hl 4 dX1_curve_86 rfl ?_
            refine iLn C hl 3 dX1_curve_88 rfl rfl ?_
            refine wrA (ws' := (wQ h a cI P t (late P t) (uu (chp P n) (pl P n) (pn P n)))) C w 8 dX1_curve_89 rfl (by omega) (by decide) rfl (fun H locs w => ?_)
            refine iInc (lv' := [(0, .ref h), (1, .int (jI ((4 ^ jn P : Nat) : Int))), (2, .int (jI ((n + 1 : Nat) : Int))), (3, .int (jI (pn P n))), (4, .int (jI ((pl P n : Nat) : Int)))]) C hl 2 dX1_curve_90 [1, 2, 0, 3, 4] rfl (by decide) rfl (fun ls hl => ?_)
            refine gTo C 32 dX1_curve_93 (by decide) ?_
            exact ih (n + 1) (by omega) (by omega) _ _ H locs ls (wd_eq w (by rw [hs])) (lv_sub hl [0, 1, 2] rfl)
          · refine iLn C hl 3 dX1_curve_71 rfl rfl ?_
            refine aLn C hl 0 dX1_curve_72 rfl rfl ?_
            refine gM C w 0 8 dX1_curve_73 q151 rfl (by decide) rfl rfl ?_
            refine iL C hl 4 dX1_curve_76 rfl ?_
            refine rdA C w 8 dX1_curve_78 rfl (by omega) (by decide) ?_
            refine cGe C 90 dX1_curve_79 (by decide) ⟨⟨by omega, by omega⟩, ⟨by omega, by omega⟩⟩ (fun c79 => ?_) (fun c79 => ?_)
            · rw [cstep, if_neg (by omega)] at hs
              refine iInc (lv' := [(0, .ref h), (1, .int (jI ((4 ^ jn P : Nat) : Int))), (2, .int (jI ((n + 1 : Nat) : Int))), (3, .int (jI (pn P n))), (4, .int (jI ((pl P n : Nat) : Int)))]) C hl 2 dX1_curve_90 [1, 2, 0, 3, 4] rfl (by decide) rfl (fun ls hl => ?_)
              refine gTo C 32 dX1_curve_93 (by decide) ?_
              exact ih (n + 1) (by omega) (by omega) _ _ H locs ls (wd_eq w (by rw [hs])) (lv_sub hl [0, 1, 2] rfl)
            · rw [cstep, if_pos (by omega)] at hs
              refine aLn C hl 0 dX1_curve_82 rfl rfl ?_
              refine gM C w 0 8 dX1_curve_83 q151 rfl (by decide) rfl rfl ?_
              refine iL C hl 4 dX1_curve_86 rfl ?_
              refine iLn C hl 3 dX1_curve_88 rfl rfl ?_
              refine wrA (ws' := (wQ h a cI P t (late P t) (uu (chp P n) (pl P n) (pn P n)))) C w 8 dX1_curve_89 rfl (by omega) (by decide) rfl (fun H locs w => ?_)
              refine iInc (lv' := [(0, .ref h), (1, .int (jI ((4 ^ jn P : Nat) : Int))), (2, .int (jI ((n + 1 : Nat) : Int))), (3, .int (jI (pn P n))), (4, .int (jI ((pl P n : Nat) : Int)))]) C hl 2 dX1_curve_90 [1, 2, 0, 3, 4] rfl (by decide) rfl (fun ls hl => ?_)
              refine gTo C 32 dX1_curve_93 (by decide) ?_
              exact ih (n + 1) (by omega) (by omega) _ _ H locs ls (wd_eq w (by rw [hs])) (lv_sub hl [0, 1, 2] rfl)
      · refine kC C dX1_curve_47 ?_
        refine gTo C 55 dX1_curve_48 (by decide) ?_
        refine iS (lv' := [(0, .ref h), (1, .int (jI ((4 ^ jn P : Nat) : Int))), (2, .int (jI (n : Int))), (3, .int (jI (pn P n))), (4, .int (jI ((0 : Nat) : Int)))]) C hl dX1_curve_55 [1, 2, 3, 4, 0] (by decide) rfl (fun ls hl => ?_)
        refine iLn C hl 3 dX1_curve_57 rfl rfl ?_
        refine zLt C 90 dX1_curve_58 (by decide) ⟨by omega, by omega⟩ (fun c58 => ?_) (fun c58 => ?_)
        · rw [cstep, if_neg (by omega)] at hs
          refine iInc (lv' := [(0, .ref h), (1, .int (jI ((4 ^ jn P : Nat) : Int))), (2, .int (jI ((n + 1 : Nat) : Int))), (3, .int (jI (pn P n))), (4, .int (jI ((0 : Nat) : Int)))]) C hl 2 dX1_curve_90 [1, 2, 0, 3, 4] rfl (by decide) rfl (fun ls hl => ?_)
          refine gTo C 32 dX1_curve_93 (by decide) ?_
          exact ih (n + 1) (by omega) (by omega) _ _ H locs ls (wd_eq w (by rw [hs])) (lv_sub hl [0, 1, 2] rfl)
        · omega
set_option maxHeartbeats 4000000 in
set_option maxRecDepth 100000 in
theorem mX1_curve (l : Launch) (D : va_G) (cI cZ : ClassId) (h : Nat) (a : Nat → Nat) (P : Pj) (t d ch : Nat → Int) (hp : pok P) : MV l yX1_curve cX1_curve 5 1 24 D cI cZ (wQ h a cI P t d ch) [.ref h] (fun _ : (Nat → Int) × (Nat → Int) => True) (fun u => (wQ h a cI P u.1 u.2 (chp P (4 ^ jn P)))) := by
  refine mv_of (by decide) (Nat.le_of_ble_eq_true rfl) ?_
  intro p e s m below meth c A ls C hr w hl
  have h7 := hp.1
  have hl : lv_has ls 5 [(0, .ref h)] := hl
  refine kC C dX1_curve_0 ?_
  refine iSn (lv' := [(0, .ref h), (1, .int (jI ((0 : Nat) : Int)))]) C hl dX1_curve_1 [1, 0] rfl (by decide) rfl (fun ls hl => ?_)
  refine lpC1 C h a P t d ch (fun H locs ls w hl => ?_) 65 0 (by omega) (by omega) _ _ _ (wd_eq w (by rw [fz_0])) hl
  refine kC C dX1_curve_21 ?_
  refine kC C dX1_curve_22 ?_
  refine aLn C hl 0 dX1_curve_23 rfl rfl ?_
  refine gM C w 0 0 dX1_curve_24 q143 rfl (by decide) rfl rfl ?_
  refine oMul C dX1_curve_27 ?_
  refine oShl C dX1_curve_28 (by omega) ?_
  refine iSn (lv' := [(0, .ref h), (1, .int (jI ((4 ^ jn P : Nat) : Int)))]) C hl dX1_curve_29 [1, 0] rfl (by decide) rfl (fun ls hl => ?_)
  refine kC C dX1_curve_30 ?_
  refine iSn (lv' := [(0, .ref h), (1, .int (jI ((4 ^ jn P : Nat) : Int))), (2, .int (jI ((0 : Nat) : Int)))]) C hl dX1_curve_31 [1, 2, 0] rfl (by decide) rfl (fun ls hl => ?_)
  exact lpC2 C h a P hp (fun t d H locs ls w => retV (t, d) C hr w dX1_curve_96 trivial) (4 ^ jn P + 1) 0 (Nat.zero_le _) (by omega) t d H locs ls w hl
end
section
/-! MODEL 4: costAt and what is asked -/
set_option maxHeartbeats 4000000 in
set_option maxRecDepth 100000 in
theorem lpCA {p : Program} {l : Launch} {e : Env} {s : State} {m : MethodId} {args : Array Value} {below : List Frame} {meth : Method} {c : Code} {Q : State → Prop} {D : va_G} {A : Nat → Prop} {H0 : Heap} {cI cZ : ClassId} (C : Cx p s m meth c cX1_costAt 4 args RX1 D cI cZ) (h : Nat) (a : Nat → Nat) (P : Pj) (t d ch : Nat → Int) {x : Int} (hx : jb x) (hch : ∀ t, -1 ≤ ch t ∧ ch t ≤ 420)
    (k : ∀ (H : Heap) (locs : List Loc) (ls : Array Slot), Wd D A H0 (wQ h a cI P t d ch) H locs → lv_has ls 4 [(2, .int (jI (bst ch (cnt x))))] → W p l e (rmo 0 0) s m args below meth c H locs 0 0 Q (F0 m 51 ls [])) :
    ∀ (n i : Nat), i ≤ cnt x → 64 < i + n → ∀ (H : Heap) (locs : List Loc) (ls : Array Slot), Wd D A H0 (wQ h a cI P t d ch) H locs → lv_has ls 4 [(0, .ref h), (1, .int (jI x)), (2, .int (jI (bst ch i))), (3, .int (jI (i : Int)))] → W p l e (rmo 0 0) s m args below meth c H locs 0 0 Q (F0 m 4 ls []) := by
  have hx1 := hx.1
  have hx2 := hx.2
  have hc64 := cnt_le x
  intro n
  induction n with
  | zero => intro i h1 h2; omega
  | succ n ih =>
    intro i h1 h2 H locs ls w hl
    have hb := bst_b hch i
    have hci := hch i
    have hs : bst ch (i + 1) = if 0 ≤ ch i ∧ (bst ch i < 0 ∨ ch i < bst ch i) then ch i else bst ch i := rfl
    refine iLn C hl 3 dX1_costAt_4 rfl rfl ?_
    refine kB C dX1_costAt_5 (by decide) ?_
    refine cGe C 51 dX1_costAt_7 (by decide) ⟨⟨by omega, by omega⟩, ⟨by omega, by omega⟩⟩ (fun c7 => ?_) (fun c7 => ?_)
    · have hi6 : i = cnt x := cnt_end h1 (Or.inl (by omega))
      exact k H locs ls w (by rw [← hi6]; exact lv_sub hl [2] rfl)
    · refine iLn C hl 3 dX1_costAt_10 rfl rfl ?_
      refine iLn C hl 1 dX1_costAt_11 rfl rfl ?_
      refine cGt C 51 dX1_costAt_12 (by decide) ⟨⟨by omega, by omega⟩, ⟨by omega, by omega⟩⟩ (fun c12 => ?_) (fun c12 => ?_)
      · have hi6 : i = cnt x := cnt_end h1 (Or.inr (by omega))
        exact k H locs ls w (by rw [← hi6]; exact lv_sub hl [2] rfl)
      · have hgo := cnt_go (T := x) (t := i) (by omega) (by omega)
        refine aLn C hl 0 dX1_costAt_15 rfl rfl ?_
        refine gM C w 0 8 dX1_costAt_16 q151 rfl (by decide) rfl rfl ?_
        refine iLn C hl 3 dX1_costAt_19 rfl rfl ?_
        refine rdA C w 8 dX1_costAt_20 rfl (by omega) (by decide) ?_
        refine zLt C 45 dX1_costAt_21 (by decide) ⟨by omega, by omega⟩ (fun c21 => ?_) (fun c21 => ?_)
        · rw [if_neg (by omega)] at hs
          refine iInc (lv' := [(0, .ref h), (1, .int (jI x)), (2, .int (jI (bst ch i))), (3, .int (jI ((i + 1 : Nat) : Int)))]) C hl 3 dX1_costAt_45 [1, 2, 3, 0] rfl (by decide) rfl (fun ls hl => ?_)
          refine gTo C 4 dX1_costAt_48 (by decide) ?_
          exact ih (i + 1) hgo (by omega) H locs ls w (by rw [hs]; exact hl)
        · refine iLn C hl 2 dX1_costAt_24 rfl rfl ?_
          refine zLt C 38 dX1_costAt_25 (by decide) ⟨by omega, by omega⟩ (fun c25 => ?_) (fun c25 => ?_)
          · rw [if_pos (by omega)] at hs
            refine aLn C hl 0 dX1_costAt_38 rfl rfl ?_
            refine gM C w 0 8 dX1_costAt_39 q151 rfl (by decide) rfl rfl ?_
            refine iLn C hl 3 dX1_costAt_42 rfl rfl ?_
            refine rdA C w 8 dX1_costAt_43 rfl (by omega) (by decide) ?_
            refine iSn (lv' := [(0, .ref h), (1, .int (jI x)), (2, .int (jI (ch i))), (3, .int (jI (i : Int)))]) C hl dX1_costAt_44 [1, 2, 0, 3] rfl (by decide) rfl (fun ls hl => ?_)
            refine iInc (lv' := [(0, .ref h), (1, .int (jI x)), (2, .int (jI (ch i))), (3, .int (jI ((i + 1 : Nat) : Int)))]) C hl 3 dX1_costAt_45 [1, 2, 3, 0] rfl (by decide) rfl (fun ls hl => ?_)
            refine gTo C 4 dX1_costAt_48 (by decide) ?_
            exact ih (i + 1) hgo (by omega) H locs ls w (by rw [hs]; exact hl)
          · refine aLn C hl 0 dX1_costAt_28 rfl rfl ?_
            refine gM C w 0 8 dX1_costAt_29 q151 rfl (by decide) rfl rfl ?_
            refine iLn C hl 3 dX1_costAt_32 rfl rfl ?_
            refine rdA C w 8 dX1_costAt_33 rfl (by omega) (by decide) ?_
            refine iLn C hl 2 dX1_costAt_34 rfl rfl ?_
            refine cGe C 45 dX1_costAt_35 (by decide) ⟨⟨by omega, by omega⟩, ⟨by omega, by omega⟩⟩ (fun c35 => ?_) (fun c35 => ?_)
            · rw [if_neg (by omega)] at hs
              refine iInc (lv' := [(0, .ref h), (1, .int (jI x)), (2, .int (jI (bst ch i))), (3, .int (jI ((i + 1 : Nat) : Int)))]) C hl 3 dX1_costAt_45 [1, 2, 3, 0] rfl (by decide) rfl (fun ls hl => ?_)
              refine gTo C 4 dX1_costAt_48 (by decide) ?_
              exact ih (i + 1) hgo (by omega) H locs ls w (by rw [hs]; exact hl)
            · rw [if_pos (by omega)] at hs
              refine aLn C hl 0 dX1_costAt_38 rfl rfl ?_
              refine gM C w 0 8 dX1_costAt_39 q151 rfl (by decide) rfl rfl ?_
              refine iLn C hl 3 dX1_costAt_42 rfl rfl ?_
              refine rdA C w 8 dX1_costAt_43 rfl (by omega) (by decide) ?_
              refine iSn (lv' := [(0, .ref h), (1, .int (jI x)), (2, .int (jI (ch i))), (3, .int (jI (i : Int)))]) C hl dX1_costAt_44 [1, 2, 0, 3] rfl (by decide) rfl (fun ls hl => ?_)
              refine iInc (lv' := [(0, .ref h), (1, .int (jI x)), (2, .int (jI (ch i))), (3, .int (jI ((i + 1 : Nat) : Int)))]) C hl 3 dX1_costAt_45 [1, 2, 3, 0] rfl (by decide) rfl (fun ls hl => ?_)
              refine gTo C 4 dX1_costAt_48 (by decide) ?_
              exact ih (i + 1) hgo (by omega) H locs ls w (by rw [hs]; exact hl)
set_option maxHeartbeats 4000000 in
set_option maxRecDepth 100000 in
theorem mX1_costAt (l : Launch) (D : va_G) (cI cZ : ClassId) (h : Nat) (a : Nat → Nat) (P : Pj) (t d ch : Nat → Int) (hp : pok P) (x : Int) (hx : jb x) (hch : ∀ t, -1 ≤ ch t ∧ ch t ≤ 420) : MI l yX1_costAt cX1_costAt 4 (some .int) 0 0 D cI cZ (wQ h a cI P t d ch) [.ref h, .int (jI x)] (fun r (u : Unit) => r = jI (bst ch (cnt x))) (fun u => (wQ h a cI P t d ch)) := by
  refine mi_of (by decide) (Nat.le_of_ble_eq_true rfl) ?_
  intro p e s m below meth c A ls C hr w hl
  have h7 := hp.1
  have hl : lv_has ls 4 [(0, .ref h), (1, .int (jI x))] := hl
  refine kC C dX1_costAt_0 ?_
  refine iSn (lv' := [(0, .ref h), (1, .int (jI x)), (2, .int (jI (-1)))]) C hl dX1_costAt_1 [1, 2, 0] rfl (by decide) rfl (fun ls hl => ?_)
  refine kC C dX1_costAt_2 ?_
  refine iSn (lv' := [(0, .ref h), (1, .int (jI x)), (2, .int (jI (-1))), (3, .int (jI ((0 : Nat) : Int)))]) C hl dX1_costAt_3 [1, 2, 3, 0] rfl (by decide) rfl (fun ls hl => ?_)
  refine lpCA C h a P t d ch hx hch (fun H locs ls w hl => ?_) 65 0 (by omega) (by omega) _ _ _ w hl
  refine iLn C hl 0 dX1_costAt_51 rfl rfl ?_
  exact retI () C hr w dX1_costAt_52 rfl
set_option maxHeartbeats 4000000 in
set_option maxRecDepth 100000 in
theorem mX1_cost (l : Launch) (D : va_G) (cI cZ : ClassId) (h : Nat) (a : Nat → Nat) (P : Pj) (t d ch : Nat → Int) (hp : pok P) (x : Int) (hx : jb x) : MI l yX1_cost cX1_cost 2 (some .int) 2 48 D cI cZ (wQ h a cI P t d ch) [.ref h, .int (jI x)] (fun r (u : SM) => r = jI (mC P x)) (fun u => wN h a cI P u) := by
  refine mi_of (by decide) (Nat.le_of_ble_eq_true rfl) ?_
  intro p e s m below meth c A ls C hr w hl
  have h7 := hp.1
  have hl : lv_has ls 2 [(0, .ref h), (1, .int (jI x))] := hl
  refine aLn C hl 0 dX1_cost_0 rfl rfl ?_
  refine cpV (n := 0) C w hl dX1_cost_1 (mX1_curve l D cI cZ h a P t d ch hp) (lw_V q202 q204 qs9 q14 q205) (by decide +kernel) ⟨Nat.le_of_ble_eq_true rfl, Nat.le_of_ble_eq_true rfl⟩ rfl rfl rfl rfl rfl (Nat.le_of_ble_eq_true rfl) ⟨Nat.le_refl 0, Nat.le_refl 0⟩ (fun u H locs hz w => ?_)
  obtain ⟨t, d⟩ := u
  have w : Wd D A s.heap (wQ h a cI P t d (chp P (4 ^ jn P))) H locs := w
  have hch : ∀ t, -1 ≤ chp P (4 ^ jn P) t ∧ chp P (4 ^ jn P) t ≤ 420 := fun t => chp_b hp _ t
  refine aLn C hl 0 dX1_cost_4 rfl rfl ?_
  refine iLn C hl 1 dX1_cost_5 rfl rfl ?_
  refine cpI (n := 1) C w hl dX1_cost_6 (mX1_costAt l D cI cZ h a P t d (chp P (4 ^ jn P)) hp (x) hx hch) (lw_V q210 q212 qs11 q14 q213) (by decide +kernel) ⟨Nat.le_of_ble_eq_true rfl, Nat.le_of_ble_eq_true rfl⟩ rfl rfl rfl rfl rfl (Nat.le_of_ble_eq_true rfl) ⟨Nat.le_refl 0, Nat.le_refl 0⟩ (fun rr u H locs hz w => ?_)
  subst hz
  refine tpi (show _ = jI (mC P (x)) from rfl) ?_
  exact retI (t, d, chp P (4 ^ jn P)) C hr w dX1_cost_9 rfl
set_option maxHeartbeats 4000000 in
set_option maxRecDepth 100000 in
theorem mX1_step (l : Launch) (D : va_G) (cI cZ : ClassId) (h : Nat) (a : Nat → Nat) (P : Pj) (t d ch : Nat → Int) (hp : pok P) (x : Int) (hx : jb x) : MI l yX1_step cX1_step 3 (some .int) 2 48 D cI cZ (wQ h a cI P t d ch) [.ref h, .int (jI x)] (fun r (u : SM) => r = jI (stv P x)) (fun u => wN h a cI P u) := by
  refine mi_of (by decide) (Nat.le_of_ble_eq_true rfl) ?_
  intro p e s m below meth c A ls C hr w hl
  have h7 := hp.1
  have hl : lv_has ls 3 [(0, .ref h), (1, .int (jI x))] := hl
  have hx1 := hx.1
  have hx2 := hx.2
  have hc1 := mC_ge hp x
  have hc2 := mC_le hp x
  refine aLn C hl 0 dX1_step_0 rfl rfl ?_
  refine cpV (n := 0) C w hl dX1_step_1 (mX1_curve l D cI cZ h a P t d ch hp) (lw_V q202 q204 qs9 q14 q205) (by decide +kernel) ⟨Nat.le_of_ble_eq_true rfl, Nat.le_of_ble_eq_true rfl⟩ rfl rfl rfl rfl rfl (Nat.le_of_ble_eq_true rfl) ⟨Nat.le_refl 0, Nat.le_refl 0⟩ (fun u H locs hz w => ?_)
  obtain ⟨t, d⟩ := u
  have w : Wd D A s.heap (wQ h a cI P t d (chp P (4 ^ jn P))) H locs := w
  have hch : ∀ t, -1 ≤ chp P (4 ^ jn P) t ∧ chp P (4 ^ jn P) t ≤ 420 := fun t => chp_b hp _ t
  refine aLn C hl 0 dX1_step_4 rfl rfl ?_
  refine iLn C hl 1 dX1_step_5 rfl rfl ?_
  refine cpI (n := 1) C w hl dX1_step_6 (mX1_costAt l D cI cZ h a P t d (chp P (4 ^ jn P)) hp (x) hx hch) (lw_V q210 q212 qs11 q14 q213) (by decide +kernel) ⟨Nat.le_of_ble_eq_true rfl, Nat.le_of_ble_eq_true rfl⟩ rfl rfl rfl rfl rfl (Nat.le_of_ble_eq_true rfl) ⟨Nat.le_refl 0, Nat.le_refl 0⟩ (fun rr u H locs hz w => ?_)
  subst hz
  refine tpi (show _ = jI (mC P (x)) from rfl) ?_
  refine iSn (lv' := [(0, .ref h), (1, .int (jI x)), (2, .int (jI (mC P x)))]) C hl dX1_step_9 [1, 2, 0] rfl (by decide) rfl (fun ls hl => ?_)
  refine iLn C hl 2 dX1_step_10 rfl rfl ?_
  refine zLt C 20 dX1_step_11 (by decide) ⟨by omega, by omega⟩ (fun c11 => ?_) (fun c11 => ?_)
  · refine iLn C hl 2 dX1_step_20 rfl rfl ?_
    refine zGe C 28 dX1_step_21 (by decide) ⟨by omega, by omega⟩ (fun c21 => ?_) (fun c21 => ?_)
    · refine kC C dX1_step_28 ?_
      refine gTo C 41 dX1_step_29 (by decide) ?_
      omega
    · refine kC C dX1_step_24 ?_
      refine gTo C 41 dX1_step_25 (by decide) ?_
      exact retI (t, d, chp P (4 ^ jn P)) C hr w dX1_step_41 (by rw [stv, if_pos (by omega)])
  · refine iLn C hl 1 dX1_step_14 rfl rfl ?_
    refine kL (n := 2147483647) C dX1_step_15 q218 rfl ?_
    refine cNe C 32 dX1_step_17 (by decide) ⟨⟨by omega, by omega⟩, ⟨by omega, by omega⟩⟩ (fun c17 => ?_) (fun c17 => ?_)
    · refine iLn C hl 2 dX1_step_32 rfl rfl ?_
      refine aLn C hl 0 dX1_step_33 rfl rfl ?_
      refine iLn C hl 1 dX1_step_34 rfl rfl ?_
      refine kC C dX1_step_35 ?_
      refine oAdd C dX1_step_36 ?_
      refine cpI (n := 1) C w hl dX1_step_37 (mX1_costAt l D cI cZ h a P t d (chp P (4 ^ jn P)) hp (x + 1) ⟨by omega, by omega⟩ hch) (lw_V q210 q212 qs11 q14 q213) (by decide +kernel) ⟨Nat.le_of_ble_eq_true rfl, Nat.le_of_ble_eq_true rfl⟩ rfl rfl rfl rfl rfl (Nat.le_of_ble_eq_true rfl) ⟨Nat.le_refl 0, Nat.le_refl 0⟩ (fun rr u H locs hz w => ?_)
      subst hz
      refine tpi (show _ = jI (mC P (x + 1)) from rfl) ?_
      refine oSub C dX1_step_40 ?_
      refine retI (t, d, chp P (4 ^ jn P)) C hr w dX1_step_41 ?_
      rw [stv, if_neg (by omega)]
      by_cases z : 1000 < x
      · rw [if_pos z, mC_45 hp (T := x) (by omega), mC_45 hp (T := x + 1) (by omega)]
        rfl
      · rw [if_neg z]
    · refine iLn C hl 2 dX1_step_20 rfl rfl ?_
      refine zGe C 28 dX1_step_21 (by decide) ⟨by omega, by omega⟩ (fun c21 => ?_) (fun c21 => ?_)
      · refine kC C dX1_step_28 ?_
        refine gTo C 41 dX1_step_29 (by decide) ?_
        exact retI (t, d, chp P (4 ^ jn P)) C hr w dX1_step_41 (by rw [stv, if_neg (by omega), if_pos (by omega)])
      · refine kC C dX1_step_24 ?_
        refine gTo C 41 dX1_step_25 (by decide) ?_
        omega
set_option maxHeartbeats 4000000 in
set_option maxRecDepth 100000 in
theorem lpMI {p : Program} {l : Launch} {e : Env} {s : State} {m : MethodId} {args : Array Value} {below : List Frame} {meth : Method} {c : Code} {Q : State → Prop} {D : va_G} {A : Nat → Prop} {H0 : Heap} {cI cZ : ClassId} (C : Cx p s m meth c cX1_within 4 args RX1 D cI cZ) (h : Nat) (a : Nat → Nat) (P : Pj) (t d : Nat → Int) (hp : pok P) (hch : ∀ t, -1 ≤ chp P (4 ^ jn P) t ∧ chp P (4 ^ jn P) t ≤ 420) {x v : Int} (hx : jb x)
    (k27 : ∀ (i : Nat) (H : Heap) (locs : List Loc) (ls : Array Slot), v = (i : Int) → Wd D A H0 (wQ h a cI P t d (chp P (4 ^ jn P))) H locs → lv_has ls 4 [(2, .int (jI (i : Int)))] → W p l e (rmo 2 48) s m args below meth c H locs 0 0 Q (F0 m 27 ls [])) (k35 : v = -1 → ∀ (H : Heap) (locs : List Loc) (ls : Array Slot), Wd D A H0 (wQ h a cI P t d (chp P (4 ^ jn P))) H locs → W p l e (rmo 2 48) s m args below meth c H locs 0 0 Q (F0 m 35 ls [])) :
    ∀ (n i : Nat), i + n = 64 → wi (mC P) x n i = v → ∀ (H : Heap) (locs : List Loc) (ls : Array Slot), Wd D A H0 (wQ h a cI P t d (chp P (4 ^ jn P))) H locs → lv_has ls 4 [(0, .ref h), (1, .int (jI x)), (2, .int (jI (i : Int)))] → W p l e (rmo 2 48) s m args below meth c H locs 0 0 Q (F0 m 6 ls []) := by
  have hx1 := hx.1
  have hx2 := hx.2
  intro n
  induction n with
  | zero =>
    intro i hk hv H locs ls w hl
    have hv : -1 = v := hv
    refine iLn C hl 2 dX1_within_6 rfl rfl ?_
    refine kB C dX1_within_7 (by decide) ?_
    refine cGe C 35 dX1_within_9 (by decide) ⟨⟨by omega, by omega⟩, ⟨by omega, by omega⟩⟩ (fun c9 => ?_) (fun c9 => ?_)
    · exact k35 hv.symm H locs ls w
    · omega
  | succ n ih =>
    intro i hk hv H locs ls w hl
    have hc1 := mC_ge hp (i : Int)
    have hc2 := mC_le hp (i : Int)
    simp only [wi] at hv
    refine iLn C hl 2 dX1_within_6 rfl rfl ?_
    refine kB C dX1_within_7 (by decide) ?_
    refine cGe C 35 dX1_within_9 (by decide) ⟨⟨by omega, by omega⟩, ⟨by omega, by omega⟩⟩ (fun c9 => ?_) (fun c9 => ?_)
    · omega
    · refine aLn C hl 0 dX1_within_12 rfl rfl ?_
      refine iLn C hl 2 dX1_within_13 rfl rfl ?_
      refine cpI (n := 1) C w hl dX1_within_14 (mX1_costAt l D cI cZ h a P t d (chp P (4 ^ jn P)) hp ((i : Int)) ⟨by omega, by omega⟩ hch) (lw_V q210 q212 qs11 q14 q213) (by decide +kernel) ⟨Nat.le_of_ble_eq_true rfl, Nat.le_of_ble_eq_true rfl⟩ rfl rfl rfl rfl rfl (Nat.le_of_ble_eq_true rfl) ⟨Nat.le_refl 0, Nat.le_refl 0⟩ (fun rr u H locs hz w => ?_)
      subst hz
      refine tpi (show _ = jI (mC P ((i : Int))) from rfl) ?_
      refine iSn (lv' := [(0, .ref h), (1, .int (jI x)), (2, .int (jI (i : Int))), (3, .int (jI (mC P (i : Int))))]) C hl dX1_within_17 [1, 2, 3, 0] rfl (by decide) rfl (fun ls hl => ?_)
      refine iLn C hl 3 dX1_within_18 rfl rfl ?_
      refine zLt C 29 dX1_within_19 (by decide) ⟨by omega, by omega⟩ (fun c19 => ?_) (fun c19 => ?_)
      · rw [if_neg (by omega)] at hv
        refine iInc (lv' := [(0, .ref h), (1, .int (jI x)), (2, .int (jI ((i + 1 : Nat) : Int))), (3, .int (jI (mC P (i : Int))))]) C hl 2 dX1_within_29 [1, 2, 0, 3] rfl (by decide) rfl (fun ls hl => ?_)
        refine gTo C 6 dX1_within_32 (by decide) ?_
        exact ih (i + 1) (by omega) hv H locs ls w (lv_sub hl [0, 1, 2] rfl)
      · refine iLn C hl 3 dX1_within_22 rfl rfl ?_
        refine iLn C hl 1 dX1_within_23 rfl rfl ?_
        refine cGt C 29 dX1_within_24 (by decide) ⟨⟨by omega, by omega⟩, ⟨by omega, by omega⟩⟩ (fun c24 => ?_) (fun c24 => ?_)
        · rw [if_neg (by omega)] at hv
          refine iInc (lv' := [(0, .ref h), (1, .int (jI x)), (2, .int (jI ((i + 1 : Nat) : Int))), (3, .int (jI (mC P (i : Int))))]) C hl 2 dX1_within_29 [1, 2, 0, 3] rfl (by decide) rfl (fun ls hl => ?_)
          refine gTo C 6 dX1_within_32 (by decide) ?_
          exact ih (i + 1) (by omega) hv H locs ls w (lv_sub hl [0, 1, 2] rfl)
        · rw [if_pos (by omega)] at hv
          exact k27 i H locs ls hv.symm w (lv_sub hl [2] rfl)
set_option maxHeartbeats 4000000 in
set_option maxRecDepth 100000 in
theorem mX1_within (l : Launch) (D : va_G) (cI cZ : ClassId) (h : Nat) (a : Nat → Nat) (P : Pj) (t d ch : Nat → Int) (hp : pok P) (x : Int) (hx : jb x) : MI l yX1_within cX1_within 4 (some .int) 2 48 D cI cZ (wQ h a cI P t d ch) [.ref h, .int (jI x)] (fun r (u : SM) => r = jI (wi (mC P) x 64 0)) (fun u => wN h a cI P u) := by
  refine mi_of (by decide) (Nat.le_of_ble_eq_true rfl) ?_
  intro p e s m below meth c A ls C hr w hl
  have h7 := hp.1
  have hl : lv_has ls 4 [(0, .ref h), (1, .int (jI x))] := hl
  refine aLn C hl 0 dX1_within_0 rfl rfl ?_
  refine cpV (n := 0) C w hl dX1_within_1 (mX1_curve l D cI cZ h a P t d ch hp) (lw_V q202 q204 qs9 q14 q205) (by decide +kernel) ⟨Nat.le_of_ble_eq_true rfl, Nat.le_of_ble_eq_true rfl⟩ rfl rfl rfl rfl rfl (Nat.le_of_ble_eq_true rfl) ⟨Nat.le_refl 0, Nat.le_refl 0⟩ (fun u H locs hz w => ?_)
  obtain ⟨t, d⟩ := u
  have w : Wd D A s.heap (wQ h a cI P t d (chp P (4 ^ jn P))) H locs := w
  have hch : ∀ t, -1 ≤ chp P (4 ^ jn P) t ∧ chp P (4 ^ jn P) t ≤ 420 := fun t => chp_b hp _ t
  refine kC C dX1_within_4 ?_
  refine iSn (lv' := [(0, .ref h), (1, .int (jI x)), (2, .int (jI ((0 : Nat) : Int)))]) C hl dX1_within_5 [1, 2, 0] rfl (by decide) rfl (fun ls hl => ?_)
  refine lpMI C h a P t d hp hch hx (v := wi (mC P) x 64 0) (fun i H locs ls hv w hl => ?_) (fun hv H locs ls w => ?_) 64 0 rfl rfl H locs ls w hl
  · refine iLn C hl 0 dX1_within_27 rfl rfl ?_
    exact retI (t, d, chp P (4 ^ jn P)) C hr w dX1_within_28 (by rw [hv])
  · refine kC C dX1_within_35 ?_
    exact retI (t, d, chp P (4 ^ jn P)) C hr w dX1_within_36 (by rw [hv])
set_option maxHeartbeats 4000000 in
set_option maxRecDepth 100000 in
theorem lpMT {p : Program} {l : Launch} {e : Env} {s : State} {m : MethodId} {args : Array Value} {below : List Frame} {meth : Method} {c : Code} {Q : State → Prop} {D : va_G} {A : Nat → Prop} {H0 : Heap} {cI cZ : ClassId} (C : Cx p s m meth c cX1_total 6 args RX1 D cI cZ) (h : Nat) (a : Nat → Nat) (P : Pj) (t d : Nat → Int) (hp : pok P) (hch : ∀ t, -1 ≤ chp P (4 ^ jn P) t ∧ chp P (4 ^ jn P) t ≤ 420) {x : Int} (hx : 0 ≤ x ∧ x ≤ 200)
    (k : ∀ (H : Heap) (locs : List Loc) (ls : Array Slot), Wd D A H0 (wQ h a cI P t d (chp P (4 ^ jn P))) H locs → lv_has ls 6 [(2, .int (jI (tl (mC P) x 64)))] → W p l e (rmo 2 48) s m args below meth c H locs 0 0 Q (F0 m 66 ls [])) :
    ∀ (n i : Nat), i ≤ 64 → 64 < i + n → ∀ (H : Heap) (locs : List Loc) (ls : Array Slot), Wd D A H0 (wQ h a cI P t d (chp P (4 ^ jn P))) H locs → lv_has ls 6 [(0, .ref h), (1, .int (jI x)), (2, .int (jI (tl (mC P) x i))), (3, .int (jI (i : Int)))] → W p l e (rmo 2 48) s m args below meth c H locs 0 0 Q (F0 m 21 ls []) := by
  intro n
  induction n with
  | zero => intro i h1 h2; omega
  | succ n ih =>
    intro i h1 h2 H locs ls w hl
    have hc1 := mC_ge hp (i : Int)
    have hc2 := mC_le hp (i : Int)
    have hm := mul_b hx (show i ≤ 64 by omega)
    have ht1 := tl_b (C := mC P) hx.1 i
    have ht2 := tl_u (C := mC P) (mC_le hp) hx i (by omega)
    have hst := tl_s (mC P) x i
    refine iLn C hl 3 dX1_total_21 rfl rfl ?_
    refine kB C dX1_total_22 (by decide) ?_
    refine cGe C 66 dX1_total_24 (by decide) ⟨⟨by omega, by omega⟩, ⟨by omega, by omega⟩⟩ (fun c24 => ?_) (fun c24 => ?_)
    · have ht : i = 64 := by omega
      subst ht
      exact k H locs ls w (lv_sub hl [2] rfl)
    · refine aLn C hl 0 dX1_total_27 rfl rfl ?_
      refine iLn C hl 3 dX1_total_28 rfl rfl ?_
      refine cpI (n := 1) C w hl dX1_total_29 (mX1_costAt l D cI cZ h a P t d (chp P (4 ^ jn P)) hp ((i : Int)) ⟨by omega, by omega⟩ hch) (lw_V q210 q212 qs11 q14 q213) (by decide +kernel) ⟨Nat.le_of_ble_eq_true rfl, Nat.le_of_ble_eq_true rfl⟩ rfl rfl rfl rfl rfl (Nat.le_of_ble_eq_true rfl) ⟨Nat.le_refl 0, Nat.le_refl 0⟩ (fun rr u H locs hz w => ?_)
      subst hz
      refine tpi (show _ = jI (mC P ((i : Int))) from rfl) ?_
      refine iS (lv' := [(0, .ref h), (1, .int (jI x)), (2, .int (jI (tl (mC P) x i))), (3, .int (jI (i : Int))), (4, .int (jI (mC P (i : Int))))]) C hl dX1_total_32 [1, 2, 3, 4, 0] (by decide) rfl (fun ls hl => ?_)
      refine iL C hl 4 dX1_total_34 rfl ?_
      refine iLn C hl 1 dX1_total_36 rfl rfl ?_
      refine iLn C hl 3 dX1_total_37 rfl rfl ?_
      refine oMul C dX1_total_38 ?_
      refine oAdd C dX1_total_39 ?_
      refine iS (lv' := [(0, .ref h), (1, .int (jI x)), (2, .int (jI (tl (mC P) x i))), (3, .int (jI (i : Int))), (4, .int (jI (mC P (i : Int)))), (5, .int (jI (mC P (i : Int) + x * (i : Int))))]) C hl dX1_total_40 [1, 2, 3, 4, 5, 0] (by decide) rfl (fun ls hl => ?_)
      refine iL C hl 4 dX1_total_42 rfl ?_
      refine zLt C 60 dX1_total_44 (by decide) ⟨by omega, by omega⟩ (fun c44 => ?_) (fun c44 => ?_)
      · rw [if_neg (by omega)] at hst
        refine iInc (lv' := [(0, .ref h), (1, .int (jI x)), (2, .int (jI (tl (mC P) x i))), (3, .int (jI ((i + 1 : Nat) : Int))), (4, .int (jI (mC P (i : Int)))), (5, .int (jI (mC P (i : Int) + x * (i : Int))))]) C hl 3 dX1_total_60 [1, 2, 3, 0, 4, 5] rfl (by decide) rfl (fun ls hl => ?_)
        refine gTo C 21 dX1_total_63 (by decide) ?_
        exact ih (i + 1) (by omega) (by omega) H locs ls w (by rw [hst]; exact lv_sub hl [0, 1, 2, 3] rfl)
      · refine iLn C hl 2 dX1_total_47 rfl rfl ?_
        refine zLt C 57 dX1_total_48 (by decide) ⟨by omega, by omega⟩ (fun c48 => ?_) (fun c48 => ?_)
        · rw [if_pos (by omega)] at hst
          refine iL C hl 5 dX1_total_57 rfl ?_
          refine iSn (lv' := [(0, .ref h), (1, .int (jI x)), (2, .int (jI (mC P (i : Int) + x * (i : Int)))), (3, .int (jI (i : Int))), (4, .int (jI (mC P (i : Int)))), (5, .int (jI (mC P (i : Int) + x * (i : Int))))]) C hl dX1_total_59 [1, 2, 0, 3, 4, 5] rfl (by decide) rfl (fun ls hl => ?_)
          refine iInc (lv' := [(0, .ref h), (1, .int (jI x)), (2, .int (jI (mC P (i : Int) + x * (i : Int)))), (3, .int (jI ((i + 1 : Nat) : Int))), (4, .int (jI (mC P (i : Int)))), (5, .int (jI (mC P (i : Int) + x * (i : Int))))]) C hl 3 dX1_total_60 [1, 2, 3, 0, 4, 5] rfl (by decide) rfl (fun ls hl => ?_)
          refine gTo C 21 dX1_total_63 (by decide) ?_
          exact ih (i + 1) (by omega) (by omega) H locs ls w (by rw [hst]; exact lv_sub hl [0, 1, 2, 3] rfl)
        · refine iL C hl 5 dX1_total_51 rfl ?_
          refine iLn C hl 2 dX1_total_53 rfl rfl ?_
          refine cGe C 60 dX1_total_54 (by decide) ⟨⟨by omega, by omega⟩, ⟨by omega, by omega⟩⟩ (fun c54 => ?_) (fun c54 => ?_)
          · rw [if_neg (by omega)] at hst
            refine iInc (lv' := [(0, .ref h), (1, .int (jI x)), (2, .int (jI (tl (mC P) x i))), (3, .int (jI ((i + 1 : Nat) : Int))), (4, .int (jI (mC P (i : Int)))), (5, .int (jI (mC P (i : Int) + x * (i : Int))))]) C hl 3 dX1_total_60 [1, 2, 3, 0, 4, 5] rfl (by decide) rfl (fun ls hl => ?_)
            refine gTo C 21 dX1_total_63 (by decide) ?_
            exact ih (i + 1) (by omega) (by omega) H locs ls w (by rw [hst]; exact lv_sub hl [0, 1, 2, 3] rfl)
          · rw [if_pos (by omega)] at hst
            refine iL C hl 5 dX1_total_57 rfl ?_
            refine iSn (lv' := [(0, .ref h), (1, .int (jI x)), (2, .int (jI (mC P (i : Int) + x * (i : Int)))), (3, .int (jI (i : Int))), (4, .int (jI (mC P (i : Int)))), (5, .int (jI (mC P (i : Int) + x * (i : Int))))]) C hl dX1_total_59 [1, 2, 0, 3, 4, 5] rfl (by decide) rfl (fun ls hl => ?_)
            refine iInc (lv' := [(0, .ref h), (1, .int (jI x)), (2, .int (jI (mC P (i : Int) + x * (i : Int)))), (3, .int (jI ((i + 1 : Nat) : Int))), (4, .int (jI (mC P (i : Int)))), (5, .int (jI (mC P (i : Int) + x * (i : Int))))]) C hl 3 dX1_total_60 [1, 2, 3, 0, 4, 5] rfl (by decide) rfl (fun ls hl => ?_)
            refine gTo C 21 dX1_total_63 (by decide) ?_
            exact ih (i + 1) (by omega) (by omega) H locs ls w (by rw [hst]; exact lv_sub hl [0, 1, 2, 3] rfl)
set_option maxHeartbeats 4000000 in
set_option maxRecDepth 100000 in
theorem mX1_total (l : Launch) (D : va_G) (cI cZ : ClassId) (h : Nat) (a : Nat → Nat) (P : Pj) (t d ch : Nat → Int) (hp : pok P) (x : Int) (hx : jb x) : MI l yX1_total cX1_total 6 (some .int) 2 48 D cI cZ (wQ h a cI P t d ch) [.ref h, .int (jI x)] (fun r (u : SM) => r = jI (tov P x)) (fun u => wN h a cI P u) := by
  refine mi_of (by decide) (Nat.le_of_ble_eq_true rfl) ?_
  intro p e s m below meth c A ls C hr w hl
  have h7 := hp.1
  have hl : lv_has ls 6 [(0, .ref h), (1, .int (jI x))] := hl
  have hx1 := hx.1
  have hx2 := hx.2
  have hc1 := mC_ge hp x
  have hc2 := mC_le hp x
  refine iLn C hl 1 dX1_total_0 rfl rfl ?_
  refine zLt C 11 dX1_total_1 (by decide) ⟨by omega, by omega⟩ (fun c1 => ?_) (fun c1 => ?_)
  · refine kC C dX1_total_11 ?_
    exact retI (t, d, ch) C hr w dX1_total_12 (by rw [tov, if_pos (by omega)])
  · refine iLn C hl 1 dX1_total_4 rfl rfl ?_
    refine kS C dX1_total_5 (by decide) ?_
    refine cLe C 13 dX1_total_8 (by decide) ⟨⟨by omega, by omega⟩, ⟨by omega, by omega⟩⟩ (fun c8 => ?_) (fun c8 => ?_)
    · refine aLn C hl 0 dX1_total_13 rfl rfl ?_
      refine cpV (n := 0) C w hl dX1_total_14 (mX1_curve l D cI cZ h a P t d ch hp) (lw_V q202 q204 qs9 q14 q205) (by decide +kernel) ⟨Nat.le_of_ble_eq_true rfl, Nat.le_of_ble_eq_true rfl⟩ rfl rfl rfl rfl rfl (Nat.le_of_ble_eq_true rfl) ⟨Nat.le_refl 0, Nat.le_refl 0⟩ (fun u H locs hz w => ?_)
      obtain ⟨t, d⟩ := u
      have w : Wd D A s.heap (wQ h a cI P t d (chp P (4 ^ jn P))) H locs := w
      have hch : ∀ t, -1 ≤ chp P (4 ^ jn P) t ∧ chp P (4 ^ jn P) t ≤ 420 := fun t => chp_b hp _ t
      refine kC C dX1_total_17 ?_
      refine iSn (lv' := [(0, .ref h), (1, .int (jI x)), (2, .int (jI (-1)))]) C hl dX1_total_18 [1, 2, 0] rfl (by decide) rfl (fun ls hl => ?_)
      refine kC C dX1_total_19 ?_
      refine iSn (lv' := [(0, .ref h), (1, .int (jI x)), (2, .int (jI (-1))), (3, .int (jI ((0 : Nat) : Int)))]) C hl dX1_total_20 [1, 2, 3, 0] rfl (by decide) rfl (fun ls hl => ?_)
      refine lpMT C h a P t d hp hch (x := x) ⟨by omega, by omega⟩ (fun H locs ls w hl => ?_) 65 0 (by omega) (by omega) H locs ls w hl
      refine iLn C hl 0 dX1_total_66 rfl rfl ?_
      exact retI (t, d, chp P (4 ^ jn P)) C hr w dX1_total_67 (by rw [tov, if_neg (by omega)])
    · refine kC C dX1_total_11 ?_
      exact retI (t, d, ch) C hr w dX1_total_12 (by rw [tov, if_pos (by omega)])
end
section
/-! BOTH 2: new arrays, the constructors -/
section K
variable {p : Program} {l : Launch} {e : Env} {R : Room} {s : State} {m : MethodId} {args : Array Value} {below : List Frame} {meth : Method} {c : Code} {H : Heap} {locs : List Loc} {cells slots : Nat} {Q : State → Prop}
variable {cc : ByteArray} {pc nL : Nat} {ls : Array Slot} {rest : List Value} {D : va_G} {A : Nat → Prop} {a : Nat} {ws ws' wa wb wa' wb' : va_W} {H0 H1 : Heap} {own : String} {cI cZ : ClassId} {lv lv' : List (Nat × Value)} {locs1 : List Loc}
theorem nwA (C : Cx p s m meth c cc nL args own D cI cZ) (w : Wd D A H0 ws H locs) {n : Nat} (hN : n ≤ 1000) (hdg : decode cc pc = .ok (.newarray .int, 2)) (hcells : cells + 1 ≤ R.cells) (hslots : slots + n ≤ R.slots)
    (kk : ∀ (q : Nat) (H1 : Heap), Wd D A H0 (ws ++ [(q, .inl (cI, n, .inl (fun _ => jI 0)))]) H1 locs → W p l e R s m args below meth c H1 locs (cells + 1) (slots + n) Q (F0 m (pc + 2) ls (.ref q :: rest))) : W p l e R s m args below meth c H locs cells slots Q (F0 m pc ls (.int (jI (n : Int)) :: rest)) := by
  refine va_newa (atype := .int) (ty := .int) (a0 := (n, .inl (fun _ => jI 0))) C.1 C.2.1 (C.2.2.1 _ q66) rfl C.2.2.2.2.1 w.1 w.2.1 w.2.2.1 w.2.2.2 (fun cA => rfl) (fun q => ?_) (jI_cl (by omega)) ?_ hcells hslots hdg (fun q cA H1 hK hP hD hS => ?_)
  · have := (jI_lt (a := (n : Int)) (b := 0) ⟨by omega, by omega⟩ jb_0).mp q
    omega
  · simp only [componentBytes]
    omega
  · have h1 : s.vm.findClass ("[" ++ FieldType.toString .int) = some cA := (hK.2 2 (cA, .int) rfl).2
    have h0 : s.vm.findClass ("[" ++ FieldType.toString .int) = some cI := (hK.2 0 (cI, .int) rfl).2
    have e : cI = cA := Option.some.inj (h0.symm.trans h1)
    subst e
    exact kk q H1 ⟨hP, hD, hS, w.2.2.2⟩
theorem nwZ (C : Cx p s m meth c cc nL args own D cI cZ) (w : Wd D A H0 ws H locs) {n : Nat} (hN : n ≤ 1000) (hdg : decode cc pc = .ok (.newarray .boolean, 2)) (hcells : cells + 1 ≤ R.cells) (hslots : slots + n ≤ R.slots)
    (kk : ∀ (q : Nat) (H1 : Heap), Wd D A H0 (ws ++ [(q, .inl (cZ, n, .inl (fun _ => bI false)))]) H1 locs → W p l e R s m args below meth c H1 locs (cells + 1) (slots + n) Q (F0 m (pc + 2) ls (.ref q :: rest))) : W p l e R s m args below meth c H locs cells slots Q (F0 m pc ls (.int (jI (n : Int)) :: rest)) := by
  refine va_newa (atype := .boolean) (ty := .boolean) (a0 := (n, .inl (fun _ => bI false))) C.1 C.2.1 (C.2.2.1 _ q67) rfl C.2.2.2.2.1 w.1 w.2.1 w.2.2.1 w.2.2.2 (fun cA => rfl) (fun q => ?_) (jI_cl (by omega)) ?_ hcells hslots hdg (fun q cA H1 hK hP hD hS => ?_)
  · have := (jI_lt (a := (n : Int)) (b := 0) ⟨by omega, by omega⟩ jb_0).mp q
    omega
  · simp only [componentBytes]
    omega
  · have h1 : s.vm.findClass ("[" ++ FieldType.toString .boolean) = some cA := (hK.2 2 (cA, .boolean) rfl).2
    have h0 : s.vm.findClass ("[" ++ FieldType.toString .boolean) = some cZ := (hK.2 1 (cZ, .boolean) rfl).2
    have e : cZ = cA := Option.some.inj (h0.symm.trans h1)
    subst e
    exact kk q H1 ⟨hP, hD, hS, w.2.2.2⟩
theorem pXF (C : Cx p s m meth c cc nL args RX0 D cI cZ) (hin : meth.name = "<init>") (w : Wd D A H0 ws H locs) (k : Nat) {fs : List Value} {index : Nat} {v : Value} {ty : FieldType} (hdg : decode cc pc = .ok (.putfield index, 3)) (hlink : Cond.fieldLink RX0 index "CrashPlanner" (TX0 k).2.1 (TX0 k).2.2.1 ∈ lw_all) (he : ws[0]? = some (a, .inr (0, fs))) (hk : k < 14) (hT : (TX0 k).1 = "CrashPlanner") (hfin : (TX0 k).2.2.2 = true) (hd : parseFieldDescriptor (TX0 k).2.2.1 = some ty) (hn : narrow ty v = v) (hfit : fits ty v = true) (hl : k < fs.length) (hw : ws.set 0 (a, .inr (0, fs.set k v)) = ws') (kk : ∀ (H1 : Heap) (locs1 : List Loc), Wd D A H0 ws' H1 locs1 → W p l e R s m args below meth c H1 locs1 cells slots Q (F0 m (pc + 3) ls rest)) : W p l e R s m args below meth c H locs cells slots Q (F0 m pc ls (v :: .ref a :: rest)) := va_putF (ci := 0) (C := RX0) (T := TX0) (N := 14) C.1 C.2.1 C.2.2.1 in_X0 tyX0 tyX0_ok nmX0 C.2.2.2.1 C.2.2.2.2.1 w.1 w.2.1 w.2.2.1 0 he rfl k hk (C.2.2.1 _ hlink) (fun x hx => by rw [hT] at hx; exact hx) hfin hin hT hd hn hfit hl hdg (fun H1 locs1 hP hD hS => kk H1 locs1 (by rw [hw] at hP hD; exact ⟨hP, hD, hS, w.2.2.2⟩))
theorem pMF (C : Cx p s m meth c cc nL args RX1 D cI cZ) (hin : meth.name = "<init>") (w : Wd D A H0 ws H locs) (k : Nat) {fs : List Value} {index : Nat} {v : Value} {ty : FieldType} (hdg : decode cc pc = .ok (.putfield index, 3)) (hlink : Cond.fieldLink RX1 index "CrashPlannerModel" (TX1 k).2.1 (TX1 k).2.2.1 ∈ lw_all) (he : ws[0]? = some (a, .inr (1, fs))) (hk : k < 9) (hT : (TX1 k).1 = "CrashPlannerModel") (hfin : (TX1 k).2.2.2 = true) (hd : parseFieldDescriptor (TX1 k).2.2.1 = some ty) (hn : narrow ty v = v) (hfit : fits ty v = true) (hl : k < fs.length) (hw : ws.set 0 (a, .inr (1, fs.set k v)) = ws') (kk : ∀ (H1 : Heap) (locs1 : List Loc), Wd D A H0 ws' H1 locs1 → W p l e R s m args below meth c H1 locs1 cells slots Q (F0 m (pc + 3) ls rest)) : W p l e R s m args below meth c H locs cells slots Q (F0 m pc ls (v :: .ref a :: rest)) := va_putF (ci := 1) (C := RX1) (T := TX1) (N := 9) C.1 C.2.1 C.2.2.1 in_X1 tyX1 tyX1_ok nmX1 C.2.2.2.1 C.2.2.2.2.1 w.1 w.2.1 w.2.2.1 0 he rfl k hk (C.2.2.1 _ hlink) (fun x hx => by rw [hT] at hx; exact hx) hfin hin hT hd hn hfit hl hdg (fun H1 locs1 hP hD hS => kk H1 locs1 (by rw [hw] at hP hD; exact ⟨hP, hD, hS, w.2.2.2⟩))
end K
abbrev rmn (fr mc ms lo : Nat) : Room := { frames := fr, cells := mc, slots := ms, locals := lo }
theorem mn_of {S : Type} {l : Launch} {y : MethodName} {b : ByteArray} {L : Nat} {fr mc ms lo : Nat} {D : va_G} {cI cZ : ClassId} {wc : va_W} {av : List Value} {post : S → Prop} {wo : S → va_W} (hy : plainName y.cls = true) (hlen : (lg_sl av).length ≤ L) (hname : y.name = "<init>")
    (body : ∀ (p : Program) (e : Env) (s : State) (m : MethodId) (below : List Frame) (meth : Method) (c : Code) (A : Nat → Prop) (ls : Array Slot), Cx p s m meth c b L av.toArray y.cls D cI cZ → meth.name = "<init>" → meth.sig.returnType = none → Wd D A s.heap wc s.heap [] → lv_has ls L (lv_args 0 av) → W p l e (rmn fr mc ms lo) s m av.toArray below meth c s.heap [] 0 0 (MQ below (QcV D cI cZ post wo A) av.toArray s mc ms A) (F0 m 0 ls [])) : ∀ sz, Met l y (ws_ y b L none) (rmn fr mc ms lo) (Pcw D cI cZ wc av sz) (QcV D cI cZ post wo (va_A wc sz)) mc ms (va_A wc sz) := by
  intro sz
  refine Met.ofW (cc := b) (maxL := L) (ret := none) hy rfl ?_
  intro p e s m args below meth c s₁ B hml hv
  obtain ⟨rfl, hsz, hP, hK, hD0⟩ := hv
  have hts := atoms_spec (ws := ws_ y b L none) B.pre
  have hts : ∀ w ∈ lw_all, w.before _ s = true := fun w h => hts w (List.mem_cons_of_mem _ h)
  have hl := lv_entry av (n := L) hlen
  rw [lg_entry_eq]
  subst hsz
  exact body p e s m below meth c _ _ ⟨B.exec, B.bytes, hts, findClass_of_methodNamed B.named, hK, hml, B.notSynchronized⟩ ((name_of_methodNamed B.named B.method).1.trans hname) B.returns ⟨hP, hD0.self, va_S.rf, fun q h => Or.inr h⟩ hl
abbrev zF : Nat → Int := fun _ => 0
abbrev f00 : List Value := [.int (jI 0), .null, .null, .null, .null, .null, .null, .null, .null, .null, .int (bI false), .int (jI 0), .null, .null]
set_option maxHeartbeats 4000000 in
set_option maxRecDepth 100000 in
theorem mX0_init (l : Launch) (D : va_G) (cI cZ : ClassId) (h : Nat) : ∀ sz, Met l yX0_init (ws_ yX0_init cX0_init 1 none) (rmn 1 11 367 12) (Pcw D cI cZ [(h, .inr (0, f00))] [.ref h] sz) (QcV D cI cZ (fun _ : Nat → Nat => True) (fun a => wX h a cI cZ 0 zF zF zF zF zF zF zF (fun _ => false) zF false 0 zF zF) (va_A [(h, .inr (0, f00))] sz)) 11 367 (va_A [(h, .inr (0, f00))] sz) := by
  refine mn_of (by decide) (Nat.le_of_ble_eq_true rfl) rfl ?_
  intro p e s m below meth c A ls C hin hr w hl
  have hl : lv_has ls 1 [(0, .ref h)] := hl
  refine aLn C hl 0 dX0_init_0 rfl rfl ?_
  refine W.objInit C.1 C.2.1 C.2.2.2.1 (C.2.2.1 _ q20) (C.2.2.1 _ q21) (C.2.2.1 _ q22) rfl (by rw [C.2.2.2.2.2.1]; exact hl.1) rfl dX0_init_1 (Nat.le_of_ble_eq_true rfl) (Nat.le_of_ble_eq_true rfl) ?_
  refine W.eq (g2 := F0 m 4 ls []) rfl ?_
  refine aLn C hl 0 dX0_init_4 rfl rfl ?_
  refine kB C dX0_init_5 (by decide) ?_
  refine tpi (show _ = jI ((7 : Nat) : Int) from rfl) ?_
  refine nwA C w (n := 7) (by decide) dX0_init_7 (Nat.le_of_ble_eq_true rfl) (Nat.le_of_ble_eq_true rfl) (fun q_1 H w => ?_)
  have w : Wd D A s.heap [(h, .inr (0, [.int (jI 0), .null, .null, .null, .null, .null, .null, .null, .null, .null, .int (bI false), .int (jI 0), .null, .null])), (q_1, .inl (cI, 7, .inl (fun _ => jI 0)))] H _ := w
  refine pXF (ty := .array .int) (ws' := [(h, .inr (0, [.int (jI 0), .ref q_1, .null, .null, .null, .null, .null, .null, .null, .null, .int (bI false), .int (jI 0), .null, .null])), (q_1, .inl (cI, 7, .inl (fun _ => jI 0)))]) C hin w 1 dX0_init_9 q24 rfl (by decide) rfl rfl (by decide +kernel) rfl rfl (Nat.le_of_ble_eq_true rfl) rfl (fun H locs w => ?_)
  refine aLn C hl 0 dX0_init_12 rfl rfl ?_
  refine kB C dX0_init_13 (by decide) ?_
  refine tpi (show _ = jI ((7 : Nat) : Int) from rfl) ?_
  refine nwA C w (n := 7) (by decide) dX0_init_15 (Nat.le_of_ble_eq_true rfl) (Nat.le_of_ble_eq_true rfl) (fun q_2 H w => ?_)
  have w : Wd D A s.heap [(h, .inr (0, [.int (jI 0), .ref q_1, .null, .null, .null, .null, .null, .null, .null, .null, .int (bI false), .int (jI 0), .null, .null])), (q_1, .inl (cI, 7, .inl (fun _ => jI 0))), (q_2, .inl (cI, 7, .inl (fun _ => jI 0)))] H _ := w
  refine pXF (ty := .array .int) (ws' := [(h, .inr (0, [.int (jI 0), .ref q_1, .ref q_2, .null, .null, .null, .null, .null, .null, .null, .int (bI false), .int (jI 0), .null, .null])), (q_1, .inl (cI, 7, .inl (fun _ => jI 0))), (q_2, .inl (cI, 7, .inl (fun _ => jI 0)))]) C hin w 2 dX0_init_17 q25 rfl (by decide) rfl rfl (by decide +kernel) rfl rfl (Nat.le_of_ble_eq_true rfl) rfl (fun H locs w => ?_)
  refine aLn C hl 0 dX0_init_20 rfl rfl ?_
  refine kB C dX0_init_21 (by decide) ?_
  refine tpi (show _ = jI ((7 : Nat) : Int) from rfl) ?_
  refine nwA C w (n := 7) (by decide) dX0_init_23 (Nat.le_of_ble_eq_true rfl) (Nat.le_of_ble_eq_true rfl) (fun q_3 H w => ?_)
  have w : Wd D A s.heap [(h, .inr (0, [.int (jI 0), .ref q_1, .ref q_2, .null, .null, .null, .null, .null, .null, .null, .int (bI false), .int (jI 0), .null, .null])), (q_1, .inl (cI, 7, .inl (fun _ => jI 0))), (q_2, .inl (cI, 7, .inl (fun _ => jI 0))), (q_3, .inl (cI, 7, .inl (fun _ => jI 0)))] H _ := w
  refine pXF (ty := .array .int) (ws' := [(h, .inr (0, [.int (jI 0), .ref q_1, .ref q_2, .ref q_3, .null, .null, .null, .null, .null, .null, .int (bI false), .int (jI 0), .null, .null])), (q_1, .inl (cI, 7, .inl (fun _ => jI 0))), (q_2, .inl (cI, 7, .inl (fun _ => jI 0))), (q_3, .inl (cI, 7, .inl (fun _ => jI 0)))]) C hin w 3 dX0_init_25 q26 rfl (by decide) rfl rfl (by decide +kernel) rfl rfl (Nat.le_of_ble_eq_true rfl) rfl (fun H locs w => ?_)
  refine aLn C hl 0 dX0_init_28 rfl rfl ?_
  refine kB C dX0_init_29 (by decide) ?_
  refine tpi (show _ = jI ((7 : Nat) : Int) from rfl) ?_
  refine nwA C w (n := 7) (by decide) dX0_init_31 (Nat.le_of_ble_eq_true rfl) (Nat.le_of_ble_eq_true rfl) (fun q_4 H w => ?_)
  have w : Wd D A s.heap [(h, .inr (0, [.int (jI 0), .ref q_1, .ref q_2, .ref q_3, .null, .null, .null, .null, .null, .null, .int (bI false), .int (jI 0), .null, .null])), (q_1, .inl (cI, 7, .inl (fun _ => jI 0))), (q_2, .inl (cI, 7, .inl (fun _ => jI 0))), (q_3, .inl (cI, 7, .inl (fun _ => jI 0))), (q_4, .inl (cI, 7, .inl (fun _ => jI 0)))] H _ := w
  refine pXF (ty := .array .int) (ws' := [(h, .inr (0, [.int (jI 0), .ref q_1, .ref q_2, .ref q_3, .ref q_4, .null, .null, .null, .null, .null, .int (bI false), .int (jI 0), .null, .null])), (q_1, .inl (cI, 7, .inl (fun _ => jI 0))), (q_2, .inl (cI, 7, .inl (fun _ => jI 0))), (q_3, .inl (cI, 7, .inl (fun _ => jI 0))), (q_4, .inl (cI, 7, .inl (fun _ => jI 0)))]) C hin w 4 dX0_init_33 q27 rfl (by decide) rfl rfl (by decide +kernel) rfl rfl (Nat.le_of_ble_eq_true rfl) rfl (fun H locs w => ?_)
  refine aLn C hl 0 dX0_init_36 rfl rfl ?_
  refine kB C dX0_init_37 (by decide) ?_
  refine tpi (show _ = jI ((7 : Nat) : Int) from rfl) ?_
  refine nwA C w (n := 7) (by decide) dX0_init_39 (Nat.le_of_ble_eq_true rfl) (Nat.le_of_ble_eq_true rfl) (fun q_5 H w => ?_)
  have w : Wd D A s.heap [(h, .inr (0, [.int (jI 0), .ref q_1, .ref q_2, .ref q_3, .ref q_4, .null, .null, .null, .null, .null, .int (bI false), .int (jI 0), .null, .null])), (q_1, .inl (cI, 7, .inl (fun _ => jI 0))), (q_2, .inl (cI, 7, .inl (fun _ => jI 0))), (q_3, .inl (cI, 7, .inl (fun _ => jI 0))), (q_4, .inl (cI, 7, .inl (fun _ => jI 0))), (q_5, .inl (cI, 7, .inl (fun _ => jI 0)))] H _ := w
  refine pXF (ty := .array .int) (ws' := [(h, .inr (0, [.int (jI 0), .ref q_1, .ref q_2, .ref q_3, .ref q_4, .ref q_5, .null, .null, .null, .null, .int (bI false), .int (jI 0), .null, .null])), (q_1, .inl (cI, 7, .inl (fun _ => jI 0))), (q_2, .inl (cI, 7, .inl (fun _ => jI 0))), (q_3, .inl (cI, 7, .inl (fun _ => jI 0))), (q_4, .inl (cI, 7, .inl (fun _ => jI 0))), (q_5, .inl (cI, 7, .inl (fun _ => jI 0)))]) C hin w 5 dX0_init_41 q28 rfl (by decide) rfl rfl (by decide +kernel) rfl rfl (Nat.le_of_ble_eq_true rfl) rfl (fun H locs w => ?_)
  refine aLn C hl 0 dX0_init_44 rfl rfl ?_
  refine kB C dX0_init_45 (by decide) ?_
  refine tpi (show _ = jI ((14 : Nat) : Int) from rfl) ?_
  refine nwA C w (n := 14) (by decide) dX0_init_47 (Nat.le_of_ble_eq_true rfl) (Nat.le_of_ble_eq_true rfl) (fun q_6 H w => ?_)
  have w : Wd D A s.heap [(h, .inr (0, [.int (jI 0), .ref q_1, .ref q_2, .ref q_3, .ref q_4, .ref q_5, .null, .null, .null, .null, .int (bI false), .int (jI 0), .null, .null])), (q_1, .inl (cI, 7, .inl (fun _ => jI 0))), (q_2, .inl (cI, 7, .inl (fun _ => jI 0))), (q_3, .inl (cI, 7, .inl (fun _ => jI 0))), (q_4, .inl (cI, 7, .inl (fun _ => jI 0))), (q_5, .inl (cI, 7, .inl (fun _ => jI 0))), (q_6, .inl (cI, 14, .inl (fun _ => jI 0)))] H _ := w
  refine pXF (ty := .array .int) (ws' := [(h, .inr (0, [.int (jI 0), .ref q_1, .ref q_2, .ref q_3, .ref q_4, .ref q_5, .ref q_6, .null, .null, .null, .int (bI false), .int (jI 0), .null, .null])), (q_1, .inl (cI, 7, .inl (fun _ => jI 0))), (q_2, .inl (cI, 7, .inl (fun _ => jI 0))), (q_3, .inl (cI, 7, .inl (fun _ => jI 0))), (q_4, .inl (cI, 7, .inl (fun _ => jI 0))), (q_5, .inl (cI, 7, .inl (fun _ => jI 0))), (q_6, .inl (cI, 14, .inl (fun _ => jI 0)))]) C hin w 6 dX0_init_49 q29 rfl (by decide) rfl rfl (by decide +kernel) rfl rfl (Nat.le_of_ble_eq_true rfl) rfl (fun H locs w => ?_)
  refine aLn C hl 0 dX0_init_52 rfl rfl ?_
  refine kB C dX0_init_53 (by decide) ?_
  refine tpi (show _ = jI ((6 : Nat) : Int) from rfl) ?_
  refine nwA C w (n := 6) (by decide) dX0_init_55 (Nat.le_of_ble_eq_true rfl) (Nat.le_of_ble_eq_true rfl) (fun q_7 H w => ?_)
  have w : Wd D A s.heap [(h, .inr (0, [.int (jI 0), .ref q_1, .ref q_2, .ref q_3, .ref q_4, .ref q_5, .ref q_6, .null, .null, .null, .int (bI false), .int (jI 0), .null, .null])), (q_1, .inl (cI, 7, .inl (fun _ => jI 0))), (q_2, .inl (cI, 7, .inl (fun _ => jI 0))), (q_3, .inl (cI, 7, .inl (fun _ => jI 0))), (q_4, .inl (cI, 7, .inl (fun _ => jI 0))), (q_5, .inl (cI, 7, .inl (fun _ => jI 0))), (q_6, .inl (cI, 14, .inl (fun _ => jI 0))), (q_7, .inl (cI, 6, .inl (fun _ => jI 0)))] H _ := w
  refine pXF (ty := .array .int) (ws' := [(h, .inr (0, [.int (jI 0), .ref q_1, .ref q_2, .ref q_3, .ref q_4, .ref q_5, .ref q_6, .ref q_7, .null, .null, .int (bI false), .int (jI 0), .null, .null])), (q_1, .inl (cI, 7, .inl (fun _ => jI 0))), (q_2, .inl (cI, 7, .inl (fun _ => jI 0))), (q_3, .inl (cI, 7, .inl (fun _ => jI 0))), (q_4, .inl (cI, 7, .inl (fun _ => jI 0))), (q_5, .inl (cI, 7, .inl (fun _ => jI 0))), (q_6, .inl (cI, 14, .inl (fun _ => jI 0))), (q_7, .inl (cI, 6, .inl (fun _ => jI 0)))]) C hin w 7 dX0_init_57 q30 rfl (by decide) rfl rfl (by decide +kernel) rfl rfl (Nat.le_of_ble_eq_true rfl) rfl (fun H locs w => ?_)
  refine aLn C hl 0 dX0_init_60 rfl rfl ?_
  refine kB C dX0_init_61 (by decide) ?_
  refine tpi (show _ = jI ((6 : Nat) : Int) from rfl) ?_
  refine nwZ C w (n := 6) (by decide) dX0_init_63 (Nat.le_of_ble_eq_true rfl) (Nat.le_of_ble_eq_true rfl) (fun q_8 H w => ?_)
  have w : Wd D A s.heap [(h, .inr (0, [.int (jI 0), .ref q_1, .ref q_2, .ref q_3, .ref q_4, .ref q_5, .ref q_6, .ref q_7, .null, .null, .int (bI false), .int (jI 0), .null, .null])), (q_1, .inl (cI, 7, .inl (fun _ => jI 0))), (q_2, .inl (cI, 7, .inl (fun _ => jI 0))), (q_3, .inl (cI, 7, .inl (fun _ => jI 0))), (q_4, .inl (cI, 7, .inl (fun _ => jI 0))), (q_5, .inl (cI, 7, .inl (fun _ => jI 0))), (q_6, .inl (cI, 14, .inl (fun _ => jI 0))), (q_7, .inl (cI, 6, .inl (fun _ => jI 0))), (q_8, .inl (cZ, 6, .inl (fun _ => bI false)))] H _ := w
  refine pXF (ty := .array .boolean) (ws' := [(h, .inr (0, [.int (jI 0), .ref q_1, .ref q_2, .ref q_3, .ref q_4, .ref q_5, .ref q_6, .ref q_7, .ref q_8, .null, .int (bI false), .int (jI 0), .null, .null])), (q_1, .inl (cI, 7, .inl (fun _ => jI 0))), (q_2, .inl (cI, 7, .inl (fun _ => jI 0))), (q_3, .inl (cI, 7, .inl (fun _ => jI 0))), (q_4, .inl (cI, 7, .inl (fun _ => jI 0))), (q_5, .inl (cI, 7, .inl (fun _ => jI 0))), (q_6, .inl (cI, 14, .inl (fun _ => jI 0))), (q_7, .inl (cI, 6, .inl (fun _ => jI 0))), (q_8, .inl (cZ, 6, .inl (fun _ => bI false)))]) C hin w 8 dX0_init_65 q31 rfl (by decide) rfl rfl (by decide +kernel) rfl rfl (Nat.le_of_ble_eq_true rfl) rfl (fun H locs w => ?_)
  refine aLn C hl 0 dX0_init_68 rfl rfl ?_
  refine kB C dX0_init_69 (by decide) ?_
  refine tpi (show _ = jI ((6 : Nat) : Int) from rfl) ?_
  refine nwA C w (n := 6) (by decide) dX0_init_71 (Nat.le_of_ble_eq_true rfl) (Nat.le_of_ble_eq_true rfl) (fun q_9 H w => ?_)
  have w : Wd D A s.heap [(h, .inr (0, [.int (jI 0), .ref q_1, .ref q_2, .ref q_3, .ref q_4, .ref q_5, .ref q_6, .ref q_7, .ref q_8, .null, .int (bI false), .int (jI 0), .null, .null])), (q_1, .inl (cI, 7, .inl (fun _ => jI 0))), (q_2, .inl (cI, 7, .inl (fun _ => jI 0))), (q_3, .inl (cI, 7, .inl (fun _ => jI 0))), (q_4, .inl (cI, 7, .inl (fun _ => jI 0))), (q_5, .inl (cI, 7, .inl (fun _ => jI 0))), (q_6, .inl (cI, 14, .inl (fun _ => jI 0))), (q_7, .inl (cI, 6, .inl (fun _ => jI 0))), (q_8, .inl (cZ, 6, .inl (fun _ => bI false))), (q_9, .inl (cI, 6, .inl (fun _ => jI 0)))] H _ := w
  refine pXF (ty := .array .int) (ws' := [(h, .inr (0, [.int (jI 0), .ref q_1, .ref q_2, .ref q_3, .ref q_4, .ref q_5, .ref q_6, .ref q_7, .ref q_8, .ref q_9, .int (bI false), .int (jI 0), .null, .null])), (q_1, .inl (cI, 7, .inl (fun _ => jI 0))), (q_2, .inl (cI, 7, .inl (fun _ => jI 0))), (q_3, .inl (cI, 7, .inl (fun _ => jI 0))), (q_4, .inl (cI, 7, .inl (fun _ => jI 0))), (q_5, .inl (cI, 7, .inl (fun _ => jI 0))), (q_6, .inl (cI, 14, .inl (fun _ => jI 0))), (q_7, .inl (cI, 6, .inl (fun _ => jI 0))), (q_8, .inl (cZ, 6, .inl (fun _ => bI false))), (q_9, .inl (cI, 6, .inl (fun _ => jI 0)))]) C hin w 9 dX0_init_73 q32 rfl (by decide) rfl rfl (by decide +kernel) rfl rfl (Nat.le_of_ble_eq_true rfl) rfl (fun H locs w => ?_)
  refine aLn C hl 0 dX0_init_76 rfl rfl ?_
  refine kS C dX0_init_77 (by decide) ?_
  refine tpi (show _ = jI ((150 : Nat) : Int) from rfl) ?_
  refine nwA C w (n := 150) (by decide) dX0_init_80 (Nat.le_of_ble_eq_true rfl) (Nat.le_of_ble_eq_true rfl) (fun q_12 H w => ?_)
  have w : Wd D A s.heap [(h, .inr (0, [.int (jI 0), .ref q_1, .ref q_2, .ref q_3, .ref q_4, .ref q_5, .ref q_6, .ref q_7, .ref q_8, .ref q_9, .int (bI false), .int (jI 0), .null, .null])), (q_1, .inl (cI, 7, .inl (fun _ => jI 0))), (q_2, .inl (cI, 7, .inl (fun _ => jI 0))), (q_3, .inl (cI, 7, .inl (fun _ => jI 0))), (q_4, .inl (cI, 7, .inl (fun _ => jI 0))), (q_5, .inl (cI, 7, .inl (fun _ => jI 0))), (q_6, .inl (cI, 14, .inl (fun _ => jI 0))), (q_7, .inl (cI, 6, .inl (fun _ => jI 0))), (q_8, .inl (cZ, 6, .inl (fun _ => bI false))), (q_9, .inl (cI, 6, .inl (fun _ => jI 0))), (q_12, .inl (cI, 150, .inl (fun _ => jI 0)))] H _ := w
  refine pXF (ty := .array .int) (ws' := [(h, .inr (0, [.int (jI 0), .ref q_1, .ref q_2, .ref q_3, .ref q_4, .ref q_5, .ref q_6, .ref q_7, .ref q_8, .ref q_9, .int (bI false), .int (jI 0), .ref q_12, .null])), (q_1, .inl (cI, 7, .inl (fun _ => jI 0))), (q_2, .inl (cI, 7, .inl (fun _ => jI 0))), (q_3, .inl (cI, 7, .inl (fun _ => jI 0))), (q_4, .inl (cI, 7, .inl (fun _ => jI 0))), (q_5, .inl (cI, 7, .inl (fun _ => jI 0))), (q_6, .inl (cI, 14, .inl (fun _ => jI 0))), (q_7, .inl (cI, 6, .inl (fun _ => jI 0))), (q_8, .inl (cZ, 6, .inl (fun _ => bI false))), (q_9, .inl (cI, 6, .inl (fun _ => jI 0))), (q_12, .inl (cI, 150, .inl (fun _ => jI 0)))]) C hin w 12 dX0_init_82 q35 rfl (by decide) rfl rfl (by decide +kernel) rfl rfl (Nat.le_of_ble_eq_true rfl) rfl (fun H locs w => ?_)
  refine aLn C hl 0 dX0_init_85 rfl rfl ?_
  refine kS C dX0_init_86 (by decide) ?_
  refine tpi (show _ = jI ((150 : Nat) : Int) from rfl) ?_
  refine nwA C w (n := 150) (by decide) dX0_init_89 (Nat.le_of_ble_eq_true rfl) (Nat.le_of_ble_eq_true rfl) (fun q_13 H w => ?_)
  have w : Wd D A s.heap [(h, .inr (0, [.int (jI 0), .ref q_1, .ref q_2, .ref q_3, .ref q_4, .ref q_5, .ref q_6, .ref q_7, .ref q_8, .ref q_9, .int (bI false), .int (jI 0), .ref q_12, .null])), (q_1, .inl (cI, 7, .inl (fun _ => jI 0))), (q_2, .inl (cI, 7, .inl (fun _ => jI 0))), (q_3, .inl (cI, 7, .inl (fun _ => jI 0))), (q_4, .inl (cI, 7, .inl (fun _ => jI 0))), (q_5, .inl (cI, 7, .inl (fun _ => jI 0))), (q_6, .inl (cI, 14, .inl (fun _ => jI 0))), (q_7, .inl (cI, 6, .inl (fun _ => jI 0))), (q_8, .inl (cZ, 6, .inl (fun _ => bI false))), (q_9, .inl (cI, 6, .inl (fun _ => jI 0))), (q_12, .inl (cI, 150, .inl (fun _ => jI 0))), (q_13, .inl (cI, 150, .inl (fun _ => jI 0)))] H _ := w
  refine pXF (ty := .array .int) (ws' := [(h, .inr (0, [.int (jI 0), .ref q_1, .ref q_2, .ref q_3, .ref q_4, .ref q_5, .ref q_6, .ref q_7, .ref q_8, .ref q_9, .int (bI false), .int (jI 0), .ref q_12, .ref q_13])), (q_1, .inl (cI, 7, .inl (fun _ => jI 0))), (q_2, .inl (cI, 7, .inl (fun _ => jI 0))), (q_3, .inl (cI, 7, .inl (fun _ => jI 0))), (q_4, .inl (cI, 7, .inl (fun _ => jI 0))), (q_5, .inl (cI, 7, .inl (fun _ => jI 0))), (q_6, .inl (cI, 14, .inl (fun _ => jI 0))), (q_7, .inl (cI, 6, .inl (fun _ => jI 0))), (q_8, .inl (cZ, 6, .inl (fun _ => bI false))), (q_9, .inl (cI, 6, .inl (fun _ => jI 0))), (q_12, .inl (cI, 150, .inl (fun _ => jI 0))), (q_13, .inl (cI, 150, .inl (fun _ => jI 0)))]) C hin w 13 dX0_init_91 q36 rfl (by decide) rfl rfl (by decide +kernel) rfl rfl (Nat.le_of_ble_eq_true rfl) rfl (fun H locs w => ?_)
  exact retV (fun k => if k = 1 then q_1 else if k = 2 then q_2 else if k = 3 then q_3 else if k = 4 then q_4 else if k = 5 then q_5 else if k = 6 then q_6 else if k = 7 then q_7 else if k = 8 then q_8 else if k = 9 then q_9 else if k = 12 then q_12 else if k = 13 then q_13 else 0) C hr w dX0_init_94 trivial
abbrev f01 : List Value := [.int (jI 0), .null, .null, .null, .null, .null, .null, .null, .null]
set_option maxHeartbeats 4000000 in
set_option maxRecDepth 100000 in
theorem mX1_init (l : Launch) (D : va_G) (cI cZ : ClassId) (h : Nat) : ∀ sz, Met l yX1_init (ws_ yX1_init cX1_init 1 none) (rmn 1 8 112 12) (Pcw D cI cZ [(h, .inr (1, f01))] [.ref h] sz) (QcV D cI cZ (fun _ : Nat → Nat => True) (fun a => wM h a cI 0 zF zF zF zF zF zF zF zF) (va_A [(h, .inr (1, f01))] sz)) 8 112 (va_A [(h, .inr (1, f01))] sz) := by
  refine mn_of (by decide) (Nat.le_of_ble_eq_true rfl) rfl ?_
  intro p e s m below meth c A ls C hin hr w hl
  have hl : lv_has ls 1 [(0, .ref h)] := hl
  refine aLn C hl 0 dX1_init_0 rfl rfl ?_
  refine W.objInit C.1 C.2.1 C.2.2.2.1 (C.2.2.1 _ q142) (C.2.2.1 _ q21) (C.2.2.1 _ q22) rfl (by rw [C.2.2.2.2.2.1]; exact hl.1) rfl dX1_init_1 (Nat.le_of_ble_eq_true rfl) (Nat.le_of_ble_eq_true rfl) ?_
  refine W.eq (g2 := F0 m 4 ls []) rfl ?_
  refine aLn C hl 0 dX1_init_4 rfl rfl ?_
  refine kB C dX1_init_5 (by decide) ?_
  refine tpi (show _ = jI ((7 : Nat) : Int) from rfl) ?_
  refine nwA C w (n := 7) (by decide) dX1_init_7 (Nat.le_of_ble_eq_true rfl) (Nat.le_of_ble_eq_true rfl) (fun q_1 H w => ?_)
  have w : Wd D A s.heap [(h, .inr (1, [.int (jI 0), .null, .null, .null, .null, .null, .null, .null, .null])), (q_1, .inl (cI, 7, .inl (fun _ => jI 0)))] H _ := w
  refine pMF (ty := .array .int) (ws' := [(h, .inr (1, [.int (jI 0), .ref q_1, .null, .null, .null, .null, .null, .null, .null])), (q_1, .inl (cI, 7, .inl (fun _ => jI 0)))]) C hin w 1 dX1_init_9 q144 rfl (by decide) rfl rfl (by decide +kernel) rfl rfl (Nat.le_of_ble_eq_true rfl) rfl (fun H locs w => ?_)
  refine aLn C hl 0 dX1_init_12 rfl rfl ?_
  refine kB C dX1_init_13 (by decide) ?_
  refine tpi (show _ = jI ((7 : Nat) : Int) from rfl) ?_
  refine nwA C w (n := 7) (by decide) dX1_init_15 (Nat.le_of_ble_eq_true rfl) (Nat.le_of_ble_eq_true rfl) (fun q_2 H w => ?_)
  have w : Wd D A s.heap [(h, .inr (1, [.int (jI 0), .ref q_1, .null, .null, .null, .null, .null, .null, .null])), (q_1, .inl (cI, 7, .inl (fun _ => jI 0))), (q_2, .inl (cI, 7, .inl (fun _ => jI 0)))] H _ := w
  refine pMF (ty := .array .int) (ws' := [(h, .inr (1, [.int (jI 0), .ref q_1, .ref q_2, .null, .null, .null, .null, .null, .null])), (q_1, .inl (cI, 7, .inl (fun _ => jI 0))), (q_2, .inl (cI, 7, .inl (fun _ => jI 0)))]) C hin w 2 dX1_init_17 q145 rfl (by decide) rfl rfl (by decide +kernel) rfl rfl (Nat.le_of_ble_eq_true rfl) rfl (fun H locs w => ?_)
  refine aLn C hl 0 dX1_init_20 rfl rfl ?_
  refine kB C dX1_init_21 (by decide) ?_
  refine tpi (show _ = jI ((7 : Nat) : Int) from rfl) ?_
  refine nwA C w (n := 7) (by decide) dX1_init_23 (Nat.le_of_ble_eq_true rfl) (Nat.le_of_ble_eq_true rfl) (fun q_3 H w => ?_)
  have w : Wd D A s.heap [(h, .inr (1, [.int (jI 0), .ref q_1, .ref q_2, .null, .null, .null, .null, .null, .null])), (q_1, .inl (cI, 7, .inl (fun _ => jI 0))), (q_2, .inl (cI, 7, .inl (fun _ => jI 0))), (q_3, .inl (cI, 7, .inl (fun _ => jI 0)))] H _ := w
  refine pMF (ty := .array .int) (ws' := [(h, .inr (1, [.int (jI 0), .ref q_1, .ref q_2, .ref q_3, .null, .null, .null, .null, .null])), (q_1, .inl (cI, 7, .inl (fun _ => jI 0))), (q_2, .inl (cI, 7, .inl (fun _ => jI 0))), (q_3, .inl (cI, 7, .inl (fun _ => jI 0)))]) C hin w 3 dX1_init_25 q146 rfl (by decide) rfl rfl (by decide +kernel) rfl rfl (Nat.le_of_ble_eq_true rfl) rfl (fun H locs w => ?_)
  refine aLn C hl 0 dX1_init_28 rfl rfl ?_
  refine kB C dX1_init_29 (by decide) ?_
  refine tpi (show _ = jI ((7 : Nat) : Int) from rfl) ?_
  refine nwA C w (n := 7) (by decide) dX1_init_31 (Nat.le_of_ble_eq_true rfl) (Nat.le_of_ble_eq_true rfl) (fun q_4 H w => ?_)
  have w : Wd D A s.heap [(h, .inr (1, [.int (jI 0), .ref q_1, .ref q_2, .ref q_3, .null, .null, .null, .null, .null])), (q_1, .inl (cI, 7, .inl (fun _ => jI 0))), (q_2, .inl (cI, 7, .inl (fun _ => jI 0))), (q_3, .inl (cI, 7, .inl (fun _ => jI 0))), (q_4, .inl (cI, 7, .inl (fun _ => jI 0)))] H _ := w
  refine pMF (ty := .array .int) (ws' := [(h, .inr (1, [.int (jI 0), .ref q_1, .ref q_2, .ref q_3, .ref q_4, .null, .null, .null, .null])), (q_1, .inl (cI, 7, .inl (fun _ => jI 0))), (q_2, .inl (cI, 7, .inl (fun _ => jI 0))), (q_3, .inl (cI, 7, .inl (fun _ => jI 0))), (q_4, .inl (cI, 7, .inl (fun _ => jI 0)))]) C hin w 4 dX1_init_33 q147 rfl (by decide) rfl rfl (by decide +kernel) rfl rfl (Nat.le_of_ble_eq_true rfl) rfl (fun H locs w => ?_)
  refine aLn C hl 0 dX1_init_36 rfl rfl ?_
  refine kB C dX1_init_37 (by decide) ?_
  refine tpi (show _ = jI ((7 : Nat) : Int) from rfl) ?_
  refine nwA C w (n := 7) (by decide) dX1_init_39 (Nat.le_of_ble_eq_true rfl) (Nat.le_of_ble_eq_true rfl) (fun q_5 H w => ?_)
  have w : Wd D A s.heap [(h, .inr (1, [.int (jI 0), .ref q_1, .ref q_2, .ref q_3, .ref q_4, .null, .null, .null, .null])), (q_1, .inl (cI, 7, .inl (fun _ => jI 0))), (q_2, .inl (cI, 7, .inl (fun _ => jI 0))), (q_3, .inl (cI, 7, .inl (fun _ => jI 0))), (q_4, .inl (cI, 7, .inl (fun _ => jI 0))), (q_5, .inl (cI, 7, .inl (fun _ => jI 0)))] H _ := w
  refine pMF (ty := .array .int) (ws' := [(h, .inr (1, [.int (jI 0), .ref q_1, .ref q_2, .ref q_3, .ref q_4, .ref q_5, .null, .null, .null])), (q_1, .inl (cI, 7, .inl (fun _ => jI 0))), (q_2, .inl (cI, 7, .inl (fun _ => jI 0))), (q_3, .inl (cI, 7, .inl (fun _ => jI 0))), (q_4, .inl (cI, 7, .inl (fun _ => jI 0))), (q_5, .inl (cI, 7, .inl (fun _ => jI 0)))]) C hin w 5 dX1_init_41 q148 rfl (by decide) rfl rfl (by decide +kernel) rfl rfl (Nat.le_of_ble_eq_true rfl) rfl (fun H locs w => ?_)
  refine aLn C hl 0 dX1_init_44 rfl rfl ?_
  refine kB C dX1_init_45 (by decide) ?_
  refine tpi (show _ = jI ((7 : Nat) : Int) from rfl) ?_
  refine nwA C w (n := 7) (by decide) dX1_init_47 (Nat.le_of_ble_eq_true rfl) (Nat.le_of_ble_eq_true rfl) (fun q_6 H w => ?_)
  have w : Wd D A s.heap [(h, .inr (1, [.int (jI 0), .ref q_1, .ref q_2, .ref q_3, .ref q_4, .ref q_5, .null, .null, .null])), (q_1, .inl (cI, 7, .inl (fun _ => jI 0))), (q_2, .inl (cI, 7, .inl (fun _ => jI 0))), (q_3, .inl (cI, 7, .inl (fun _ => jI 0))), (q_4, .inl (cI, 7, .inl (fun _ => jI 0))), (q_5, .inl (cI, 7, .inl (fun _ => jI 0))), (q_6, .inl (cI, 7, .inl (fun _ => jI 0)))] H _ := w
  refine pMF (ty := .array .int) (ws' := [(h, .inr (1, [.int (jI 0), .ref q_1, .ref q_2, .ref q_3, .ref q_4, .ref q_5, .ref q_6, .null, .null])), (q_1, .inl (cI, 7, .inl (fun _ => jI 0))), (q_2, .inl (cI, 7, .inl (fun _ => jI 0))), (q_3, .inl (cI, 7, .inl (fun _ => jI 0))), (q_4, .inl (cI, 7, .inl (fun _ => jI 0))), (q_5, .inl (cI, 7, .inl (fun _ => jI 0))), (q_6, .inl (cI, 7, .inl (fun _ => jI 0)))]) C hin w 6 dX1_init_49 q149 rfl (by decide) rfl rfl (by decide +kernel) rfl rfl (Nat.le_of_ble_eq_true rfl) rfl (fun H locs w => ?_)
  refine aLn C hl 0 dX1_init_52 rfl rfl ?_
  refine kB C dX1_init_53 (by decide) ?_
  refine tpi (show _ = jI ((6 : Nat) : Int) from rfl) ?_
  refine nwA C w (n := 6) (by decide) dX1_init_55 (Nat.le_of_ble_eq_true rfl) (Nat.le_of_ble_eq_true rfl) (fun q_7 H w => ?_)
  have w : Wd D A s.heap [(h, .inr (1, [.int (jI 0), .ref q_1, .ref q_2, .ref q_3, .ref q_4, .ref q_5, .ref q_6, .null, .null])), (q_1, .inl (cI, 7, .inl (fun _ => jI 0))), (q_2, .inl (cI, 7, .inl (fun _ => jI 0))), (q_3, .inl (cI, 7, .inl (fun _ => jI 0))), (q_4, .inl (cI, 7, .inl (fun _ => jI 0))), (q_5, .inl (cI, 7, .inl (fun _ => jI 0))), (q_6, .inl (cI, 7, .inl (fun _ => jI 0))), (q_7, .inl (cI, 6, .inl (fun _ => jI 0)))] H _ := w
  refine pMF (ty := .array .int) (ws' := [(h, .inr (1, [.int (jI 0), .ref q_1, .ref q_2, .ref q_3, .ref q_4, .ref q_5, .ref q_6, .ref q_7, .null])), (q_1, .inl (cI, 7, .inl (fun _ => jI 0))), (q_2, .inl (cI, 7, .inl (fun _ => jI 0))), (q_3, .inl (cI, 7, .inl (fun _ => jI 0))), (q_4, .inl (cI, 7, .inl (fun _ => jI 0))), (q_5, .inl (cI, 7, .inl (fun _ => jI 0))), (q_6, .inl (cI, 7, .inl (fun _ => jI 0))), (q_7, .inl (cI, 6, .inl (fun _ => jI 0)))]) C hin w 7 dX1_init_57 q150 rfl (by decide) rfl rfl (by decide +kernel) rfl rfl (Nat.le_of_ble_eq_true rfl) rfl (fun H locs w => ?_)
  refine aLn C hl 0 dX1_init_60 rfl rfl ?_
  refine kB C dX1_init_61 (by decide) ?_
  refine tpi (show _ = jI ((64 : Nat) : Int) from rfl) ?_
  refine nwA C w (n := 64) (by decide) dX1_init_63 (Nat.le_of_ble_eq_true rfl) (Nat.le_of_ble_eq_true rfl) (fun q_8 H w => ?_)
  have w : Wd D A s.heap [(h, .inr (1, [.int (jI 0), .ref q_1, .ref q_2, .ref q_3, .ref q_4, .ref q_5, .ref q_6, .ref q_7, .null])), (q_1, .inl (cI, 7, .inl (fun _ => jI 0))), (q_2, .inl (cI, 7, .inl (fun _ => jI 0))), (q_3, .inl (cI, 7, .inl (fun _ => jI 0))), (q_4, .inl (cI, 7, .inl (fun _ => jI 0))), (q_5, .inl (cI, 7, .inl (fun _ => jI 0))), (q_6, .inl (cI, 7, .inl (fun _ => jI 0))), (q_7, .inl (cI, 6, .inl (fun _ => jI 0))), (q_8, .inl (cI, 64, .inl (fun _ => jI 0)))] H _ := w
  refine pMF (ty := .array .int) (ws' := [(h, .inr (1, [.int (jI 0), .ref q_1, .ref q_2, .ref q_3, .ref q_4, .ref q_5, .ref q_6, .ref q_7, .ref q_8])), (q_1, .inl (cI, 7, .inl (fun _ => jI 0))), (q_2, .inl (cI, 7, .inl (fun _ => jI 0))), (q_3, .inl (cI, 7, .inl (fun _ => jI 0))), (q_4, .inl (cI, 7, .inl (fun _ => jI 0))), (q_5, .inl (cI, 7, .inl (fun _ => jI 0))), (q_6, .inl (cI, 7, .inl (fun _ => jI 0))), (q_7, .inl (cI, 6, .inl (fun _ => jI 0))), (q_8, .inl (cI, 64, .inl (fun _ => jI 0)))]) C hin w 8 dX1_init_65 q151 rfl (by decide) rfl rfl (by decide +kernel) rfl rfl (Nat.le_of_ble_eq_true rfl) rfl (fun H locs w => ?_)
  exact retV (fun k => if k = 1 then q_1 else if k = 2 then q_2 else if k = 3 then q_3 else if k = 4 then q_4 else if k = 5 then q_5 else if k = 6 then q_6 else if k = 7 then q_7 else if k = 8 then q_8 else 0) C hr w dX1_init_68 trivial
end
section
/-! LAW 1: calls beside a frame, the script -/
section K
variable {p : Program} {l : Launch} {e : Env} {R : Room} {s : State} {m : MethodId} {args : Array Value} {below : List Frame} {meth : Method} {c : Code} {H : Heap} {locs : List Loc} {cells slots : Nat} {Q : State → Prop}
variable {cc : ByteArray} {pc nL : Nat} {ls : Array Slot} {rest : List Value} {D : va_G} {A : Nat → Prop} {a : Nat} {ws ws' wa wb wa' wb' : va_W} {H0 H1 : Heap} {own : String} {cI cZ : ClassId} {lv lv' : List (Nat × Value)} {locs1 : List Loc}
theorem ga_ {x : Nat × va_E} {i : Nat} (h : wa[i]? = some x) : (wa ++ wb)[i]? = some x := by
  rw [List.getElem?_append_left (List.getElem?_eq_some_iff.mp h).1]
  exact h
theorem gb_ {x : Nat × va_E} {i : Nat} (h : wb[i]? = some x) : (wa ++ wb)[wa.length + i]? = some x := by
  rw [List.getElem?_append_right (Nat.le_add_right _ _), Nat.add_sub_cancel_left]
  exact h
theorem wd_a (w : Wd D A H0 (wa ++ wb) H locs) : va_P D cl2 wa H ∧ va_D A wa := ⟨fun k q hk => w.1 k q (ga_ hk), ⟨fun i j x y hi hj e => w.2.1.1 i j x y (ga_ hi) (ga_ hj) e, fun k q hk => w.2.1.2 k q (ga_ hk)⟩⟩
theorem wd_b (w : Wd D A H0 (wa ++ wb) H locs) : va_P D cl2 wb H ∧ va_D A wb := ⟨fun k q hk => w.1 _ q (gb_ hk), ⟨fun i j x y hi hj e => by have := w.2.1.1 _ _ x y (gb_ hi) (gb_ hj) e; omega, fun k q hk => w.2.1.2 _ q (gb_ hk)⟩⟩
theorem wd_ab (w : Wd D A H0 (wa ++ wb) H locs) {i j : Nat} {x y : Nat × va_E} (hx : wa[i]? = some x) (hy : wb[j]? = some y) : x.1 ≠ y.1 := fun e => by
  have h1 := w.2.1.1 _ _ x y (ga_ hx) (gb_ hy) e
  have h2 := (List.getElem?_eq_some_iff.mp hx).1
  omega
theorem fr_a (w : Wd D A H0 (wa ++ wb) H locs) : ∀ q, va_A wa H.size q → A q := by
  intro q h
  rcases h with ⟨k, e, h⟩ | h
  · exact (wd_a w).2.2 k (q, e) h
  · exact w.2.2.2 q (Nat.le_trans w.2.2.1.1 h)
theorem fr_b (w : Wd D A H0 (wa ++ wb) H locs) : ∀ q, va_A wb H.size q → A q := by
  intro q h
  rcases h with ⟨k, e, h⟩ | h
  · exact (wd_b w).2.2 k (q, e) h
  · exact w.2.2.2 q (Nat.le_trans w.2.2.1.1 h)
theorem jn_a (w : Wd D A H0 (wa ++ wb) H locs) (hk : ∀ q : Nat, q < H.size → ¬ va_A wa H.size q → H1[q]? = H[q]?) (hP1 : va_P D cl2 wa' H1) (hD1 : va_D (va_A wa H.size) wa') (hS : va_S A H0 H1 locs1) : Wd D A H0 (wa' ++ wb) H1 locs1 := by
  have apart : ∀ (k : Nat) (q : Nat × va_E), wb[k]? = some q → q.1 < H.size ∧ ¬ va_A wa H.size q.1 := fun k q hq => by
    have hl := ((wd_b w).1 k q hq).lt
    refine ⟨hl, fun h => ?_⟩
    rcases h with ⟨k2, e, h⟩ | h
    · exact wd_ab w h hq rfl
    · omega
  refine ⟨va_P.app hP1 (fun k q hq => ((wd_b w).1 k q hq).kept (hk q.1 (apart k q hq).1 (apart k q hq).2)), va_D.app (hD1.weaken (fun _ q _ h => fr_a w q.1 h)) (wd_b w).2 (fun i j x y hx hy hxy => (apart j y hy).2 ?_), hS, w.2.2.2⟩
  rw [← hxy]
  exact hD1.2 i x hx
theorem jn_b (w : Wd D A H0 (wa ++ wb) H locs) (hk : ∀ q : Nat, q < H.size → ¬ va_A wb H.size q → H1[q]? = H[q]?) (hP1 : va_P D cl2 wb' H1) (hD1 : va_D (va_A wb H.size) wb') (hS : va_S A H0 H1 locs1) : Wd D A H0 (wa ++ wb') H1 locs1 := by
  have apart : ∀ (k : Nat) (q : Nat × va_E), wa[k]? = some q → q.1 < H.size ∧ ¬ va_A wb H.size q.1 := fun k q hq => by
    have hl := ((wd_a w).1 k q hq).lt
    refine ⟨hl, fun h => ?_⟩
    rcases h with ⟨k2, e, h⟩ | h
    · exact wd_ab w hq h rfl
    · omega
  refine ⟨va_P.app (fun k q hq => ((wd_a w).1 k q hq).kept (hk q.1 (apart k q hq).1 (apart k q hq).2)) hP1, va_D.app (wd_a w).2 (hD1.weaken (fun _ q _ h => fr_b w q.1 h)) (fun i j x y hx hy hxy => (apart i x hx).2 ?_), hS, w.2.2.2⟩
  rw [hxy]
  exact hD1.2 j y hy
theorem cpL {S : Type} {post : Int32 → S → Prop} {wo : S → va_W} {y : MethodName} {b : ByteArray} {L fr lo n index ci : Nat} {r : FieldType} {Cn : String} {hh : Nat} {fs : List Value} {qc : vw_C} {As : List Value} {st0 : List Value} (C : Cx p s m meth c cc nL args own D cI cZ) (w : Wd D A H0 (wa ++ wb) H locs) (hl : lv_has ls nL lv) (hdg : decode cc pc = .ok (.invokevirtual index, 3))
    (M : MI l y b L (some r) fr lo D cI cZ wa (.ref hh :: As) post wo) (g : GoodIn lw_all (wsV own index Cn y (ws_ y b L (some r)))) (hd : y.cls = Cn ∧ y.cls ≠ "java/lang/invoke/MethodHandle" ∧ y.cls ≠ "java/lang/invoke/VarHandle" ∧ (parseMethodDescriptor y.desc).map (fun d => d.parameters.length) = some n) (hR : fr + 1 ≤ R.frames ∧ 8 + (L + 11) + lo ≤ R.locals)
    (he : wa[0]? = some (hh, .inr (ci, fs))) (hc : cl2[ci]? = some qc) (hq : qc.1 = Cn) (hn : As.length = n) (hst : st0 = As.reverse ++ .ref hh :: rest) (hrm : (rest.map fun v => v.category).sum ≤ 8) (hf : cells ≤ R.cells ∧ slots ≤ R.slots)
    (kk : ∀ (r : Int32) (u : S) (H1 : Heap) (locs1 : List Loc), post r u → Wd D A H0 (wo u ++ wb) H1 locs1 → W p l e R s m args below meth c H1 locs1 cells slots Q (F0 m (pc + 3) ls (.int r :: rest))) : W p l e R s m args below meth c H locs cells slots Q (F0 m pc ls st0) := by
  subst hst
  subst hq
  refine va_calli (va_runV (As := As) (rest := rest) (mc := 0) (ms := 0) ⟨C.1, C.2.1, C.2.2.2.2.2.1, C.2.2.2.1, C.2.2.1⟩ (M H.size) (cwV n C.2.2.1 g rfl rfl rfl hd hR) ⟨fun a U g mk q => by obtain ⟨q0, q1, qP, qK, qD⟩ := q; exact ⟨q0, q1, qP, va_K.moved (u := U) (U := U.calling g mk a) (Vm.Alike.refl U.vm) qK, qD⟩, va_recv C.2.2.2.2.1 (wd_a w).1 hc he, fun U hU hW => ⟨rfl, by rw [hU], by rw [hU]; exact (wd_a w).1, va_K.moved hW.alike C.2.2.2.2.1, (wd_a w).2.weaken (fun _ _ _ _ => trivial)⟩⟩ rfl hn hl.1 rfl (lv_room hrm) hdg hf) w.2.2.1 (fun q _ h => fr_a w q h) (fr_a w) (fun r u t H1 locs1 ht hvm hp hB hz hk hS => ?_)
  obtain ⟨hP1, hK1, hD1⟩ := hB
  rw [ht] at hP1
  exact kk r u H1 locs1 hp (jn_a w hk hP1 hD1 hS)
theorem cpR {S : Type} {post : Int32 → S → Prop} {wo : S → va_W} {y : MethodName} {b : ByteArray} {L fr lo n index ci : Nat} {r : FieldType} {Cn : String} {hh : Nat} {fs : List Value} {qc : vw_C} {As : List Value} {st0 : List Value} (C : Cx p s m meth c cc nL args own D cI cZ) (w : Wd D A H0 (wa ++ wb) H locs) (hl : lv_has ls nL lv) (hdg : decode cc pc = .ok (.invokevirtual index, 3))
    (M : MI l y b L (some r) fr lo D cI cZ wb (.ref hh :: As) post wo) (g : GoodIn lw_all (wsV own index Cn y (ws_ y b L (some r)))) (hd : y.cls = Cn ∧ y.cls ≠ "java/lang/invoke/MethodHandle" ∧ y.cls ≠ "java/lang/invoke/VarHandle" ∧ (parseMethodDescriptor y.desc).map (fun d => d.parameters.length) = some n) (hR : fr + 1 ≤ R.frames ∧ 8 + (L + 11) + lo ≤ R.locals)
    (he : wb[0]? = some (hh, .inr (ci, fs))) (hc : cl2[ci]? = some qc) (hq : qc.1 = Cn) (hn : As.length = n) (hst : st0 = As.reverse ++ .ref hh :: rest) (hrm : (rest.map fun v => v.category).sum ≤ 8) (hf : cells ≤ R.cells ∧ slots ≤ R.slots)
    (kk : ∀ (r : Int32) (u : S) (H1 : Heap) (locs1 : List Loc), post r u → Wd D A H0 (wa ++ wo u) H1 locs1 → W p l e R s m args below meth c H1 locs1 cells slots Q (F0 m (pc + 3) ls (.int r :: rest))) : W p l e R s m args below meth c H locs cells slots Q (F0 m pc ls st0) := by
  subst hst
  subst hq
  refine va_calli (va_runV (As := As) (rest := rest) (mc := 0) (ms := 0) ⟨C.1, C.2.1, C.2.2.2.2.2.1, C.2.2.2.1, C.2.2.1⟩ (M H.size) (cwV n C.2.2.1 g rfl rfl rfl hd hR) ⟨fun a U g mk q => by obtain ⟨q0, q1, qP, qK, qD⟩ := q; exact ⟨q0, q1, qP, va_K.moved (u := U) (U := U.calling g mk a) (Vm.Alike.refl U.vm) qK, qD⟩, va_recv C.2.2.2.2.1 (wd_b w).1 hc he, fun U hU hW => ⟨rfl, by rw [hU], by rw [hU]; exact (wd_b w).1, va_K.moved hW.alike C.2.2.2.2.1, (wd_b w).2.weaken (fun _ _ _ _ => trivial)⟩⟩ rfl hn hl.1 rfl (lv_room hrm) hdg hf) w.2.2.1 (fun q _ h => fr_b w q h) (fr_b w) (fun r u t H1 locs1 ht hvm hp hB hz hk hS => ?_)
  obtain ⟨hP1, hK1, hD1⟩ := hB
  rw [ht] at hP1
  exact kk r u H1 locs1 hp (jn_b w hk hP1 hD1 hS)
theorem cpN {S : Type} {post : S → Prop} {wo : S → va_W} {y : MethodName} {b : ByteArray} {L fr mc ms lo index hh : Nat} (C : Cx p s m meth c cc nL args own D cI cZ) (w : Wd D A H0 (wa ++ wb) H locs) (hl : lv_has ls nL lv) (hdg : decode cc pc = .ok (.invokespecial index, 3))
    (M : ∀ sz, Met l y (ws_ y b L none) (rmn fr mc ms lo) (Pcw D cI cZ wb [.ref hh] sz) (QcV D cI cZ post wo (va_A wb sz)) mc ms (va_A wb sz)) (g : Cond.code y b L none ∈ lw_all) (hini : Cond.initialized y.cls ∈ lw_all) (hlk : Cond.methodLink own index y ∈ lw_all) (hin : Cond.instanceMethod y ∈ lw_all) (hy1 : y.name = "<init>") (hd : y.cls ≠ "java/lang/invoke/MethodHandle" ∧ y.cls ≠ "java/lang/invoke/VarHandle" ∧ (parseMethodDescriptor y.desc).map (fun d => d.parameters.length) = some 0) (hR : fr + 1 ≤ R.frames ∧ 8 + (L + 11) + lo ≤ R.locals)
    (hrm : (rest.map fun v => v.category).sum ≤ 8) (hf : cells + mc ≤ R.cells ∧ slots + ms ≤ R.slots)
    (kk : ∀ (u : S) (H1 : Heap) (locs1 : List Loc), post u → Wd D A H0 (wa ++ wo u) H1 locs1 → W p l e R s m args below meth c H1 locs1 (cells + mc) (slots + ms) Q (F0 m (pc + 3) ls rest)) : W p l e R s m args below meth c H locs cells slots Q (F0 m pc ls (.ref hh :: rest)) := by
  refine va_callv (va_runI (As := []) (rest := rest) ⟨C.1, C.2.1, C.2.2.2.2.2.1, C.2.2.2.1, C.2.2.1⟩ (M H.size) (cwI 0 C.2.2.1 (lw_meth g) rfl rfl rfl (C.2.2.1 _ hini) (C.2.2.1 _ hlk) (C.2.2.1 _ hin) hy1 hd hR) ⟨fun a U g mk q => by obtain ⟨q0, q1, qP, qK, qD⟩ := q; exact ⟨q0, q1, qP, va_K.moved (u := U) (U := U.calling g mk a) (Vm.Alike.refl U.vm) qK, qD⟩, fun U hU hW => ⟨rfl, by rw [hU], by rw [hU]; exact (wd_b w).1, va_K.moved hW.alike C.2.2.2.2.1, (wd_b w).2.weaken (fun _ _ _ _ => trivial)⟩⟩ rfl rfl hl.1 rfl (lv_room hrm) hdg hf) w.2.2.1 (fun q _ h => fr_b w q h) (fr_b w) (fun u t H1 locs1 ht hvm hp hB hz hk hS => ?_)
  obtain ⟨hP1, hK1, hD1⟩ := hB
  rw [ht] at hP1
  exact kk u H1 locs1 hp (jn_b w hk hP1 hD1 hS)
/-- the script: its length, an int of it -/
theorem sLn (C : Cx p s m meth c cc nL args own D cI cZ) (w : Wd D A H0 ws H locs) {b L : Nat} {xs : Nat → Int32} (hX : va_X b L xs s H0) (hb : b < H0.size ∧ ¬ A b) (hdg : decode cc pc = .ok (.arraylength, 1)) (kk : W p l e R s m args below meth c H locs cells slots Q (F0 m (pc + 1) ls (.int (jI (L : Int)) :: rest))) : W p l e R s m args below meth c H locs cells slots Q (F0 m pc ls (.ref b :: rest)) := va_slen C.1 C.2.1 hX hb.1 hb.2 w.2.2.1 hdg (tpi (jI_nI L).symm kk)
theorem sLd (C : Cx p s m meth c cc nL args own D cI cZ) (w : Wd D A H0 ws H locs) {b L i : Nat} {xs : Nat → Int32} (hX : va_X b L xs s H0) (hb : b < H0.size ∧ ¬ A b) (hi : i < L ∧ L ≤ 384) (hdg : decode cc pc = .ok (.iaload, 1)) (kk : W p l e R s m args below meth c H locs cells slots Q (F0 m (pc + 1) ls (.int (jI (xs i).toInt) :: rest))) : W p l e R s m args below meth c H locs cells slots Q (F0 m pc ls (.int (jI (i : Int)) :: .ref b :: rest)) := by
  refine va_sld C.1 C.2.1 hX hb.1 hb.2 w.2.2.1 (jI_in hi.1 (by omega)) hdg ?_
  rw [jI_cl (by omega)]
  exact tpi (jI_of _).symm kk
end K
end
section
/-! THE CLAIM OUT OF ONE WALK OF THE LAW'S BODY. Your part is whole_start (and what it stands on); all else here is the same for every law, but numbers. -/
def R_law : String := "CrashPlannerLaw"
def lw_P (b : Addr) (xs : List Int32) (args : Array Value) (s : State) : Prop := args = #[.ref b] ∧ s.IntsAt b xs ∧ xs.length ≤ 384 ∧ (Jvm.Cond.and given_1 narrow_1).before args s = true
def lw_Q (_ : Array Value) (s : State) (o : Outcome) (t : State) : Prop := o = .returned (some (.int 1)) ∧ Framed s o t [] 600000 7290000
def lw_Z (below : List Frame) (a : Array Value) (s : State) : State → Prop := fun t => ∃ o, t.status = .running ∧ Ended t below o ∧ lw_Q a s o t
/-- the law's own end, with 1 on the stack, nothing written that was there before, its room as the claim has it -/
theorem lw_ret {p : Program} {l : Launch} {e : Env} {s : State} {m : MethodId} {below : List Frame} {meth : Method} {c : Code} {b : Nat} (hx : p.tables.exec = Jvm.exec) (hb : c.code = code) (hr : meth.sig.returnType = ret) (hlocks : meth.locks = false) {pc : Nat} {H : Heap} {ls : Array Slot} (hdg : decode code pc = .ok (.ireturn, 1)) : W p l e room_1 s m #[Value.ref b] below meth c H [] 600000 7290000 (lw_Z below #[Value.ref b] s) (F0 m pc ls [.int 1]) := by
  intro T hT X
  obtain ⟨fs, hret, hrun, hended, hW, hframe⟩ := X.leave (v := some (.int 1)) (hlocks := hlocks) (fun h => by rw [hr] at h; cases h)
  have hmeth' : T.vm.method? m = some meth := X.method'
  refine ⟨T.setFrames fs, ?_, .returned (some (.int 1)), hrun, hended, rfl, ⟨_, rfl⟩, hW, hframe⟩
  jvm_step X.here [X.here.top, hx, hb, hdg, hmeth', hr, ret, narrow_b1]
  (try refine ⟨rfl, ?_⟩); (try refine ⟨rfl, ?_⟩)
  first | (intro acts; rw [hret _ acts rfl rfl rfl]) | rw [hret _ _ rfl rfl rfl]
  exact Steps.refl _
/-- what holds at the law's entry: the machine, the code, the tables' words (any of lw_tbl by 'hts w (by decide +kernel)'), the script of L ints xs at the cell b, what the Statement gives of the start (any of its parts by flat_of_before) -/
def lw_At (p : Program) (s : State) (m : MethodId) (meth : Method) (c : Code) (b L : Nat) (xs : Nat → Int32) : Prop :=
  p.tables.exec = Jvm.exec ∧ c.code = code ∧ meth.sig.returnType = ret ∧ c.maxLocals = 4 ∧ s.vm.findClass R_law = some m.cls ∧ (∀ w ∈ lw_tbl, w.before #[Value.ref b] s = true) ∧ va_X b L xs s s.heap ∧ b < s.heap.size ∧ meth.locks = false ∧ (Jvm.Cond.and given_1 narrow_1).before #[Value.ref b] s = true
end
section
/-! LAW 2: the loop over the script -/
set_option maxHeartbeats 4000000 in
set_option maxRecDepth 100000 in
theorem law_loop {p : Program} {l : Launch} {e : Env} {s : State} {m : MethodId} {below : List Frame} {meth : Method} {c : Code} {b L : Nat} {xs : Nat → Int32} {D : va_G} {cI cZ : ClassId} (hL : L ≤ 384) (hr : meth.sig.returnType = ret) (hX : va_X b L xs s s.heap) (hbl : b < s.heap.size) (C : Cx p s m meth c code 4 #[Value.ref b] R_law D cI cZ) (hx hm : Nat) (ax am : Nat → Nat) :
    ∀ (n i : Nat), i ≤ L → L < i + n → ∀ (P : Pj) (u : SP) (v : SM) (H : Heap) (locs : List Loc) (ls : Array Slot), pok P → okV P u → Wd D (fun q => s.heap.size ≤ q) s.heap (wV hx ax cI cZ P u ++ wN hm am cI P v) H locs → lv_has ls 4 [(0, .ref b), (1, .ref hx), (2, .ref hm), (3, .int (jI (i : Int)))] → W p l e room_1 s m #[Value.ref b] below meth c H locs 21 502 (lw_Z below #[Value.ref b] s) (F0 m 18 ls []) := by
  have hbA : b < s.heap.size ∧ ¬ (fun q => s.heap.size ≤ q) b := ⟨hbl, Nat.not_le.mpr hbl⟩
  intro n
  induction n with
  | zero => intro i h1 h2; omega
  | succ n ih =>
    intro i h1 h2 P u v H locs ls hp hu w hl
    refine iLn C hl 3 dL_law_18 rfl rfl ?_
    refine aLn C hl 0 dL_law_19 rfl rfl ?_
    refine sLn C w hX hbA dL_law_20 ?_
    refine kB C dL_law_21 (by decide) ?_
    refine oSub C dL_law_23 ?_
    refine cGt C 327 dL_law_24 (by decide) ⟨⟨by omega, by omega⟩, ⟨by omega, by omega⟩⟩ (fun c24 => ?_) (fun c24 => ?_)
    · refine kC C dL_law_327 ?_
      refine va_forget (fun q hq => w.2.2.1.2.2 q hq) ?_
      refine W.widen (k := 600000) (n := 7290000) (Nat.le_of_ble_eq_true rfl) (Nat.le_of_ble_eq_true rfl) ?_
      refine tpi (show _ = (1 : Int32) from rfl) ?_
      exact lw_ret C.1 C.2.1 hr C.2.2.2.2.2.2 dL_law_328
    · refine aLn C hl 0 dL_law_27 rfl rfl ?_
      refine iLn C hl 3 dL_law_28 rfl rfl ?_
      refine sLd C w hX hbA ⟨by omega, hL⟩ dL_law_29 ?_
      refine kB C dL_law_30 (by decide) ?_
      obtain ⟨k, hk, ek⟩ := jI_and15 (jI (xs i).toInt)
      refine lv_iand C.1 C.2.1 dL_law_32 ?_
      refine tpi ek ?_
      rcases (show k = 0 ∨ k = 1 ∨ k = 2 ∨ k = 3 ∨ k = 4 ∨ k = 5 ∨ k = 6 ∨ k = 7 ∨ k = 8 ∨ 9 ≤ k by omega) with rfl | rfl | rfl | rfl | rfl | rfl | rfl | rfl | rfl | hk9
      · refine lv_tableIn (tgt := 84) C.1 C.2.1 dL_law_33 (by decide +kernel) (by decide +kernel) rfl (by decide) ?_
        refine aLn C hl 1 dL_law_84 rfl rfl ?_
        refine aLn C hl 0 dL_law_85 rfl rfl ?_
        refine iLn C hl 3 dL_law_86 rfl rfl ?_
        refine kC C dL_law_87 ?_
        refine oAdd C dL_law_88 ?_
        refine tpi (show _ = jI ((i + 1 : Nat) : Int) from rfl) ?_
        refine sLd C w hX hbA ⟨by omega, hL⟩ dL_law_89 ?_
        refine aLn C hl 0 dL_law_90 rfl rfl ?_
        refine iLn C hl 3 dL_law_91 rfl rfl ?_
        refine kC C dL_law_92 ?_
        refine oAdd C dL_law_93 ?_
        refine tpi (show _ = jI ((i + 2 : Nat) : Int) from rfl) ?_
        refine sLd C w hX hbA ⟨by omega, hL⟩ dL_law_94 ?_
        refine aLn C hl 0 dL_law_95 rfl rfl ?_
        refine iLn C hl 3 dL_law_96 rfl rfl ?_
        refine kC C dL_law_97 ?_
        refine oAdd C dL_law_98 ?_
        refine tpi (show _ = jI ((i + 3 : Nat) : Int) from rfl) ?_
        refine sLd C w hX hbA ⟨by omega, hL⟩ dL_law_99 ?_
        refine aLn C hl 0 dL_law_100 rfl rfl ?_
        refine iLn C hl 3 dL_law_101 rfl rfl ?_
        refine kC C dL_law_102 ?_
        refine oAdd C dL_law_103 ?_
        refine tpi (show _ = jI ((i + 4 : Nat) : Int) from rfl) ?_
        refine sLd C w hX hbA ⟨by omega, hL⟩ dL_law_104 ?_
        refine aLn C hl 0 dL_law_105 rfl rfl ?_
        refine iLn C hl 3 dL_law_106 rfl rfl ?_
        refine kC C dL_law_107 ?_
        refine oAdd C dL_law_108 ?_
        refine tpi (show _ = jI ((i + 5 : Nat) : Int) from rfl) ?_
        refine sLd C w hX hbA ⟨by omega, hL⟩ dL_law_109 ?_
        refine cpL (n := 5) C w hl dL_law_110 (mX0_add l D cI cZ hx ax P u.2.1 u.2.2.1 u.1 u.2.2.2.1 u.2.2.2.2.1 u.2.2.2.2.2 hp hu _ _ _ _ _ (jb_of _) (jb_of _) (jb_of _) (jb_of _) (jb_of _)) (lw_V q68 q69 q70 q13 q71) (by decide +kernel) ⟨Nat.le_of_ble_eq_true rfl, Nat.le_of_ble_eq_true rfl⟩ rfl rfl rfl rfl rfl (Nat.le_of_ble_eq_true rfl) ⟨Nat.le_of_ble_eq_true rfl, Nat.le_of_ble_eq_true rfl⟩ (fun r1 u1 H locs z1 w => ?_)
        refine aLn C hl 2 dL_law_113 rfl rfl ?_
        refine aLn C hl 0 dL_law_114 rfl rfl ?_
        refine iLn C hl 3 dL_law_115 rfl rfl ?_
        refine kC C dL_law_116 ?_
        refine oAdd C dL_law_117 ?_
        refine tpi (show _ = jI ((i + 1 : Nat) : Int) from rfl) ?_
        refine sLd C w hX hbA ⟨by omega, hL⟩ dL_law_118 ?_
        refine aLn C hl 0 dL_law_119 rfl rfl ?_
        refine iLn C hl 3 dL_law_120 rfl rfl ?_
        refine kC C dL_law_121 ?_
        refine oAdd C dL_law_122 ?_
        refine tpi (show _ = jI ((i + 2 : Nat) : Int) from rfl) ?_
        refine sLd C w hX hbA ⟨by omega, hL⟩ dL_law_123 ?_
        refine aLn C hl 0 dL_law_124 rfl rfl ?_
        refine iLn C hl 3 dL_law_125 rfl rfl ?_
        refine kC C dL_law_126 ?_
        refine oAdd C dL_law_127 ?_
        refine tpi (show _ = jI ((i + 3 : Nat) : Int) from rfl) ?_
        refine sLd C w hX hbA ⟨by omega, hL⟩ dL_law_128 ?_
        refine aLn C hl 0 dL_law_129 rfl rfl ?_
        refine iLn C hl 3 dL_law_130 rfl rfl ?_
        refine kC C dL_law_131 ?_
        refine oAdd C dL_law_132 ?_
        refine tpi (show _ = jI ((i + 4 : Nat) : Int) from rfl) ?_
        refine sLd C w hX hbA ⟨by omega, hL⟩ dL_law_133 ?_
        refine aLn C hl 0 dL_law_134 rfl rfl ?_
        refine iLn C hl 3 dL_law_135 rfl rfl ?_
        refine kC C dL_law_136 ?_
        refine oAdd C dL_law_137 ?_
        refine tpi (show _ = jI ((i + 5 : Nat) : Int) from rfl) ?_
        refine sLd C w hX hbA ⟨by omega, hL⟩ dL_law_138 ?_
        refine cpR (n := 5) C w hl dL_law_139 (mX1_add l D cI cZ hm am P v.1 v.2.1 v.2.2 hp _ _ _ _ _ (jb_of _) (jb_of _) (jb_of _) (jb_of _) (jb_of _)) (lw_V q171 q172 q173 q14 q174) (by decide +kernel) ⟨Nat.le_of_ble_eq_true rfl, Nat.le_of_ble_eq_true rfl⟩ rfl rfl rfl rfl rfl (Nat.le_of_ble_eq_true rfl) ⟨Nat.le_of_ble_eq_true rfl, Nat.le_of_ble_eq_true rfl⟩ (fun r2 v2 H locs z2 w => ?_)
        obtain ⟨P1, u1⟩ := u1
        obtain ⟨P2, v2⟩ := v2
        obtain ⟨e1, e2, e3⟩ := qA_one hp z1.1 z2.1
        dsimp only at e1 e2 e3
        subst e1
        subst e2
        refine lv_icmp_eq (tgt := 321) C.1 C.2.1 dL_law_142 (by decide) (fun _ => ?_) (fun z => absurd rfl z)
        refine iInc (lv' := [(0, .ref b), (1, .ref hx), (2, .ref hm), (3, .int (jI ((i + 6 : Nat) : Int)))]) C hl 3 dL_law_321 [1, 2, 3, 0] rfl (by decide) rfl (fun ls hl => ?_)
        refine gTo C 18 dL_law_324 (by decide) ?_
        exact ih (i + 6) (by omega) (by omega) P1 u1 v2 H locs ls e3 z1.2 w hl
      · refine lv_tableIn (tgt := 147) C.1 C.2.1 dL_law_33 (by decide +kernel) (by decide +kernel) rfl (by decide) ?_
        refine aLn C hl 1 dL_law_147 rfl rfl ?_
        refine aLn C hl 0 dL_law_148 rfl rfl ?_
        refine iLn C hl 3 dL_law_149 rfl rfl ?_
        refine kC C dL_law_150 ?_
        refine oAdd C dL_law_151 ?_
        refine tpi (show _ = jI ((i + 1 : Nat) : Int) from rfl) ?_
        refine sLd C w hX hbA ⟨by omega, hL⟩ dL_law_152 ?_
        refine cpL (n := 1) C w hl dL_law_153 (mX0_drop l D cI cZ hx ax P u.2.1 u.2.2.1 u.1 u.2.2.2.1 u.2.2.2.2.1 u.2.2.2.2.2 hp hu _ (jb_of _)) (lw_V q72 q73 q74 q13 q75) (by decide +kernel) ⟨Nat.le_of_ble_eq_true rfl, Nat.le_of_ble_eq_true rfl⟩ rfl rfl rfl rfl rfl (Nat.le_of_ble_eq_true rfl) ⟨Nat.le_of_ble_eq_true rfl, Nat.le_of_ble_eq_true rfl⟩ (fun r1 u1 H locs z1 w => ?_)
        refine aLn C hl 2 dL_law_156 rfl rfl ?_
        refine aLn C hl 0 dL_law_157 rfl rfl ?_
        refine iLn C hl 3 dL_law_158 rfl rfl ?_
        refine kC C dL_law_159 ?_
        refine oAdd C dL_law_160 ?_
        refine tpi (show _ = jI ((i + 1 : Nat) : Int) from rfl) ?_
        refine sLd C w hX hbA ⟨by omega, hL⟩ dL_law_161 ?_
        refine cpR (n := 1) C w hl dL_law_162 (mX1_drop l D cI cZ hm am P v.1 v.2.1 v.2.2 hp _ (jb_of _)) (lw_V q178 q179 q180 q14 q181) (by decide +kernel) ⟨Nat.le_of_ble_eq_true rfl, Nat.le_of_ble_eq_true rfl⟩ rfl rfl rfl rfl rfl (Nat.le_of_ble_eq_true rfl) ⟨Nat.le_of_ble_eq_true rfl, Nat.le_of_ble_eq_true rfl⟩ (fun r2 v2 H locs z2 w => ?_)
        obtain ⟨P1, u1⟩ := u1
        obtain ⟨P2, v2⟩ := v2
        obtain ⟨e1, e2, e3⟩ := qD_one hp z1.1 z2.1
        dsimp only at e1 e2 e3
        subst e1
        subst e2
        refine lv_icmp_eq (tgt := 321) C.1 C.2.1 dL_law_165 (by decide) (fun _ => ?_) (fun z => absurd rfl z)
        refine iInc (lv' := [(0, .ref b), (1, .ref hx), (2, .ref hm), (3, .int (jI ((i + 6 : Nat) : Int)))]) C hl 3 dL_law_321 [1, 2, 3, 0] rfl (by decide) rfl (fun ls hl => ?_)
        refine gTo C 18 dL_law_324 (by decide) ?_
        exact ih (i + 6) (by omega) (by omega) P1 u1 v2 H locs ls e3 z1.2 w hl
      · refine lv_tableIn (tgt := 170) C.1 C.2.1 dL_law_33 (by decide +kernel) (by decide +kernel) rfl (by decide) ?_
        refine aLn C hl 1 dL_law_170 rfl rfl ?_
        refine aLn C hl 0 dL_law_171 rfl rfl ?_
        refine iLn C hl 3 dL_law_172 rfl rfl ?_
        refine kC C dL_law_173 ?_
        refine oAdd C dL_law_174 ?_
        refine tpi (show _ = jI ((i + 1 : Nat) : Int) from rfl) ?_
        refine sLd C w hX hbA ⟨by omega, hL⟩ dL_law_175 ?_
        refine aLn C hl 0 dL_law_176 rfl rfl ?_
        refine iLn C hl 3 dL_law_177 rfl rfl ?_
        refine kC C dL_law_178 ?_
        refine oAdd C dL_law_179 ?_
        refine tpi (show _ = jI ((i + 2 : Nat) : Int) from rfl) ?_
        refine sLd C w hX hbA ⟨by omega, hL⟩ dL_law_180 ?_
        refine cpL (n := 2) C w hl dL_law_181 (mX0_price l D cI cZ hx ax P u.2.1 u.2.2.1 u.1 u.2.2.2.1 u.2.2.2.2.1 u.2.2.2.2.2 hp hu _ _ (jb_of _) (jb_of _)) (lw_V q76 q77 q78 q13 q79) (by decide +kernel) ⟨Nat.le_of_ble_eq_true rfl, Nat.le_of_ble_eq_true rfl⟩ rfl rfl rfl rfl rfl (Nat.le_of_ble_eq_true rfl) ⟨Nat.le_of_ble_eq_true rfl, Nat.le_of_ble_eq_true rfl⟩ (fun r1 u1 H locs z1 w => ?_)
        refine aLn C hl 2 dL_law_184 rfl rfl ?_
        refine aLn C hl 0 dL_law_185 rfl rfl ?_
        refine iLn C hl 3 dL_law_186 rfl rfl ?_
        refine kC C dL_law_187 ?_
        refine oAdd C dL_law_188 ?_
        refine tpi (show _ = jI ((i + 1 : Nat) : Int) from rfl) ?_
        refine sLd C w hX hbA ⟨by omega, hL⟩ dL_law_189 ?_
        refine aLn C hl 0 dL_law_190 rfl rfl ?_
        refine iLn C hl 3 dL_law_191 rfl rfl ?_
        refine kC C dL_law_192 ?_
        refine oAdd C dL_law_193 ?_
        refine tpi (show _ = jI ((i + 2 : Nat) : Int) from rfl) ?_
        refine sLd C w hX hbA ⟨by omega, hL⟩ dL_law_194 ?_
        refine cpR (n := 2) C w hl dL_law_195 (mX1_price l D cI cZ hm am P v.1 v.2.1 v.2.2 hp _ _ (jb_of _) (jb_of _)) (lw_V q182 q183 q184 q14 q185) (by decide +kernel) ⟨Nat.le_of_ble_eq_true rfl, Nat.le_of_ble_eq_true rfl⟩ rfl rfl rfl rfl rfl (Nat.le_of_ble_eq_true rfl) ⟨Nat.le_of_ble_eq_true rfl, Nat.le_of_ble_eq_true rfl⟩ (fun r2 v2 H locs z2 w => ?_)
        obtain ⟨P1, u1⟩ := u1
        obtain ⟨P2, v2⟩ := v2
        obtain ⟨e1, e2, e3⟩ := qP_one hp z1.1 z2.1
        dsimp only at e1 e2 e3
        subst e1
        subst e2
        refine lv_icmp_eq (tgt := 321) C.1 C.2.1 dL_law_198 (by decide) (fun _ => ?_) (fun z => absurd rfl z)
        refine iInc (lv' := [(0, .ref b), (1, .ref hx), (2, .ref hm), (3, .int (jI ((i + 6 : Nat) : Int)))]) C hl 3 dL_law_321 [1, 2, 3, 0] rfl (by decide) rfl (fun ls hl => ?_)
        refine gTo C 18 dL_law_324 (by decide) ?_
        exact ih (i + 6) (by omega) (by omega) P1 u1 v2 H locs ls e3 z1.2 w hl
      · refine lv_tableIn (tgt := 203) C.1 C.2.1 dL_law_33 (by decide +kernel) (by decide +kernel) rfl (by decide) ?_
        refine aLn C hl 1 dL_law_203 rfl rfl ?_
        refine cpL (n := 0) C w hl dL_law_204 (m_slowest l D cI cZ hx ax P u.2.1 u.2.2.1 u.1 u.2.2.2.1 u.2.2.2.2.1 u.2.2.2.2.2 hp hu  ) (lw_V q80 q81 q82 q13 q83) (by decide +kernel) ⟨Nat.le_of_ble_eq_true rfl, Nat.le_of_ble_eq_true rfl⟩ rfl rfl rfl rfl rfl (Nat.le_of_ble_eq_true rfl) ⟨Nat.le_of_ble_eq_true rfl, Nat.le_of_ble_eq_true rfl⟩ (fun r1 u1 H locs z1 w => ?_)
        refine aLn C hl 2 dL_law_207 rfl rfl ?_
        refine cpR (n := 0) C w hl dL_law_208 (mX1_slowest l D cI cZ hm am P v.1 v.2.1 v.2.2 hp  ) (lw_V q186 q187 q188 q14 q189) (by decide +kernel) ⟨Nat.le_of_ble_eq_true rfl, Nat.le_of_ble_eq_true rfl⟩ rfl rfl rfl rfl rfl (Nat.le_of_ble_eq_true rfl) ⟨Nat.le_of_ble_eq_true rfl, Nat.le_of_ble_eq_true rfl⟩ (fun r2 v2 H locs z2 w => ?_)
        obtain ⟨z1, z3⟩ := z1
        subst z1
        subst z2
        refine lv_icmp_eq (tgt := 321) C.1 C.2.1 dL_law_211 (by decide) (fun _ => ?_) (fun z => absurd rfl z)
        refine iInc (lv' := [(0, .ref b), (1, .ref hx), (2, .ref hm), (3, .int (jI ((i + 6 : Nat) : Int)))]) C hl 3 dL_law_321 [1, 2, 3, 0] rfl (by decide) rfl (fun ls hl => ?_)
        refine gTo C 18 dL_law_324 (by decide) ?_
        exact ih (i + 6) (by omega) (by omega) P u1 v2 H locs ls hp z3 w hl
      · refine lv_tableIn (tgt := 216) C.1 C.2.1 dL_law_33 (by decide +kernel) (by decide +kernel) rfl (by decide) ?_
        refine aLn C hl 1 dL_law_216 rfl rfl ?_
        refine cpL (n := 0) C w hl dL_law_217 (m_fastest l D cI cZ hx ax P u.2.1 u.2.2.1 u.1 u.2.2.2.1 u.2.2.2.2.1 u.2.2.2.2.2 hp hu  ) (lw_V q113 q114 q115 q13 q116) (by decide +kernel) ⟨Nat.le_of_ble_eq_true rfl, Nat.le_of_ble_eq_true rfl⟩ rfl rfl rfl rfl rfl (Nat.le_of_ble_eq_true rfl) ⟨Nat.le_of_ble_eq_true rfl, Nat.le_of_ble_eq_true rfl⟩ (fun r1 u1 H locs z1 w => ?_)
        refine aLn C hl 2 dL_law_220 rfl rfl ?_
        refine cpR (n := 0) C w hl dL_law_221 (mX1_fastest l D cI cZ hm am P v.1 v.2.1 v.2.2 hp  ) (lw_V q194 q195 q196 q14 q197) (by decide +kernel) ⟨Nat.le_of_ble_eq_true rfl, Nat.le_of_ble_eq_true rfl⟩ rfl rfl rfl rfl rfl (Nat.le_of_ble_eq_true rfl) ⟨Nat.le_of_ble_eq_true rfl, Nat.le_of_ble_eq_true rfl⟩ (fun r2 v2 H locs z2 w => ?_)
        obtain ⟨z1, z3⟩ := z1
        subst z1
        subst z2
        refine lv_icmp_eq (tgt := 321) C.1 C.2.1 dL_law_224 (by decide) (fun _ => ?_) (fun z => absurd rfl z)
        refine iInc (lv' := [(0, .ref b), (1, .ref hx), (2, .ref hm), (3, .int (jI ((i + 6 : Nat) : Int)))]) C hl 3 dL_law_321 [1, 2, 3, 0] rfl (by decide) rfl (fun ls hl => ?_)
        refine gTo C 18 dL_law_324 (by decide) ?_
        exact ih (i + 6) (by omega) (by omega) P u1 v2 H locs ls hp z3 w hl
      · refine lv_tableIn (tgt := 229) C.1 C.2.1 dL_law_33 (by decide +kernel) (by decide +kernel) rfl (by decide) ?_
        refine aLn C hl 1 dL_law_229 rfl rfl ?_
        refine aLn C hl 0 dL_law_230 rfl rfl ?_
        refine iLn C hl 3 dL_law_231 rfl rfl ?_
        refine kC C dL_law_232 ?_
        refine oAdd C dL_law_233 ?_
        refine tpi (show _ = jI ((i + 1 : Nat) : Int) from rfl) ?_
        refine sLd C w hX hbA ⟨by omega, hL⟩ dL_law_234 ?_
        refine cpL (n := 1) C w hl dL_law_235 (m_cost l D cI cZ hx ax P u.2.1 u.2.2.1 u.1 u.2.2.2.1 u.2.2.2.2.1 u.2.2.2.2.2 hp hu _ (jb_of _)) (lw_V q117 q118 q119 q13 q120) (by decide +kernel) ⟨Nat.le_of_ble_eq_true rfl, Nat.le_of_ble_eq_true rfl⟩ rfl rfl rfl rfl rfl (Nat.le_of_ble_eq_true rfl) ⟨Nat.le_of_ble_eq_true rfl, Nat.le_of_ble_eq_true rfl⟩ (fun r1 u1 H locs z1 w => ?_)
        refine aLn C hl 2 dL_law_238 rfl rfl ?_
        refine aLn C hl 0 dL_law_239 rfl rfl ?_
        refine iLn C hl 3 dL_law_240 rfl rfl ?_
        refine kC C dL_law_241 ?_
        refine oAdd C dL_law_242 ?_
        refine tpi (show _ = jI ((i + 1 : Nat) : Int) from rfl) ?_
        refine sLd C w hX hbA ⟨by omega, hL⟩ dL_law_243 ?_
        refine cpR (n := 1) C w hl dL_law_244 (mX1_cost l D cI cZ hm am P v.1 v.2.1 v.2.2 hp _ (jb_of _)) (lw_V q198 q199 q200 q14 q201) (by decide +kernel) ⟨Nat.le_of_ble_eq_true rfl, Nat.le_of_ble_eq_true rfl⟩ rfl rfl rfl rfl rfl (Nat.le_of_ble_eq_true rfl) ⟨Nat.le_of_ble_eq_true rfl, Nat.le_of_ble_eq_true rfl⟩ (fun r2 v2 H locs z2 w => ?_)
        obtain ⟨z1, z3⟩ := z1
        subst z1
        subst z2
        refine lv_icmp_eq (tgt := 321) C.1 C.2.1 dL_law_247 (by decide) (fun _ => ?_) (fun z => absurd rfl z)
        refine iInc (lv' := [(0, .ref b), (1, .ref hx), (2, .ref hm), (3, .int (jI ((i + 6 : Nat) : Int)))]) C hl 3 dL_law_321 [1, 2, 3, 0] rfl (by decide) rfl (fun ls hl => ?_)
        refine gTo C 18 dL_law_324 (by decide) ?_
        exact ih (i + 6) (by omega) (by omega) P u1 v2 H locs ls hp z3 w hl
      · refine lv_tableIn (tgt := 252) C.1 C.2.1 dL_law_33 (by decide +kernel) (by decide +kernel) rfl (by decide) ?_
        refine aLn C hl 1 dL_law_252 rfl rfl ?_
        refine aLn C hl 0 dL_law_253 rfl rfl ?_
        refine iLn C hl 3 dL_law_254 rfl rfl ?_
        refine kC C dL_law_255 ?_
        refine oAdd C dL_law_256 ?_
        refine tpi (show _ = jI ((i + 1 : Nat) : Int) from rfl) ?_
        refine sLd C w hX hbA ⟨by omega, hL⟩ dL_law_257 ?_
        refine cpL (n := 1) C w hl dL_law_258 (m_step l D cI cZ hx ax P u.2.1 u.2.2.1 u.1 u.2.2.2.1 u.2.2.2.2.1 u.2.2.2.2.2 hp hu _ (jb_of _)) (lw_V q125 q126 q127 q13 q128) (by decide +kernel) ⟨Nat.le_of_ble_eq_true rfl, Nat.le_of_ble_eq_true rfl⟩ rfl rfl rfl rfl rfl (Nat.le_of_ble_eq_true rfl) ⟨Nat.le_of_ble_eq_true rfl, Nat.le_of_ble_eq_true rfl⟩ (fun r1 u1 H locs z1 w => ?_)
        refine aLn C hl 2 dL_law_261 rfl rfl ?_
        refine aLn C hl 0 dL_law_262 rfl rfl ?_
        refine iLn C hl 3 dL_law_263 rfl rfl ?_
        refine kC C dL_law_264 ?_
        refine oAdd C dL_law_265 ?_
        refine tpi (show _ = jI ((i + 1 : Nat) : Int) from rfl) ?_
        refine sLd C w hX hbA ⟨by omega, hL⟩ dL_law_266 ?_
        refine cpR (n := 1) C w hl dL_law_267 (mX1_step l D cI cZ hm am P v.1 v.2.1 v.2.2 hp _ (jb_of _)) (lw_V q214 q215 q216 q14 q217) (by decide +kernel) ⟨Nat.le_of_ble_eq_true rfl, Nat.le_of_ble_eq_true rfl⟩ rfl rfl rfl rfl rfl (Nat.le_of_ble_eq_true rfl) ⟨Nat.le_of_ble_eq_true rfl, Nat.le_of_ble_eq_true rfl⟩ (fun r2 v2 H locs z2 w => ?_)
        obtain ⟨z1, z3⟩ := z1
        subst z1
        subst z2
        refine lv_icmp_eq (tgt := 321) C.1 C.2.1 dL_law_270 (by decide) (fun _ => ?_) (fun z => absurd rfl z)
        refine iInc (lv' := [(0, .ref b), (1, .ref hx), (2, .ref hm), (3, .int (jI ((i + 6 : Nat) : Int)))]) C hl 3 dL_law_321 [1, 2, 3, 0] rfl (by decide) rfl (fun ls hl => ?_)
        refine gTo C 18 dL_law_324 (by decide) ?_
        exact ih (i + 6) (by omega) (by omega) P u1 v2 H locs ls hp z3 w hl
      · refine lv_tableIn (tgt := 275) C.1 C.2.1 dL_law_33 (by decide +kernel) (by decide +kernel) rfl (by decide) ?_
        refine aLn C hl 1 dL_law_275 rfl rfl ?_
        refine aLn C hl 0 dL_law_276 rfl rfl ?_
        refine iLn C hl 3 dL_law_277 rfl rfl ?_
        refine kC C dL_law_278 ?_
        refine oAdd C dL_law_279 ?_
        refine tpi (show _ = jI ((i + 1 : Nat) : Int) from rfl) ?_
        refine sLd C w hX hbA ⟨by omega, hL⟩ dL_law_280 ?_
        refine cpL (n := 1) C w hl dL_law_281 (m_within l D cI cZ hx ax P u.2.1 u.2.2.1 u.1 u.2.2.2.1 u.2.2.2.2.1 u.2.2.2.2.2 hp hu _ (jb_of _)) (lw_V q129 q130 q131 q13 q132) (by decide +kernel) ⟨Nat.le_of_ble_eq_true rfl, Nat.le_of_ble_eq_true rfl⟩ rfl rfl rfl rfl rfl (Nat.le_of_ble_eq_true rfl) ⟨Nat.le_of_ble_eq_true rfl, Nat.le_of_ble_eq_true rfl⟩ (fun r1 u1 H locs z1 w => ?_)
        refine aLn C hl 2 dL_law_284 rfl rfl ?_
        refine aLn C hl 0 dL_law_285 rfl rfl ?_
        refine iLn C hl 3 dL_law_286 rfl rfl ?_
        refine kC C dL_law_287 ?_
        refine oAdd C dL_law_288 ?_
        refine tpi (show _ = jI ((i + 1 : Nat) : Int) from rfl) ?_
        refine sLd C w hX hbA ⟨by omega, hL⟩ dL_law_289 ?_
        refine cpR (n := 1) C w hl dL_law_290 (mX1_within l D cI cZ hm am P v.1 v.2.1 v.2.2 hp _ (jb_of _)) (lw_V q219 q220 q221 q14 q222) (by decide +kernel) ⟨Nat.le_of_ble_eq_true rfl, Nat.le_of_ble_eq_true rfl⟩ rfl rfl rfl rfl rfl (Nat.le_of_ble_eq_true rfl) ⟨Nat.le_of_ble_eq_true rfl, Nat.le_of_ble_eq_true rfl⟩ (fun r2 v2 H locs z2 w => ?_)
        obtain ⟨z1, z3⟩ := z1
        subst z1
        subst z2
        refine lv_icmp_eq (tgt := 321) C.1 C.2.1 dL_law_293 (by decide) (fun _ => ?_) (fun z => absurd rfl z)
        refine iInc (lv' := [(0, .ref b), (1, .ref hx), (2, .ref hm), (3, .int (jI ((i + 6 : Nat) : Int)))]) C hl 3 dL_law_321 [1, 2, 3, 0] rfl (by decide) rfl (fun ls hl => ?_)
        refine gTo C 18 dL_law_324 (by decide) ?_
        exact ih (i + 6) (by omega) (by omega) P u1 v2 H locs ls hp z3 w hl
      · refine lv_tableIn (tgt := 298) C.1 C.2.1 dL_law_33 (by decide +kernel) (by decide +kernel) rfl (by decide) ?_
        refine aLn C hl 1 dL_law_298 rfl rfl ?_
        refine aLn C hl 0 dL_law_299 rfl rfl ?_
        refine iLn C hl 3 dL_law_300 rfl rfl ?_
        refine kC C dL_law_301 ?_
        refine oAdd C dL_law_302 ?_
        refine tpi (show _ = jI ((i + 1 : Nat) : Int) from rfl) ?_
        refine sLd C w hX hbA ⟨by omega, hL⟩ dL_law_303 ?_
        refine cpL (n := 1) C w hl dL_law_304 (m_total l D cI cZ hx ax P u.2.1 u.2.2.1 u.1 u.2.2.2.1 u.2.2.2.2.1 u.2.2.2.2.2 hp hu _ (jb_of _)) (lw_V q133 q134 q135 q13 q136) (by decide +kernel) ⟨Nat.le_of_ble_eq_true rfl, Nat.le_of_ble_eq_true rfl⟩ rfl rfl rfl rfl rfl (Nat.le_of_ble_eq_true rfl) ⟨Nat.le_of_ble_eq_true rfl, Nat.le_of_ble_eq_true rfl⟩ (fun r1 u1 H locs z1 w => ?_)
        refine aLn C hl 2 dL_law_307 rfl rfl ?_
        refine aLn C hl 0 dL_law_308 rfl rfl ?_
        refine iLn C hl 3 dL_law_309 rfl rfl ?_
        refine kC C dL_law_310 ?_
        refine oAdd C dL_law_311 ?_
        refine tpi (show _ = jI ((i + 1 : Nat) : Int) from rfl) ?_
        refine sLd C w hX hbA ⟨by omega, hL⟩ dL_law_312 ?_
        refine cpR (n := 1) C w hl dL_law_313 (mX1_total l D cI cZ hm am P v.1 v.2.1 v.2.2 hp _ (jb_of _)) (lw_V q223 q224 q225 q14 q226) (by decide +kernel) ⟨Nat.le_of_ble_eq_true rfl, Nat.le_of_ble_eq_true rfl⟩ rfl rfl rfl rfl rfl (Nat.le_of_ble_eq_true rfl) ⟨Nat.le_of_ble_eq_true rfl, Nat.le_of_ble_eq_true rfl⟩ (fun r2 v2 H locs z2 w => ?_)
        obtain ⟨z1, z3⟩ := z1
        subst z1
        subst z2
        refine lv_icmp_eq (tgt := 321) C.1 C.2.1 dL_law_316 (by decide) (fun _ => ?_) (fun z => absurd rfl z)
        refine iInc (lv' := [(0, .ref b), (1, .ref hx), (2, .ref hm), (3, .int (jI ((i + 6 : Nat) : Int)))]) C hl 3 dL_law_321 [1, 2, 3, 0] rfl (by decide) rfl (fun ls hl => ?_)
        refine gTo C 18 dL_law_324 (by decide) ?_
        exact ih (i + 6) (by omega) (by omega) P u1 v2 H locs ls hp z3 w hl
      · refine lv_tableOut (tgt := 321) C.1 C.2.1 dL_law_33 (Or.inr (by rw [jI_toInt ⟨by omega, by omega⟩]; omega)) (by decide) ?_
        refine iInc (lv' := [(0, .ref b), (1, .ref hx), (2, .ref hm), (3, .int (jI ((i + 6 : Nat) : Int)))]) C hl 3 dL_law_321 [1, 2, 3, 0] rfl (by decide) rfl (fun ls hl => ?_)
        refine gTo C 18 dL_law_324 (by decide) ?_
        exact ih (i + 6) (by omega) (by omega) P u v H locs ls hp hu w hl
end
section
/-! LAW 3: the start -/
def P0 : Pj := (0, fun _ => 0, fun _ => 0, fun _ => 0, fun _ => 0, fun _ => 0)
theorem P0_ok : pok P0 := ⟨by decide, fun j hj => absurd hj (by simp [P0, jn])⟩
theorem cls2 {args : Array Value} {s : State} (hts : ∀ w ∈ lw_all, w.before args s = true) : ∃ (D : va_G) (cI cZ : ClassId), va_K D cl2 [(cI, .int), (cZ, .boolean)] s := by
  obtain ⟨c0, iS0, hKn0⟩ := u_known (C := RX0) (T := TX0) (N := 14) (n := 14) hts in_X0 (hts _ q16)
  obtain ⟨c1, iS1, hKn1⟩ := u_known (C := RX1) (T := TX1) (N := 9) (n := 9) hts in_X1 (hts _ q138)
  obtain ⟨cI, kI, coI, i1, i2, i3⟩ := Cond.arrayClass_spec (hts _ q66)
  obtain ⟨cZ, kZ, coZ, z1, z2, z3⟩ := Cond.arrayClass_spec (hts _ q67)
  refine ⟨(fun k => if k = 0 then c0 else c1, fun k => if k = 0 then iS0 else iS1), cI, cZ, ?_, ?_⟩
  · intro k q hq
    match k, hq with
    | 0, hq => cases hq; exact hKn0
    | 1, hq => cases hq; exact hKn1
    | k + 2, hq => simp at hq
  · intro k q hq
    match k, hq with
    | 0, hq => cases hq; exact ⟨fun n z => ⟨fun k h => (by cases h), kI, i2, coI, i3⟩, i1⟩
    | 1, hq => cases hq; exact ⟨fun n z => ⟨fun k h => (by cases h), kZ, z2, coZ, z3⟩, z1⟩
    | k + 2, hq => simp at hq
set_option maxHeartbeats 4000000 in
set_option maxRecDepth 100000 in
theorem whole_start {p : Program} {e : Env} {s : State} {m : MethodId} {below : List Frame} {meth : Method} {c : Code} (l : Launch) {b L : Nat} {xs : Nat → Int32} (hL : L ≤ 384) (C0 : lw_At p s m meth c b L xs) : W p l e room_1 s m #[Value.ref b] below meth c s.heap [] 0 0 (lw_Z below #[Value.ref b] s) (entryFrame m ([Value.ref b] : List Value).toArray 4) := by
  obtain ⟨hx, hb, hr, hml, hown, hts0, hX, hbl, hlocks, hgv⟩ := id C0
  have hts : ∀ w ∈ lw_all, w.before #[Value.ref b] s = true := fun w h => hts0 w (lw_all_tbl h)
  obtain ⟨D, cI, cZ, hK⟩ := cls2 hts
  have C : Cx p s m meth c code 4 #[Value.ref b] R_law D cI cZ := ⟨hx, hb, hts, hown, hK, hml, hlocks⟩
  have w : Wd D (fun q => s.heap.size ≤ q) s.heap [] s.heap [] := ⟨fun k q h => by simp at h, ⟨fun i j p q h => by simp at h, fun k q h => by simp at h⟩, va_S.rf, fun q h => h⟩
  have hl := lv_entry ([.ref b]) (n := 4) (Nat.le_of_ble_eq_true rfl)
  rw [lg_entry_eq]
  generalize (lg_sl ([.ref b]) ++ List.replicate (4 - (lg_sl ([.ref b])).length) Slot.unset).toArray = ls at hl ⊢
  have hl : lv_has ls 4 [(0, .ref b)] := hl
  refine va_new (ci := 0) (fs := f00) (C := RX0) (T := TX0) (N := 14) C.1 C.2.1 C.2.2.1 in_X0 tyX0 tyX0_ok C.2.2.2.1 (C.2.2.1 _ q15) (C.2.2.1 _ q16) (C.2.2.1 _ q13) C.2.2.2.2.1 w.1 w.2.1 w.2.2.1 w.2.2.2 rfl (fun j hj => by rcases (show j = 0 ∨ j = 1 ∨ j = 2 ∨ j = 3 ∨ j = 4 ∨ j = 5 ∨ j = 6 ∨ j = 7 ∨ j = 8 ∨ j = 9 ∨ j = 10 ∨ j = 11 ∨ j = 12 ∨ j = 13 by omega) with rfl | rfl | rfl | rfl | rfl | rfl | rfl | rfl | rfl | rfl | rfl | rfl | rfl | rfl <;> rfl) (Nat.le_of_ble_eq_true rfl) (Nat.le_of_ble_eq_true rfl) dL_law_0 (fun h0 H hP hD hS => ?_)
  have w : Wd D (fun q => s.heap.size ≤ q) s.heap ([] ++ [(h0, .inr (0, f00))]) H [] := ⟨hP, hD, hS, fun q h => h⟩
  refine lv_dup C.1 C.2.1 dL_law_3 rfl ?_
  refine cpN C w hl dL_law_4 (mX0_init l D cI cZ h0) q19 q13 q17 q18 rfl (by decide +kernel) ⟨Nat.le_of_ble_eq_true rfl, Nat.le_of_ble_eq_true rfl⟩ (Nat.le_of_ble_eq_true rfl) ⟨Nat.le_of_ble_eq_true rfl, Nat.le_of_ble_eq_true rfl⟩ (fun ax H locs _ w => ?_)
  refine lv_astore_n (lv' := [(1, .ref h0), (0, .ref b)]) C.1 C.2.1 dL_law_7 rfl hl (by decide) rfl (fun ls hl => ?_)
  refine va_new (ci := 1) (fs := f01) (C := RX1) (T := TX1) (N := 9) C.1 C.2.1 C.2.2.1 in_X1 tyX1 tyX1_ok C.2.2.2.1 (C.2.2.1 _ q137) (C.2.2.1 _ q138) (C.2.2.1 _ q14) C.2.2.2.2.1 w.1 w.2.1 w.2.2.1 w.2.2.2 rfl (fun j hj => by rcases (show j = 0 ∨ j = 1 ∨ j = 2 ∨ j = 3 ∨ j = 4 ∨ j = 5 ∨ j = 6 ∨ j = 7 ∨ j = 8 by omega) with rfl | rfl | rfl | rfl | rfl | rfl | rfl | rfl | rfl <;> rfl) (Nat.le_of_ble_eq_true rfl) (Nat.le_of_ble_eq_true rfl) dL_law_8 (fun h1 H hP hD hS => ?_)
  have w : Wd D (fun q => s.heap.size ≤ q) s.heap (_ ++ [(h1, .inr (1, f01))]) H _ := ⟨hP, hD, hS, fun q h => h⟩
  refine lv_dup C.1 C.2.1 dL_law_11 rfl ?_
  refine cpN C w hl dL_law_12 (mX1_init l D cI cZ h1) q141 q14 q139 q140 rfl (by decide +kernel) ⟨Nat.le_of_ble_eq_true rfl, Nat.le_of_ble_eq_true rfl⟩ (Nat.le_of_ble_eq_true rfl) ⟨Nat.le_of_ble_eq_true rfl, Nat.le_of_ble_eq_true rfl⟩ (fun am H locs _ w => ?_)
  refine lv_astore_n (lv' := [(2, .ref h1), (1, .ref h0), (0, .ref b)]) C.1 C.2.1 dL_law_15 rfl hl (by decide) rfl (fun ls hl => ?_)
  refine kC C dL_law_16 ?_
  refine iSn (lv' := [(0, .ref b), (1, .ref h0), (2, .ref h1), (3, .int (jI ((0 : Nat) : Int)))]) C hl dL_law_17 [3, 2, 1, 0] rfl (by decide) rfl (fun ls hl => ?_)
  exact law_loop hL hr hX hbl C h0 h1 ax am (L + 1) 0 (Nat.zero_le _) (by omega) P0 (false, fun _ => 0, (fun _ => false, fun _ => 0, fun _ => 0), 0, fun _ => 0, fun _ => 0) (fun _ => 0, fun _ => 0, fun _ => 0) H locs ls P0_ok (fun q => absurd (show false = true from q) (by decide)) w hl
end
section
set_option maxHeartbeats 4000000 in
theorem lw_walk (l : Launch) (b : Addr) (xs : List Int32) : MetFree l x (headSpec (Jvm.Cond.code x code maxLocals ret :: tables_1) room_1) (lw_P b xs) (fun _ _ _ _ _ => True) lw_Q := by
  refine MetFree.of_bodyS (code := code) (maxLocals := maxLocals) (ret := ret) (by decide) ?_ ?_
  · intro args s m h hn
    obtain ⟨meth, c, h1, h2, h3, h4, h5, h6, -, -⟩ := Cond.code_spec hn (atoms_spec (ws := Jvm.Cond.code x code maxLocals ret :: tables_1) h _ List.mem_cons_self)
    exact ⟨meth, c, h1, h2, h3, h4, h5, h6⟩
  · intro p e s m args below meth c s₁ B hml0 hP _
    obtain ⟨rfl, hx, hbd, hgv⟩ := hP
    obtain ⟨scr, harrAt, hlist, hof, hsmall⟩ := hx
    obtain ⟨hcb, hkn, -, -⟩ := State.arrayAt?_spec harrAt
    have hown : s.vm.findClass R_law = some m.cls := findClass_of_methodNamed B.named
    have hts0 : ∀ c ∈ (Jvm.Cond.code x code maxLocals ret :: tables_1), c.before #[Value.ref b] s = true := atoms_spec (ws := Jvm.Cond.code x code maxLocals ret :: tables_1) B.pre
    have hts : ∀ w ∈ lw_tbl, w.before #[Value.ref b] s = true := k2_hts_sels lw_privs (fun w hw => hts0 w (List.mem_cons_of_mem _ hw)) lw_privs_ok
    have hml : c.maxLocals = 4 := B.maxLocals_eq (hts0 _ List.mem_cons_self)
    have X₀ : Stand p l e room_1 s m #[Value.ref b] below meth c s₁ [] 0 0 := Stand.of_body B
    have hh0 : s₁.heap = s.heap := by rw [B.state]; rfl
    have hsz : scr.slots.size = xs.length := by rw [← Array.length_toList, hlist, List.length_map]
    have hval : ∀ j : Nat, j < xs.length → scr.slots[j]? = some (.int (xs.getD j 0)) := fun j hj => by
      rw [← Array.getElem?_toList, hlist]
      simp [hj]
    have hbl : b < s.heap.size := (Array.getElem?_eq_some_iff.mp hcb).1
    have hX : va_X b xs.length (fun j => xs.getD j 0) s s.heap := ⟨scr, hcb, hof, hkn, hsz, hval⟩
    have K : W p l e room_1 s m #[Value.ref b] below meth c s₁.heap [] 0 0 (lw_Z below #[Value.ref b] s) (entryFrame m ([Value.ref b] : List Value).toArray 4) := by
      rw [hh0]
      exact whole_start l hbd ⟨B.exec, B.bytes, B.returns, hml, hown, hts, hX, hbl, B.notSynchronized, hgv⟩
    obtain ⟨t, a1, o, b1, b2, b3⟩ := K s₁ rfl X₀
    exact ⟨t, o, a1, b1, b2, b3⟩
theorem lw_pre_spec {args : Array Value} {s : State} (h : (Jvm.Cond.and given_1 narrow_1).before args s = true) (hr : rest_1_c.before args s = true) : ∃ (b : Addr) (xs : List Int32), lw_P b xs args s := by
  have hs := flat_of_before _ h
  have hq := flat_of_before _ hr
  have hc : (Cond.count 1).before args s = true := hs _ (by decide +kernel)
  have harr : (Cond.arrayOf (.arg 0) .int).before args s = true := hs _ (by decide +kernel)
  have hle : (Cond.le (.length (.arg 0)) (.int 384)).before args s = true := hs _ (by decide +kernel)
  have hlen : (Cond.isInt (.length (.arg 0))).before args s = true := hq _ (by decide +kernel)
  have hall : (Cond.all (.arg 0) (.isInt (.elem (.arg 0) (.index 0)))).before args s = true := hq _ (by decide +kernel)
  obtain ⟨b, xs, hb, hx⟩ := State.ints_of_pre rfl harr hlen hall
  have hsm : xs.length < 2 ^ 31 := hx.choose_spec.2.2.2
  have hev : (Term.length (.arg 0)).eval args s none [] s = some (.int xs.length.toInt32) := hx.length_eval hb
  have hv := Cond.le_ints hev (show (Term.int 384).eval args s none [] s = some (.int 384) from rfl)
  have hd : xs.length.toInt32 ≤ 384 := by
    simpa [Cond.before, Cond.holds, hv] using hle
  have hN : xs.length ≤ 384 := (Int32.ofNat_le_ofNat hsm (by decide)).mp (show Int32.ofNat xs.length ≤ Int32.ofNat 384 from hd)
  exact ⟨b, xs, Cond.one_arg hc (show args[0]? = some (.ref b) from hb), hx, hN, h⟩
theorem lw_comes (l : Launch) : Comes l x (Jvm.Cond.code x code maxLocals ret :: tables_1) room_1 (fun tb e args s => Calls_1 tb e args s ∧ rest_1 tb e args s ∧ Pre_1 tb e args s)
    (fun _ _ args s o t => lw_Q args s o t) := by
  intro p e ha hc hk s m args below hf hfit hheap happ hpre
  obtain ⟨b, xs, hP⟩ := lw_pre_spec hpre.2.2 hpre.2.1
  obtain ⟨k, o, h1, h2, h3, hQ⟩ := lw_walk l b xs p e ha hc hk s m args below hf ((Spec.applies_iff_loose hf).mp happ).1 hP trivial
  exact ⟨k, o, h1, h2, h3, hQ⟩
theorem lw_frame {s t : State} {o : Outcome} {args : Array Value} (h : Framed s o t [] 600000 7290000) :
    Framed s o t (fieldLocs frame_1_writes args s ++ arrayLocs frame_1_arrays args s ++ staticLocs frame_1_statics s) 600000 7290000 := h
theorem lw_limb (L : Cond) (hL : ∀ (args : Array Value) (s t : State), L.after args s (.returned (some (.int 1))) t = true) :
    ArmFor flags0 classFile x code maxLocals ret World_1 tables_1 room_1 Calls_1 rest_1 Pre_1
      (fun tb e a s o t => postC L tb e a s o t ∧ Framed s o t (fieldLocs frame_1_writes a s ++ arrayLocs frame_1_arrays a s ++ staticLocs frame_1_statics s) 600000 7290000) := by
  intro l _ _ _ p e ha hc hk s m args below hf hfit hheap happ hpre
  obtain ⟨k, o, h1, h2, h3, rfl, hF⟩ := lw_comes l p e ha hc hk s m args below hf hfit hheap happ hpre
  exact ⟨k, _, h1, h2, h3, hL args s _, lw_frame hF⟩
theorem i_vc : Claimed_1_1 ∧ Claimed_1_2 := ⟨lw_limb limb_1_1 (fun args s t => by simp [limb_1_1, Cond.after, Cond.holds, Cond.value]), lw_limb limb_1_2 (fun args s t => Cond.after_iff.mpr (by
  first | (rw [show limb_1_2 = Cond.eq .result (.int 1) from rfl, Cond.eq_ints (x := 1) (y := 1) rfl rfl]; simp; done) | (simp [limb_1_2, Cond.value, Term.eval]; done)))⟩
end
